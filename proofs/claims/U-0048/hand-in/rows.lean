section
theorem pk_us {f : Nat → Int32} {k : Nat} {x : Int32} : upd f k x k = x := if_pos rfl
theorem pk_un {f : Nat → Int32} {k j : Nat} {x : Int32} (h : j ≠ k) : upd f k x j = f j := if_neg h
theorem pk_uLs {f : Nat → Int64} {k : Nat} {x : Int64} : vp_updL f k x k = x := if_pos rfl
theorem pk_uLn {f : Nat → Int64} {k j : Nat} {x : Int64} (h : j ≠ k) : vp_updL f k x j = f j := if_neg h
theorem pk_sub {a b : Nat} (h : b ≤ a) : nI a - nI b = nI (a - b) := by
  obtain ⟨c, rfl⟩ : ∃ c, a = c + b := ⟨a - b, by omega⟩
  rw [← nI_add, Int32.add_sub_cancel, Nat.add_sub_cancel]
theorem pk_m1 (n : Nat) : nI (n + 1) + (-1) = nI n := by
  rw [← nI_1, Int32.add_assoc, show (1 : Int32) + (-1) = 0 from rfl, Int32.add_zero]
theorem pk_mul (a b : Nat) : nI a * nI b = nI (a * b) := (Int32.ofNat_mul a b).symm
theorem pk_div {a d : Nat} (ha : a < 2 ^ 31) (h0 : 0 < d) (hd : d < 2 ^ 31) : nI a / nI d = nI (a / d) := by
  apply Int32.toInt_inj.mp
  rw [lg_idiv_nonneg (by rw [nI_toInt ha]; omega) (by rw [nI_toInt hd]; omega), nI_toInt ha, nI_toInt hd, nI_toInt (Nat.lt_of_le_of_lt (Nat.div_le_self a d) ha)]
  first | rfl | exact (Int.natCast_ediv _ _).symm
theorem pk_rem {a d : Nat} (ha : a < 2 ^ 31) (h0 : 0 < d) (hd : d < 2 ^ 31) : nI a - nI a / nI d * nI d = nI (a % d) := by
  rw [pk_div ha h0 hd, pk_mul, pk_sub (Nat.div_mul_le_self a d)]
  exact congrArg nI (by have := Nat.div_add_mod' a d; omega)
theorem pk_sub_toInt {a b : Nat} (ha : a < 2 ^ 30) (hb : b < 2 ^ 30) : (nI a - nI b).toInt = (a : Int) - b := by
  rw [Int32.toInt_sub, nI_toInt (by omega), nI_toInt (by omega)]
  exact Int.bmod_eq_of_le (by omega) (by omega)
theorem pk_sneg {a b : Nat} (hb : b < 2 ^ 30) (h : a < b) : nI a - nI b < 0 := by
  rw [Int32.lt_iff_toInt_lt, pk_sub_toInt (by omega) hb, show (0 : Int32).toInt = 0 from by decide]
  omega
theorem pk_ix (x : Int32) {n : Nat} (hn : n < 2 ^ 31) : x < 0 ∨ nI n ≤ x ∨ ∃ j : Nat, j < n ∧ x = nI j := by
  by_cases h : x < 0
  · exact Or.inl h
  · obtain ⟨j, hj, rfl⟩ := nI_of h
    by_cases h2 : j < n
    · exact Or.inr (Or.inr ⟨j, h2, rfl⟩)
    · exact Or.inr (Or.inl (nI_le (by omega) hj))
theorem pk_le {x y : Int32} {A B : Prop} (a b : Nat) (f : a ≤ b → A) (g : b < a → B) (hx : x = nI a := by rfl) (hy : y = nI b := by rfl) (ha : a < 2 ^ 31 := by omega) (hb : b < 2 ^ 31 := by omega) : (x ≤ y → A) ∧ (¬ x ≤ y → B) := by
  subst hx hy
  rw [nI_leI ha hb]
  exact ⟨f, fun z => g (by omega)⟩
theorem pk_lt {x y : Int32} {A B : Prop} (a b : Nat) (f : a < b → A) (g : b ≤ a → B) (hx : x = nI a := by rfl) (hy : y = nI b := by rfl) (ha : a < 2 ^ 31 := by omega) (hb : b < 2 ^ 31 := by omega) : (x < y → A) ∧ (¬ x < y → B) := by
  subst hx hy
  rw [nI_ltI ha hb]
  exact ⟨f, fun z => g (by omega)⟩
theorem pk_eq {x y : Int32} {A B : Prop} (a b : Nat) (f : a = b → A) (g : a ≠ b → B) (hx : x = nI a := by rfl) (hy : y = nI b := by rfl) (ha : a < 2 ^ 31 := by omega) (hb : b < 2 ^ 31 := by omega) : (x = y → A) ∧ (¬ x = y → B) := by
  subst hx hy
  rw [nI_eq ha hb]
  exact ⟨f, g⟩
theorem pk_in {x : Int32} (n N : Nat) (h : n < N) (hx : x = nI n := by rfl) (hN : N < 2 ^ 31 := by omega) : vp_in x N := by
  subst hx
  exact vp_in_nI h hN
theorem pk_cl {x : Int32} (n : Nat) (hx : x = nI n := by rfl) (h : n < 2 ^ 31 := by omega) : x.toNatClampNeg = n := by
  subst hx
  exact nI_clamp h
theorem pk_tn {n : Nat} (h : n < 2 ^ 32) : (nI n).toBitVec.toNat = n := Nat.mod_eq_of_lt h
theorem pk_and (x : Int32) {m : Int32} (k : Nat) (hm : m.toBitVec.toNat = 2 ^ k - 1) : x &&& m = nI (x.toBitVec.toNat % 2 ^ k) := by
  apply Int32.toBitVec_inj.mp
  apply BitVec.eq_of_toNat_eq
  rw [Int32.toBitVec_and, BitVec.toNat_and, hm, Nat.and_two_pow_sub_one_eq_mod]
  show _ = (BitVec.ofNat 32 _).toNat
  rw [BitVec.toNat_ofNat]
  exact (Nat.mod_eq_of_lt (Nat.lt_of_le_of_lt (Nat.mod_le _ _) x.toBitVec.isLt)).symm
theorem pk_andN {n : Nat} (h : n < 2 ^ 32) {m : Int32} (k : Nat) (hm : m.toBitVec.toNat = 2 ^ k - 1) : nI n &&& m = nI (n % 2 ^ k) := by
  rw [pk_and _ k hm, pk_tn h]
theorem pk_andE (x : Int32) {m : Int32} (k : Nat) (hm : m.toBitVec.toNat = 2 ^ k - 1) : ∃ j : Nat, j < 2 ^ k ∧ x &&& m = nI j := ⟨_, Nat.mod_lt _ (Nat.two_pow_pos k), pk_and x k hm⟩
theorem pk_andIn (x : Int32) {m : Int32} (k : Nat) (hm : m.toBitVec.toNat = 2 ^ k - 1) (hk : k ≤ 30) : vp_in (x &&& m) (2 ^ k) := by
  obtain ⟨j, hj, e⟩ := pk_andE x k hm
  rw [e]
  exact vp_in_nI hj (Nat.lt_of_le_of_lt (Nat.pow_le_pow_right (by decide) hk) (by decide))
theorem pk_shl (a s : Int32) (k : Nat) (hs : (s.toBitVec.smod 32).toNat = k) : (a <<< s).toBitVec.toNat = a.toBitVec.toNat * 2 ^ k % 2 ^ 32 := by
  show (a.toBitVec <<< (s.toBitVec.smod 32).toNat).toNat = _
  rw [hs, BitVec.toNat_shiftLeft, Nat.shiftLeft_eq]
theorem pk_shlN {n : Nat} (s : Int32) (k : Nat) (hs : (s.toBitVec.smod 32).toNat = k) (h : n * 2 ^ k < 2 ^ 32) : nI n <<< s = nI (n * 2 ^ k) := by
  apply Int32.toBitVec_inj.mp
  apply BitVec.eq_of_toNat_eq
  have hn : n < 2 ^ 32 := Nat.lt_of_le_of_lt (Nat.le_mul_of_pos_right n (Nat.two_pow_pos k)) h
  rw [pk_shl _ _ k hs, pk_tn hn, pk_tn h, Nat.mod_eq_of_lt h]
theorem pk_shr (a s : Int32) (k : Nat) (hs : (s.toBitVec.smod 32).toNat = k) : (a >>> s).toInt = a.toInt >>> k := by
  show (a.toBitVec.sshiftRight (s.toBitVec.smod 32).toNat).toInt = _
  rw [hs, BitVec.toInt_sshiftRight]
  rfl
theorem pk_shrN {n : Nat} (h : n < 2 ^ 31) (s : Int32) (k : Nat) (hs : (s.toBitVec.smod 32).toNat = k) : nI n >>> s = nI (n / 2 ^ k) := by
  apply Int32.toInt_inj.mp
  have h2 : n / 2 ^ k ≤ n := Nat.div_le_self _ _
  rw [pk_shr _ _ k hs, nI_toInt h, nI_toInt (by omega), Int.shiftRight_eq_div_pow]
  rfl
theorem pk_lT {n : Nat} (h : n < 2 ^ 63) : (lN n).toInt = (n : Int) := lg_ofNat_toInt h
theorem pk_lLT {a b : Nat} (ha : a < 2 ^ 63) (hb : b < 2 ^ 63) : lN a < lN b ↔ a < b := by
  rw [Int64.lt_iff_toInt_lt, pk_lT ha, pk_lT hb]; omega
theorem pk_lLE {a b : Nat} (ha : a < 2 ^ 63) (hb : b < 2 ^ 63) : lN a ≤ lN b ↔ a ≤ b := by
  rw [Int64.le_iff_toInt_le, pk_lT ha, pk_lT hb]; omega
theorem pk_lEQ {a b : Nat} (ha : a < 2 ^ 63) (hb : b < 2 ^ 63) : lN a = lN b ↔ a = b := by
  rw [← Int64.toInt_inj, pk_lT ha, pk_lT hb]; omega
theorem pk_lOf {x : Int64} (h : ¬ x < 0) : ∃ k : Nat, k < 2 ^ 63 ∧ x = lN k := by
  rw [Int64.lt_iff_toInt_lt] at h
  have h0 : (0 : Int64).toInt = 0 := by decide
  have hx := Int64.toInt_lt x
  refine ⟨x.toInt.toNat, by omega, Int64.toInt_inj.mp ?_⟩
  rw [pk_lT (by omega)]
  omega
/-! ===== Int32 by its bits: bt x i ===== -/
def bt (x : Int32) (i : Nat) : Bool := x.toBitVec.getLsbD i
theorem b_ext {x y : Int32} (h : ∀ i, i < 32 → bt x i = bt y i) : x = y := Int32.toBitVec_inj.mp (BitVec.eq_of_getLsbD_eq (fun i hi => h i hi))
theorem b_or (x y : Int32) (i : Nat) : bt (x ||| y) i = (bt x i || bt y i) := by unfold bt; rw [Int32.toBitVec_or, BitVec.getLsbD_or]
theorem b_and (x y : Int32) (i : Nat) : bt (x &&& y) i = (bt x i && bt y i) := by unfold bt; rw [Int32.toBitVec_and, BitVec.getLsbD_and]
theorem b_xor (x y : Int32) (i : Nat) : bt (x ^^^ y) i = (bt x i ^^ bt y i) := by unfold bt; rw [Int32.toBitVec_xor, BitVec.getLsbD_xor]
theorem b_big {x : Int32} {i : Nat} (h : 32 ≤ i) : bt x i = false := BitVec.getLsbD_of_ge _ _ h
theorem b_255 (i : Nat) : bt 255 i = decide (i < 8) := by
  rcases Nat.lt_or_ge i 32 with h | h
  · exact (by decide +kernel : ∀ i, i < 32 → bt 255 i = decide (i < 8)) i h
  · rw [b_big h, decide_eq_false (by omega)]
theorem b_65535 (i : Nat) : bt 65535 i = decide (i < 16) := by
  rcases Nat.lt_or_ge i 32 with h | h
  · exact (by decide +kernel : ∀ i, i < 32 → bt 65535 i = decide (i < 16)) i h
  · rw [b_big h, decide_eq_false (by omega)]
theorem b_m1 : ∀ i, i < 32 → bt (-1) i = true := by decide +kernel
theorem b_0 (i : Nat) : bt 0 i = false := BitVec.getLsbD_zero
theorem s_l : ∀ n, n < 32 → ((nI n &&& 31).toBitVec.smod 32).toNat = n := by decide +kernel
theorem s_u : ∀ n, n < 32 → (((nI n).toUInt32 &&& Int32.toUInt32 31).toBitVec % 32).toNat = n := by decide +kernel
theorem b_shl (n : Nat) (hn : n < 32) (x : Int32) {i : Nat} (hi : i < 32) : bt (x <<< (nI n &&& 31)) i = (decide (n ≤ i) && bt x (i - n)) := by
  unfold bt
  rw [Int32.toBitVec_shiftLeft]
  show (x.toBitVec <<< ((nI n &&& 31).toBitVec.smod 32).toNat).getLsbD i = _
  rw [s_l n hn, BitVec.getLsbD_shiftLeft]
  rcases Nat.lt_or_ge i n with h | h
  · simp [h, Nat.not_le.mpr h]
  · simp [hi, h, Nat.not_lt.mpr h]
theorem b_ushr (n : Nat) (hn : n < 32) (x : Int32) (i : Nat) : bt ((x.toUInt32 >>> ((nI n).toUInt32 &&& Int32.toUInt32 31)).toInt32) i = bt x (n + i) := by
  show (x.toUInt32 >>> ((nI n).toUInt32 &&& Int32.toUInt32 31)).toBitVec.getLsbD i = x.toUInt32.toBitVec.getLsbD (n + i)
  rw [UInt32.toBitVec_shiftRight]
  show (x.toUInt32.toBitVec >>> (((nI n).toUInt32 &&& Int32.toUInt32 31).toBitVec % 32).toNat).getLsbD i = _
  rw [s_u n hn, BitVec.getLsbD_ushiftRight]
theorem b_sshr (n : Nat) (hn : n < 32) (x : Int32) {i : Nat} (hi : i < 32) : bt (x >>> (nI n &&& 31)) i = if n + i < 32 then bt x (n + i) else bt x 31 := by
  unfold bt
  rw [Int32.toBitVec_shiftRight]
  show (x.toBitVec.sshiftRight ((nI n &&& 31).toBitVec.smod 32).toNat).getLsbD i = _
  rw [s_l n hn, BitVec.getLsbD_sshiftRight, BitVec.msb_eq_getLsbD_last]
  simp [hi]
theorem b_shl8 (x : Int32) {i : Nat} (hi : i < 32) : bt (x <<< ((8 : Int32) &&& 31)) i = (decide (8 ≤ i) && bt x (i - 8)) := b_shl 8 (by omega) x hi
theorem b_shl16 (x : Int32) {i : Nat} (hi : i < 32) : bt (x <<< ((16 : Int32) &&& 31)) i = (decide (16 ≤ i) && bt x (i - 16)) := b_shl 16 (by omega) x hi
theorem b_shl24 (x : Int32) {i : Nat} (hi : i < 32) : bt (x <<< ((24 : Int32) &&& 31)) i = (decide (24 ≤ i) && bt x (i - 24)) := b_shl 24 (by omega) x hi
theorem b_sshr8 (x : Int32) {i : Nat} (hi : i < 32) : bt (x >>> ((8 : Int32) &&& 31)) i = if 8 + i < 32 then bt x (8 + i) else bt x 31 := b_sshr 8 (by omega) x hi
/-! ===== nI under and, xor, >>>, one bit, 65535 ===== -/
theorem nx_and (a b : Nat) : nI a &&& nI b = nI (a &&& b) := by
  apply Int32.toBitVec_inj.1
  show BitVec.ofNat 32 a &&& BitVec.ofNat 32 b = BitVec.ofNat 32 (a &&& b)
  apply BitVec.eq_of_getLsbD_eq
  intro i hi
  simp [hi]
theorem nx_xor (a b : Nat) : nI a ^^^ nI b = nI (a ^^^ b) := by
  apply Int32.toBitVec_inj.1
  show BitVec.ofNat 32 a ^^^ BitVec.ofNat 32 b = BitVec.ofNat 32 (a ^^^ b)
  apply BitVec.eq_of_getLsbD_eq
  intro i hi
  simp [hi]
theorem nx_cnt : ∀ j : Fin 32, (UInt32.ofNat j.val &&& Int32.toUInt32 31).toNat % 32 = j.val := by decide +kernel
theorem nx_ush {k j : Nat} (hk : k < 65536) (hj : j < 32) : ((nI k).toUInt32 >>> ((nI j).toUInt32 &&& Int32.toUInt32 31)).toInt32 = nI (k >>> j) := by
  have hs : k >>> j ≤ k := by
    rw [Nat.shiftRight_eq_div_pow]
    exact Nat.div_le_self _ _
  have e2 : UInt32.ofNat k >>> (UInt32.ofNat j &&& Int32.toUInt32 31) = UInt32.ofNat (k >>> j) := by
    apply UInt32.toNat_inj.1
    have h1 : (UInt32.ofNat k).toNat = k := Nat.mod_eq_of_lt (by omega)
    have h2 : (UInt32.ofNat (k >>> j)).toNat = k >>> j := Nat.mod_eq_of_lt (by omega)
    rw [UInt32.toNat_shiftRight, nx_cnt ⟨j, hj⟩, h1, h2]
  show (UInt32.ofNat k >>> (UInt32.ofNat j &&& Int32.toUInt32 31)).toInt32 = _
  rw [e2]
  rfl
theorem nx_bit {k j : Nat} (hk : k < 65536) (hj : j < 16) : (((nI k).toUInt32 >>> ((nI j).toUInt32 &&& Int32.toUInt32 31)).toInt32 &&& 1) = 0 ↔ k.testBit j = false := by
  rw [nx_ush hk (by omega)]
  show nI (k >>> j) &&& nI 1 = 0 ↔ _
  rw [nx_and, Nat.and_one_is_mod, ← nI_0, nI_eq (by omega) (by omega), Nat.testBit_eq_decide_div_mod_eq, Nat.shiftRight_eq_div_pow, decide_eq_false_iff_not]
  generalize k / 2 ^ j = z
  omega
theorem nx_mod (k : Nat) : nI k &&& 65535 = nI (k % 65536) := by
  show nI k &&& nI 65535 = _
  rw [nx_and, show (65535 : Nat) = 2 ^ 16 - 1 from rfl, Nat.and_two_pow_sub_one_eq_mod]
theorem nx_m16 {k : Nat} (h : k < 65536) : nI k &&& 65535 = nI k := by rw [nx_mod, Nat.mod_eq_of_lt h]
theorem nx_mask (x : Int32) : ∃ k, k < 65536 ∧ x &&& 65535 = nI k := by
  have e : x = nI x.toBitVec.toNat := by
    apply Int32.toBitVec_inj.1
    show x.toBitVec = BitVec.ofNat 32 x.toBitVec.toNat
    simp
  refine ⟨x.toBitVec.toNat % 65536, Nat.mod_lt _ (by omega), ?_⟩
  rw [← nx_mod, ← e]
end
section
/-! ===== records of the abstract list: place, slot, key, stamp, id, dead ===== -/
abbrev zr_T : Type := Nat × Int32 × Int32 × Nat × Nat × Bool
def zr_p (c : zr_T) : Nat := c.1
def zr_s (c : zr_T) : Int32 := c.2.1
def zr_k (c : zr_T) : Int32 := c.2.2.1
def zr_v (c : zr_T) : Nat := c.2.2.2.1
def zr_i (c : zr_T) : Nat := c.2.2.2.2.1
def zr_d (c : zr_T) : Bool := c.2.2.2.2.2
def zr_0 : zr_T := (0, -1, -1, 0, 0, false)
/-- the key as an integer -/
def zr_K (c : zr_T) : Int := (zr_k c).toInt
theorem zr_K0 : zr_K zr_0 = -1 := by decide
/-! ===== bits of references and links ===== -/
theorem zb_or (a b : Nat) : nI a ||| nI b = nI (a ||| b) := by
  apply Int32.toBitVec_inj.1
  show BitVec.ofNat 32 a ||| BitVec.ofNat 32 b = BitVec.ofNat 32 (a ||| b)
  apply BitVec.eq_of_getLsbD_eq
  intro i hi
  simp [hi]
def rf_of (s p : Nat) : Int32 := (nI s <<< ((5 : Int32) &&& 31)) ||| nI p
theorem rf_nI {s p : Nat} (hs : s < 2 ^ 20) (hp : p < 32) : rf_of s p = nI (32 * s + p) := by
  unfold rf_of
  have e := Nat.two_pow_add_eq_or_of_lt (i := 5) (b := p) (by omega) s
  rw [pk_shlN ((5 : Int32) &&& 31) 5 (by decide) (by omega), zb_or, Nat.mul_comm s, ← e]
theorem rf_and {s p : Nat} (hs : s < 2 ^ 20) (hp : p < 32) : rf_of s p &&& 31 = nI p := by
  rw [rf_nI hs hp, pk_andN (by omega) 5 (by decide)]
  exact congrArg nI (by omega)
theorem rf_shr {s p : Nat} (hs : s < 2 ^ 20) (hp : p < 32) : rf_of s p >>> ((5 : Int32) &&& 31) = nI s := by
  rw [rf_nI hs hp, pk_shrN (by omega) _ 5 (by decide)]
  exact congrArg nI (by omega)
theorem rf_00 : rf_of 0 0 = 0 := by decide
theorem rf_ne {s p : Nat} (hs : s < 2 ^ 20) (hp : p < 32) (h0 : p ≠ 0) : ¬ rf_of s p = 0 := by
  rw [rf_nI hs hp]
  exact nI_ne0 (by omega) (by omega)
/-- a link's word: the next place, and the mark -/
def zz_nx (x : Int32) (q : Nat) (m : Bool) : Prop := (x >>> ((1 : Int32) &&& 31)) &&& 31 = nI q ∧ (x &&& 1 = 0 ↔ m = false)
theorem zb_sh {k q : Nat} (hk : k < 2 ^ 30) (hq : k % 32 = q) : zz_nx (nI k <<< ((1 : Int32) &&& 31)) q false := by
  rw [pk_shlN ((1 : Int32) &&& 31) 1 (by decide) (by omega)]
  refine ⟨?_, ?_⟩
  · rw [pk_shrN (by omega) _ 1 (by decide), pk_andN (by omega) 5 (by decide)]
    exact congrArg nI (by omega)
  · rw [pk_andN (by omega) 1 (by decide)]
    have e : k * 2 ^ 1 % 2 ^ 1 = 0 := by omega
    rw [e]
    exact ⟨fun _ => rfl, fun _ => nI_0⟩
theorem zb_2 : ∀ i, i < 5 → bt (-2) (1 + i) = true := by decide +kernel
theorem zb_1 : ∀ i, i < 5 → bt 1 (1 + i) = false := by decide +kernel
theorem zb_10 : bt 1 0 = true := by decide +kernel
theorem zb_31 : ∀ i, i < 32 → bt 31 i = decide (i < 5) := by decide +kernel
theorem zb_low {x y : Int32} (h : ∀ i, i < 5 → bt x (1 + i) = bt y (1 + i)) : (x >>> ((1 : Int32) &&& 31)) &&& 31 = (y >>> ((1 : Int32) &&& 31)) &&& 31 := by
  apply b_ext
  intro i hi
  have hx : bt (x >>> ((1 : Int32) &&& 31)) i = if 1 + i < 32 then bt x (1 + i) else bt x 31 := b_sshr 1 (by omega) x hi
  have hy : bt (y >>> ((1 : Int32) &&& 31)) i = if 1 + i < 32 then bt y (1 + i) else bt y 31 := b_sshr 1 (by omega) y hi
  rw [b_and, b_and, zb_31 i hi, hx, hy]
  by_cases h5 : i < 5
  · rw [if_pos (by omega), if_pos (by omega), h i h5]
  · rw [decide_eq_false h5, Bool.and_false, Bool.and_false]
theorem zb_clr {x : Int32} {q : Nat} {m : Bool} (h : zz_nx x q m) : zz_nx (x &&& (-2)) q false := by
  refine ⟨?_, ?_⟩
  · rw [zb_low (y := x) (fun i hi => by rw [b_and, zb_2 i hi, Bool.and_true])]
    exact h.1
  · have e : (x &&& (-2)) &&& 1 = 0 := by
      rw [Int32.and_assoc, show ((-2 : Int32) &&& 1) = 0 by decide, Int32.and_zero]
    exact ⟨fun _ => rfl, fun _ => e⟩
theorem zb_set {x : Int32} {q : Nat} {m : Bool} (h : zz_nx x q m) : zz_nx (x ||| 1) q true := by
  refine ⟨?_, ?_⟩
  · rw [zb_low (y := x) (fun i hi => by rw [b_or, zb_1 i hi, Bool.or_false])]
    exact h.1
  · refine ⟨fun e => ?_, fun e => nomatch e⟩
    have e2 : bt ((x ||| 1) &&& 1) 0 = bt 0 0 := congrArg (fun z => bt z 0) e
    rw [b_and, b_or, zb_10, Bool.or_true, b_0] at e2
    exact absurd e2 (by decide)
/-! ===== segments of the chain, the free chain ===== -/
def zz_hd : List zr_T → Nat → Nat
  | [], q => q
  | d :: _, _ => zr_p d
theorem zz_hd_app (A B : List zr_T) (q : Nat) : zz_hd (A ++ B) q = zz_hd A (zz_hd B q) := by cases A <;> rfl
def zz_sg (lk : Nat → Int32) : List zr_T → Nat → Prop
  | [], _ => True
  | c :: r, q => zz_nx (lk (zr_p c)) (zz_hd r q) (zr_d c) ∧ zz_sg lk r q
theorem zz_sg_app (lk : Nat → Int32) (A B : List zr_T) (q : Nat) : zz_sg lk (A ++ B) q ↔ zz_sg lk A (zz_hd B q) ∧ zz_sg lk B q := by
  induction A with
  | nil => exact ⟨fun h => ⟨trivial, h⟩, fun h => h.2⟩
  | cons c r ih =>
    show zz_nx _ (zz_hd (r ++ B) q) _ ∧ zz_sg lk (r ++ B) q ↔ (zz_nx _ (zz_hd r (zz_hd B q)) _ ∧ zz_sg lk r (zz_hd B q)) ∧ zz_sg lk B q
    rw [ih, zz_hd_app, and_assoc]
theorem zz_sg_congr {lk lk' : Nat → Int32} : ∀ {l : List zr_T} {q : Nat}, (∀ c, c ∈ l → lk' (zr_p c) = lk (zr_p c)) → zz_sg lk l q → zz_sg lk' l q
  | [], _, _, _ => trivial
  | c :: r, q, h, hs => ⟨by rw [h c (by simp)]; exact hs.1, zz_sg_congr (fun d hd => h d (List.mem_cons_of_mem _ hd)) hs.2⟩
def zz_fr (lk : Nat → Int32) : Int32 → List Nat → Prop
  | ft, [] => ft = 0
  | ft, p :: r => ft = nI p ∧ zz_fr lk (lk p) r
theorem zz_fr_congr {lk lk' : Nat → Int32} : ∀ {l : List Nat} {ft : Int32}, (∀ p, p ∈ l → lk' p = lk p) → zz_fr lk ft l → zz_fr lk' ft l
  | [], _, _, h => h
  | p :: r, ft, h, hs => ⟨hs.1, by rw [h p (by simp)]; exact zz_fr_congr (fun q hq => h q (List.mem_cons_of_mem _ hq)) hs.2⟩
/-! ===== lists ===== -/
theorem zl_np {A R : List zr_T} {F : List Nat} {b : zr_T} (h : ((A ++ b :: R).map zr_p ++ F).Nodup) : (∀ c, c ∈ A → zr_p c ≠ zr_p b) ∧ (∀ c, c ∈ R → zr_p c ≠ zr_p b) ∧ (∀ p, p ∈ F → p ≠ zr_p b) := by
  rw [List.map_append, List.map_cons, List.append_assoc, List.cons_append] at h
  obtain ⟨_, h2, h3⟩ := List.nodup_append.mp h
  obtain ⟨h4, _⟩ := List.nodup_cons.mp h2
  exact ⟨fun c hc e => h3 _ (List.mem_map_of_mem hc) _ (List.mem_cons_self) e, fun c hc e => h4 (List.mem_append_left _ (e ▸ List.mem_map_of_mem hc)), fun p hp e => h4 (List.mem_append_right _ (e ▸ hp))⟩
theorem zl_len {l1 : List Nat} : ∀ {l2 : List Nat}, l1.Nodup → (∀ x, x ∈ l1 → x ∈ l2) → l1.length ≤ l2.length := by
  induction l1 with
  | nil => intro l2 _ _; exact Nat.zero_le _
  | cons a l ih =>
    intro l2 hn hs
    obtain ⟨ha, hl⟩ := List.nodup_cons.mp hn
    have hm : a ∈ l2 := hs a (List.mem_cons_self)
    have h1 := ih (l2 := l2.erase a) hl (fun x hx => (List.mem_erase_of_ne (fun e : x = a => ha (by rw [← e]; exact hx))).mpr (hs x (List.mem_cons_of_mem _ hx)))
    have h2 := List.length_erase_of_mem hm
    have h3 : 0 < l2.length := List.length_pos_of_mem hm
    rw [List.length_cons]
    omega
theorem zl_sort {K : List zr_T} (h : K.Pairwise (fun a b => zr_K a < zr_K b)) : ∀ a, a ∈ K → ∀ b, b ∈ K → zr_K a = zr_K b → a = b := by
  induction K with
  | nil => intro a ha; nomatch ha
  | cons c r ih =>
    obtain ⟨h1, h2⟩ := List.pairwise_cons.mp h
    intro a ha b hb e
    rcases List.mem_cons.mp ha with ha1 | ha1
    · rcases List.mem_cons.mp hb with hb1 | hb1
      · rw [ha1, hb1]
      · have := h1 b hb1; rw [ha1] at e; omega
    · rcases List.mem_cons.mp hb with hb1 | hb1
      · have := h1 a ha1; rw [hb1] at e; omega
      · exact ih h2 a ha1 b hb1 e
theorem zl_split {K A R : List zr_T} {c : zr_T} (h : K.Pairwise (fun a b => zr_K a < zr_K b)) (e : K = A ++ c :: R) : (∀ x, x ∈ A → zr_K x < zr_K c) ∧ (∀ x, x ∈ R → zr_K c < zr_K x) := by
  subst e
  obtain ⟨_, h2, h3⟩ := List.pairwise_append.mp h
  exact ⟨fun x hx => h3 x hx c (List.mem_cons_self), fun x hx => (List.pairwise_cons.mp h2).1 x hx⟩
end
section
/-! ===== X's picture of the list K (sentinel first) and of the free places F ===== -/
def zz_XK (n m : Nat) (ft hc : Int32) (ks st lk : Nat → Int32) (K : List zr_T) (F : List Nat) : Prop :=
  K.head? = some zr_0 ∧ zz_sg lk K 0 ∧ zz_fr lk ft F ∧ (K.map zr_p ++ F).Nodup ∧ (∀ p, p ∈ F → p < 32) ∧
  (∀ c, c ∈ K → zr_p c < 32 ∧ ks (zr_p c) = zr_k c ∧ st (zr_p c) = nI (zr_v c) ∧ zr_v c ≤ m) ∧
  (∀ p, p < 32 → (∀ c, c ∈ K → zr_p c ≠ p) → st p = -1) ∧
  hc = nI (K.length - 1) ∧ K.length + F.length = n + 1 ∧
  K.Pairwise (fun a b => zr_K a < zr_K b) ∧ (∀ c, c ∈ K → zr_K c ≤ 9999) ∧ n ≤ 16 ∧ m ≤ 30000
section
variable {n m : Nat} {ft hc : Int32} {ks st lk : Nat → Int32} {K : List zr_T} {F : List Nat}
theorem xk_dat (I : zz_XK n m ft hc ks st lk K F) {c : zr_T} (h : c ∈ K) : zr_p c < 32 ∧ ks (zr_p c) = zr_k c ∧ st (zr_p c) = nI (zr_v c) ∧ zr_v c ≤ m := I.2.2.2.2.2.1 c h
theorem xk_srt (I : zz_XK n m ft hc ks st lk K F) : K.Pairwise (fun a b => zr_K a < zr_K b) := I.2.2.2.2.2.2.2.2.2.1
theorem xk_top (I : zz_XK n m ft hc ks st lk K F) {c : zr_T} (h : c ∈ K) : zr_K c ≤ 9999 := I.2.2.2.2.2.2.2.2.2.2.1 c h
theorem xk_n (I : zz_XK n m ft hc ks st lk K F) : n ≤ 16 := I.2.2.2.2.2.2.2.2.2.2.2.1
theorem xk_m (I : zz_XK n m ft hc ks st lk K F) : m ≤ 30000 := I.2.2.2.2.2.2.2.2.2.2.2.2
theorem xk_free (I : zz_XK n m ft hc ks st lk K F) {p : Nat} (hp : p < 32) (h : ∀ c, c ∈ K → zr_p c ≠ p) : st p = -1 := I.2.2.2.2.2.2.1 p hp h
theorem xk_len (I : zz_XK n m ft hc ks st lk K F) : K.length + F.length = n + 1 := I.2.2.2.2.2.2.2.2.1
theorem xk_hc (I : zz_XK n m ft hc ks st lk K F) : hc = nI (K.length - 1) := I.2.2.2.2.2.2.2.1
theorem xk_0 (I : zz_XK n m ft hc ks st lk K F) : ∃ C, K = zr_0 :: C := by
  cases K with
  | nil => exact nomatch I.1
  | cons a C => exact ⟨C, by rw [Option.some.inj I.1]⟩
theorem xk_z (I : zz_XK n m ft hc ks st lk K F) : zr_0 ∈ K := by
  obtain ⟨C, e⟩ := xk_0 I
  rw [e]; exact List.mem_cons_self
/-- two records at one place are one -/
theorem xk_inj (I : zz_XK n m ft hc ks st lk K F) {a b : zr_T} (ha : a ∈ K) (hb : b ∈ K) (e : zr_p a = zr_p b) : a = b := by
  obtain ⟨A, R, rfl⟩ := List.append_of_mem ha
  obtain ⟨h1, h2, _⟩ := zl_np I.2.2.2.1
  rcases List.mem_append.mp hb with h | h
  · exact absurd e.symm (h1 b h)
  · rcases List.mem_cons.mp h with h | h
    · exact h.symm
    · exact absurd e.symm (h2 b h)
theorem xk_p0 (I : zz_XK n m ft hc ks st lk K F) {c : zr_T} (h : c ∈ K) (e : zr_p c = 0) : c = zr_0 := xk_inj I h (xk_z I) e
/-- the place and the stamp of a held record, read back -/
theorem xk_ref (I : zz_XK n m ft hc ks st lk K F) {s p : Nat} (hs : s < 2 ^ 20) (hp : p < 32) : st p = nI s ↔ ∃ c, c ∈ K ∧ zr_p c = p ∧ zr_v c = s := by
  constructor
  · intro e
    by_cases h : ∃ c, c ∈ K ∧ zr_p c = p
    · obtain ⟨c, hc1, hc2⟩ := h
      have d := xk_dat I hc1
      have m30 := xk_m I
      rw [hc2] at d
      refine ⟨c, hc1, hc2, ?_⟩
      have e2 : nI (zr_v c) = nI s := d.2.2.1.symm.trans e
      exact (nI_eq (by omega) (by omega)).mp e2
    · have e3 := xk_free I hp (fun c hc1 hc2 => h ⟨c, hc1, hc2⟩)
      rw [e3] at e
      have : ¬ nI s < 0 := nI_pos (by omega)
      rw [← e] at this
      exact absurd (by decide) this
  · rintro ⟨c, h1, rfl, rfl⟩
    exact (xk_dat I h1).2.2.1
/-- the link behind a record -/
theorem xk_nx {A R : List zr_T} {c : zr_T} (I : zz_XK n m ft hc ks st lk (A ++ c :: R) F) : zz_nx (lk (zr_p c)) (zz_hd R 0) (zr_d c) := ((zz_sg_app lk A (c :: R) 0).mp I.2.1).2.1
theorem xk_hd32 {A R : List zr_T} {c : zr_T} (I : zz_XK n m ft hc ks st lk (A ++ c :: R) F) : zz_hd R 0 < 32 := by
  cases R with
  | nil => exact (by decide : 0 < 32)
  | cons d r => exact (xk_dat I (c := d) (by simp)).1
theorem xk_tail0 {A R : List zr_T} {c : zr_T} (I : zz_XK n m ft hc ks st lk (A ++ c :: R) F) {d : zr_T} (hd : d ∈ R) : zr_p d ≠ 0 := by
  intro e
  have h := xk_p0 I (c := d) (by simp [hd]) e
  have hs := (zl_split (xk_srt I) rfl).2 d hd
  have hA := xk_0 I
  obtain ⟨C, eC⟩ := hA
  cases A with
  | nil =>
    have e1 : c = zr_0 := (List.cons.inj eC).1
    rw [e1, h] at hs
    omega
  | cons a A =>
    have e1 : a = zr_0 := (List.cons.inj eC).1
    have h2 := (zl_split (xk_srt I) rfl).1 a (by simp)
    rw [e1] at h2
    rw [h] at hs
    omega
/-- one dead record unlinked behind b -/
theorem xk_rel {A R : List zr_T} {b d : zr_T} (I : zz_XK n m ft hc ks st lk (A ++ b :: d :: R) F) (hb : zr_d b = false) :
    zz_XK n m (nI (zr_p d)) (hc - 1) ks (upd st (zr_p d) (-1)) (upd (upd lk (zr_p b) (lk (zr_p d) &&& (-2))) (zr_p d) ft) (A ++ b :: R) (zr_p d :: F) := by
  obtain ⟨i1, i2, i3, i4, i5, i6, i7, i8, i9, i10, i11, i12, i13⟩ := I
  have e : A ++ b :: d :: R = (A ++ [b]) ++ d :: R := by simp
  obtain ⟨b1, b2, b3⟩ := zl_np i4
  obtain ⟨d1, d2, d3⟩ := zl_np (e ▸ i4)
  have sub : (A ++ b :: R).Sublist (A ++ b :: d :: R) := List.Sublist.append_left (List.Sublist.cons_cons b (List.Sublist.cons d (List.Sublist.refl R))) A
  have hdb : zr_p d ≠ zr_p b := b2 d (by simp)
  have nd : ∀ c, c ∈ A ++ b :: R → zr_p c ≠ zr_p d := by
    intro c hc
    rcases List.mem_append.mp hc with h | h
    · exact d1 c (by simp [h])
    · rcases List.mem_cons.mp h with h | h
      · rw [h]; exact hdb.symm
      · exact d2 c h
  have lkn : ∀ p, p ≠ zr_p d → p ≠ zr_p b → upd (upd lk (zr_p b) (lk (zr_p d) &&& (-2))) (zr_p d) ft p = lk p := fun p h1 h2 => by rw [pk_un h1, pk_un h2]
  have j2 := (zz_sg_app lk A (b :: d :: R) 0).mp i2
  refine ⟨by cases A <;> exact i1, ?_, ?_, ?_, ?_, ?_, ?_, ?_, ?_, i10.sublist sub, fun c hc => i11 c (List.Sublist.mem hc sub), i12, i13⟩
  · refine (zz_sg_app _ A (b :: R) 0).mpr ⟨zz_sg_congr (fun c hc => lkn _ (d1 c (by simp [hc])) (b1 c hc)) j2.1, ?_, zz_sg_congr (fun c hc => lkn _ (d2 c hc) (b2 c (by simp [hc]))) j2.2.2.2⟩
    rw [pk_un hdb.symm, pk_us, hb]
    exact zb_clr j2.2.2.1
  · refine ⟨rfl, ?_⟩
    rw [pk_us]
    exact zz_fr_congr (fun p hp => lkn p (d3 p hp) (b3 p hp)) i3
  · refine List.Perm.nodup ?_ i4
    rw [e, List.map_append, List.map_cons, List.append_assoc, List.cons_append]
    refine List.perm_middle.trans ?_
    refine List.Perm.trans ?_ List.perm_middle.symm
    simp
  · intro p hp
    rcases List.mem_cons.mp hp with h | h
    · rw [h]; exact (i6 d (by simp)).1
    · exact i5 p h
  · intro c hc
    have h := i6 c (List.Sublist.mem hc sub)
    rw [pk_un (nd c hc)]
    exact h
  · intro p hp h
    by_cases hpd : p = zr_p d
    · rw [hpd, pk_us]
    · rw [pk_un hpd]
      refine i7 p hp (fun c hc => ?_)
      rw [e] at hc
      rcases List.mem_append.mp hc with h1 | h1
      · refine h c ?_
        rcases List.mem_append.mp h1 with h2 | h2
        · exact List.mem_append_left _ h2
        · rw [List.mem_singleton.mp h2]; exact List.mem_append_right _ List.mem_cons_self
      · rcases List.mem_cons.mp h1 with h2 | h2
        · rw [h2]; exact fun z => hpd z.symm
        · exact h c (by simp [h2])
  · rw [i8]
    have l1 : (A ++ b :: d :: R).length - 1 = (A.length + R.length) + 1 := by simp; omega
    have l2 : (A ++ b :: R).length - 1 = A.length + R.length := by simp
    rw [l1, l2, nI_pred]
  · simp at i9 ⊢
    omega
/-- a new record linked behind b -/
theorem xk_link {A R : List zr_T} {b c : zr_T} {p : Nat} {F' : List Nat} (I : zz_XK n m ft hc ks st lk (A ++ b :: R) (p :: F')) (hb : zr_d b = false) (cp : zr_p c = p) (cv : zr_v c = m + 1) (cd : zr_d c = false)
    (c1 : zr_K b < zr_K c) (c2 : ∀ x, x ∈ R → zr_K c < zr_K x) (c3 : zr_K c ≤ 9999) (hm : m + 1 ≤ 30000) :
    zz_XK n (m + 1) (lk p) (hc + 1) (upd ks p (zr_k c)) (upd st p (nI (m + 1))) (upd (upd lk p (lk (zr_p b))) (zr_p b) (rf_of (m + 1) p <<< ((1 : Int32) &&& 31))) (A ++ b :: c :: R) F' := by
  obtain ⟨i1, i2, i3, i4, i5, i6, i7, i8, i9, i10, i11, i12, i13⟩ := I
  have np : ∀ x, x ∈ A ++ b :: R → zr_p x ≠ p := fun x hx e => (List.nodup_append.mp i4).2.2 _ (List.mem_map_of_mem hx) p (by simp) e
  have nF : ∀ q, q ∈ F' → q ≠ p := fun q hq e => (List.nodup_cons.mp (List.nodup_append.mp i4).2.1).1 (e ▸ hq)
  obtain ⟨b1, b2, b3⟩ := zl_np i4
  have hp32 : p < 32 := i5 p (by simp)
  have mem : ∀ x, x ∈ A ++ b :: c :: R → x = c ∨ x ∈ A ++ b :: R := by
    intro x hx
    simp at hx ⊢
    rcases hx with h | h | h | h
    · exact Or.inr (Or.inl h)
    · exact Or.inr (Or.inr (Or.inl h))
    · exact Or.inl h
    · exact Or.inr (Or.inr (Or.inr h))
  have j2 := (zz_sg_app lk A (b :: R) 0).mp i2
  have lkn : ∀ q, q ≠ p → q ≠ zr_p b → upd (upd lk p (lk (zr_p b))) (zr_p b) (rf_of (m + 1) p <<< ((1 : Int32) &&& 31)) q = lk q := fun q h1 h2 => by rw [pk_un h2, pk_un h1]
  have hbp : zr_p b ≠ p := np b (by simp)
  refine ⟨by cases A <;> exact i1, ?_, ?_, ?_, fun q hq => i5 q (by simp [hq]), ?_, ?_, ?_, ?_, ?_, ?_, i12, hm⟩
  · refine (zz_sg_app _ A (b :: c :: R) 0).mpr ⟨zz_sg_congr (fun x hx => lkn _ (np x (by simp [hx])) (b1 x hx)) j2.1, ?_, ?_, zz_sg_congr (fun x hx => lkn _ (np x (by simp [hx])) (b2 x hx)) j2.2.2⟩
    · rw [pk_us, hb, rf_nI (by omega) hp32]
      exact zb_sh (by omega) (by show _ = zr_p c; omega)
    · rw [cp, pk_un hbp.symm, pk_us, cd]
      have := j2.2.1
      rw [hb] at this
      exact this
  · refine zz_fr_congr (fun q hq => lkn q (nF q hq) (b3 q (by simp [hq]))) ?_
    exact i3.2
  · refine List.Perm.nodup ?_ i4
    have e : A ++ b :: c :: R = (A ++ [b]) ++ c :: R := by simp
    rw [e, List.map_append (l₁ := A ++ [b]), List.map_cons, List.append_assoc, List.cons_append, cp]
    refine List.perm_middle.trans ?_
    refine List.Perm.trans ?_ List.perm_middle.symm
    simp
  · intro x hx
    rcases mem x hx with h | h
    · rw [h, cp, pk_us, pk_us, cv]
      exact ⟨hp32, rfl, rfl, Nat.le_refl _⟩
    · have d := i6 x h
      rw [pk_un (np x h), pk_un (np x h)]
      exact ⟨d.1, d.2.1, d.2.2.1, by omega⟩
  · intro q hq h
    have hqp : q ≠ p := fun e => h c (by simp) (cp.trans e.symm)
    rw [pk_un hqp]
    exact i7 q hq (fun x hx => h x (by simp at hx ⊢; rcases hx with h | h | h <;> simp [h]))
  · rw [i8]
    have l1 : (A ++ b :: c :: R).length - 1 = (A.length + R.length) + 1 := by simp; omega
    have l2 : (A ++ b :: R).length - 1 = A.length + R.length := by simp
    rw [l1, l2, nI_1]
  · simp at i9 ⊢
    omega
  · obtain ⟨q1, q2, q3⟩ := List.pairwise_append.mp i10
    obtain ⟨q4, q5⟩ := List.pairwise_cons.mp q2
    refine List.pairwise_append.mpr ⟨q1, List.pairwise_cons.mpr ⟨?_, List.pairwise_cons.mpr ⟨c2, q5⟩⟩, ?_⟩
    · intro x hx
      rcases List.mem_cons.mp hx with h | h
      · rw [h]; exact c1
      · exact q4 x h
    · intro x hx y hy
      rcases List.mem_cons.mp hy with h | h
      · rw [h]; exact q3 x hx b (by simp)
      · rcases List.mem_cons.mp h with h | h
        · rw [h]; have := q3 x hx b (by simp); omega
        · exact q3 x hx y (by simp [h])
  · intro x hx
    rcases mem x hx with h | h
    · rw [h]; exact c3
    · exact i11 x h
/-- one record b becomes b' at its place: its link's word, its stamp -/
theorem xk_set {A R : List zr_T} {b b' : zr_T} {w : Int32} {st' : Nat → Int32} (I : zz_XK n m ft hc ks st lk (A ++ b :: R) F) (hp : zr_p b' = zr_p b) (hk : zr_k b' = zr_k b) (hv : zr_v b' ≤ m) (h0 : b = zr_0 → b' = zr_0)
    (hs : st' (zr_p b) = nI (zr_v b')) (hs2 : ∀ q, q ≠ zr_p b → st' q = st q) (hw : zz_nx w (zz_hd R 0) (zr_d b')) :
    zz_XK n m ft hc ks st' (upd lk (zr_p b) w) (A ++ b' :: R) F := by
  obtain ⟨i1, i2, i3, i4, i5, i6, i7, i8, i9, i10, i11, i12, i13⟩ := I
  obtain ⟨b1, b2, b3⟩ := zl_np i4
  have hK : zr_K b' = zr_K b := by unfold zr_K; rw [hk]
  have j2 := (zz_sg_app lk A (b :: R) 0).mp i2
  have mem : ∀ x, x ∈ A ++ b' :: R → x = b' ∨ (x ∈ A ++ b :: R ∧ zr_p x ≠ zr_p b) := by
    intro x hx
    rcases List.mem_append.mp hx with h | h
    · exact Or.inr ⟨by simp [h], b1 x h⟩
    · rcases List.mem_cons.mp h with h | h
      · exact Or.inl h
      · exact Or.inr ⟨by simp [h], b2 x h⟩
  refine ⟨?_, ?_, zz_fr_congr (fun q hq => pk_un (b3 q hq)) i3, ?_, i5, ?_, ?_, ?_, ?_, ?_, ?_, i12, i13⟩
  · cases A with
    | nil => exact congrArg some (h0 (Option.some.inj i1))
    | cons a A => exact i1
  · refine (zz_sg_app _ A (b' :: R) 0).mpr ⟨?_, ?_, zz_sg_congr (fun x hx => pk_un (b2 x hx)) j2.2.2⟩
    · show zz_sg _ A (zr_p b')
      rw [hp]
      exact zz_sg_congr (fun x hx => pk_un (b1 x hx)) j2.1
    · rw [hp, pk_us]
      exact hw
  · have e : (A ++ b' :: R).map zr_p = (A ++ b :: R).map zr_p := by simp [hp]
    rw [e]; exact i4
  · intro x hx
    rcases mem x hx with h | ⟨h, h2⟩
    · rw [h, hp, hs, hk]
      have d := i6 b (by simp)
      exact ⟨d.1, d.2.1, rfl, hv⟩
    · rw [hs2 _ h2]; exact i6 x h
  · intro q hq h
    have hqb : q ≠ zr_p b := fun e => h b' (by simp) (hp.trans e.symm)
    rw [hs2 q hqb]
    refine i7 q hq (fun x hx => ?_)
    rcases List.mem_append.mp hx with h1 | h1
    · exact h x (by simp [h1])
    · rcases List.mem_cons.mp h1 with h1 | h1
      · rw [h1]; exact fun z => hqb z.symm
      · exact h x (by simp [h1])
  · rw [i8]; simp
  · simp at i9 ⊢
    omega
  · obtain ⟨q1, q2, q3⟩ := List.pairwise_append.mp i10
    obtain ⟨q4, q5⟩ := List.pairwise_cons.mp q2
    refine List.pairwise_append.mpr ⟨q1, List.pairwise_cons.mpr ⟨?_, q5⟩, ?_⟩
    · intro x hx; rw [hK]; exact q4 x hx
    · intro x hx y hy
      rcases List.mem_cons.mp hy with h | h
      · rw [h, hK]; exact q3 x hx b (by simp)
      · exact q3 x hx y (by simp [h])
  · intro x hx
    rcases mem x hx with h | ⟨h, _⟩
    · rw [h, hK]; exact i11 b (by simp)
    · exact i11 x h
end
end
section
/-! ===== the LIVE record of greatest key at most q; the LIVE one of least key above q; a sweep ===== -/
def zz_GL (K : List zr_T) (q : Int) (c : zr_T) : Prop := c ∈ K ∧ zr_d c = false ∧ zr_K c ≤ q ∧ ∀ x, x ∈ K → zr_d x = false → zr_K x ≤ q → zr_K x ≤ zr_K c
def zz_LA (C : List zr_T) (q : Int) (a : zr_T) : Prop := (a = zr_0 ∧ ∀ x, x ∈ C → zr_d x = false → zr_K x ≤ q) ∨ (a ∈ C ∧ zr_d a = false ∧ q < zr_K a ∧ ∀ x, x ∈ C → zr_d x = false → q < zr_K x → zr_K a ≤ zr_K x)
def zz_ll (q : Int32) : zr_T → List zr_T → zr_T
  | f, [] => f
  | f, c :: R => if q < zr_k c then f else zz_ll q (cond (zr_d c) f c) R
def zz_hr : List zr_T → zr_T
  | [] => zr_0
  | c :: _ => c
theorem zz_hr_p (B : List zr_T) : zr_p (zz_hr B) = zz_hd B 0 := by cases B <;> rfl
def zz_hk (a : zr_T) : Int := if zr_p a = 0 then 10000 else zr_K a
def zz_sw (lo hi : Int) (C : List zr_T) : List zr_T := C.filter (fun x => !(zr_d x && (decide (lo < zr_K x) && decide (zr_K x < hi))))
/-- the head is LIVE, if there is one -/
def zz_lh : List zr_T → Prop
  | [] => True
  | c :: _ => zr_d c = false
theorem zz_lh_drop (R : List zr_T) : zz_lh (R.dropWhile zr_d) := by
  induction R with
  | nil => exact trivial
  | cons c r ih =>
    cases h : zr_d c
    · rw [List.dropWhile_cons, h]; exact h
    · rw [List.dropWhile_cons, h]; exact ih
theorem zz_take_d (R : List zr_T) : ∀ x, x ∈ R.takeWhile zr_d → zr_d x = true := by
  induction R with
  | nil => intro x hx; nomatch hx
  | cons c r ih =>
    intro x hx
    cases h : zr_d c
    · rw [List.takeWhile_cons, h] at hx; exact nomatch hx
    · rw [List.takeWhile_cons, h] at hx
      rcases List.mem_cons.mp hx with e | e
      · rw [e]; exact h
      · exact ih x e
theorem zz_ll_loop {K : List zr_T} (q : Int32) (srt : K.Pairwise (fun a b => zr_K a < zr_K b)) : ∀ (R A : List zr_T) (f : zr_T), K = A ++ R → f ∈ A → zr_d f = false → zr_K f ≤ q.toInt → (∀ x, x ∈ A → zr_d x = false → zr_K x ≤ zr_K f) → zz_GL K q.toInt (zz_ll q f R) := by
  intro R
  induction R with
  | nil =>
    intro A f e hf hd hq hA
    rw [List.append_nil] at e
    subst e
    exact ⟨hf, hd, hq, fun x hx hx2 _ => hA x hx hx2⟩
  | cons c R ih =>
    intro A f e hf hd hq hA
    have sp := zl_split srt e
    by_cases h : q < zr_k c
    · rw [zz_ll, if_pos h]
      have h' : q.toInt < zr_K c := Int32.lt_iff_toInt_lt.mp h
      refine ⟨by rw [e]; exact List.mem_append_left _ hf, hd, hq, fun x hx hx2 hx3 => ?_⟩
      rw [e] at hx
      rcases List.mem_append.mp hx with hx | hx
      · exact hA x hx hx2
      · rcases List.mem_cons.mp hx with hx | hx
        · rw [hx] at hx3; omega
        · have := sp.2 x hx; omega
    · rw [zz_ll, if_neg h]
      have h' : ¬ q.toInt < zr_K c := fun z => h (Int32.lt_iff_toInt_lt.mpr z)
      cases hc : zr_d c
      · refine ih (A ++ [c]) c (by simp [e]) (by simp) hc (by omega) (fun x hx hx2 => ?_)
        rcases List.mem_append.mp hx with hx | hx
        · have := sp.1 x hx; omega
        · rw [List.mem_singleton.mp hx]; exact Int.le_refl _
      · refine ih (A ++ [c]) f (by simp [e]) (by simp [hf]) hd hq (fun x hx hx2 => ?_)
        rcases List.mem_append.mp hx with hx | hx
        · exact hA x hx hx2
        · rw [List.mem_singleton.mp hx, hc] at hx2; exact nomatch hx2
theorem zz_ll_GL {K A R : List zr_T} {b : zr_T} (q : Int32) (srt : K.Pairwise (fun a b => zr_K a < zr_K b)) (e : K = A ++ b :: R) (hd : zr_d b = false) (hq : zr_K b ≤ q.toInt) : zz_GL K q.toInt (zz_ll q b R) := by
  have sp := zl_split srt e
  refine zz_ll_loop q srt R (A ++ [b]) b (by simp [e]) (by simp) hd hq (fun x hx hx2 => ?_)
  rcases List.mem_append.mp hx with hx | hx
  · have := sp.1 x hx; omega
  · rw [List.mem_singleton.mp hx]; exact Int.le_refl _
theorem zz_LA_of {C A D B : List zr_T} {c : zr_T} {q : Int} (srt : (zr_0 :: C).Pairwise (fun a b => zr_K a < zr_K b)) (g : zz_GL (zr_0 :: C) q c) (e : zr_0 :: C = A ++ c :: (D ++ B)) (hD : ∀ x, x ∈ D → zr_d x = true) (hB : zz_lh B) : zz_LA C q (zz_hr B) := by
  have sp := zl_split srt e
  obtain ⟨g1, g2, g3, g4⟩ := g
  have gt : ∀ x, x ∈ zr_0 :: C → zr_d x = false → q < zr_K x → x ∈ B := by
    intro x hx hx2 hx3
    rw [e] at hx
    rcases List.mem_append.mp hx with hx | hx
    · have := sp.1 x hx; omega
    · rcases List.mem_cons.mp hx with hx | hx
      · rw [hx] at hx3; omega
      · rcases List.mem_append.mp hx with hx | hx
        · rw [hD x hx] at hx2; exact nomatch hx2
        · exact hx
  cases B with
  | nil =>
    refine Or.inl ⟨rfl, fun x hx hx2 => ?_⟩
    by_cases h : q < zr_K x
    · exact nomatch gt x (List.mem_cons_of_mem _ hx) hx2 h
    · omega
  | cons a B =>
    have ha : a ∈ zr_0 :: C := by rw [e]; simp
    have hca : zr_K c < zr_K a := sp.2 a (by simp)
    have haC : a ∈ C := by
      rcases List.mem_cons.mp ha with h | h
      · have h0 : zr_K zr_0 ≤ zr_K c := by
          rcases List.mem_cons.mp g1 with h1 | h1
          · rw [h1]; exact Int.le_refl _
          · exact Int.le_of_lt ((List.pairwise_cons.mp srt).1 c h1)
        rw [h] at hca; omega
      · exact h
    have hq : q < zr_K a := by
      by_cases h : q < zr_K a
      · exact h
      · have := g4 a ha hB (by omega); omega
    refine Or.inr ⟨haC, hB, hq, fun x hx hx2 hx3 => ?_⟩
    have hxB := gt x (List.mem_cons_of_mem _ hx) hx2 hx3
    rcases List.mem_cons.mp hxB with h | h
    · rw [h]; exact Int.le_refl _
    · have e2 : zr_0 :: C = (A ++ c :: D) ++ a :: B := by rw [e]; simp
      exact Int.le_of_lt ((zl_split srt e2).2 x h)
theorem zz_sw_of {C A D B : List zr_T} {c : zr_T} (srt : (zr_0 :: C).Pairwise (fun a b => zr_K a < zr_K b)) (top : ∀ x, x ∈ zr_0 :: C → zr_K x ≤ 9999) (e : zr_0 :: C = A ++ c :: (D ++ B)) (hc : zr_d c = false) (hD : ∀ x, x ∈ D → zr_d x = true) (hB : zz_lh B) (hz : ∀ x, x ∈ B → zr_p x ≠ 0) : A ++ c :: B = zr_0 :: zz_sw (zr_K c) (zz_hk (zz_hr B)) C := by
  have sp := zl_split srt e
  have f0 : zr_0 :: zz_sw (zr_K c) (zz_hk (zz_hr B)) C = (zr_0 :: C).filter (fun x => !(zr_d x && (decide (zr_K c < zr_K x) && decide (zr_K x < zz_hk (zz_hr B))))) := rfl
  rw [f0, e, List.filter_append, List.filter_cons, List.filter_append]
  have fA : A.filter (fun x => !(zr_d x && (decide (zr_K c < zr_K x) && decide (zr_K x < zz_hk (zz_hr B))))) = A := by
    refine List.filter_eq_self.mpr (fun x hx => ?_)
    have := sp.1 x hx
    simp; omega
  have fD : D.filter (fun x => !(zr_d x && (decide (zr_K c < zr_K x) && decide (zr_K x < zz_hk (zz_hr B))))) = [] := by
    refine List.filter_eq_nil_iff.mpr (fun x hx => ?_)
    have h1 := sp.2 x (by simp [hx])
    have h2 : zr_K x < zz_hk (zz_hr B) := by
      cases B with
      | nil =>
        have := top x (by rw [e]; simp [hx])
        show zr_K x < 10000
        omega
      | cons a B =>
        have e2 : zr_0 :: C = (A ++ c :: D) ++ a :: B := by rw [e]; simp
        have h3 := (zl_split srt e2).1 x (by simp [hx])
        show zr_K x < if zr_p a = 0 then 10000 else zr_K a
        rw [if_neg (hz a (by simp))]
        exact h3
    simp [hD x hx, h1, h2]
  have fB : B.filter (fun x => !(zr_d x && (decide (zr_K c < zr_K x) && decide (zr_K x < zz_hk (zz_hr B))))) = B := by
    cases B with
    | nil => rfl
    | cons a B =>
      have e2 : zr_0 :: C = (A ++ c :: D) ++ a :: B := by rw [e]; simp
      refine List.filter_eq_self.mpr (fun x hx => ?_)
      rcases List.mem_cons.mp hx with h | h
      · rw [h, show zr_d a = false from hB]; rfl
      · have h3 := (zl_split srt e2).2 x h
        have h4 : zz_hk (zz_hr (a :: B)) = zr_K a := if_neg (hz a (by simp))
        rw [h4]
        simp; omega
  rw [fA, fD, fB, hc]
  rfl
theorem zz_sw_mem {lo hi : Int} {C : List zr_T} {x : zr_T} : x ∈ zz_sw lo hi C ↔ x ∈ C ∧ ¬ (zr_d x = true ∧ lo < zr_K x ∧ zr_K x < hi) := by
  unfold zz_sw
  rw [List.mem_filter]
  have e : (!(zr_d x && (decide (lo < zr_K x) && decide (zr_K x < hi)))) = true ↔ ¬ (zr_d x = true ∧ lo < zr_K x ∧ zr_K x < hi) := by
    rw [Bool.not_eq_true', Bool.eq_false_iff, ne_eq, Bool.and_eq_true, Bool.and_eq_true, decide_eq_true_iff, decide_eq_true_iff]
  exact and_congr_right (fun _ => e)
end
section
section
variable {xFt xHc xLc xCl xLf : Int32} {xKs xSt xLk xPh xOk xOy xRs xLr xLw xUr xUw : Nat → Int32} {n m : Nat} {K A R : List zr_T} {F : List Nat} {c : zr_T} {post : Int32 → Prop}
/-! ===== X's small readers ===== -/
theorem xw_thr {t : Nat} (ht : t < 4) (h : post 1) : wpX_isThread post (xFt, xHc, xLc, xCl, xLf, xKs, xSt, xLk, xPh, xOk, xOy, xRs, xLr, xLw, xUr, xUw) (nI t) := br_f (nI_pos (by omega)) (br_f (nI_ge (b := 4) ht (by decide)) h)
theorem xw_nth {v : Int32} (hv : v < 0 ∨ nI 4 ≤ v) (h : post 0) : wpX_isThread post (xFt, xHc, xLc, xCl, xLf, xKs, xSt, xLk, xPh, xOk, xOy, xRs, xLr, xLw, xUr, xUw) v := br_c (fun _ => h) (fun h1 => br_t (hv.resolve_left h1) h)
theorem xw_busy1 {t : Nat} (ht : t < 4) (hp : xPh t = 1 ∨ xPh t = 2 ∨ xPh t = 3) (h : post 1) : wpX_isBusy post (xFt, xHc, xLc, xCl, xLf, xKs, xSt, xLk, xPh, xOk, xOy, xRs, xLr, xLw, xUr, xUw) (nI t) := by
  unfold wpX_isBusy
  dsimp only
  rw [nI_clamp (n := t) (by omega)]
  refine ⟨vp_in_nI ht (by decide), ?_⟩
  rcases hp with e | e | e <;> rw [e] <;> exact br_f (by decide) ⟨vp_in_nI ht (by decide), br_f (by decide) h⟩
theorem xw_busy0 {t : Nat} (ht : t < 4) (hp : xPh t = 0 ∨ xPh t = 4) (h : post 0) : wpX_isBusy post (xFt, xHc, xLc, xCl, xLf, xKs, xSt, xLk, xPh, xOk, xOy, xRs, xLr, xLw, xUr, xUw) (nI t) := by
  unfold wpX_isBusy
  dsimp only
  rw [nI_clamp (n := t) (by omega)]
  refine ⟨vp_in_nI ht (by decide), ?_⟩
  rcases hp with e | e <;> rw [e]
  · exact br_t (by decide) h
  · exact br_f (by decide) ⟨vp_in_nI ht (by decide), br_t (by decide) h⟩
theorem xw_held0 {s p : Nat} (hs : s < 2 ^ 20) (hp : p < 32) (h1 : xSt p = nI s → post 1) (h0 : ¬ xSt p = nI s → post 0) : wpX_isHeld post (xFt, xHc, xLc, xCl, xLf, xKs, xSt, xLk, xPh, xOk, xOy, xRs, xLr, xLw, xUr, xUw) (rf_of s p) := by
  unfold wpX_isHeld
  dsimp only
  rw [rf_and hs hp, rf_shr hs hp, nI_clamp (n := p) (by omega)]
  exact ⟨vp_in_nI hp (by decide), h1, h0⟩
theorem xw_next (I : zz_XK n m xFt xHc xKs xSt xLk K F) (e : K = A ++ c :: R) (h : post (nI (zz_hd R 0))) : wpX_nextPlace post (xFt, xHc, xLc, xCl, xLf, xKs, xSt, xLk, xPh, xOk, xOy, xRs, xLr, xLw, xUr, xUw) (nI (zr_p c)) := by
  subst e
  have d := (xk_dat I (c := c) (by simp)).1
  have e1 := (xk_nx I).1
  unfold wpX_nextPlace
  dsimp only
  rw [nI_clamp (n := zr_p c) (by omega), e1]
  exact ⟨vp_in_nI d (by decide), h⟩
theorem xw_dead (I : zz_XK n m xFt xHc xKs xSt xLk K F) (hc : c ∈ K) (h0 : zr_d c = false → post 0) (h1 : zr_d c = true → post 1) : wpX_isDead post (xFt, xHc, xLc, xCl, xLf, xKs, xSt, xLk, xPh, xOk, xOy, xRs, xLr, xLw, xUr, xUw) (nI (zr_p c)) := by
  obtain ⟨A, R, rfl⟩ := List.append_of_mem hc
  have d := (xk_dat I (c := c) (by simp)).1
  have e1 := (xk_nx I).2
  unfold wpX_isDead
  dsimp only
  rw [nI_clamp (n := zr_p c) (by omega)]
  refine ⟨vp_in_nI d (by decide), fun z => h0 (e1.mp z), fun z => h1 ?_⟩
  cases hd : zr_d c
  · exact absurd (e1.mpr hd) z
  · rfl
/-- a held record of that very stamp, or none -/
theorem xw_held (I : zz_XK n m xFt xHc xKs xSt xLk K F) {s p : Nat} (hs : s ≤ m) (hp : p < 32) (h1 : ∀ c, c ∈ K → zr_p c = p → zr_v c = s → post 1) (h0 : (∀ c, c ∈ K → ¬ (zr_p c = p ∧ zr_v c = s)) → post 0) : wpX_isHeld post (xFt, xHc, xLc, xCl, xLf, xKs, xSt, xLk, xPh, xOk, xOy, xRs, xLr, xLw, xUr, xUw) (rf_of s p) := by
  have hm := xk_m I
  have hr := xk_ref I (s := s) (p := p) (by omega) hp
  refine xw_held0 (by omega) hp (fun e => ?_) (fun e => ?_)
  · obtain ⟨c, hc, hcp, hcv⟩ := hr.mp e
    exact h1 c hc hcp hcv
  · exact h0 (fun c hc hh => e (hr.mpr ⟨c, hc, hh⟩))
theorem xw_live (I : zz_XK n m xFt xHc xKs xSt xLk K F) {s p : Nat} (hs : s ≤ m) (hp : p < 32) (h1 : ∀ c, c ∈ K → zr_p c = p → zr_v c = s → zr_d c = false → post 1) (h2 : ∀ c, c ∈ K → zr_p c = p → zr_v c = s → zr_d c = true → post 0) (h0 : (∀ c, c ∈ K → ¬ (zr_p c = p ∧ zr_v c = s)) → post 0) : wpX_isLive post (xFt, xHc, xLc, xCl, xLf, xKs, xSt, xLk, xPh, xOk, xOy, xRs, xLr, xLw, xUr, xUw) (rf_of s p) := by
  have hm := xk_m I
  unfold wpX_isLive
  dsimp only
  refine xw_held I hs hp (fun c hc hcp hcv => br_f (by decide) ?_) (fun e => br_t rfl (h0 e))
  rw [rf_and (by omega) hp, nI_clamp (n := p) (by omega)]
  refine ⟨vp_in_nI hp (by decide), ?_⟩
  obtain ⟨A, R, e⟩ := List.append_of_mem hc
  have e1 : xLk (zr_p c) &&& 1 = 0 ↔ zr_d c = false := by subst e; exact (xk_nx I).2
  rw [hcp] at e1
  refine ⟨fun z => h1 c hc hcp hcv (e1.mp z), fun z => h2 c hc hcp hcv ?_⟩
  cases hd : zr_d c
  · exact absurd (e1.mpr hd) z
  · rfl
/-- the record at which a walk starts -/
theorem xw_start (I : zz_XK n m xFt xHc xKs xSt xLk K F) {s p : Nat} (hs : s ≤ m) (hp : p < 32) : ∃ b, b ∈ K ∧ zr_d b = false ∧ (b = zr_0 ∨ (zr_p b = p ∧ zr_v b = s)) ∧ ∀ post : Int32 → Prop, post (nI (zr_p b)) → wpX_startPlace post (xFt, xHc, xLc, xCl, xLf, xKs, xSt, xLk, xPh, xOk, xOy, xRs, xLr, xLw, xUr, xUw) (rf_of s p) := by
  have hm := xk_m I
  by_cases h : ∃ c, c ∈ K ∧ zr_p c = p ∧ zr_v c = s ∧ zr_d c = false
  · obtain ⟨b, hb, hbp, hbv, hbd⟩ := h
    refine ⟨b, hb, hbd, Or.inr ⟨hbp, hbv⟩, fun post hpost => ?_⟩
    unfold wpX_startPlace
    dsimp only
    refine xw_live I hs hp (fun c _ _ _ _ => br_f (by decide) ?_) (fun c hc hcp hcv hcd => ?_) (fun z => absurd ⟨hbp, hbv⟩ (z b hb))
    · rw [rf_and (by omega) hp, ← hbp]; exact hpost
    · rw [xk_inj I hc hb (hcp.trans hbp.symm), hbd] at hcd; exact nomatch hcd
  · refine ⟨zr_0, xk_z I, rfl, Or.inl rfl, fun post hpost => ?_⟩
    unfold wpX_startPlace
    dsimp only
    exact xw_live I hs hp (fun c hc hcp hcv hcd => absurd ⟨c, hc, hcp, hcv, hcd⟩ h) (fun c hc hcp hcv hcd => br_t rfl hpost) (fun z => br_t rfl hpost)
/-! ===== X's walks along the chain ===== -/
theorem xw_ll_loop (I : zz_XK n m xFt xHc xKs xSt xLk K F) (q : Int32) : ∀ (R A : List zr_T) (f : zr_T) (i fu : Nat), K = A ++ R → (∀ d, d ∈ R → zr_p d ≠ 0) → i + R.length ≤ 16 → R.length < fu → post (nI (zr_p (zz_ll q f R))) → wX_lastLive_12 post q xFt xHc xLc xCl xLf xKs xSt xLk xPh xOk xOy xRs xLr xLw xUr xUw fu (nI (zr_p f)) (nI (zz_hd R 0)) (nI i) := by
  intro R
  induction R with
  | nil =>
    intro A f i fu e hz hi hf h
    obtain ⟨k, rfl⟩ : ∃ k, fu = k + 1 := ⟨fu - 1, by omega⟩
    exact br_c (fun _ => h) (fun _ => br_t nI_0 h)
  | cons c R ih =>
    intro A f i fu e hz hi hf h
    rw [List.length_cons] at hi hf
    obtain ⟨k, rfl⟩ : ∃ k, fu = k + 1 := ⟨fu - 1, by omega⟩
    have hc : c ∈ K := by rw [e]; simp
    have d := xk_dat I hc
    have hp0 : ¬ nI (zr_p c) = 0 := nI_ne0 (Nat.pos_of_ne_zero (hz c (by simp))) (by omega)
    have ek : xKs (nI (zz_hd (c :: R) 0)).toNatClampNeg = zr_k c := by show xKs (nI (zr_p c)).toNatClampNeg = zr_k c; rw [nI_clamp (by omega)]; exact d.2.1
    have nxt : ∀ f' : zr_T, post (nI (zr_p (zz_ll q f' R))) → wX_lastLive_47 post (wX_lastLive_12 post q xFt xHc xLc xCl xLf xKs xSt xLk xPh xOk xOy xRs xLr xLw xUr xUw k) q (nI (zr_p f')) (nI (zr_p c)) (nI i) xFt xHc xLc xCl xLf xKs xSt xLk xPh xOk xOy xRs xLr xLw xUr xUw := fun f' h' => xw_next I e (nm_r (nI_1 i) (ih (A ++ [c]) f' (i + 1) k (by simp [e]) (fun d hd => hz d (by simp [hd])) (by omega) (by omega) h'))
    refine br_f (nI_ge (b := 16) (by omega) (by decide)) (br_f hp0 (And.intro (vp_in_nI d.1 (by decide)) ?_))
    by_cases hq : q < zr_k c
    · rw [zz_ll, if_pos hq] at h
      exact br_t (by rw [ek]; exact hq) h
    · rw [zz_ll, if_neg hq] at h
      refine br_f (by rw [ek]; exact hq) (xw_dead I hc (fun hd => br_t rfl (nxt c ?_)) (fun hd => br_f (by decide) (nxt f ?_)))
      · rw [hd] at h; exact h
      · rw [hd] at h; exact h
theorem xk_tails (I : zz_XK n m xFt xHc xKs xSt xLk K F) (e : K = A ++ c :: R) : (∀ d, d ∈ R → zr_p d ≠ 0) ∧ R.length ≤ 16 := by
  subst e
  refine ⟨fun d hd => xk_tail0 I hd, ?_⟩
  have h1 := xk_len I
  have h2 := xk_n I
  simp at h1
  omega
theorem xw_ll (I : zz_XK n m xFt xHc xKs xSt xLk K F) (q : Int32) (e : K = A ++ c :: R) (h : post (nI (zr_p (zz_ll q c R)))) : wpX_lastLive post (xFt, xHc, xLc, xCl, xLf, xKs, xSt, xLk, xPh, xOk, xOy, xRs, xLr, xLw, xUr, xUw) (nI (zr_p c)) q := by
  have tl := xk_tails I e
  unfold wpX_lastLive
  dsimp only
  exact xw_next I e ⟨17, xw_ll_loop I q R (A ++ [c]) c 0 17 (by simp [e]) tl.1 (by omega) (by omega) h⟩
theorem xw_la_loop (I : zz_XK n m xFt xHc xKs xSt xLk K F) : ∀ (R A : List zr_T) (i fu : Nat), K = A ++ R → (∀ d, d ∈ R → zr_p d ≠ 0) → i + R.length ≤ 16 → R.length < fu → post (nI (zz_hd (R.dropWhile zr_d) 0)) → wX_liveAfter_8 post xFt xHc xLc xCl xLf xKs xSt xLk xPh xOk xOy xRs xLr xLw xUr xUw fu (nI (zz_hd R 0)) (nI i) := by
  intro R
  induction R with
  | nil =>
    intro A i fu e hz hi hf h
    obtain ⟨k, rfl⟩ : ∃ k, fu = k + 1 := ⟨fu - 1, by omega⟩
    exact br_c (fun _ => h) (fun _ => br_t nI_0 h)
  | cons c R ih =>
    intro A i fu e hz hi hf h
    rw [List.length_cons] at hi hf
    obtain ⟨k, rfl⟩ : ∃ k, fu = k + 1 := ⟨fu - 1, by omega⟩
    have hc : c ∈ K := by rw [e]; simp
    have d := xk_dat I hc
    have hp0 : ¬ nI (zr_p c) = 0 := nI_ne0 (Nat.pos_of_ne_zero (hz c (by simp))) (by omega)
    refine br_f (nI_ge (b := 16) (by omega) (by decide)) (br_f hp0 (xw_dead I hc (fun hd => br_t rfl ?_) (fun hd => br_f (by decide) ?_)))
    · rw [List.dropWhile_cons, hd] at h; exact h
    · rw [List.dropWhile_cons, hd] at h
      exact xw_next I e (nm_r (nI_1 i) (ih (A ++ [c]) (i + 1) k (by simp [e]) (fun d hd => hz d (by simp [hd])) (by omega) (by omega) h))
theorem xw_la (I : zz_XK n m xFt xHc xKs xSt xLk K F) (e : K = A ++ c :: R) (h : post (nI (zz_hd (R.dropWhile zr_d) 0))) : wpX_liveAfter post (xFt, xHc, xLc, xCl, xLf, xKs, xSt, xLk, xPh, xOk, xOy, xRs, xLr, xLw, xUr, xUw) (nI (zr_p c)) := by
  have tl := xk_tails I e
  unfold wpX_liveAfter
  dsimp only
  exact xw_next I e ⟨17, xw_la_loop I R (A ++ [c]) 0 17 (by simp [e]) tl.1 (by omega) (by omega) h⟩
def zz_st (c : zr_T) : Int32 := cond (zr_d c) 2 1
def zz_lo (x : Int32) : List zr_T → Int32
  | [] => 0
  | c :: R => if zr_k c < x then zz_lo x R else if zr_k c = x then zz_st c else 0
theorem xw_lo_loop (I : zz_XK n m xFt xHc xKs xSt xLk K F) (x : Int32) : ∀ (R A : List zr_T) (i fu : Nat), K = A ++ R → (∀ d, d ∈ R → zr_p d ≠ 0) → i + R.length ≤ 16 → R.length < fu → post (zz_lo x R) → wX_look_8 post x xFt xHc xLc xCl xLf xKs xSt xLk xPh xOk xOy xRs xLr xLw xUr xUw fu (nI (zz_hd R 0)) (nI i) := by
  intro R
  induction R with
  | nil =>
    intro A i fu e hz hi hf h
    obtain ⟨k, rfl⟩ : ∃ k, fu = k + 1 := ⟨fu - 1, by omega⟩
    have e40 : wX_look_40 post x (nI (zz_hd [] 0)) xFt xHc xLc xCl xLf xKs xSt xLk xPh xOk xOy xRs xLr xLw xUr xUw := br_t nI_0 h
    exact br_c (fun _ => e40) (fun _ => br_t nI_0 e40)
  | cons c R ih =>
    intro A i fu e hz hi hf h
    rw [List.length_cons] at hi hf
    obtain ⟨k, rfl⟩ : ∃ k, fu = k + 1 := ⟨fu - 1, by omega⟩
    have hc : c ∈ K := by rw [e]; simp
    have d := xk_dat I hc
    have hp0 : ¬ nI (zr_p c) = 0 := nI_ne0 (Nat.pos_of_ne_zero (hz c (by simp))) (by omega)
    have ek : xKs (nI (zz_hd (c :: R) 0)).toNatClampNeg = zr_k c := by show xKs (nI (zr_p c)).toNatClampNeg = zr_k c; rw [nI_clamp (by omega)]; exact d.2.1
    refine br_f (nI_ge (b := 16) (by omega) (by decide)) (br_f hp0 (And.intro (vp_in_nI d.1 (by decide)) ?_))
    by_cases hq : zr_k c < x
    · rw [zz_lo, if_pos hq] at h
      refine br_f (by rw [ek]; exact Int32.not_le.mpr hq) ?_
      exact xw_next I e (nm_r (nI_1 i) (ih (A ++ [c]) (i + 1) k (by simp [e]) (fun d hd => hz d (by simp [hd])) (by omega) (by omega) h))
    · rw [zz_lo, if_neg hq] at h
      refine br_t (by rw [ek]; exact Int32.not_lt.mp hq) (br_f hp0 (And.intro (vp_in_nI d.1 (by decide)) ?_))
      by_cases hx : zr_k c = x
      · rw [if_pos hx] at h
        refine br_t (by rw [ek]; exact hx) (xw_dead I hc (fun hd => br_t rfl ?_) (fun hd => br_f (by decide) ?_))
        · unfold zz_st at h; rw [hd] at h; exact h
        · unfold zz_st at h; rw [hd] at h; exact h
      · rw [if_neg hx] at h
        exact br_f (by rw [ek]; exact hx) h
theorem xw_look {C : List zr_T} (I : zz_XK n m xFt xHc xKs xSt xLk (zr_0 :: C) F) (x : Int32) (h : post (zz_lo x C)) : wpX_look post (xFt, xHc, xLc, xCl, xLf, xKs, xSt, xLk, xPh, xOk, xOy, xRs, xLr, xLw, xUr, xUw) x := by
  have e : zr_0 :: C = [] ++ zr_0 :: C := rfl
  have tl := xk_tails I e
  unfold wpX_look
  dsimp only
  exact xw_next (c := zr_0) I e ⟨17, xw_lo_loop I x C [zr_0] 0 17 rfl tl.1 (by omega) (by omega) h⟩
theorem zz_lo_spec {C : List zr_T} (srt : C.Pairwise (fun a b => zr_K a < zr_K b)) (x : Int32) : (∃ c, c ∈ C ∧ zr_k c = x ∧ zz_lo x C = zz_st c) ∨ ((∀ c, c ∈ C → zr_k c ≠ x) ∧ zz_lo x C = 0) := by
  induction C with
  | nil => exact Or.inr ⟨fun c hc => (nomatch hc), rfl⟩
  | cons c R ih =>
    obtain ⟨s1, s2⟩ := List.pairwise_cons.mp srt
    by_cases hq : zr_k c < x
    · rw [zz_lo, if_pos hq]
      rcases ih s2 with ⟨d, h1, h2, h3⟩ | ⟨h1, h2⟩
      · exact Or.inl ⟨d, List.mem_cons_of_mem _ h1, h2, h3⟩
      · refine Or.inr ⟨fun d hd => ?_, h2⟩
        rcases List.mem_cons.mp hd with e | e
        · rw [e]; intro z; rw [z] at hq; exact Int32.lt_irrefl hq
        · exact h1 d e
    · rw [zz_lo, if_neg hq]
      by_cases hx : zr_k c = x
      · rw [if_pos hx]; exact Or.inl ⟨c, by simp, hx, rfl⟩
      · rw [if_neg hx]
        refine Or.inr ⟨fun d hd => ?_, rfl⟩
        rcases List.mem_cons.mp hd with e | e
        · rw [e]; exact hx
        · intro z
          have h1 := s1 d e
          have h2 : ¬ zr_K c < x.toInt := fun w => hq (Int32.lt_iff_toInt_lt.mpr w)
          unfold zr_K at h1 h2
          rw [z] at h1
          exact h2 h1
end
end
section
theorem zc_u {f : Nat → Int32} {t : Nat} {v : Int32} (ht : t < 32) : upd f (nI t).toNatClampNeg v = upd f t v := by rw [nI_clamp (by omega)]
theorem zc_uL {f : Nat → Int64} {t : Nat} {v : Int64} (ht : t < 32) : vp_updL f (nI t).toNatClampNeg v = vp_updL f t v := by rw [nI_clamp (by omega)]
theorem zc_f {α : Type} {f : Nat → α} {t : Nat} (ht : t < 32) : f (nI t).toNatClampNeg = f t := by rw [nI_clamp (by omega)]
theorem zc_n {t : Nat} (ht : t < 32) : (nI t).toNatClampNeg = t := nI_clamp (by omega)
theorem zd_no {c : zr_T} (h1 : zr_d c = true) (h2 : zr_d c = false) : False := by rw [h1] at h2; exact nomatch h2
theorem zv_4 {t : Nat} (ht : t < 4) : vp_in (nI t) 4 := vp_in_nI ht (by decide)
theorem zv_32 {t : Nat} (ht : t < 32) : vp_in (nI t) 32 := vp_in_nI ht (by decide)
section
variable {xFt xHc xLc xCl xLf : Int32} {xKs xSt xLk xPh xOk xOy xRs xLr xLw xUr xUw : Nat → Int32} {n m : Nat} {K A B R : List zr_T} {F : List Nat} {b c : zr_T}
theorem xw_ref0 {post : Int32 → Prop} {s p : Nat} (hp : p < 32) (hs : xSt p = nI s) (h : post (rf_of s p)) : wpX_refOf post (xFt, xHc, xLc, xCl, xLf, xKs, xSt, xLk, xPh, xOk, xOy, xRs, xLr, xLw, xUr, xUw) (nI p) := by
  unfold wpX_refOf
  dsimp only
  rw [nI_clamp (n := p) (by omega), hs]
  exact ⟨zv_32 hp, h⟩
theorem xw_ref {post : Int32 → Prop} (I : zz_XK n m xFt xHc xKs xSt xLk K F) (hc : c ∈ K) (h : post (rf_of (zr_v c) (zr_p c))) : wpX_refOf post (xFt, xHc, xLc, xCl, xLf, xKs, xSt, xLk, xPh, xOk, xOy, xRs, xLr, xLw, xUr, xUw) (nI (zr_p c)) :=
  xw_ref0 (xk_dat I hc).1 (xk_dat I hc).2.2.1 h
theorem xw_fin {post : Int32 → SX → Prop} {t : Nat} {a : Int32} (ht : t < 4) (h : post a (xFt, xHc, xLc, xCl, xLf, xKs, xSt, xLk, upd xPh t 4, xOk, xOy, upd xRs t a, xLr, xLw, xUr, xUw)) : wpX_finish post (xFt, xHc, xLc, xCl, xLf, xKs, xSt, xLk, xPh, xOk, xOy, xRs, xLr, xLw, xUr, xUw) (nI t) a :=
  And.intro (zv_4 ht) (nm_r (zc_u (by omega)) (And.intro (zv_4 ht) (nm_r (zc_u (by omega)) h)))
theorem xw_forget {post : SX → Prop} {t : Nat} (ht : t < 4) (h : post (xFt, xHc, xLc, xCl, xLf, xKs, xSt, xLk, xPh, xOk, xOy, xRs, upd xLr t 0, upd xLw t (-1), upd xUr t 0, upd xUw t (-1))) : wpX_forgetNotes post (xFt, xHc, xLc, xCl, xLf, xKs, xSt, xLk, xPh, xOk, xOy, xRs, xLr, xLw, xUr, xUw) (nI t) :=
  And.intro (zv_4 ht) (nm_r (zc_u (by omega)) (And.intro (zv_4 ht) (nm_r (zc_u (by omega)) (And.intro (zv_4 ht) (nm_r (zc_u (by omega)) (And.intro (zv_4 ht) (nm_r (zc_u (by omega)) h)))))))
theorem xw_toStart {post : SX → Prop} {t : Nat} (ht : t < 4) (h : post (xFt, xHc, xLc, xCl, xLf, xKs, xSt, xLk, upd xPh t 1, xOk, xOy, xRs, upd xLr t 0, upd xLw t (-1), upd xUr t 0, upd xUw t (-1))) : wpX_toStart post (xFt, xHc, xLc, xCl, xLf, xKs, xSt, xLk, xPh, xOk, xOy, xRs, xLr, xLw, xUr, xUw) (nI t) :=
  And.intro (zv_4 ht) (nm_r (zc_u (by omega)) (xw_forget ht h))
theorem xw_clear {post : SX → Prop} {t : Nat} (ht : t < 4) (h : post (xFt, xHc, xLc, xCl, xLf, xKs, xSt, xLk, upd xPh t 0, upd xOk t 0, upd xOy t (-1), upd xRs t 0, upd xLr t 0, upd xLw t (-1), upd xUr t 0, upd xUw t (-1))) : wpX_clear post (xFt, xHc, xLc, xCl, xLf, xKs, xSt, xLk, xPh, xOk, xOy, xRs, xLr, xLw, xUr, xUw) (nI t) :=
  And.intro (zv_4 ht) (nm_r (zc_u (by omega)) (And.intro (zv_4 ht) (nm_r (zc_u (by omega)) (And.intro (zv_4 ht) (nm_r (zc_u (by omega)) (And.intro (zv_4 ht) (nm_r (zc_u (by omega)) (xw_forget ht h))))))))
theorem xw_setLow {post : SX → Prop} {t : Nat} (ht : t < 4) (I : zz_XK n m xFt xHc xKs xSt xLk K F) (hc : c ∈ K) (h : post (xFt, xHc, xLc, xCl, xLf, xKs, xSt, xLk, xPh, xOk, xOy, xRs, upd xLr t (rf_of (zr_v c) (zr_p c)), upd xLw t (zr_k c), xUr, xUw)) : wpX_setLow post (xFt, xHc, xLc, xCl, xLf, xKs, xSt, xLk, xPh, xOk, xOy, xRs, xLr, xLw, xUr, xUw) (nI t) (nI (zr_p c)) := by
  have d := xk_dat I hc
  unfold wpX_setLow
  dsimp only
  refine xw_ref I hc (And.intro (zv_4 ht) (nm_r (zc_u (by omega)) (And.intro (zv_32 d.1) (And.intro (zv_4 ht) (nm_r (e' := upd xLw t (zr_k c)) ?_ h)))))
  rw [zc_u (by omega), zc_n d.1, d.2.1]
/-! ===== the sweep behind a LIVE record ===== -/
theorem xw_sw_loop (hb : zr_d b = false) (hB : zz_lh B) : ∀ (D : List zr_T) (ft hc : Int32) (st lk : Nat → Int32) (F : List Nat) (i fu : Nat), zz_XK n m ft hc xKs st lk (A ++ b :: (D ++ B)) F → (∀ d, d ∈ D → zr_d d = true) → i + D.length ≤ 16 → D.length < fu →
    ∃ (ft' hc' : Int32) (st' lk' : Nat → Int32) (F' : List Nat), zz_XK n m ft' hc' xKs st' lk' (A ++ b :: B) F' ∧ ∀ post : SX → Prop, post (ft', hc', xLc, xCl, xLf, xKs, st', lk', xPh, xOk, xOy, xRs, xLr, xLw, xUr, xUw) → wX_sweepAfter_8 post (nI (zr_p b)) fu (nI (zz_hd (D ++ B) 0)) (nI i) ft hc xLc xCl xLf xKs st lk xPh xOk xOy xRs xLr xLw xUr xUw := by
  intro D
  induction D with
  | nil =>
    intro ft hc st lk F i fu I hD hi hf
    refine ⟨ft, hc, st, lk, F, I, fun post h => ?_⟩
    obtain ⟨k, rfl⟩ : ∃ k, fu = k + 1 := ⟨fu - 1, by omega⟩
    cases B with
    | nil => exact br_c (fun _ => h) (fun _ => br_t nI_0 h)
    | cons c B =>
      have hc : c ∈ A ++ b :: ([] ++ c :: B) := by simp
      have d := xk_dat I hc
      have hp0 : ¬ nI (zr_p c) = 0 := nI_ne0 (Nat.pos_of_ne_zero ((xk_tails I rfl).1 c (by simp))) (by omega)
      exact br_c (fun _ => h) (fun _ => br_f hp0 (xw_dead I hc (fun _ => br_t rfl h) (fun z => (zd_no z hB).elim)))
  | cons d D ih =>
    intro ft hc st lk F i fu I hD hi hf
    rw [List.length_cons] at hi hf
    obtain ⟨k, rfl⟩ : ∃ k, fu = k + 1 := ⟨fu - 1, by omega⟩
    have I' := xk_rel (A := A) (b := b) (d := d) (R := D ++ B) I hb
    obtain ⟨ft', hc', st', lk', F', J, H⟩ := ih _ _ _ _ _ (i + 1) k I' (fun x hx => hD x (by simp [hx])) (by omega) (by omega)
    refine ⟨ft', hc', st', lk', F', J, fun post h => ?_⟩
    have hd : d ∈ A ++ b :: (d :: D ++ B) := by simp
    have hbm : b ∈ A ++ b :: (d :: D ++ B) := by simp
    have d32 := (xk_dat I hd).1
    have b32 := (xk_dat I hbm).1
    have hp0 : ¬ nI (zr_p d) = 0 := nI_ne0 (Nat.pos_of_ne_zero ((xk_tails I rfl).1 d (by simp))) (by omega)
    refine br_f (nI_ge (b := 16) (by omega) (by decide)) (br_f hp0 (xw_dead I hd (fun z => (zd_no (hD d (by simp)) z).elim) (fun _ => br_f (by decide) (And.intro (zv_32 d32) (And.intro (zv_32 b32) (nm_r (e' := upd lk (zr_p b) (lk (zr_p d) &&& (-2))) ?_ ?_))))))
    · show upd lk (nI (zr_p b)).toNatClampNeg (lk (nI (zr_p d)).toNatClampNeg &&& (-2)) = _
      rw [zc_n b32, zc_n d32]
    · refine And.intro (zv_32 d32) (nm_r (zc_u d32) (And.intro (zv_32 d32) (nm_r (zc_u d32) (nm_e ?_))))
      exact xw_next I' rfl (nm_r (nI_1 i) (H post h))
theorem xw_sw {D : List zr_T} (I : zz_XK n m xFt xHc xKs xSt xLk K F) (e : K = A ++ b :: (D ++ B)) (hb : zr_d b = false) (hD : ∀ d, d ∈ D → zr_d d = true) (hB : zz_lh B) :
    ∃ (ft' hc' : Int32) (st' lk' : Nat → Int32) (F' : List Nat), zz_XK n m ft' hc' xKs st' lk' (A ++ b :: B) F' ∧ ∀ post : SX → Prop, post (ft', hc', xLc, xCl, xLf, xKs, st', lk', xPh, xOk, xOy, xRs, xLr, xLw, xUr, xUw) → wpX_sweepAfter post (xFt, xHc, xLc, xCl, xLf, xKs, xSt, xLk, xPh, xOk, xOy, xRs, xLr, xLw, xUr, xUw) (nI (zr_p b)) := by
  have tl := xk_tails I e
  subst e
  have hl := tl.2
  rw [List.length_append] at hl
  obtain ⟨ft', hc', st', lk', F', J, H⟩ := xw_sw_loop (xLc := xLc) (xCl := xCl) (xLf := xLf) (xPh := xPh) (xOk := xOk) (xOy := xOy) (xRs := xRs) (xLr := xLr) (xLw := xLw) (xUr := xUr) (xUw := xUw) hb hB D xFt xHc xSt xLk F 0 17 I hD (by omega) (by omega)
  refine ⟨ft', hc', st', lk', F', J, fun post h => ?_⟩
  unfold wpX_sweepAfter
  dsimp only
  exact xw_next I rfl ⟨17, H post h⟩
/-! ===== a new record behind a LIVE one ===== -/
theorem xw_link {post : SX → Prop} {p : Nat} {key : Int32} (hp : p < 32) (b32 : zr_p b < 32) (hc : zr_k c = key)
    (h : post (xLk p, xHc + 1, nI (m + 1), xCl, xLf, upd xKs p (zr_k c), upd xSt p (nI (m + 1)), upd (upd xLk p (xLk (zr_p b))) (zr_p b) (rf_of (m + 1) p <<< ((1 : Int32) &&& 31)), xPh, xOk, xOy, xRs, xLr, xLw, xUr, xUw)) :
    wpX_linkAfter post (nI p, xHc, nI m, xCl, xLf, xKs, xSt, xLk, xPh, xOk, xOy, xRs, xLr, xLw, xUr, xUw) (nI (zr_p b)) key := by
  subst hc
  refine And.intro (zv_32 hp) (nm_r (zc_f hp) (nm_r (nI_1 m) (nm_e (And.intro (zv_32 hp) (nm_r (zc_u hp) (And.intro (zv_32 hp) (nm_r (zc_u hp) (And.intro (zv_32 b32) (And.intro (zv_32 hp) (nm_r (e' := upd xLk p (xLk (zr_p b))) ?_ (xw_ref0 hp pk_us (And.intro (zv_32 b32) (nm_r (zc_u b32) h)))))))))))))
  rw [zc_n hp, zc_n b32]
/-! ===== renew's pass ===== -/
def zz_r0 (c : zr_T) : zr_T := (zr_p c, zr_s c, zr_k c, 0, zr_i c, zr_d c)
def zz_rs (l : List zr_T) : List zr_T := (l.filter (fun c => !zr_d c)).map zz_r0
theorem zz_rs_dead {D B : List zr_T} (hD : ∀ d, d ∈ D → zr_d d = true) : zz_rs (D ++ B) = zz_rs B := by
  unfold zz_rs
  rw [List.filter_append, List.filter_eq_nil_iff.mpr (fun d hd => by rw [hD d hd]; decide)]
  rfl
theorem zz_rs_live {R : List zr_T} (hb : zr_d b = false) : zz_rs (b :: R) = zz_r0 b :: zz_rs R := by
  unfold zz_rs
  rw [List.filter_cons, hb]
  rfl
theorem xw_rs_loop : ∀ (k : Nat) (R A : List zr_T) (b : zr_T) (ft hc : Int32) (st lk : Nat → Int32) (F : List Nat) (i fu : Nat), R.length < k → zz_XK n m ft hc xKs st lk (A ++ b :: R) F → zr_d b = false → i + R.length < 17 → R.length < fu →
    ∃ (ft' hc' : Int32) (st' lk' : Nat → Int32) (F' : List Nat), zz_XK n m ft' hc' xKs st' lk' (A ++ zz_rs (b :: R)) F' ∧ ∀ post : SX → Prop, post (ft', hc', xLc, xCl, xLf, xKs, st', lk', xPh, xOk, xOy, xRs, xLr, xLw, xUr, xUw) → wX_restampAll_4 post fu (nI (zr_p b)) (nI i) ft hc xLc xCl xLf xKs st lk xPh xOk xOy xRs xLr xLw xUr xUw := by
  intro k
  induction k with
  | zero => intro R A b ft hc st lk F i fu h; exact absurd h (Nat.not_lt_zero _)
  | succ k ih =>
    intro R A b ft hc st lk F i fu hk I hb hi hf
    obtain ⟨fu, rfl⟩ : ∃ z, fu = z + 1 := ⟨fu - 1, by omega⟩
    have eR : R = R.takeWhile zr_d ++ R.dropWhile zr_d := List.takeWhile_append_dropWhile.symm
    have hD := zz_take_d R
    have hB := zz_lh_drop R
    generalize R.takeWhile zr_d = D at eR hD
    generalize R.dropWhile zr_d = B at eR hB
    subst eR
    obtain ⟨ft1, hc1, st1, lk1, F1, I1, H1⟩ := xw_sw (xLc := xLc) (xCl := xCl) (xLf := xLf) (xPh := xPh) (xOk := xOk) (xOy := xOy) (xRs := xRs) (xLr := xLr) (xLw := xLw) (xUr := xUr) (xUw := xUw) I rfl hb hD hB
    have b32 := (xk_dat I1 (c := b) (by simp)).1
    have hd32 := xk_hd32 I1
    have I2 : zz_XK n m ft1 hc1 xKs (upd st1 (zr_p b) 0) (upd lk1 (zr_p b) (nI (zz_hd B 0) <<< ((1 : Int32) &&& 31))) (A ++ zz_r0 b :: B) F1 := by
      refine xk_set (b' := zz_r0 b) I1 rfl rfl (Nat.zero_le _) (fun e => by rw [e]; rfl) ?_ (fun q hq => pk_un hq) ?_
      · rw [pk_us]; rfl
      · show zz_nx _ _ (zr_d b)
        rw [hb]
        exact zb_sh (by omega) (by omega)
    have hlen : (D ++ B).length = D.length + B.length := List.length_append
    cases B with
    | nil =>
      refine ⟨ft1, hc1, upd st1 (zr_p b) 0, upd lk1 (zr_p b) (nI (zz_hd [] 0) <<< ((1 : Int32) &&& 31)), F1, ?_, fun post h => ?_⟩
      · rw [zz_rs_live hb, zz_rs_dead hD]; exact I2
      · refine br_f (nI_ge (b := 17) (by omega) (by decide)) (H1 _ (xw_next I1 rfl (And.intro (zv_32 b32) (nm_r (zc_u b32) (And.intro (zv_32 b32) (nm_r (zc_u b32) (br_t nI_0 h)))))))
    | cons b2 R2 =>
      rw [List.length_cons] at hlen
      have hb2 : zr_d b2 = false := hB
      have I3 : zz_XK n m ft1 hc1 xKs (upd st1 (zr_p b) 0) (upd lk1 (zr_p b) (nI (zz_hd (b2 :: R2) 0) <<< ((1 : Int32) &&& 31))) ((A ++ [zz_r0 b]) ++ b2 :: R2) F1 := by
        rw [List.append_assoc]; exact I2
      obtain ⟨ft', hc', st', lk', F', J, H⟩ := ih R2 (A ++ [zz_r0 b]) b2 _ _ _ _ _ (i + 1) fu (by omega) I3 hb2 (by omega) (by omega)
      refine ⟨ft', hc', st', lk', F', ?_, fun post h => ?_⟩
      · rw [zz_rs_live hb, zz_rs_dead hD]
        rw [List.append_assoc] at J
        exact J
      · have hp0 : ¬ nI (zr_p b2) = 0 := nI_ne0 (Nat.pos_of_ne_zero ((xk_tails I1 rfl).1 b2 (by simp))) (by have := (xk_dat I1 (c := b2) (by simp)).1; omega)
        refine br_f (nI_ge (b := 17) (by omega) (by decide)) (H1 _ (xw_next I1 rfl (And.intro (zv_32 b32) (nm_r (zc_u b32) (And.intro (zv_32 b32) (nm_r (zc_u b32) (br_f hp0 (nm_r (nI_1 i) (H post h)))))))))
theorem xw_rs {C : List zr_T} (I : zz_XK n m xFt xHc xKs xSt xLk (zr_0 :: C) F) :
    ∃ (ft' hc' : Int32) (st' lk' : Nat → Int32) (F' : List Nat), zz_XK n m ft' hc' xKs st' lk' (zr_0 :: zz_rs C) F' ∧ ∀ post : SX → Prop, post (ft', hc', xLc, xCl, xLf, xKs, st', lk', xPh, xOk, xOy, xRs, xLr, xLw, xUr, xUw) → wpX_restampAll post (xFt, xHc, xLc, xCl, xLf, xKs, xSt, xLk, xPh, xOk, xOy, xRs, xLr, xLw, xUr, xUw) := by
  have tl := xk_tails (A := []) I rfl
  obtain ⟨ft', hc', st', lk', F', J, H⟩ := xw_rs_loop (xLc := xLc) (xCl := xCl) (xLf := xLf) (xPh := xPh) (xOk := xOk) (xOy := xOy) (xRs := xRs) (xLr := xLr) (xLw := xLw) (xUr := xUr) (xUw := xUw) 17 C [] zr_0 xFt xHc xSt xLk F 0 17 (by omega) I rfl (by omega) (by omega)
  exact ⟨ft', hc', st', lk', F', J, fun post h => ⟨17, H post h⟩⟩
end
end
section
/-! ===== Y's picture of the records C ===== -/
def zz_YC (last : Nat) (S Ky : Nat → Int32) (Id : Nat → Int64) (C : List zr_T) : Prop :=
  (∀ c, c ∈ C → ∃ i, i < 16 ∧ zr_s c = nI i ∧ S i = zz_st c ∧ Ky i = zr_k c ∧ Id i = lN (zr_i c) ∧ 1 ≤ zr_i c ∧ zr_i c ≤ last) ∧
  (∀ i, i < 16 → ¬ S i = 0 → ∃ c, c ∈ C ∧ zr_s c = nI i) ∧
  (∀ a, a ∈ C → ∀ b, b ∈ C → zr_s a = zr_s b → a = b) ∧ (∀ a, a ∈ C → ∀ b, b ∈ C → zr_i a = zr_i b → a = b) ∧ last < 2 ^ 30
theorem zt_0 (c : zr_T) : ¬ zz_st c = 0 := by unfold zz_st; cases zr_d c <;> decide
theorem zt_1 {c : zr_T} : zz_st c = 1 ↔ zr_d c = false := by unfold zz_st; cases zr_d c <;> decide
theorem zt_2 {c : zr_T} : zz_st c = 2 ↔ zr_d c = true := by unfold zz_st; cases zr_d c <;> decide
theorem yc_at {last : Nat} {S Ky : Nat → Int32} {Id : Nat → Int64} {C : List zr_T} (Y : zz_YC last S Ky Id C) {i : Nat} (hi : i < 16) (h : ¬ S i = 0) : ∃ c, c ∈ C ∧ zr_s c = nI i ∧ S i = zz_st c ∧ Ky i = zr_k c ∧ Id i = lN (zr_i c) := by
  obtain ⟨c, hc, e⟩ := Y.2.1 i hi h
  obtain ⟨j, hj, e1, e2, e3, e4, _⟩ := Y.1 c hc
  have : i = j := (nI_eq (by omega) (by omega)).mp (e.symm.trans e1)
  subst this
  exact ⟨c, hc, e, e2, e3, e4⟩
theorem zj_lt {P : Nat → Prop} {i : Nat} (h : ∀ j, j < i → P j) (hi : P i) : ∀ j, j < i + 1 → P j := by
  intro j hj
  rcases Nat.lt_succ_iff_lt_or_eq.mp hj with h1 | h1
  · exact h j h1
  · rw [h1]; exact hi
theorem zv_16 {t : Nat} (ht : t < 16) : vp_in (nI t) 16 := vp_in_nI ht (by decide)
section
variable {yCe : Int32} {yLf : Int32} {yLn : Int32} {yLd : Int64} {yS : Nat → Int32} {yK : Nat → Int32} {yI : Nat → Int64} {yPh : Nat → Int32} {yOk : Nat → Int32} {yOy : Nat → Int32} {yRs : Nat → Int32} {yPo : Nat → Int32} {yLi : Nat → Int64} {yLw : Nat → Int32} {yUi : Nat → Int64} {yUw : Nat → Int32} {yMi : Nat → Int64} {last : Nat} {C : List zr_T} {c a : zr_T}
/-! ===== greatest LIVE key at most q ===== -/
def zz_am (S Ky : Nat → Int32) (q : Int32) (i : Nat) (r : Int32) : Prop := (r = -1 ∧ ∀ j, j < i → ¬ (S j = 1 ∧ Ky j ≤ q)) ∨ (∃ b, b < i ∧ r = nI b ∧ S b = 1 ∧ Ky b ≤ q ∧ ∀ j, j < i → S j = 1 → Ky j ≤ q → Ky j ≤ Ky b)
theorem za_skip {S Ky : Nat → Int32} {q r : Int32} {i : Nat} (h : zz_am S Ky q i r) (hn : ¬ (S i = 1 ∧ Ky i ≤ q)) : zz_am S Ky q (i + 1) r := by
  rcases h with ⟨h1, h2⟩ | ⟨b, h1, h2, h3, h4, h5⟩
  · exact Or.inl ⟨h1, zj_lt h2 hn⟩
  · exact Or.inr ⟨b, by omega, h2, h3, h4, zj_lt h5 (fun x y => absurd ⟨x, y⟩ hn)⟩
theorem yw_am_loop (q : Int32) {post : Int32 → Prop} (H : ∀ r, zz_am yS yK q 16 r → post r) : ∀ (d i : Nat) (r : Int32), i + d = 16 → zz_am yS yK q i r → wY_liveAtMost_4 post q yCe yLf yLn yLd yS yK yI yPh yOk yOy yRs yPo yLi yLw yUi yUw yMi (d + 1) r (nI i) := by
  intro d
  induction d with
  | zero =>
    intro i r hi h
    have e : i = 16 := by omega
    subst e
    exact br_t (nI_le (a := 16) (b := 16) (by omega) (by decide)) (H r h)
  | succ d ih =>
    intro i r hi h
    have hi16 : i < 16 := by omega
    have eS : yS (nI i).toNatClampNeg = yS i := zc_f (by omega)
    have eK : yK (nI i).toNatClampNeg = yK i := zc_f (by omega)
    have nx : ∀ r', zz_am yS yK q (i + 1) r' → ∀ y, y = nI i + 1 → wY_liveAtMost_4 post q yCe yLf yLn yLd yS yK yI yPh yOk yOy yRs yPo yLi yLw yUi yUw yMi (d + 1) r' y := fun r' h' => nm_r (nI_1 i) (ih (i + 1) r' (by omega) h')
    refine br_f (nI_ge (b := 16) hi16 (by decide)) (And.intro (zv_16 hi16) ?_)
    rw [eS, eK]
    refine br_c (fun hs => And.intro (zv_16 hi16) (br_c (fun hq => nx r (za_skip h (fun z => Int32.not_le.mpr hq z.2))) (fun hq => ?_))) (fun hs => nx r (za_skip h (fun z => hs z.1)))
    have hq' : yK i ≤ q := Int32.not_lt.mp hq
    rcases h with ⟨h1, h2⟩ | ⟨b, h1, h2, h3, h4, h5⟩
    · refine br_t (by rw [h1]; decide) (nx _ (Or.inr ⟨i, by omega, rfl, hs, hq', zj_lt (fun j hj x y => absurd ⟨x, y⟩ (h2 j hj)) (fun _ _ => Int32.le_refl _)⟩))
    · subst h2
      have eB : yK (nI b).toNatClampNeg = yK b := zc_f (by omega)
      refine br_f (nI_pos (by omega)) (And.intro (zv_16 hi16) (And.intro (zv_16 (by omega)) ?_))
      rw [eB]
      refine br_c (fun hle => nx _ (Or.inr ⟨b, by omega, rfl, h3, h4, zj_lt h5 (fun _ _ => hle)⟩)) (fun hle => nx _ (Or.inr ⟨i, by omega, rfl, hs, hq', zj_lt (fun j hj x y => Int32.le_trans (h5 j hj x y) (Int32.le_of_lt (Int32.not_le.mp hle))) (fun _ _ => Int32.le_refl _)⟩))
theorem yw_am {post : Int32 → Prop} {q : Int32} (Y : zz_YC last yS yK yI C) (srt : (zr_0 :: C).Pairwise (fun a b => zr_K a < zr_K b)) (g : zz_GL (zr_0 :: C) q.toInt c) (h : post (zr_s c)) : wpY_liveAtMost post (yCe, yLf, yLn, yLd, yS, yK, yI, yPh, yOk, yOy, yRs, yPo, yLi, yLw, yUi, yUw, yMi) q := by
  refine ⟨17, yw_am_loop q (fun r hr => ?_) 16 0 (-1) rfl (Or.inl ⟨rfl, fun j hj => absurd hj (Nat.not_lt_zero j)⟩)⟩
  obtain ⟨g1, g2, g3, g4⟩ := g
  suffices r = zr_s c by rw [this]; exact h
  have rcd : ∀ b, b < 16 → yS b = 1 → yK b ≤ q → ∃ x, x ∈ C ∧ zr_s x = nI b ∧ yK b = zr_k x ∧ zr_K x ≤ zr_K c := by
    intro b hb h3 h4
    obtain ⟨x, hx, e1, e2, e3, _⟩ := yc_at Y hb (by rw [h3]; decide)
    refine ⟨x, hx, e1, e3, g4 x (List.mem_cons_of_mem _ hx) (zt_1.mp (e2.symm.trans h3)) ?_⟩
    rw [e3] at h4
    exact Int32.le_iff_toInt_le.mp h4
  rcases List.mem_cons.mp g1 with e0 | hc
  · rcases hr with ⟨h1, _⟩ | ⟨b, h1, h2, h3, h4, h5⟩
    · rw [h1, e0]; rfl
    · obtain ⟨x, hx, _, _, hle⟩ := rcd b h1 h3 h4
      have h6 := (List.pairwise_cons.mp srt).1 x hx
      rw [e0] at hle
      omega
  · obtain ⟨i, hi, e1, e2, e3, _⟩ := Y.1 c hc
    have hiS : yS i = 1 := e2.trans (zt_1.mpr g2)
    have hiK : yK i ≤ q := by rw [e3]; exact Int32.le_iff_toInt_le.mpr g3
    rcases hr with ⟨_, h2⟩ | ⟨b, h1, h2, h3, h4, h5⟩
    · exact absurd ⟨hiS, hiK⟩ (h2 i hi)
    · obtain ⟨x, hx, ex, exk, hle⟩ := rcd b h1 h3 h4
      have h6 := h5 i hi hiS hiK
      rw [e3, exk] at h6
      have h7 : zr_K c ≤ zr_K x := Int32.le_iff_toInt_le.mp h6
      have h8 : x = c := zl_sort srt x (List.mem_cons_of_mem _ hx) c g1 (by omega)
      rw [h2, ← ex, h8]
/-! ===== least LIVE key above q ===== -/
def zz_ab (S Ky : Nat → Int32) (q : Int32) (i : Nat) (r : Int32) : Prop := (r = -1 ∧ ∀ j, j < i → ¬ (S j = 1 ∧ q < Ky j)) ∨ (∃ b, b < i ∧ r = nI b ∧ S b = 1 ∧ q < Ky b ∧ ∀ j, j < i → S j = 1 → q < Ky j → Ky b ≤ Ky j)
theorem zb_skip {S Ky : Nat → Int32} {q r : Int32} {i : Nat} (h : zz_ab S Ky q i r) (hn : ¬ (S i = 1 ∧ q < Ky i)) : zz_ab S Ky q (i + 1) r := by
  rcases h with ⟨h1, h2⟩ | ⟨b, h1, h2, h3, h4, h5⟩
  · exact Or.inl ⟨h1, zj_lt h2 hn⟩
  · exact Or.inr ⟨b, by omega, h2, h3, h4, zj_lt h5 (fun x y => absurd ⟨x, y⟩ hn)⟩
theorem yw_ab_loop (q : Int32) {post : Int32 → Prop} (H : ∀ r, zz_ab yS yK q 16 r → post r) : ∀ (d i : Nat) (r : Int32), i + d = 16 → zz_ab yS yK q i r → wY_liveAbove_4 post q yCe yLf yLn yLd yS yK yI yPh yOk yOy yRs yPo yLi yLw yUi yUw yMi (d + 1) r (nI i) := by
  intro d
  induction d with
  | zero =>
    intro i r hi h
    have e : i = 16 := by omega
    subst e
    exact br_t (nI_le (a := 16) (b := 16) (by omega) (by decide)) (H r h)
  | succ d ih =>
    intro i r hi h
    have hi16 : i < 16 := by omega
    have eS : yS (nI i).toNatClampNeg = yS i := zc_f (by omega)
    have eK : yK (nI i).toNatClampNeg = yK i := zc_f (by omega)
    have nx : ∀ r', zz_ab yS yK q (i + 1) r' → ∀ y, y = nI i + 1 → wY_liveAbove_4 post q yCe yLf yLn yLd yS yK yI yPh yOk yOy yRs yPo yLi yLw yUi yUw yMi (d + 1) r' y := fun r' h' => nm_r (nI_1 i) (ih (i + 1) r' (by omega) h')
    refine br_f (nI_ge (b := 16) hi16 (by decide)) (And.intro (zv_16 hi16) ?_)
    rw [eS, eK]
    refine br_c (fun hs => And.intro (zv_16 hi16) (br_c (fun hq => nx r (zb_skip h (fun z => Int32.not_lt.mpr hq z.2))) (fun hq => ?_))) (fun hs => nx r (zb_skip h (fun z => hs z.1)))
    have hq' : q < yK i := Int32.not_le.mp hq
    rcases h with ⟨h1, h2⟩ | ⟨b, h1, h2, h3, h4, h5⟩
    · refine br_t (by rw [h1]; decide) (nx _ (Or.inr ⟨i, by omega, rfl, hs, hq', zj_lt (fun j hj x y => absurd ⟨x, y⟩ (h2 j hj)) (fun _ _ => Int32.le_refl _)⟩))
    · subst h2
      have eB : yK (nI b).toNatClampNeg = yK b := zc_f (by omega)
      refine br_f (nI_pos (by omega)) (And.intro (zv_16 hi16) (And.intro (zv_16 (by omega)) ?_))
      rw [eB]
      refine br_c (fun hle => nx _ (Or.inr ⟨b, by omega, rfl, h3, h4, zj_lt h5 (fun _ _ => hle)⟩)) (fun hle => nx _ (Or.inr ⟨i, by omega, rfl, hs, hq', zj_lt (fun j hj x y => Int32.le_trans (Int32.le_of_lt (Int32.not_le.mp hle)) (h5 j hj x y)) (fun _ _ => Int32.le_refl _)⟩))
theorem yw_ab {post : Int32 → Prop} {q : Int32} (Y : zz_YC last yS yK yI C) (srt : (zr_0 :: C).Pairwise (fun a b => zr_K a < zr_K b)) (g : zz_LA C q.toInt a) (h : post (zr_s a)) : wpY_liveAbove post (yCe, yLf, yLn, yLd, yS, yK, yI, yPh, yOk, yOy, yRs, yPo, yLi, yLw, yUi, yUw, yMi) q := by
  refine ⟨17, yw_ab_loop q (fun r hr => ?_) 16 0 (-1) rfl (Or.inl ⟨rfl, fun j hj => absurd hj (Nat.not_lt_zero j)⟩)⟩
  suffices r = zr_s a by rw [this]; exact h
  have rcd : ∀ b, b < 16 → yS b = 1 → q < yK b → ∃ x, x ∈ C ∧ zr_s x = nI b ∧ yK b = zr_k x ∧ zr_d x = false ∧ q.toInt < zr_K x := by
    intro b hb h3 h4
    obtain ⟨x, hx, e1, e2, e3, _⟩ := yc_at Y hb (by rw [h3]; decide)
    refine ⟨x, hx, e1, e3, zt_1.mp (e2.symm.trans h3), ?_⟩
    rw [e3] at h4
    exact Int32.lt_iff_toInt_lt.mp h4
  rcases g with ⟨e0, g2⟩ | ⟨ga, gd, gq, gm⟩
  · rcases hr with ⟨h1, _⟩ | ⟨b, h1, h2, h3, h4, h5⟩
    · rw [h1, e0]; rfl
    · obtain ⟨x, hx, _, _, hd, hle⟩ := rcd b h1 h3 h4
      have := g2 x hx hd
      omega
  · obtain ⟨i, hi, e1, e2, e3, _⟩ := Y.1 a ga
    have hiS : yS i = 1 := e2.trans (zt_1.mpr gd)
    have hiK : q < yK i := by rw [e3]; exact Int32.lt_iff_toInt_lt.mpr gq
    rcases hr with ⟨_, h2⟩ | ⟨b, h1, h2, h3, h4, h5⟩
    · exact absurd ⟨hiS, hiK⟩ (h2 i hi)
    · obtain ⟨x, hx, ex, exk, hd, hlt⟩ := rcd b h1 h3 h4
      have h6 := h5 i hi hiS hiK
      rw [e3, exk] at h6
      have h7 : zr_K x ≤ zr_K a := Int32.le_iff_toInt_le.mp h6
      have h9 := gm x hx hd hlt
      have h8 : x = a := zl_sort srt x (List.mem_cons_of_mem _ hx) a (List.mem_cons_of_mem _ ga) (by omega)
      rw [h2, ← ex, h8]
/-! ===== what has become of a record; what is held under a key ===== -/
theorem yw_fate_loop {x : Int64} {post : Int32 → Prop} (H1 : ∀ i, i < 16 → ¬ yS i = 0 → yI i = x → post (yS i)) (H0 : (∀ i, i < 16 → ¬ (¬ yS i = 0 ∧ yI i = x)) → post 0) : ∀ (d i : Nat), i + d = 16 → (∀ j, j < i → ¬ (¬ yS j = 0 ∧ yI j = x)) → wY_fate_2 post x yCe yLf yLn yLd yS yK yI yPh yOk yOy yRs yPo yLi yLw yUi yUw yMi (d + 1) (nI i) := by
  intro d
  induction d with
  | zero =>
    intro i hi h
    have e : i = 16 := by omega
    subst e
    exact br_t (nI_le (a := 16) (b := 16) (by omega) (by decide)) (H0 h)
  | succ d ih =>
    intro i hi h
    have hi16 : i < 16 := by omega
    have eS : yS (nI i).toNatClampNeg = yS i := zc_f (by omega)
    have eI : yI (nI i).toNatClampNeg = yI i := zc_f (by omega)
    have nx : ¬ (¬ yS i = 0 ∧ yI i = x) → ∀ y, y = nI i + 1 → wY_fate_2 post x yCe yLf yLn yLd yS yK yI yPh yOk yOy yRs yPo yLi yLw yUi yUw yMi (d + 1) y := fun h' => nm_r (nI_1 i) (ih (i + 1) (by omega) (zj_lt h h'))
    refine br_f (nI_ge (b := 16) hi16 (by decide)) (And.intro (zv_16 hi16) ?_)
    rw [eS, eI]
    exact br_c (fun hs => nx (fun z => z.1 hs)) (fun hs => And.intro (zv_16 hi16) (br_c (fun hx => And.intro (zv_16 hi16) (H1 i hi16 hs hx)) (fun hx => nx (fun z => hx z.2))))
theorem yw_fate {id : Nat} {post : Int32 → Prop} (Y : zz_YC last yS yK yI C) (hid : id ≤ last) (h1 : ∀ c, c ∈ C → zr_i c = id → post (zz_st c)) (h0 : (∀ c, c ∈ C → ¬ zr_i c = id) → post 0) : wpY_fate post (yCe, yLf, yLn, yLd, yS, yK, yI, yPh, yOk, yOy, yRs, yPo, yLi, yLw, yUi, yUw, yMi) (lN id) := by
  have hl := Y.2.2.2.2
  refine ⟨17, yw_fate_loop (fun i hi hs hx => ?_) (fun h => h0 (fun c hc e => ?_)) 16 0 rfl (fun j hj => absurd hj (Nat.not_lt_zero j))⟩
  · obtain ⟨c, hc, e1, e2, e3, e4⟩ := yc_at Y hi hs
    obtain ⟨_, _, _, _, _, _, _, e5⟩ := Y.1 c hc
    rw [e2]
    exact h1 c hc ((lN_eq (by omega) (by omega)).mp (e4.symm.trans hx))
  · obtain ⟨i, hi, e1, e2, e3, e4, _⟩ := Y.1 c hc
    exact h i hi ⟨by rw [e2]; exact zt_0 c, by rw [e4, e]⟩
theorem yw_look_loop {x : Int32} {post : Int32 → Prop} (H1 : ∀ i, i < 16 → ¬ yS i = 0 → yK i = x → post (yS i)) (H0 : (∀ i, i < 16 → ¬ (¬ yS i = 0 ∧ yK i = x)) → post 0) : ∀ (d i : Nat), i + d = 16 → (∀ j, j < i → ¬ (¬ yS j = 0 ∧ yK j = x)) → wY_look_2 post x yCe yLf yLn yLd yS yK yI yPh yOk yOy yRs yPo yLi yLw yUi yUw yMi (d + 1) (nI i) := by
  intro d
  induction d with
  | zero =>
    intro i hi h
    have e : i = 16 := by omega
    subst e
    exact br_t (nI_le (a := 16) (b := 16) (by omega) (by decide)) (H0 h)
  | succ d ih =>
    intro i hi h
    have hi16 : i < 16 := by omega
    have eS : yS (nI i).toNatClampNeg = yS i := zc_f (by omega)
    have eI : yK (nI i).toNatClampNeg = yK i := zc_f (by omega)
    have nx : ¬ (¬ yS i = 0 ∧ yK i = x) → ∀ y, y = nI i + 1 → wY_look_2 post x yCe yLf yLn yLd yS yK yI yPh yOk yOy yRs yPo yLi yLw yUi yUw yMi (d + 1) y := fun h' => nm_r (nI_1 i) (ih (i + 1) (by omega) (zj_lt h h'))
    refine br_f (nI_ge (b := 16) hi16 (by decide)) (And.intro (zv_16 hi16) ?_)
    rw [eS, eI]
    exact br_c (fun hs => nx (fun z => z.1 hs)) (fun hs => And.intro (zv_16 hi16) (br_c (fun hx => And.intro (zv_16 hi16) (H1 i hi16 hs hx)) (fun hx => nx (fun z => hx z.2))))
theorem yw_look {x : Int32} {post : Int32 → Prop} (Y : zz_YC last yS yK yI C) (h1 : ∀ c, c ∈ C → zr_k c = x → post (zz_st c)) (h0 : (∀ c, c ∈ C → ¬ zr_k c = x) → post 0) : wpY_look post (yCe, yLf, yLn, yLd, yS, yK, yI, yPh, yOk, yOy, yRs, yPo, yLi, yLw, yUi, yUw, yMi) x := by
  refine ⟨17, yw_look_loop (fun i hi hs hx => ?_) (fun h => h0 (fun c hc e => ?_)) 16 0 rfl (fun j hj => absurd hj (Nat.not_lt_zero j))⟩
  · obtain ⟨c, hc, e1, e2, e3, e4⟩ := yc_at Y hi hs
    rw [e2]
    exact h1 c hc (e3.symm.trans hx)
  · obtain ⟨i, hi, e1, e2, e3, e4, _⟩ := Y.1 c hc
    exact h i hi ⟨by rw [e2]; exact zt_0 c, by rw [e3, e]⟩
end
end
section
/-! ===== Y's sweep, as a function of the states ===== -/
def zz_sS (S Ky : Nat → Int32) (lo hi : Int32) (i : Nat) : Nat → Int32 := fun j => if j < i ∧ S j = 2 ∧ ¬ Ky j ≤ lo ∧ ¬ hi ≤ Ky j then 0 else S j
section
variable {S Ky : Nat → Int32} {Id : Nat → Int64} {lo hi : Int32} {i : Nat}
theorem zs_0 : zz_sS S Ky lo hi 0 = S := by
  funext j
  exact if_neg (fun z => absurd z.1 (Nat.not_lt_zero j))
theorem zs_at : zz_sS S Ky lo hi i i = S i := if_neg (fun z => absurd z.1 (Nat.lt_irrefl i))
theorem zs_ne {j : Nat} (h : j = i → ¬ (S i = 2 ∧ ¬ Ky i ≤ lo ∧ ¬ hi ≤ Ky i)) : zz_sS S Ky lo hi (i + 1) j = zz_sS S Ky lo hi i j := by
  unfold zz_sS
  by_cases hj : j < i ∧ S j = 2 ∧ ¬ Ky j ≤ lo ∧ ¬ hi ≤ Ky j
  · rw [if_pos hj, if_pos ⟨by omega, hj.2⟩]
  · rw [if_neg hj, if_neg]
    intro z
    by_cases e : j = i
    · subst e; exact h rfl z.2
    · exact hj ⟨by omega, z.2⟩
theorem zs_skip (h : ¬ (S i = 2 ∧ ¬ Ky i ≤ lo ∧ ¬ hi ≤ Ky i)) : zz_sS S Ky lo hi (i + 1) = zz_sS S Ky lo hi i := by
  funext j
  exact zs_ne (fun _ => h)
theorem zs_put (h : S i = 2 ∧ ¬ Ky i ≤ lo ∧ ¬ hi ≤ Ky i) : upd (zz_sS S Ky lo hi i) i 0 = zz_sS S Ky lo hi (i + 1) := by
  funext j
  by_cases e : j = i
  · subst e
    rw [pk_us]
    exact (if_pos ⟨by omega, h⟩).symm
  · rw [pk_un e]
    exact (zs_ne (fun z => absurd z e)).symm
/-! ===== Y's mark ===== -/
def zz_mS (S : Nat → Int32) (Id : Nat → Int64) (x : Int64) (i : Nat) : Nat → Int32 := fun j => if j < i ∧ S j = 1 ∧ Id j = x then 2 else S j
variable {x : Int64}
theorem zm_0 : zz_mS S Id x 0 = S := by
  funext j
  exact if_neg (fun z => absurd z.1 (Nat.not_lt_zero j))
theorem zm_at : zz_mS S Id x i i = S i := if_neg (fun z => absurd z.1 (Nat.lt_irrefl i))
theorem zm_ne {j : Nat} (h : j = i → ¬ (S i = 1 ∧ Id i = x)) : zz_mS S Id x (i + 1) j = zz_mS S Id x i j := by
  unfold zz_mS
  by_cases hj : j < i ∧ S j = 1 ∧ Id j = x
  · rw [if_pos hj, if_pos ⟨by omega, hj.2⟩]
  · rw [if_neg hj, if_neg]
    intro z
    by_cases e : j = i
    · subst e; exact h rfl z.2
    · exact hj ⟨by omega, z.2⟩
theorem zm_skip (h : ¬ (S i = 1 ∧ Id i = x)) : zz_mS S Id x (i + 1) = zz_mS S Id x i := by
  funext j
  exact zm_ne (fun _ => h)
theorem zm_put (h : S i = 1 ∧ Id i = x) : upd (zz_mS S Id x i) i 2 = zz_mS S Id x (i + 1) := by
  funext j
  by_cases e : j = i
  · subst e
    rw [pk_us]
    exact (if_pos ⟨by omega, h⟩).symm
  · rw [pk_un e]
    exact (zm_ne (fun z => absurd z e)).symm
/-! ===== how many are held ===== -/
def zz_cn (S : Nat → Int32) : Nat → Nat
  | 0 => 0
  | i + 1 => zz_cn S i + (if S i = 0 then 0 else 1)
theorem zn_len : ∀ k, zz_cn S k = ((List.range k).filter (fun i => decide (¬ S i = 0))).length := by
  intro k
  induction k with
  | zero => rfl
  | succ k ih =>
    rw [List.range_succ, List.filter_append, List.length_append, zz_cn, ih, List.filter_cons]
    by_cases h : S k = 0
    · simp [h]
    · simp [h]
end
theorem yc_cn {last : Nat} {S Ky : Nat → Int32} {Id : Nat → Int64} {C : List zr_T} (Y : zz_YC last S Ky Id C) (srt : C.Pairwise (fun a b => zr_K a < zr_K b)) : zz_cn S 16 = C.length := by
  have key : ∀ l : List zr_T, (∀ x, x ∈ l → x ∈ C) → l.Pairwise (fun a b => zr_K a < zr_K b) → (l.map (fun c => (zr_s c).toNatClampNeg)).Nodup := by
    intro l
    induction l with
    | nil => intro _ _; exact List.Pairwise.nil
    | cons a l ih =>
      intro hs hp
      obtain ⟨p1, p2⟩ := List.pairwise_cons.mp hp
      rw [List.map_cons]
      refine List.nodup_cons.mpr ⟨fun hm => ?_, ih (fun x hx => hs x (List.mem_cons_of_mem _ hx)) p2⟩
      obtain ⟨b, hb, e⟩ := List.mem_map.mp hm
      obtain ⟨i, hi, ei, _⟩ := Y.1 a (hs a (by simp))
      obtain ⟨j, hj, ej, _⟩ := Y.1 b (hs b (by simp [hb]))
      rw [ei, ej, zc_n (by omega), zc_n (by omega)] at e
      have e2 : b = a := Y.2.2.1 b (hs b (by simp [hb])) a (hs a (by simp)) (by rw [ei, ej, e])
      have := p1 b hb
      rw [e2] at this
      omega
  rw [zn_len]
  refine Nat.le_antisymm ?_ ?_
  · have h := zl_len (l1 := (List.range 16).filter (fun i => decide (¬ S i = 0))) (l2 := C.map (fun c => (zr_s c).toNatClampNeg)) (List.Pairwise.filter _ List.nodup_range) (fun i hi => ?_)
    · rw [List.length_map] at h; exact h
    · rw [List.mem_filter] at hi
      have h16 := List.mem_range.mp hi.1
      obtain ⟨c, hc, e, _⟩ := yc_at Y h16 (of_decide_eq_true hi.2)
      exact List.mem_map.mpr ⟨c, hc, by rw [e, zc_n (by omega)]⟩
  · have h := zl_len (l1 := C.map (fun c => (zr_s c).toNatClampNeg)) (l2 := (List.range 16).filter (fun i => decide (¬ S i = 0))) (key C (fun _ h => h) srt) (fun i hi => ?_)
    · rw [List.length_map] at h; exact h
    · obtain ⟨c, hc, e⟩ := List.mem_map.mp hi
      obtain ⟨j, hj, ej, e2, _⟩ := Y.1 c hc
      rw [ej, zc_n (by omega)] at e
      rw [← e, List.mem_filter]
      exact ⟨List.mem_range.mpr hj, decide_eq_true (by rw [e2]; exact zt_0 c)⟩
theorem yc_sweep {last : Nat} {S Ky : Nat → Int32} {Id : Nat → Int64} {C : List zr_T} (Y : zz_YC last S Ky Id C) (lb ub : Int32) : zz_YC last (zz_sS S Ky lb ub 16) Ky Id (zz_sw lb.toInt ub.toInt C) := by
  have cond : ∀ i c, S i = zz_st c → Ky i = zr_k c → ((S i = 2 ∧ ¬ Ky i ≤ lb ∧ ¬ ub ≤ Ky i) ↔ (zr_d c = true ∧ lb.toInt < zr_K c ∧ zr_K c < ub.toInt)) := by
    intro i c e1 e2
    rw [e1, e2, zt_2, Int32.not_le, Int32.not_le, Int32.lt_iff_toInt_lt, Int32.lt_iff_toInt_lt]
    rfl
  refine ⟨fun c hc => ?_, fun i hi h => ?_, fun a ha b hb => Y.2.2.1 a (zz_sw_mem.mp ha).1 b (zz_sw_mem.mp hb).1, fun a ha b hb => Y.2.2.2.1 a (zz_sw_mem.mp ha).1 b (zz_sw_mem.mp hb).1, Y.2.2.2.2⟩
  · obtain ⟨h1, h2⟩ := zz_sw_mem.mp hc
    obtain ⟨i, hi, e1, e2, e3, e4⟩ := Y.1 c h1
    refine ⟨i, hi, e1, ?_, e3, e4⟩
    rw [← e2]
    exact if_neg (fun z => h2 ((cond i c e2 e3).mp z.2))
  · have hn : ¬ (i < 16 ∧ S i = 2 ∧ ¬ Ky i ≤ lb ∧ ¬ ub ≤ Ky i) := fun z => h (if_pos z)
    have eS : zz_sS S Ky lb ub 16 i = S i := if_neg hn
    rw [eS] at h
    obtain ⟨c, hc, e1, e2, e3, _⟩ := yc_at Y hi h
    exact ⟨c, zz_sw_mem.mpr ⟨hc, fun z => hn ⟨hi, (cond i c e2 e3).mpr z⟩⟩, e1⟩
def zz_dd (c : zr_T) : zr_T := (zr_p c, zr_s c, zr_k c, zr_v c, zr_i c, true)
theorem yc_mark {last : Nat} {S Ky : Nat → Int32} {Id : Nat → Int64} {A R : List zr_T} {u : zr_T} (Y : zz_YC last S Ky Id (A ++ u :: R)) (srt : (A ++ u :: R).Pairwise (fun a b => zr_K a < zr_K b)) (hu : zr_d u = false) : zz_YC last (zz_mS S Id (lN (zr_i u)) 16) Ky Id (A ++ zz_dd u :: R) := by
  obtain ⟨y1, y2, y3, y4, y5⟩ := Y
  have hum : u ∈ A ++ u :: R := by simp
  have sp := zl_split srt rfl
  have mem : ∀ x, x ∈ A ++ zz_dd u :: R → x = zz_dd u ∨ (x ∈ A ++ u :: R ∧ ¬ x = u) := by
    intro x hx
    rcases List.mem_append.mp hx with h | h
    · exact Or.inr ⟨by simp [h], fun e => by have := sp.1 x h; rw [e] at this; omega⟩
    · rcases List.mem_cons.mp h with h | h
      · exact Or.inl h
      · exact Or.inr ⟨by simp [h], fun e => by have := sp.2 x h; rw [e] at this; omega⟩
  have bak : ∀ x, x ∈ A ++ u :: R → ¬ x = u → x ∈ A ++ zz_dd u :: R := by
    intro x hx hn
    rcases List.mem_append.mp hx with h | h
    · simp [h]
    · rcases List.mem_cons.mp h with h | h
      · exact absurd h hn
      · simp [h]
  refine ⟨fun c hc => ?_, fun i hi h => ?_, fun a ha b hb e => ?_, fun a ha b hb e => ?_, y5⟩
  · rcases mem c hc with h | ⟨h, hn⟩
    · obtain ⟨i, hi, e1, e2, e3, e4, e5⟩ := y1 u hum
      rw [h]
      exact ⟨i, hi, e1, if_pos ⟨hi, e2.trans (zt_1.mpr hu), e4⟩, e3, e4, e5⟩
    · obtain ⟨i, hi, e1, e2, e3, e4, e5⟩ := y1 c h
      obtain ⟨_, _, _, _, _, _, _, u5⟩ := y1 u hum
      refine ⟨i, hi, e1, (if_neg (fun z => hn ?_)).trans e2, e3, e4, e5⟩
      exact y4 c h u hum ((lN_eq (by omega) (by omega)).mp (e4.symm.trans z.2.2))
  · have hS : ¬ S i = 0 := by
      intro z
      refine h ((if_neg (fun w => ?_)).trans z)
      rw [z] at w
      exact absurd w.2.1 (by decide)
    obtain ⟨c, hc, e⟩ := y2 i hi hS
    by_cases hn : c = u
    · exact ⟨zz_dd u, by simp, by rw [← e, hn]; rfl⟩
    · exact ⟨c, bak c hc hn, e⟩
  · rcases mem a ha with h1 | ⟨h1, n1⟩ <;> rcases mem b hb with h2 | ⟨h2, n2⟩
    · rw [h1, h2]
    · rw [h1] at e; exact absurd (y3 u hum b h2 e).symm n2
    · rw [h2] at e; exact absurd (y3 a h1 u hum e) n1
    · exact y3 a h1 b h2 e
  · rcases mem a ha with h1 | ⟨h1, n1⟩ <;> rcases mem b hb with h2 | ⟨h2, n2⟩
    · rw [h1, h2]
    · rw [h1] at e; exact absurd (y4 u hum b h2 e).symm n2
    · rw [h2] at e; exact absurd (y4 a h1 u hum e) n1
    · exact y4 a h1 b h2 e
theorem yc_add {last f : Nat} {S Ky : Nat → Int32} {Id : Nat → Int64} {C C' : List zr_T} {c : zr_T} (Y : zz_YC last S Ky Id C) (hf : f < 16) (h0 : S f = 0) (cs : zr_s c = nI f) (cd : zr_d c = false) (ci : zr_i c = last + 1) (mem : ∀ x, x ∈ C' ↔ x = c ∨ x ∈ C) (hl : last + 1 < 2 ^ 30) : zz_YC (last + 1) (upd S f 1) (upd Ky f (zr_k c)) (vp_updL Id f (lN (last + 1))) C' := by
  obtain ⟨y1, y2, y3, y4, y5⟩ := Y
  have nf : ∀ x, x ∈ C → ∀ i, zr_s x = nI i → i < 16 → i ≠ f := by
    intro x hx i e hi ef
    obtain ⟨j, hj, e1, e2, _⟩ := y1 x hx
    have : i = j := (nI_eq (by omega) (by omega)).mp (e.symm.trans e1)
    rw [← this, ef, h0] at e2
    exact zt_0 x e2.symm
  refine ⟨fun x hx => ?_, fun i hi h => ?_, fun a ha b hb e => ?_, fun a ha b hb e => ?_, hl⟩
  · rcases (mem x).mp hx with h | h
    · rw [h]
      exact ⟨f, hf, cs, by rw [pk_us]; exact (zt_1.mpr cd).symm, pk_us, by rw [pk_uLs, ci], by omega, by omega⟩
    · obtain ⟨i, hi, e1, e2, e3, e4, e5⟩ := y1 x h
      have hn := nf x h i e1 hi
      exact ⟨i, hi, e1, by rw [pk_un hn]; exact e2, by rw [pk_un hn]; exact e3, by rw [pk_uLn hn]; exact e4, e5.1, by omega⟩
  · by_cases e : i = f
    · exact ⟨c, (mem c).mpr (Or.inl rfl), by rw [cs, e]⟩
    · rw [pk_un e] at h
      obtain ⟨x, hx, ex⟩ := y2 i hi h
      exact ⟨x, (mem x).mpr (Or.inr hx), ex⟩
  · have no : ∀ x, x ∈ C → zr_s x = zr_s c → False := by
      intro x hx ex
      obtain ⟨i, hi, e1, _⟩ := y1 x hx
      exact nf x hx f (ex.trans cs) hf rfl
    rcases (mem a).mp ha with h1 | h1 <;> rcases (mem b).mp hb with h2 | h2
    · rw [h1, h2]
    · rw [h1] at e; exact (no b h2 e.symm).elim
    · rw [h2] at e; exact (no a h1 e).elim
    · exact y3 a h1 b h2 e
  · have no : ∀ x, x ∈ C → zr_i x = zr_i c → False := by
      intro x hx ex
      obtain ⟨_, _, _, _, _, _, _, e5⟩ := y1 x hx
      omega
    rcases (mem a).mp ha with h1 | h1 <;> rcases (mem b).mp hb with h2 | h2
    · rw [h1, h2]
    · rw [h1] at e; exact (no b h2 e.symm).elim
    · rw [h2] at e; exact (no a h1 e).elim
    · exact y4 a h1 b h2 e
theorem yc_r0 {last : Nat} {S Ky : Nat → Int32} {Id : Nat → Int64} {C : List zr_T} (Y : zz_YC last S Ky Id C) : zz_YC last S Ky Id (C.map zz_r0) := by
  obtain ⟨y1, y2, y3, y4, y5⟩ := Y
  refine ⟨fun c hc => ?_, fun i hi h => ?_, fun a ha b hb e => ?_, fun a ha b hb e => ?_, y5⟩
  · obtain ⟨x, hx, rfl⟩ := List.mem_map.mp hc
    exact y1 x hx
  · obtain ⟨x, hx, e⟩ := y2 i hi h
    exact ⟨zz_r0 x, List.mem_map_of_mem hx, e⟩
  · obtain ⟨x, hx, rfl⟩ := List.mem_map.mp ha
    obtain ⟨y, hy, rfl⟩ := List.mem_map.mp hb
    rw [y3 x hx y hy e]
  · obtain ⟨x, hx, rfl⟩ := List.mem_map.mp ha
    obtain ⟨y, hy, rfl⟩ := List.mem_map.mp hb
    rw [y4 x hx y hy e]
section
variable {yCe : Int32} {yLf : Int32} {yLn : Int32} {yLd : Int64} {yS : Nat → Int32} {yK : Nat → Int32} {yI : Nat → Int64} {yPh : Nat → Int32} {yOk : Nat → Int32} {yOy : Nat → Int32} {yRs : Nat → Int32} {yPo : Nat → Int32} {yLi : Nat → Int64} {yLw : Nat → Int32} {yUi : Nat → Int64} {yUw : Nat → Int32} {yMi : Nat → Int64} {last t : Nat} {C : List zr_T} {c a : zr_T}
theorem yw_fin {post : Int32 → SY → Prop} {a : Int32} (ht : t < 4) (h : post a (yCe, yLf, yLn, yLd, yS, yK, yI, upd yPh t 4, yOk, yOy, upd yRs t a, yPo, yLi, yLw, yUi, yUw, yMi)) : wpY_finish post (yCe, yLf, yLn, yLd, yS, yK, yI, yPh, yOk, yOy, yRs, yPo, yLi, yLw, yUi, yUw, yMi) (nI t) a :=
  And.intro (zv_4 ht) (nm_r (zc_u (by omega)) (And.intro (zv_4 ht) (nm_r (zc_u (by omega)) h)))
theorem yw_again {post : Int32 → SY → Prop} (ht : t < 4) (h : post 6 (yCe, yLf, yLn, yLd, yS, yK, yI, upd yPh t 1, yOk, yOy, yRs, upd yPo t (-1), yLi, yLw, yUi, yUw, yMi)) : wpY_again post (yCe, yLf, yLn, yLd, yS, yK, yI, yPh, yOk, yOy, yRs, yPo, yLi, yLw, yUi, yUw, yMi) (nI t) :=
  And.intro (zv_4 ht) (nm_r (zc_u (by omega)) (And.intro (zv_4 ht) (nm_r (zc_u (by omega)) h)))
theorem yw_bad0 {post : Int32 → Prop} (ht : t < 4) (h : post 0) : wpY_bad post (yCe, yLf, yLn, yLd, yS, yK, yI, yPh, yOk, yOy, yRs, yPo, yLi, yLw, yUi, yUw, yMi) (nI t) := br_f (nI_pos (by omega)) (br_t (nI_le (b := 3) (by omega) (by decide)) h)
theorem yw_bad1 {post : Int32 → Prop} {v : Int32} (hv : v < 0 ∨ nI 4 ≤ v) (h : post 1) : wpY_bad post (yCe, yLf, yLn, yLd, yS, yK, yI, yPh, yOk, yOy, yRs, yPo, yLi, yLw, yUi, yUw, yMi) v := br_c (fun _ => h) (fun h1 => br_f (fun z => by
    have h2 := hv.resolve_left h1
    have h3 := Int32.le_trans h2 z
    exact absurd h3 (by decide)) h)
theorem yw_busy1 {post : Int32 → Prop} (ht : t < 4) (hp : yPh t = 1 ∨ yPh t = 2 ∨ yPh t = 3) (h : post 1) : wpY_busy post (yCe, yLf, yLn, yLd, yS, yK, yI, yPh, yOk, yOy, yRs, yPo, yLi, yLw, yUi, yUw, yMi) (nI t) := by
  unfold wpY_busy
  dsimp only
  rw [zc_n (by omega)]
  refine ⟨zv_4 ht, ?_⟩
  rcases hp with e | e | e <;> rw [e]
  · exact br_t rfl h
  · exact br_f (by decide) ⟨zv_4 ht, br_t rfl h⟩
  · exact br_f (by decide) ⟨zv_4 ht, br_f (by decide) ⟨zv_4 ht, br_t rfl h⟩⟩
theorem yw_busy0 {post : Int32 → Prop} (ht : t < 4) (hp : yPh t = 0 ∨ yPh t = 4) (h : post 0) : wpY_busy post (yCe, yLf, yLn, yLd, yS, yK, yI, yPh, yOk, yOy, yRs, yPo, yLi, yLw, yUi, yUw, yMi) (nI t) := by
  unfold wpY_busy
  dsimp only
  rw [zc_n (by omega)]
  refine ⟨zv_4 ht, ?_⟩
  rcases hp with e | e <;> rw [e] <;> exact br_f (by decide) ⟨zv_4 ht, br_f (by decide) ⟨zv_4 ht, br_f (by decide) h⟩⟩
theorem yw_sweep_loop {lb ub : Int32} {post : SY → Prop} (H : post (yCe, yLf, yLn, yLd, zz_sS yS yK lb ub 16, yK, yI, yPh, yOk, yOy, yRs, yPo, yLi, yLw, yUi, yUw, yMi)) : ∀ (d i : Nat), i + d = 16 → wY_sweep_2 post lb ub yCe yLf yLn yLd (d + 1) (nI i) (zz_sS yS yK lb ub i) yK yI yPh yOk yOy yRs yPo yLi yLw yUi yUw yMi := by
  intro d
  induction d with
  | zero =>
    intro i hi
    have e : i = 16 := by omega
    subst e
    exact br_t (nI_le (a := 16) (b := 16) (by omega) (by decide)) H
  | succ d ih =>
    intro i hi
    have hi16 : i < 16 := by omega
    have eS : zz_sS yS yK lb ub i (nI i).toNatClampNeg = yS i := by rw [zc_n (by omega)]; exact zs_at
    have eK : yK (nI i).toNatClampNeg = yK i := zc_f (by omega)
    have nx : ¬ (yS i = 2 ∧ ¬ yK i ≤ lb ∧ ¬ ub ≤ yK i) → ∀ y, y = nI i + 1 → wY_sweep_2 post lb ub yCe yLf yLn yLd (d + 1) y (zz_sS yS yK lb ub i) yK yI yPh yOk yOy yRs yPo yLi yLw yUi yUw yMi := fun h => nm_r (nI_1 i) (by have := ih (i + 1) (by omega); rw [zs_skip h] at this; exact this)
    refine br_f (nI_ge (b := 16) hi16 (by decide)) (And.intro (zv_16 hi16) ?_)
    rw [eS, eK]
    refine br_c (fun hs => And.intro (zv_16 hi16) (br_c (fun hk => nx (fun z => z.2.1 hk)) (fun hk => And.intro (zv_16 hi16) (br_c (fun hh => nx (fun z => z.2.2 hh)) (fun hh => And.intro (zv_16 hi16) (nm_r (e' := zz_sS yS yK lb ub (i + 1)) ?_ (nm_r (nI_1 i) (ih (i + 1) (by omega)))))))) ) (fun hs => nx (fun z => hs z.1))
    rw [zc_n (by omega)]
    exact zs_put ⟨hs, hk, hh⟩
theorem yw_sweep {lb ub : Int32} {post : SY → Prop} (H : post (yCe, yLf, yLn, yLd, zz_sS yS yK lb ub 16, yK, yI, yPh, yOk, yOy, yRs, yPo, yLi, yLw, yUi, yUw, yMi)) : wpY_sweep post (yCe, yLf, yLn, yLd, yS, yK, yI, yPh, yOk, yOy, yRs, yPo, yLi, yLw, yUi, yUw, yMi) lb ub := by
  refine ⟨17, ?_⟩
  have h := yw_sweep_loop H 16 0 rfl
  rw [zs_0] at h
  exact h
theorem yw_held_loop {post : Int32 → Prop} (H : post (nI (zz_cn yS 16))) : ∀ (d i : Nat), i + d = 16 → wY_held_4 post yCe yLf yLn yLd yS yK yI yPh yOk yOy yRs yPo yLi yLw yUi yUw yMi (d + 1) (nI (zz_cn yS i)) (nI i) := by
  intro d
  induction d with
  | zero =>
    intro i hi
    have e : i = 16 := by omega
    subst e
    exact br_t (nI_le (a := 16) (b := 16) (by omega) (by decide)) H
  | succ d ih =>
    intro i hi
    have hi16 : i < 16 := by omega
    have eS : yS (nI i).toNatClampNeg = yS i := zc_f (by omega)
    have nx := ih (i + 1) (by omega)
    refine br_f (nI_ge (b := 16) hi16 (by decide)) (And.intro (zv_16 hi16) ?_)
    rw [eS]
    refine br_c (fun hs => nm_r (nI_1 i) ?_) (fun hs => nm_r (nI_1 _) (nm_r (nI_1 i) ?_))
    · rw [zz_cn, if_pos hs] at nx; exact nx
    · rw [zz_cn, if_neg hs] at nx; exact nx
theorem yw_held {post : Int32 → Prop} (H : post (nI (zz_cn yS 16))) : wpY_held post (yCe, yLf, yLn, yLd, yS, yK, yI, yPh, yOk, yOy, yRs, yPo, yLi, yLw, yUi, yUw, yMi) := ⟨17, yw_held_loop H 16 0 rfl⟩
theorem yw_mark_loop (ht : t < 4) {post : Int32 → SY → Prop} (H : post 7 (yCe, yLf, yLn, yLd, zz_mS yS yI (yUi t) 16, yK, yI, upd yPh t 3, yOk, yOy, yRs, yPo, yLi, yLw, yUi, yUw, vp_updL yMi t (yUi t))) : ∀ (d i : Nat), i + d = 16 → wY_act_136 post (nI t) yCe yLf yLn yLd (d + 1) (nI i) (zz_mS yS yI (yUi t) i) yK yI yPh yOk yOy yRs yPo yLi yLw yUi yUw yMi := by
  intro d
  have eU : yUi (nI t).toNatClampNeg = yUi t := zc_f (by omega)
  induction d with
  | zero =>
    intro i hi
    have e : i = 16 := by omega
    subst e
    refine br_t (nI_le (a := 16) (b := 16) (by omega) (by decide)) (And.intro (zv_4 ht) (And.intro (zv_4 ht) (nm_r (e' := vp_updL yMi t (yUi t)) ?_ (And.intro (zv_4 ht) (nm_r (zc_u (by omega)) H)))))
    rw [zc_n (by omega)]
  | succ d ih =>
    intro i hi
    have hi16 : i < 16 := by omega
    have eS : zz_mS yS yI (yUi t) i (nI i).toNatClampNeg = yS i := by rw [zc_n (by omega)]; exact zm_at
    have eI : yI (nI i).toNatClampNeg = yI i := zc_f (by omega)
    have nx : ¬ (yS i = 1 ∧ yI i = yUi t) → ∀ y, y = nI i + 1 → wY_act_136 post (nI t) yCe yLf yLn yLd (d + 1) y (zz_mS yS yI (yUi t) i) yK yI yPh yOk yOy yRs yPo yLi yLw yUi yUw yMi := fun h => nm_r (nI_1 i) (by have := ih (i + 1) (by omega); rw [zm_skip h] at this; exact this)
    refine br_f (nI_ge (b := 16) hi16 (by decide)) (And.intro (zv_16 hi16) ?_)
    rw [eS, eI, eU]
    refine br_c (fun hs => And.intro (zv_16 hi16) (And.intro (zv_4 ht) (br_c (fun hk => And.intro (zv_16 hi16) (nm_r (e' := zz_mS yS yI (yUi t) (i + 1)) ?_ (nm_r (nI_1 i) (ih (i + 1) (by omega))))) (fun hk => nx (fun z => hk z.2))))) (fun hs => nx (fun z => hs z.1))
    rw [zc_n (by omega)]
    exact zm_put ⟨hs, hk⟩
def zz_ff (S : Nat → Int32) : Nat → Int32
  | 0 => -1
  | i + 1 => if S i = 0 then nI i else zz_ff S i
theorem zf_fe (S : Nat → Int32) : ∀ i, (zz_ff S i = -1 ∧ ∀ j, j < i → ¬ S j = 0) ∨ (∃ b, b < i ∧ zz_ff S i = nI b ∧ S b = 0) := by
  intro i
  induction i with
  | zero => exact Or.inl ⟨rfl, fun j hj => absurd hj (Nat.not_lt_zero j)⟩
  | succ i ih =>
    by_cases h : S i = 0
    · rw [zz_ff, if_pos h]; exact Or.inr ⟨i, by omega, rfl, h⟩
    · rw [zz_ff, if_neg h]
      rcases ih with ⟨h1, h2⟩ | ⟨b, h1, h2, h3⟩
      · exact Or.inl ⟨h1, zj_lt h2 h⟩
      · exact Or.inr ⟨b, by omega, h2, h3⟩
theorem zf_cn {S : Nat → Int32} : ∀ i, (∀ j, j < i → ¬ S j = 0) → zz_cn S i = i := by
  intro i
  induction i with
  | zero => intro _; rfl
  | succ i ih =>
    intro h
    rw [zz_cn, ih (fun j hj => h j (by omega)), if_neg (h i (by omega))]
theorem yw_free_loop {post : Int32 → SY → Prop} {v : Int32} (H : wY_insert_55 post v yCe yLf yLn yLd yS yK yI yPh yOk yOy yRs yPo yLi yLw yUi yUw yMi 1 (zz_ff yS 16) (nI 16)) : ∀ (d i : Nat), i + d = 16 → wY_insert_55 post v yCe yLf yLn yLd yS yK yI yPh yOk yOy yRs yPo yLi yLw yUi yUw yMi (d + 1) (zz_ff yS i) (nI i) := by
  intro d
  induction d with
  | zero =>
    intro i hi
    have e : i = 16 := by omega
    subst e
    exact H
  | succ d ih =>
    intro i hi
    have hi16 : i < 16 := by omega
    have eS : yS (nI i).toNatClampNeg = yS i := zc_f (by omega)
    have nx := ih (i + 1) (by omega)
    refine br_f (nI_ge (b := 16) hi16 (by decide)) (And.intro (zv_16 hi16) ?_)
    rw [eS]
    refine br_c (fun hs => nm_r (nI_1 i) ?_) (fun hs => nm_r (nI_1 i) ?_)
    · rw [zz_ff, if_pos hs] at nx; exact nx
    · rw [zz_ff, if_neg hs] at nx; exact nx
end
end
section
/-! ===== references to records: (stamp, place) on X's side, an id on Y's ===== -/
def zz_Rf (K : List zr_T) (m last s p id : Nat) (q : Int32) : Prop := s ≤ m ∧ p < 32 ∧ id ≤ last ∧ (∀ c, c ∈ K → ((zr_p c = p ∧ zr_v c = s) ↔ zr_i c = id)) ∧ (∀ c, c ∈ K → zr_i c = id → zr_k c = q)
def zz_Ext (K : List zr_T) (m last : Nat) (K' : List zr_T) (m' last' : Nat) : Prop := m ≤ m' ∧ last ≤ last' ∧ ∀ x, x ∈ K' → (∃ y, y ∈ K ∧ zr_p x = zr_p y ∧ zr_v x = zr_v y ∧ zr_i x = zr_i y ∧ zr_k x = zr_k y ∧ (zr_d y = true → zr_d x = true)) ∨ (m < zr_v x ∧ last < zr_i x)
theorem rx_ext {K K' : List zr_T} {m last m' last' s p id : Nat} {q : Int32} (h : zz_Rf K m last s p id q) (e : zz_Ext K m last K' m' last') : zz_Rf K' m' last' s p id q := by
  obtain ⟨h1, h2, h3, h4, h5⟩ := h
  obtain ⟨e1, e2, e3⟩ := e
  refine ⟨by omega, h2, by omega, fun x hx => ?_, fun x hx hi => ?_⟩
  · rcases e3 x hx with ⟨y, hy, a1, a2, a3, a4, _⟩ | ⟨a1, a2⟩
    · rw [a1, a2, a3]; exact h4 y hy
    · exact ⟨fun z => by omega, fun z => by omega⟩
  · rcases e3 x hx with ⟨y, hy, a1, a2, a3, a4, _⟩ | ⟨a1, a2⟩
    · rw [a4]; exact h5 y hy (a3.symm.trans hi)
    · omega
theorem ex_sub {K K' : List zr_T} {m last : Nat} (h : ∀ x, x ∈ K' → x ∈ K) : zz_Ext K m last K' m last := ⟨Nat.le_refl _, Nat.le_refl _, fun x hx => Or.inl ⟨x, h x hx, rfl, rfl, rfl, rfl, fun z => z⟩⟩
theorem ex_refl {K : List zr_T} {m last : Nat} : zz_Ext K m last K m last := ex_sub (fun _ h => h)
def zz_Up (K : List zr_T) (m last : Nat) (oy ur uw : Int32) (ui : Int64) (uk : Int32) : Prop := ∃ s p id, ur = rf_of s p ∧ zz_Rf K m last s p id uw ∧ ui = lN id ∧ ((id = 0 ∧ uw = -1 ∧ uk = 10000) ∨ (id ≠ 0 ∧ uk = uw ∧ oy.toInt ≤ uw.toInt))
def zz_Mk (K : List zr_T) (m last : Nat) (oy ur : Int32) (mi : Int64) : Prop := ∃ s p id, ur = rf_of s p ∧ zz_Rf K m last s p id oy ∧ mi = lN id ∧ id ≠ 0 ∧ ∀ c, c ∈ K → zr_i c = id → zr_d c = true
/-- one thread's rows on both sides -/
def zz_Th (K : List zr_T) (m last : Nat) (ph ok oy rs lr lw ur uw : Int32) (ph' ok' oy' rs' po' : Int32) (li' : Int64) (lw' : Int32) (ui' : Int64) (uw' : Int32) (mi' : Int64) : Prop :=
  ph' = ph ∧
  ((ph = 0 ∧ ok = 0 ∧ oy = -1 ∧ rs = 0) ∨
   (ph = 4 ∧ ok' = ok ∧ oy' = oy ∧ rs' = rs) ∨
   (ok' = ok ∧ oy' = oy ∧ rs = 0 ∧ (ok = 1 ∨ ok = 2 ∨ ok = 3) ∧ 0 ≤ oy.toInt ∧ oy.toInt ≤ 9999 ∧
     ∃ s p id, lr = rf_of s p ∧ zz_Rf K m last s p id lw ∧ -1 ≤ lw.toInt ∧ lw.toInt < oy.toInt ∧
      ((ph = 1 ∧ po' = lw) ∨ (ph = 2 ∧ li' = lN id ∧ lw' = lw ∧ zz_Up K m last oy ur uw ui' uw') ∨ (ph = 3 ∧ zz_Mk K m last oy ur mi'))))
theorem th_ext {K K' : List zr_T} {m last m' last' : Nat} {ph ok oy rs lr lw ur uw ph' ok' oy' rs' po' lw' uw' : Int32} {li' ui' mi' : Int64} (h : zz_Th K m last ph ok oy rs lr lw ur uw ph' ok' oy' rs' po' li' lw' ui' uw' mi') (e : zz_Ext K m last K' m' last') : zz_Th K' m' last' ph ok oy rs lr lw ur uw ph' ok' oy' rs' po' li' lw' ui' uw' mi' := by
  refine ⟨h.1, ?_⟩
  rcases h.2 with h | h | ⟨h1, h2, h3, h4, h5, h6, s, p, id, h7, h8, h9, h10, h11⟩
  · exact Or.inl h
  · exact Or.inr (Or.inl h)
  · refine Or.inr (Or.inr ⟨h1, h2, h3, h4, h5, h6, s, p, id, h7, rx_ext h8 e, h9, h10, ?_⟩)
    rcases h11 with h | ⟨g1, g2, g3, s2, p2, i2, g4, g5, g6⟩ | ⟨g1, s2, p2, i2, g4, g5, g6, g7, g8⟩
    · exact Or.inl h
    · exact Or.inr (Or.inl ⟨g1, g2, g3, s2, p2, i2, g4, rx_ext g5 e, g6⟩)
    · refine Or.inr (Or.inr ⟨g1, s2, p2, i2, g4, rx_ext g5 e, g6, g7, fun x hx hi => ?_⟩)
      rcases e.2.2 x hx with ⟨y, hy, a1, a2, a3, a4, a5⟩ | ⟨a1, a2⟩
      · exact a5 (g8 y hy (a3.symm.trans hi))
      · have := g5.2.2.1; omega
/-- a thread that isn't busy doesn't look at the records -/
theorem th_idle {K K' : List zr_T} {m last m' last' : Nat} {ph ok oy rs lr lw ur uw ph' ok' oy' rs' po' lw' uw' : Int32} {li' ui' mi' : Int64} (h : zz_Th K m last ph ok oy rs lr lw ur uw ph' ok' oy' rs' po' li' lw' ui' uw' mi') (e : ph = 0 ∨ ph = 4) : zz_Th K' m' last' ph ok oy rs lr lw ur uw ph' ok' oy' rs' po' li' lw' ui' uw' mi' := by
  refine ⟨h.1, ?_⟩
  rcases h.2 with h | h | ⟨h1, h2, h3, h4, h5, h6, s, p, id, h7, h8, h9, h10, h11⟩
  · exact Or.inl h
  · exact Or.inr (Or.inl h)
  · rcases e with rfl | rfl <;> rcases h11 with h | h | h <;> exact absurd h.1 (by decide)
theorem th_ph {K : List zr_T} {m last : Nat} {ph ok oy rs lr lw ur uw ph' ok' oy' rs' po' lw' uw' : Int32} {li' ui' mi' : Int64} (h : zz_Th K m last ph ok oy rs lr lw ur uw ph' ok' oy' rs' po' li' lw' ui' uw' mi') : (ph = 0 ∨ ph = 4) ∨ (ph = 1 ∨ ph = 2 ∨ ph = 3) := by
  rcases h.2 with h | h | ⟨h1, h2, h3, h4, h5, h6, s, p, id, h7, h8, h9, h10, h11⟩
  · exact Or.inl (Or.inl h.1)
  · exact Or.inl (Or.inr h.1)
  · rcases h11 with h | h | h
    · exact Or.inr (Or.inl h.1)
    · exact Or.inr (Or.inr (Or.inl h.1))
    · exact Or.inr (Or.inr (Or.inr h.1))
/-! ===== the relation ===== -/
section
variable (b n m last lf : Nat) (C : List zr_T) (F : List Nat)
def zz_Co (xFt xHc xLc xCl xLf : Int32) (xKs xSt xLk : Nat → Int32) (yCe yLf yLn : Int32) (yLd : Int64) (yS yK : Nat → Int32) (yI : Nat → Int64) : Prop :=
  xLc = nI m ∧ xCl = nI n ∧ xLf = nI lf ∧ m ≤ lf ∧ lf ≤ 30000 ∧ yCe = nI n ∧ yLf = nI lf ∧ yLn = nI m ∧ yLd = lN last ∧ last ≤ b ∧ zz_XK n m xFt xHc xKs xSt xLk (zr_0 :: C) F ∧ zz_YC last yS yK yI C
def zz_T (xPh xOk xOy xRs xLr xLw xUr xUw yPh yOk yOy yRs yPo : Nat → Int32) (yLi : Nat → Int64) (yLw : Nat → Int32) (yUi : Nat → Int64) (yUw : Nat → Int32) (yMi : Nat → Int64) : Prop :=
  ∀ t, t < 4 → zz_Th (zr_0 :: C) m last (xPh t) (xOk t) (xOy t) (xRs t) (xLr t) (xLw t) (xUr t) (xUw t) (yPh t) (yOk t) (yOy t) (yRs t) (yPo t) (yLi t) (yLw t) (yUi t) (yUw t) (yMi t)
end
def zz_R (b : Nat) (u : SX) (v : SY) : Prop := match u, v with
  | (xFt, xHc, xLc, xCl, xLf, xKs, xSt, xLk, xPh, xOk, xOy, xRs, xLr, xLw, xUr, xUw), (yCe, yLf, yLn, yLd, yS, yK, yI, yPh, yOk, yOy, yRs, yPo, yLi, yLw, yUi, yUw, yMi) => ∃ (n m last lf : Nat) (C : List zr_T) (F : List Nat), zz_Co b n m last lf C F xFt xHc xLc xCl xLf xKs xSt xLk yCe yLf yLn yLd yS yK yI ∧ zz_T m last C xPh xOk xOy xRs xLr xLw xUr xUw yPh yOk yOy yRs yPo yLi yLw yUi yUw yMi
theorem zz_R_mono {b b' : Nat} {u : SX} {v : SY} (h : zz_R b u v) (e : b ≤ b') : zz_R b' u v := by
  obtain ⟨xFt, xHc, xLc, xCl, xLf, xKs, xSt, xLk, xPh, xOk, xOy, xRs, xLr, xLw, xUr, xUw⟩ := u
  obtain ⟨yCe, yLf, yLn, yLd, yS, yK, yI, yPh, yOk, yOy, yRs, yPo, yLi, yLw, yUi, yUw, yMi⟩ := v
  obtain ⟨n, m, last, lf, C, F, ⟨h1, h2, h3, h4, h5, h6, h7, h8, h9, h10, h11⟩, hT⟩ := h
  exact ⟨n, m, last, lf, C, F, ⟨h1, h2, h3, h4, h5, h6, h7, h8, h9, by omega, h11⟩, hT⟩
section
variable {b n m last lf : Nat} {C : List zr_T} {F : List Nat} {xFt xHc xLc xCl xLf : Int32} {xKs xSt xLk xPh xOk xOy xRs xLr xLw xUr xUw : Nat → Int32} {yCe : Int32} {yLf : Int32} {yLn : Int32} {yLd : Int64} {yS : Nat → Int32} {yK : Nat → Int32} {yI : Nat → Int64} {yPh : Nat → Int32} {yOk : Nat → Int32} {yOy : Nat → Int32} {yRs : Nat → Int32} {yPo : Nat → Int32} {yLi : Nat → Int64} {yLw : Nat → Int32} {yUi : Nat → Int64} {yUw : Nat → Int32} {yMi : Nat → Int64}
/-- ids name the records of K, the sentinel with them -/
theorem yc_id (Y : zz_YC last yS yK yI C) : ∀ a, a ∈ zr_0 :: C → ∀ c, c ∈ zr_0 :: C → zr_i a = zr_i c → a = c := by
  have pos : ∀ x, x ∈ C → 1 ≤ zr_i x := fun x hx => by obtain ⟨_, _, _, _, _, _, h, _⟩ := Y.1 x hx; exact h
  intro a ha c hc e
  rcases List.mem_cons.mp ha with h1 | h1 <;> rcases List.mem_cons.mp hc with h2 | h2
  · rw [h1, h2]
  · have := pos c h2; rw [h1] at e; rw [← e] at this; exact absurd this (by decide)
  · have := pos a h1; rw [h2] at e; rw [e] at this; exact absurd this (by decide)
  · exact Y.2.2.2.1 a h1 c h2 e
theorem yc_last (Y : zz_YC last yS yK yI C) {c : zr_T} (hc : c ∈ zr_0 :: C) : zr_i c ≤ last := by
  rcases List.mem_cons.mp hc with h | h
  · rw [h]; exact Nat.zero_le _
  · obtain ⟨_, _, _, _, _, _, _, h⟩ := Y.1 c h; exact h
theorem rx_of (I : zz_XK n m xFt xHc xKs xSt xLk (zr_0 :: C) F) (Y : zz_YC last yS yK yI C) {c : zr_T} (hc : c ∈ zr_0 :: C) : zz_Rf (zr_0 :: C) m last (zr_v c) (zr_p c) (zr_i c) (zr_k c) := by
  have d := xk_dat I hc
  refine ⟨d.2.2.2, d.1, yc_last Y hc, fun x hx => ⟨fun z => ?_, fun z => ?_⟩, fun x hx z => ?_⟩
  · rw [xk_inj I hx hc z.1]
  · rw [yc_id Y x hx c hc z]; exact ⟨rfl, rfl⟩
  · rw [yc_id Y x hx c hc z]
theorem rx_0 {s p id : Nat} {q : Int32} (h : zz_Rf (zr_0 :: C) m last s p id q) (hm : m ≤ 30000) : (rf_of s p = 0 ↔ id = 0) ∧ (id = 0 → p = 0 ∧ s = 0 ∧ q = -1) := by
  obtain ⟨h1, h2, h3, h4, h5⟩ := h
  have h0 := h4 zr_0 (by simp)
  have k0 := h5 zr_0 (by simp)
  refine ⟨⟨fun e => ?_, fun e => ?_⟩, fun e => ?_⟩
  · rw [rf_nI (by omega) h2] at e
    have e2 : 32 * s + p = 0 := by
      by_cases z : 32 * s + p = 0
      · exact z
      · exact absurd e (nI_ne0 (by omega) (by omega))
    have e3 := h0.mp ⟨(show 0 = p by omega), (show 0 = s by omega)⟩
    exact e3.symm
  · have e2 := h0.mpr e.symm
    have p0 : p = 0 := e2.1.symm
    have s0 : s = 0 := e2.2.symm
    rw [p0, s0]; exact rf_00
  · have e2 := h0.mpr e.symm
    exact ⟨e2.1.symm, e2.2.symm, (k0 e.symm).symm⟩
/-! ===== X's windows ===== -/
/-- the walk from a noted reference to the LIVE record of greatest key at most q -/
theorem xw_low (I : zz_XK n m xFt xHc xKs xSt xLk (zr_0 :: C) F) {s p id : Nat} {w q : Int32} (hR : zz_Rf (zr_0 :: C) m last s p id w) (hq : -1 ≤ q.toInt) (hw : w.toInt ≤ q.toInt) :
    ∃ b c, (∀ post : Int32 → Prop, post (nI (zr_p b)) → wpX_startPlace post (xFt, xHc, xLc, xCl, xLf, xKs, xSt, xLk, xPh, xOk, xOy, xRs, xLr, xLw, xUr, xUw) (rf_of s p)) ∧ (∀ post : Int32 → Prop, post (nI (zr_p c)) → wpX_lastLive post (xFt, xHc, xLc, xCl, xLf, xKs, xSt, xLk, xPh, xOk, xOy, xRs, xLr, xLw, xUr, xUw) (nI (zr_p b)) q) ∧ zz_GL (zr_0 :: C) q.toInt c := by
  obtain ⟨h1, h2, h3, h4, h5⟩ := hR
  obtain ⟨b, hb, hd, hb2, H⟩ := xw_start (xLc := xLc) (xCl := xCl) (xLf := xLf) (xPh := xPh) (xOk := xOk) (xOy := xOy) (xRs := xRs) (xLr := xLr) (xLw := xLw) (xUr := xUr) (xUw := xUw) I h1 h2
  obtain ⟨A, R, e⟩ := List.append_of_mem hb
  refine ⟨b, zz_ll q b R, H, fun post h => xw_ll I q e h, zz_ll_GL q (xk_srt I) e hd ?_⟩
  rcases hb2 with z | z
  · rw [z, zr_K0]; exact hq
  · have hk := h5 b hb ((h4 b hb).mp z)
    unfold zr_K
    rw [hk]; exact hw
/-- what lies behind such a record: the next LIVE one; the sweep up to it -/
theorem xw_win (I : zz_XK n m xFt xHc xKs xSt xLk (zr_0 :: C) F) {q : Int} {c : zr_T} (g : zz_GL (zr_0 :: C) q c) :
    ∃ a, zz_LA C q a ∧ (∀ post : Int32 → Prop, post (nI (zr_p a)) → wpX_liveAfter post (xFt, xHc, xLc, xCl, xLf, xKs, xSt, xLk, xPh, xOk, xOy, xRs, xLr, xLw, xUr, xUw) (nI (zr_p c))) ∧
      ∃ (ft' hc' : Int32) (st' lk' : Nat → Int32) (F' : List Nat), zz_XK n m ft' hc' xKs st' lk' (zr_0 :: zz_sw (zr_K c) (zz_hk a) C) F' ∧
        (∀ post : SX → Prop, post (ft', hc', xLc, xCl, xLf, xKs, st', lk', xPh, xOk, xOy, xRs, xLr, xLw, xUr, xUw) → wpX_sweepAfter post (xFt, xHc, xLc, xCl, xLf, xKs, xSt, xLk, xPh, xOk, xOy, xRs, xLr, xLw, xUr, xUw) (nI (zr_p c))) ∧
        ∃ A R, zr_0 :: zz_sw (zr_K c) (zz_hk a) C = A ++ c :: R ∧ zz_hr R = a := by
  obtain ⟨A, R, e⟩ := List.append_of_mem g.1
  have hla : ∀ post : Int32 → Prop, post (nI (zr_p (zz_hr (R.dropWhile zr_d)))) → wpX_liveAfter post (xFt, xHc, xLc, xCl, xLf, xKs, xSt, xLk, xPh, xOk, xOy, xRs, xLr, xLw, xUr, xUw) (nI (zr_p c)) := fun post h => xw_la I e (by rw [zz_hr_p] at h; exact h)
  have eR : R = R.takeWhile zr_d ++ R.dropWhile zr_d := List.takeWhile_append_dropWhile.symm
  have hD := zz_take_d R
  have hB := zz_lh_drop R
  have tl := (xk_tails I e).1
  generalize R.takeWhile zr_d = D at eR hD
  generalize R.dropWhile zr_d = B at eR hB hla
  subst eR
  obtain ⟨ft', hc', st', lk', F', J, H⟩ := xw_sw (xLc := xLc) (xCl := xCl) (xLf := xLf) (xPh := xPh) (xOk := xOk) (xOy := xOy) (xRs := xRs) (xLr := xLr) (xLw := xLw) (xUr := xUr) (xUw := xUw) I e g.2.1 hD hB
  have es := zz_sw_of (xk_srt I) (fun x hx => xk_top I hx) e g.2.1 hD hB (fun x hx => tl x (by simp [hx]))
  refine ⟨zz_hr B, zz_LA_of (xk_srt I) g e hD hB, hla, ft', hc', st', lk', F', ?_, H, A, B, es.symm, rfl⟩
  rw [← es]; exact J
end
end
section
def zz_h32 (a : zr_T) : Int32 := if zr_p a = 0 then 10000 else zr_k a
theorem zh_toInt (a : zr_T) : (zz_h32 a).toInt = zz_hk a := by
  unfold zz_h32 zz_hk
  by_cases h : zr_p a = 0
  · rw [if_pos h, if_pos h]; decide
  · rw [if_neg h, if_neg h]; rfl
theorem ze_i0 : lN (zr_i zr_0) = 0 := by decide
theorem zl_LA {C : List zr_T} {q : Int} {a : zr_T} (h : zz_LA C q a) : a ∈ zr_0 :: C := by
  rcases h with h | h
  · rw [h.1]; exact List.mem_cons_self
  · exact List.mem_cons_of_mem _ h.1
section
variable {b n m last lf t : Nat} {C : List zr_T} {F : List Nat} {c a : zr_T} {xFt xHc xLc xCl xLf : Int32} {xKs xSt xLk xPh xOk xOy xRs xLr xLw xUr xUw : Nat → Int32} {yCe : Int32} {yLf : Int32} {yLn : Int32} {yLd : Int64} {yS : Nat → Int32} {yK : Nat → Int32} {yI : Nat → Int64} {yPh : Nat → Int32} {yOk : Nat → Int32} {yOy : Nat → Int32} {yRs : Nat → Int32} {yPo : Nat → Int32} {yLi : Nat → Int64} {yLw : Nat → Int32} {yUi : Nat → Int64} {yUw : Nat → Int32} {yMi : Nat → Int64}
theorem yv_cas (Y : zz_YC last yS yK yI C) (hc : c ∈ zr_0 :: C) : c = zr_0 ∨ (c ∈ C ∧ ∃ i, i < 16 ∧ zr_s c = nI i ∧ yK i = zr_k c ∧ yI i = lN (zr_i c)) := by
  rcases List.mem_cons.mp hc with h | h
  · exact Or.inl h
  · obtain ⟨i, h1, h2, h3, h4, h5, _⟩ := Y.1 c h
    exact Or.inr ⟨h, i, h1, h2, h4, h5⟩
theorem yv_k {Q : Int32 → Prop} (Y : zz_YC last yS yK yI C) (hc : c ∈ zr_0 :: C) (h : Q (zr_k c)) : (0 ≤ zr_s c → (vp_in (zr_s c) 16 ∧ Q (yK (zr_s c).toNatClampNeg))) ∧ (¬ 0 ≤ zr_s c → Q (-1)) := by
  rcases yv_cas Y hc with e | ⟨_, i, h1, h2, h3, _⟩
  · rw [e] at h ⊢; exact br_f (by decide) h
  · rw [h2, zc_n (by omega), h3]; exact br_t (nI_pos' (by omega)) ⟨zv_16 h1, h⟩
theorem yv_h {Q : Int32 → Prop} (Y : zz_YC last yS yK yI C) (hz : ∀ x, x ∈ C → zr_p x ≠ 0) (hc : c ∈ zr_0 :: C) (h : Q (zz_h32 c)) : (0 ≤ zr_s c → (vp_in (zr_s c) 16 ∧ Q (yK (zr_s c).toNatClampNeg))) ∧ (¬ 0 ≤ zr_s c → Q 10000) := by
  rcases yv_cas Y hc with e | ⟨hcC, i, h1, h2, h3, _⟩
  · rw [e] at h ⊢; exact br_f (by decide) h
  · have e2 : zz_h32 c = zr_k c := if_neg (hz c hcC)
    rw [e2] at h
    rw [h2, zc_n (by omega), h3]; exact br_t (nI_pos' (by omega)) ⟨zv_16 h1, h⟩
theorem yv_i {Q : Int64 → Prop} (Y : zz_YC last yS yK yI C) (hc : c ∈ zr_0 :: C) (h : Q (lN (zr_i c))) : (0 ≤ zr_s c → (vp_in (zr_s c) 16 ∧ Q (yI (zr_s c).toNatClampNeg))) ∧ (¬ 0 ≤ zr_s c → Q 0) := by
  rcases yv_cas Y hc with e | ⟨_, i, h1, h2, _, h3⟩
  · rw [e] at h ⊢; rw [ze_i0] at h; exact br_f (by decide) h
  · rw [h2, zc_n (by omega), h3]; exact br_t (nI_pos' (by omega)) ⟨zv_16 h1, h⟩
/-! ===== seek ===== -/
theorem xs_65 {post : Int32 → SX → Prop} {K : List zr_T} (ht : t < 4) (I : zz_XK n m xFt xHc xKs xSt xLk K F) (hc : c ∈ K) (ha : a ∈ K) (h : post 5 (xFt, xHc, xLc, xCl, xLf, xKs, xSt, xLk, upd xPh t 2, xOk, xOy, xRs, upd xLr t (rf_of (zr_v c) (zr_p c)), upd xLw t (zr_k c), upd xUr t (rf_of (zr_v a) (zr_p a)), upd xUw t (zr_k a))) : wX_seek_65 post (nI t) (nI (zr_p c)) (nI (zr_p a)) xFt xHc xLc xCl xLf xKs xSt xLk xPh xOk xOy xRs xLr xLw xUr xUw := by
  have d := xk_dat I ha
  refine xw_setLow ht I hc (xw_ref I ha (And.intro (zv_4 ht) (nm_r (zc_u (by omega)) (And.intro (zv_32 d.1) (And.intro (zv_4 ht) (nm_r (e' := upd xUw t (zr_k a)) ?_ (And.intro (zv_4 ht) (nm_r (zc_u (by omega)) h))))))))
  rw [zc_u (by omega), zc_n d.1, d.2.1]
theorem xs_seek {s p id : Nat} (ht : t < 4) (I : zz_XK n m xFt xHc xKs xSt xLk (zr_0 :: C) F) (hlr : xLr t = rf_of s p) (hR : zz_Rf (zr_0 :: C) m last s p id (xLw t)) (hw : -1 ≤ (xLw t).toInt) :
    ∃ c a, zz_GL (zr_0 :: C) (xLw t).toInt c ∧ zz_LA C (xLw t).toInt a ∧ ∃ (ft' hc' : Int32) (st' lk' : Nat → Int32) (F' : List Nat), zz_XK n m ft' hc' xKs st' lk' (zr_0 :: zz_sw (zr_K c) (zz_hk a) C) F' ∧ c ∈ zr_0 :: zz_sw (zr_K c) (zz_hk a) C ∧ a ∈ zr_0 :: zz_sw (zr_K c) (zz_hk a) C ∧
      ((zr_p a ≠ 0 ∧ zr_k a < xOy t) → ∀ post : Int32 → SX → Prop, post 4 (ft', hc', xLc, xCl, xLf, xKs, st', lk', xPh, xOk, xOy, xRs, upd xLr t (rf_of (zr_v a) (zr_p a)), upd xLw t (zr_k a), xUr, xUw) → wpX_seek post (xFt, xHc, xLc, xCl, xLf, xKs, xSt, xLk, xPh, xOk, xOy, xRs, xLr, xLw, xUr, xUw) (nI t)) ∧
      (¬ (zr_p a ≠ 0 ∧ zr_k a < xOy t) → ∀ post : Int32 → SX → Prop, post 5 (ft', hc', xLc, xCl, xLf, xKs, st', lk', upd xPh t 2, xOk, xOy, xRs, upd xLr t (rf_of (zr_v c) (zr_p c)), upd xLw t (zr_k c), upd xUr t (rf_of (zr_v a) (zr_p a)), upd xUw t (zr_k a)) → wpX_seek post (xFt, xHc, xLc, xCl, xLf, xKs, xSt, xLk, xPh, xOk, xOy, xRs, xLr, xLw, xUr, xUw) (nI t)) := by
  obtain ⟨bb, c, H1, H2, g⟩ := xw_low (xLc := xLc) (xCl := xCl) (xLf := xLf) (xPh := xPh) (xOk := xOk) (xOy := xOy) (xRs := xRs) (xLr := xLr) (xLw := xLw) (xUr := xUr) (xUw := xUw) I hR hw (Int.le_refl _)
  obtain ⟨a, la, _, ft', hc', st', lk', F', J, H3, A, R, e, ea⟩ := xw_win (xLc := xLc) (xCl := xCl) (xLf := xLf) (xPh := xPh) (xOk := xOk) (xOy := xOy) (xRs := xRs) (xLr := xLr) (xLw := xLw) (xUr := xUr) (xUw := xUw) I g
  have hcm : c ∈ zr_0 :: zz_sw (zr_K c) (zz_hk a) C := by rw [e]; simp
  have ham : a ∈ zr_0 :: zz_sw (zr_K c) (zz_hk a) C := by
    cases R with
    | nil => rw [← ea]; exact List.mem_cons_self
    | cons d R => rw [e, ← ea]; show d ∈ A ++ c :: d :: R; simp
  have d := xk_dat J ham
  have ehd : zz_hd R 0 = zr_p a := by rw [← ea, zz_hr_p]
  refine ⟨c, a, g, la, ft', hc', st', lk', F', J, hcm, ham, fun hy post h => ?_, fun hy post h => ?_⟩
  · unfold wpX_seek
    dsimp only
    rw [zc_n (t := t) (by omega), hlr]
    refine ⟨zv_4 ht, H1 _ ⟨zv_4 ht, H2 _ (H3 _ (xw_next J e ?_))⟩⟩
    rw [ehd]
    refine br_f (nI_ne0 (Nat.pos_of_ne_zero hy.1) (by omega)) ⟨zv_32 d.1, zv_4 ht, ?_⟩
    dsimp only
    rw [zc_n d.1, d.2.1]
    exact br_f (Int32.not_le.mpr hy.2) (xw_setLow ht J ham h)
  · unfold wpX_seek
    dsimp only
    rw [zc_n (t := t) (by omega), hlr]
    refine ⟨zv_4 ht, H1 _ ⟨zv_4 ht, H2 _ (H3 _ (xw_next J e ?_))⟩⟩
    rw [ehd]
    refine br_c (fun _ => xs_65 ht J hcm ham h) (fun h0 => ⟨zv_32 d.1, zv_4 ht, ?_⟩)
    dsimp only
    rw [zc_n d.1, d.2.1]
    refine br_t (Int32.not_lt.mp (fun z => hy ⟨fun w => h0 (by rw [w]; rfl), z⟩)) (xs_65 ht J hcm ham h)
theorem ys_89 {post : Int32 → SY → Prop} (ht : t < 4) (Y : zz_YC last yS yK yI C) {y0 : Nat → Int32} (hc : c ∈ zr_0 :: C) (ha : a ∈ zr_0 :: C) (h : post 5 (yCe, yLf, yLn, yLd, y0, yK, yI, upd yPh t 2, yOk, yOy, yRs, yPo, vp_updL yLi t (lN (zr_i c)), upd yLw t (zr_k c), vp_updL yUi t (lN (zr_i a)), upd yUw t (zz_h32 a), yMi)) : wY_seek_89 post (nI t) (zr_s c) (zr_s a) (zr_k c) (zz_h32 a) yCe yLf yLn yLd y0 yK yI yPh yOk yOy yRs yPo yLi yLw yUi yUw yMi := by
  refine yv_i (Q := fun z => wY_seek_108 post (nI t) (zr_s a) (zr_k c) (zz_h32 a) z (nI t) yCe yLf yLn yLd y0 yK yI yPh yOk yOy yRs yPo yLi yLw yUi yUw yMi) Y hc ?_
  refine And.intro (zv_4 ht) (nm_r (zc_uL (by omega)) (And.intro (zv_4 ht) (nm_r (zc_u (by omega)) ?_)))
  refine yv_i (Q := fun z => wY_seek_136 post (nI t) (zz_h32 a) z (nI t) yCe yLf yLn yLd y0 yK yI yPh yOk yOy yRs yPo (vp_updL yLi t (lN (zr_i c))) (upd yLw t (zr_k c)) yUi yUw yMi) Y ha ?_
  exact And.intro (zv_4 ht) (nm_r (zc_uL (by omega)) (And.intro (zv_4 ht) (nm_r (zc_u (by omega)) (And.intro (zv_4 ht) (nm_r (zc_u (by omega)) h)))))
theorem ys_seek {post : Int32 → SY → Prop} (ht : t < 4) (Y : zz_YC last yS yK yI C) (srt : (zr_0 :: C).Pairwise (fun a b => zr_K a < zr_K b)) (hz : ∀ x, x ∈ C → zr_p x ≠ 0) (g : zz_GL (zr_0 :: C) (yPo t).toInt c) (la : zz_LA C (yPo t).toInt a)
    (h4 : (zr_p a ≠ 0 ∧ zr_k a < yOy t) → post 4 (yCe, yLf, yLn, yLd, zz_sS yS yK (zr_k c) (zz_h32 a) 16, yK, yI, yPh, yOk, yOy, yRs, upd yPo t (zr_k a), yLi, yLw, yUi, yUw, yMi))
    (h5 : ¬ (zr_p a ≠ 0 ∧ zr_k a < yOy t) → post 5 (yCe, yLf, yLn, yLd, zz_sS yS yK (zr_k c) (zz_h32 a) 16, yK, yI, upd yPh t 2, yOk, yOy, yRs, yPo, vp_updL yLi t (lN (zr_i c)), upd yLw t (zr_k c), vp_updL yUi t (lN (zr_i a)), upd yUw t (zz_h32 a), yMi)) : wpY_seek post (yCe, yLf, yLn, yLd, yS, yK, yI, yPh, yOk, yOy, yRs, yPo, yLi, yLw, yUi, yUw, yMi) (nI t) := by
  have ham := zl_LA la
  unfold wpY_seek
  dsimp only
  rw [zc_n (t := t) (by omega)]
  refine ⟨zv_4 ht, yw_am Y srt g ⟨zv_4 ht, yw_ab Y srt la ?_⟩⟩
  refine yv_k (Q := fun z => wY_seek_36 post (nI t) (zr_s c) (zr_s a) z yCe yLf yLn yLd yS yK yI yPh yOk yOy yRs yPo yLi yLw yUi yUw yMi) Y g.1 ?_
  refine yv_h (Q := fun z => wY_seek_54 post (nI t) (zr_s c) (zr_s a) (zr_k c) z yCe yLf yLn yLd yS yK yI yPh yOk yOy yRs yPo yLi yLw yUi yUw yMi) Y hz ham ?_
  refine yw_sweep ?_
  rcases yv_cas Y ham with e | ⟨haC, i, h1, h2, h3, _⟩
  · refine br_t (by rw [e]; decide) (ys_89 ht Y g.1 ham (h5 (fun z => z.1 (by rw [e]; rfl))))
  · have e2 : zz_h32 a = zr_k a := if_neg (hz a haC)
    refine br_f (by rw [h2]; exact nI_pos (by omega)) (And.intro (zv_4 ht) ?_)
    rw [zc_n (t := t) (by omega)]
    refine br_c (fun hle => ys_89 ht Y g.1 ham (h5 (fun z => ?_))) (fun hle => And.intro (zv_4 ht) (nm_e ?_))
    · rw [e2] at hle; exact absurd z.2 (Int32.not_lt.mpr hle)
    · rw [e2] at hle
      have := h4 ⟨hz a haC, Int32.not_le.mp hle⟩
      rw [e2] at this ⊢
      exact this
end
end
section
/-! ===== freshness ===== -/
def zz_fv (l u g : Bool) : Int32 := cond g (cond u (cond l (0 + 1) 0 + 2) (cond l (0 + 1) 0) + 4) (cond u (cond l (0 + 1) 0 + 2) (cond l (0 + 1) 0))
theorem zf_7 : ∀ l u g : Bool, zz_fv l u g = 7 ↔ (l = true ∧ u = true ∧ g = true) := by decide
def zz_liv (K : List zr_T) (id : Nat) (l : Bool) : Prop := l = true ↔ ∃ c, c ∈ K ∧ zr_i c = id ∧ zr_d c = false
def zz_gap (C : List zr_T) (q : Int) (id : Nat) (w : Int32) (g : Bool) : Prop := ∃ a, zz_LA C q a ∧ (g = true ↔ (zr_p a = 0 ∨ (id ≠ 0 ∧ ¬ zr_k a < w)))
theorem zl_LAu {C : List zr_T} {q : Int} {a a' : zr_T} (srt : (zr_0 :: C).Pairwise (fun a b => zr_K a < zr_K b)) (h : zz_LA C q a) (h' : zz_LA C q a') : a = a' := by
  rcases h with ⟨h1, h2⟩ | ⟨h1, h2, h3, h4⟩ <;> rcases h' with ⟨g1, g2⟩ | ⟨g1, g2, g3, g4⟩
  · rw [h1, g1]
  · have := h2 a' g1 g2; omega
  · have := g2 a h1 h2; omega
  · have e1 := h4 a' g1 g2 g3
    have e2 := g4 a h1 h2 h3
    exact zl_sort srt a (List.mem_cons_of_mem _ h1) a' (List.mem_cons_of_mem _ g1) (by omega)
section
variable {b n m last lf t : Nat} {C : List zr_T} {F : List Nat} {c a : zr_T} {xFt xHc xLc xCl xLf : Int32} {xKs xSt xLk xPh xOk xOy xRs xLr xLw xUr xUw : Nat → Int32} {yCe : Int32} {yLf : Int32} {yLn : Int32} {yLd : Int64} {yS : Nat → Int32} {yK : Nat → Int32} {yI : Nat → Int64} {yPh : Nat → Int32} {yOk : Nat → Int32} {yOy : Nat → Int32} {yRs : Nat → Int32} {yPo : Nat → Int32} {yLi : Nat → Int64} {yLw : Nat → Int32} {yUi : Nat → Int64} {yUw : Nat → Int32} {yMi : Nat → Int64}
theorem xw_liv {s p id : Nat} {w : Int32} (I : zz_XK n m xFt xHc xKs xSt xLk (zr_0 :: C) F) (hR : zz_Rf (zr_0 :: C) m last s p id w) : ∃ l, zz_liv (zr_0 :: C) id l ∧ ∀ post : Int32 → Prop, post (cond l 1 0) → wpX_isLive post (xFt, xHc, xLc, xCl, xLf, xKs, xSt, xLk, xPh, xOk, xOy, xRs, xLr, xLw, xUr, xUw) (rf_of s p) := by
  obtain ⟨h1, h2, h3, h4, h5⟩ := hR
  by_cases h : ∃ c, c ∈ zr_0 :: C ∧ zr_i c = id ∧ zr_d c = false
  · refine ⟨true, ⟨fun _ => h, fun _ => rfl⟩, fun post hp => ?_⟩
    obtain ⟨c, hc, hi, hd⟩ := h
    have hcr := (h4 c hc).mpr hi
    refine xw_live I h1 h2 (fun _ _ _ _ _ => hp) (fun x hx hx1 hx2 hx3 => ?_) (fun z => absurd hcr (z c hc))
    rw [xk_inj I hx hc (hx1.trans hcr.1.symm)] at hx3
    exact (zd_no hx3 hd).elim
  · refine ⟨false, ⟨fun z => (nomatch z), fun z => absurd z h⟩, fun post hp => ?_⟩
    exact xw_live I h1 h2 (fun x hx hx1 hx2 hx3 => absurd ⟨x, hx, (h4 x hx).mp ⟨hx1, hx2⟩, hx3⟩ h) (fun _ _ _ _ _ => hp) (fun _ => hp)
theorem xw_gap {s p id s2 p2 id2 : Nat} (ht : t < 4) (I : zz_XK n m xFt xHc xKs xSt xLk (zr_0 :: C) F) (hlr : xLr t = rf_of s p) (hR : zz_Rf (zr_0 :: C) m last s p id (xLw t)) (hw : -1 ≤ (xLw t).toInt) (hur : xUr t = rf_of s2 p2) (hR2 : zz_Rf (zr_0 :: C) m last s2 p2 id2 (xUw t)) :
    ∃ g, zz_gap C (xLw t).toInt id2 (xUw t) g ∧ ∀ post : Int32 → Prop, post (cond g 1 0) → wpX_isGapEmpty post (xFt, xHc, xLc, xCl, xLf, xKs, xSt, xLk, xPh, xOk, xOy, xRs, xLr, xLw, xUr, xUw) (nI t) := by
  obtain ⟨bb, c, H1, H2, g⟩ := xw_low (xLc := xLc) (xCl := xCl) (xLf := xLf) (xPh := xPh) (xOk := xOk) (xOy := xOy) (xRs := xRs) (xLr := xLr) (xLw := xLw) (xUr := xUr) (xUw := xUw) I hR hw (Int.le_refl _)
  obtain ⟨a, la, H3, _⟩ := xw_win (xLc := xLc) (xCl := xCl) (xLf := xLf) (xPh := xPh) (xOk := xOk) (xOy := xOy) (xRs := xRs) (xLr := xLr) (xLw := xLw) (xUr := xUr) (xUw := xUw) I g
  have d := xk_dat I (zl_LA la)
  have r0 := (rx_0 hR2 (xk_m I)).1
  have wp : ∀ post : Int32 → Prop, ((zr_p a = 0 ∨ (id2 ≠ 0 ∧ ¬ zr_k a < xUw t)) → post 1) → (¬ (zr_p a = 0 ∨ (id2 ≠ 0 ∧ ¬ zr_k a < xUw t)) → post 0) → wpX_isGapEmpty post (xFt, xHc, xLc, xCl, xLf, xKs, xSt, xLk, xPh, xOk, xOy, xRs, xLr, xLw, xUr, xUw) (nI t) := by
    intro post p1 p0
    unfold wpX_isGapEmpty
    dsimp only
    rw [zc_n (t := t) (by omega), hlr, hur]
    refine ⟨zv_4 ht, H1 _ ⟨zv_4 ht, H2 _ (H3 _ ?_)⟩⟩
    rw [zc_n d.1, d.2.1]
    refine br_c (fun h0 => p1 (Or.inl ?_)) (fun h0 => ⟨zv_4 ht, br_c (fun hu => p0 ?_) (fun hu => ⟨zv_32 d.1, zv_4 ht, br_c (fun hk => p0 ?_) (fun hk => p1 (Or.inr ⟨fun z => hu (r0.mpr z), hk⟩))⟩)⟩)
    · by_cases z : zr_p a = 0
      · exact z
      · exact absurd h0 (nI_ne0 (Nat.pos_of_ne_zero z) (by omega))
    · rintro (z | z)
      · exact h0 (by rw [z]; rfl)
      · exact z.1 (r0.mp hu)
    · rintro (z | z)
      · exact h0 (by rw [z]; rfl)
      · exact z.2 hk
  by_cases h : zr_p a = 0 ∨ (id2 ≠ 0 ∧ ¬ zr_k a < xUw t)
  · exact ⟨true, ⟨a, la, ⟨fun _ => h, fun _ => rfl⟩⟩, fun post hp => wp post (fun _ => hp) (fun z => absurd h z)⟩
  · exact ⟨false, ⟨a, la, ⟨fun z => (nomatch z), fun z => absurd z h⟩⟩, fun post hp => wp post (fun z => absurd z h) (fun _ => hp)⟩
theorem xw_fresh {s p id s2 p2 id2 : Nat} (ht : t < 4) (I : zz_XK n m xFt xHc xKs xSt xLk (zr_0 :: C) F) (hlr : xLr t = rf_of s p) (hR : zz_Rf (zr_0 :: C) m last s p id (xLw t)) (hw : -1 ≤ (xLw t).toInt) (hur : xUr t = rf_of s2 p2) (hR2 : zz_Rf (zr_0 :: C) m last s2 p2 id2 (xUw t)) :
    ∃ l u g, zz_liv (zr_0 :: C) id l ∧ zz_liv (zr_0 :: C) id2 u ∧ zz_gap C (xLw t).toInt id2 (xUw t) g ∧ ∀ post : Int32 → Prop, post (zz_fv l u g) → wpX_freshness post (xFt, xHc, xLc, xCl, xLf, xKs, xSt, xLk, xPh, xOk, xOy, xRs, xLr, xLw, xUr, xUw) (nI t) := by
  obtain ⟨l, hl, Hl⟩ := xw_liv (xLc := xLc) (xCl := xCl) (xLf := xLf) (xPh := xPh) (xOk := xOk) (xOy := xOy) (xRs := xRs) (xLr := xLr) (xLw := xLw) (xUr := xUr) (xUw := xUw) I hR
  obtain ⟨u, hu, Hu⟩ := xw_liv (xLc := xLc) (xCl := xCl) (xLf := xLf) (xPh := xPh) (xOk := xOk) (xOy := xOy) (xRs := xRs) (xLr := xLr) (xLw := xLw) (xUr := xUr) (xUw := xUw) I hR2
  obtain ⟨g, hg, Hg⟩ := xw_gap (xLc := xLc) (xCl := xCl) (xLf := xLf) (xPh := xPh) (xOk := xOk) (xOy := xOy) (xRs := xRs) ht I hlr hR hw hur hR2
  refine ⟨l, u, g, hl, hu, hg, fun post hp => ?_⟩
  have s34 : ∀ x : Int32, post (cond g (x + 4) x) → wX_freshness_34 post (nI t) x xFt xHc xLc xCl xLf xKs xSt xLk xPh xOk xOy xRs xLr xLw xUr xUw := by
    intro x hx
    refine Hg _ ?_
    cases g
    · exact br_t rfl hx
    · exact br_f (by decide) (nm_e hx)
  have s18 : ∀ x : Int32, post (cond g (cond u (x + 2) x + 4) (cond u (x + 2) x)) → wX_freshness_18 post (nI t) x xFt xHc xLc xCl xLf xKs xSt xLk xPh xOk xOy xRs xLr xLw xUr xUw := by
    intro x hx
    unfold wX_freshness_18
    rw [zc_n (t := t) (by omega), hur]
    refine ⟨zv_4 ht, Hu _ ?_⟩
    cases u
    · exact br_t rfl (s34 _ hx)
    · exact br_f (by decide) (nm_e (s34 _ hx))
  unfold wpX_freshness
  dsimp only
  rw [zc_n (t := t) (by omega), hlr]
  refine ⟨zv_4 ht, Hl _ ?_⟩
  cases l
  · exact br_t rfl (s18 _ hp)
  · exact br_f (by decide) (nm_e (s18 _ hp))
/-- Y asks after a record: none, or its fate -/
theorem yv_live {Q1 Q0 : Prop} {id : Nat} {l : Bool} (ht : t < 4) (Y : zz_YC last yS yK yI C) (hid : id ≤ last) (hl : zz_liv (zr_0 :: C) id l) (h1 : l = true → Q1) (h0 : l = false → Q0) : (lN id = 0 → Q1) ∧ (¬ lN id = 0 → (vp_in (nI t) 4 ∧ wpY_fate (fun r => (r = 1 → Q1) ∧ (¬ r = 1 → Q0)) (yCe, yLf, yLn, yLd, yS, yK, yI, yPh, yOk, yOy, yRs, yPo, yLi, yLw, yUi, yUw, yMi) (lN id))) := by
  have hb := Y.2.2.2.2
  have e0 : lN id = 0 ↔ id = 0 := lN_eq (a := id) (b := 0) (by omega) (by omega)
  refine br_c (fun z => h1 (hl.mpr ⟨zr_0, by simp, (e0.mp z).symm, rfl⟩)) (fun z => And.intro (zv_4 ht) (yw_fate Y hid (fun c hc hi => ?_) (fun hn => br_f (by decide) (h0 ?_))))
  · refine br_c (fun w => h1 (hl.mpr ⟨c, List.mem_cons_of_mem _ hc, hi, zt_1.mp w⟩)) (fun w => h0 ?_)
    cases e : l
    · rfl
    · obtain ⟨x, hx, hxi, hxd⟩ := hl.mp e
      have : x = c := yc_id Y x hx c (List.mem_cons_of_mem _ hc) (hxi.trans hi.symm)
      rw [this] at hxd
      exact absurd (zt_1.mpr hxd) w
  · cases e : l
    · rfl
    · obtain ⟨x, hx, hxi, hxd⟩ := hl.mp e
      rcases List.mem_cons.mp hx with w | w
      · rw [w] at hxi; exact absurd (e0.mpr hxi.symm) z
      · exact absurd hxi (hn x w)
theorem yw_fresh {id id2 : Nat} {l u g : Bool} {w uw : Int32} {post : Int32 → Prop} (ht : t < 4) (hm : ∀ x, x ∈ C → zr_p x ≠ 0) (top : ∀ x, x ∈ C → zr_K x ≤ 9999) (Y : zz_YC last yS yK yI C) (srt : (zr_0 :: C).Pairwise (fun a b => zr_K a < zr_K b)) (hph : yPh t = 2) (hid : id ≤ last) (hid2 : id2 ≤ last) (hli : yLi t = lN id) (hui : yUi t = lN id2) (hlw : yLw t = w) (huw : (id2 = 0 ∧ yUw t = 10000) ∨ (id2 ≠ 0 ∧ yUw t = uw)) (hl : zz_liv (zr_0 :: C) id l) (hu : zz_liv (zr_0 :: C) id2 u) (hg : zz_gap C w.toInt id2 uw g) (h : post (zz_fv l u g)) : wpY_fresh post (yCe, yLf, yLn, yLd, yS, yK, yI, yPh, yOk, yOy, yRs, yPo, yLi, yLw, yUi, yUw, yMi) (nI t) := by
  obtain ⟨a, la, hga⟩ := hg
  have s109 : ∀ x : Int32, post (cond g (x + 4) x) → wY_fresh_109 post (nI t) x yCe yLf yLn yLd yS yK yI yPh yOk yOy yRs yPo yLi yLw yUi yUw yMi := by
    intro x hx
    unfold wY_fresh_109
    rw [zc_n (t := t) (by omega), hlw]
    refine ⟨zv_4 ht, yw_ab Y srt la ?_⟩
    rcases yv_cas Y (zl_LA la) with e | ⟨haC, i, i1, i2, i3, _⟩
    · have gt : g = true := hga.mpr (Or.inl (by rw [e]; rfl))
      rw [gt] at hx
      exact br_t (by rw [e]; decide) (nm_e hx)
    · refine br_f (by rw [i2]; exact nI_pos (by omega)) (And.intro (by rw [i2]; exact zv_16 i1) (And.intro (zv_4 ht) ?_))
      rw [i2, zc_n (t := i) (by omega), i3]
      have np := hm a haC
      refine br_c (fun hk => ?_) (fun hk => nm_e ?_)
      · have gf : g = false := by
          cases e : g
          · rfl
          · rcases hga.mp e with z | ⟨z1, z2⟩
            · exact absurd z np
            · rcases huw with ⟨q1, q2⟩ | ⟨q1, q2⟩
              · exact absurd q1 z1
              · rw [q2] at hk; exact absurd hk z2
        rw [gf] at hx; exact hx
      · have gt : g = true := by
          refine hga.mpr (Or.inr ?_)
          rcases huw with ⟨q1, q2⟩ | ⟨q1, q2⟩
          · exfalso
            rw [q2] at hk
            have h1 := top a haC
            apply hk
            rw [Int32.lt_iff_toInt_lt]
            show zr_K a < (10000 : Int32).toInt
            rw [show (10000 : Int32).toInt = 10000 by decide]
            omega
          · rw [q2] at hk; exact ⟨q1, hk⟩
        rw [gt] at hx; exact hx
  have s81 : ∀ x : Int32, post (cond g (cond u (x + 2) x + 4) (cond u (x + 2) x)) → wY_fresh_81 post (nI t) x yCe yLf yLn yLd yS yK yI yPh yOk yOy yRs yPo yLi yLw yUi yUw yMi := by
    intro x hx
    unfold wY_fresh_81
    rw [zc_n (t := t) (by omega), hui]
    refine ⟨zv_4 ht, yv_live ht Y hid2 hu (fun e => ?_) (fun e => ?_)⟩
    · rw [e] at hx; exact nm_e (s109 _ hx)
    · rw [e] at hx; exact s109 _ hx
  unfold wpY_fresh
  dsimp only
  refine yw_bad0 ht (br_t rfl ?_)
  rw [zc_n (t := t) (by omega), hph, hli]
  refine ⟨zv_4 ht, br_f (by decide) ⟨zv_4 ht, br_t rfl ⟨zv_4 ht, yv_live ht Y hid hl (fun e => ?_) (fun e => ?_)⟩⟩⟩
  · rw [e] at h; exact nm_e (s81 _ h)
  · rw [e] at h; exact s81 _ h
end
end
section
/-! ===== both sides' steps as one outcome ===== -/
def zz_ans (r : Int32) : Prop := (r = 0 ∨ r = 3) ∨ (r = 4 ∨ r = 5 ∨ r = 6 ∨ r = 7) ∨ (r = 8 ∨ r = 9 ∨ r = 10 ∨ r = 11)
def zz_J (b : Nat) (WX : (Int32 → SX → Prop) → Prop) (WY : (Int32 → SY → Prop) → Prop) : Prop := ∃ r u' v', zz_ans r ∧ zz_R b u' v' ∧ (∀ post : Int32 → SX → Prop, post r u' → WX post) ∧ (∀ post : Int32 → SY → Prop, post r v' → WY post)
theorem jt_mk {b : Nat} {WX : (Int32 → SX → Prop) → Prop} {WY : (Int32 → SY → Prop) → Prop} (r : Int32) (u' : SX) (v' : SY) (h1 : zz_ans r) (h2 : zz_R b u' v') (h3 : ∀ post : Int32 → SX → Prop, post r u' → WX post) (h4 : ∀ post : Int32 → SY → Prop, post r v' → WY post) : zz_J b WX WY := ⟨r, u', v', h1, h2, h3, h4⟩
section
variable {b n m last lf t : Nat} {C : List zr_T} {F : List Nat} {c a : zr_T} {xFt xHc xLc xCl xLf : Int32} {xKs xSt xLk xPh xOk xOy xRs xLr xLw xUr xUw : Nat → Int32} {yCe : Int32} {yLf : Int32} {yLn : Int32} {yLd : Int64} {yS : Nat → Int32} {yK : Nat → Int32} {yI : Nat → Int64} {yPh : Nat → Int32} {yOk : Nat → Int32} {yOy : Nat → Int32} {yRs : Nat → Int32} {yPo : Nat → Int32} {yLi : Nat → Int64} {yLw : Nat → Int32} {yUi : Nat → Int64} {yUw : Nat → Int32} {yMi : Nat → Int64}
theorem tt_ext {C' : List zr_T} {m' last' : Nat} (hT : zz_T m last C xPh xOk xOy xRs xLr xLw xUr xUw yPh yOk yOy yRs yPo yLi yLw yUi yUw yMi) (e : zz_Ext (zr_0 :: C) m last (zr_0 :: C') m' last') : zz_T m' last' C' xPh xOk xOy xRs xLr xLw xUr xUw yPh yOk yOy yRs yPo yLi yLw yUi yUw yMi := fun t ht => th_ext (hT t ht) e
theorem ex_sw {lo hi : Int} : zz_Ext (zr_0 :: C) m last (zr_0 :: zz_sw lo hi C) m last := ex_sub (fun x hx => by
  rcases List.mem_cons.mp hx with h | h
  · rw [h]; exact List.mem_cons_self
  · exact List.mem_cons_of_mem _ (zz_sw_mem.mp h).1)
theorem tt_fin (hT : zz_T m last C xPh xOk xOy xRs xLr xLw xUr xUw yPh yOk yOy yRs yPo yLi yLw yUi yUw yMi) (h1 : yOk t = xOk t) (h2 : yOy t = xOy t) (r : Int32) : zz_T m last C (upd xPh t 4) xOk xOy (upd xRs t r) xLr xLw xUr xUw (upd yPh t 4) yOk yOy (upd yRs t r) yPo yLi yLw yUi yUw yMi := by
  intro t' ht'
  by_cases e : t' = t
  · rw [e]
    simp only [pk_us]
    exact ⟨rfl, Or.inr (Or.inl ⟨rfl, h1, h2, rfl⟩)⟩
  · simp only [pk_un e]
    exact hT t' ht'
theorem tt_again (hT : zz_T m last C xPh xOk xOy xRs xLr xLw xUr xUw yPh yOk yOy yRs yPo yLi yLw yUi yUw yMi) (h0 : zz_Rf (zr_0 :: C) m last 0 0 0 (-1)) (h1 : yOk t = xOk t) (h2 : yOy t = xOy t) (h3 : xRs t = 0) (h4 : xOk t = 1 ∨ xOk t = 2 ∨ xOk t = 3) (h5 : 0 ≤ (xOy t).toInt) (h6 : (xOy t).toInt ≤ 9999) : zz_T m last C (upd xPh t 1) xOk xOy xRs (upd xLr t 0) (upd xLw t (-1)) (upd xUr t 0) (upd xUw t (-1)) (upd yPh t 1) yOk yOy yRs (upd yPo t (-1)) yLi yLw yUi yUw yMi := by
  intro t' ht'
  by_cases e : t' = t
  · rw [e]
    simp only [pk_us]
    have e1 : (-1 : Int32).toInt = -1 := by decide
    exact ⟨rfl, Or.inr (Or.inr ⟨h1, h2, h3, h4, h5, h6, 0, 0, 0, rf_00.symm, h0, by rw [e1]; exact Int.le_refl _, by rw [e1]; omega, Or.inl ⟨rfl, rfl⟩⟩)⟩
  · simp only [pk_un e]
    exact hT t' ht'
/-! ===== seek ===== -/
theorem jt_seek (ht : t < 4) (hC : zz_Co b n m last lf C F xFt xHc xLc xCl xLf xKs xSt xLk yCe yLf yLn yLd yS yK yI) (hT : zz_T m last C xPh xOk xOy xRs xLr xLw xUr xUw yPh yOk yOy yRs yPo yLi yLw yUi yUw yMi) (hph : xPh t = 1) : zz_J b (fun post => wpX_seek post (xFt, xHc, xLc, xCl, xLf, xKs, xSt, xLk, xPh, xOk, xOy, xRs, xLr, xLw, xUr, xUw) (nI t)) (fun post => wpY_seek post (yCe, yLf, yLn, yLd, yS, yK, yI, yPh, yOk, yOy, yRs, yPo, yLi, yLw, yUi, yUw, yMi) (nI t)) := by
  obtain ⟨c1, c2, c3, c4, c5, c6, c7, c8, c9, c10, I, Y⟩ := hC
  obtain ⟨hp, hTt⟩ := hT t ht
  rw [hph] at hTt
  rcases hTt with h | h | ⟨h1, h2, h3, h4, h5, h6, s, p, id, h7, h8, h9, h10, h11⟩
  · exact absurd h.1 (by decide)
  · exact absurd h.1 (by decide)
  rcases h11 with ⟨_, hpo⟩ | h | h
  rotate_left
  · exact absurd h.1 (by decide)
  · exact absurd h.1 (by decide)
  obtain ⟨c, a, g, la, ft', hc', st', lk', F', J, hcm, ham, W4, W5⟩ := xs_seek (xLc := xLc) (xCl := xCl) (xLf := xLf) (xPh := xPh) (xOk := xOk) (xOy := xOy) (xRs := xRs) (xUr := xUr) (xUw := xUw) ht I h7 h8 h9
  have srt := xk_srt I
  have hz : ∀ x, x ∈ C → zr_p x ≠ 0 := fun x hx => xk_tail0 (A := []) (c := zr_0) (R := C) I hx
  have g' := g
  have la' := la
  rw [← hpo] at g' la'
  have Y' : zz_YC last (zz_sS yS yK (zr_k c) (zz_h32 a) 16) yK yI (zz_sw (zr_K c) (zz_hk a) C) := by
    have := yc_sweep Y (zr_k c) (zz_h32 a)
    rw [zh_toInt] at this
    exact this
  have hT' : zz_T m last (zz_sw (zr_K c) (zz_hk a) C) xPh xOk xOy xRs xLr xLw xUr xUw yPh yOk yOy yRs yPo yLi yLw yUi yUw yMi := tt_ext hT ex_sw
  have hge : ∀ x, x ∈ zr_0 :: C → -1 ≤ zr_K x := by
    intro x hx
    rcases List.mem_cons.mp hx with e | e
    · rw [e, zr_K0]; exact Int.le_refl _
    · have := (List.pairwise_cons.mp srt).1 x e
      rw [zr_K0] at this
      omega
  by_cases hy : zr_p a ≠ 0 ∧ zr_k a < xOy t
  · refine jt_mk 4 (ft', hc', xLc, xCl, xLf, xKs, st', lk', xPh, xOk, xOy, xRs, upd xLr t (rf_of (zr_v a) (zr_p a)), upd xLw t (zr_k a), xUr, xUw) (yCe, yLf, yLn, yLd, zz_sS yS yK (zr_k c) (zz_h32 a) 16, yK, yI, yPh, yOk, yOy, yRs, upd yPo t (zr_k a), yLi, yLw, yUi, yUw, yMi) (Or.inr (Or.inl (Or.inl rfl))) ?_ (W4 hy) (fun post hpost => ys_seek ht Y srt hz g' la' (fun _ => hpost) (fun z => absurd (by rw [h2]; exact hy) z))
    refine ⟨n, m, last, lf, _, F', ⟨c1, c2, c3, c4, c5, c6, c7, c8, c9, c10, J, Y'⟩, fun t' ht' => ?_⟩
    by_cases e : t' = t
    · rw [e]
      simp only [pk_us]
      exact ⟨hp, Or.inr (Or.inr ⟨h1, h2, h3, h4, h5, h6, _, _, _, rfl, rx_of J Y' ham, hge a (zl_LA la), Int32.lt_iff_toInt_lt.mp hy.2, Or.inl ⟨hph, rfl⟩⟩)⟩
    · simp only [pk_un e]
      exact hT' t' ht'
  · refine jt_mk 5 (ft', hc', xLc, xCl, xLf, xKs, st', lk', upd xPh t 2, xOk, xOy, xRs, upd xLr t (rf_of (zr_v c) (zr_p c)), upd xLw t (zr_k c), upd xUr t (rf_of (zr_v a) (zr_p a)), upd xUw t (zr_k a)) (yCe, yLf, yLn, yLd, zz_sS yS yK (zr_k c) (zz_h32 a) 16, yK, yI, upd yPh t 2, yOk, yOy, yRs, yPo, vp_updL yLi t (lN (zr_i c)), upd yLw t (zr_k c), vp_updL yUi t (lN (zr_i a)), upd yUw t (zz_h32 a), yMi) (Or.inr (Or.inl (Or.inr (Or.inl rfl)))) ?_ (W5 hy) (fun post hpost => ys_seek ht Y srt hz g' la' (fun z => absurd z (by rw [h2]; exact hy)) (fun _ => hpost))
    refine ⟨n, m, last, lf, _, F', ⟨c1, c2, c3, c4, c5, c6, c7, c8, c9, c10, J, Y'⟩, fun t' ht' => ?_⟩
    by_cases e : t' = t
    · rw [e]
      simp only [pk_us, pk_uLs]
      refine ⟨rfl, Or.inr (Or.inr ⟨h1, h2, h3, h4, h5, h6, _, _, _, rfl, rx_of J Y' hcm, hge c g.1, ?_, Or.inr (Or.inl ⟨rfl, rfl, rfl, _, _, _, rfl, rx_of J Y' ham, rfl, ?_⟩)⟩)⟩
      · have q3 : zr_K c ≤ (xLw t).toInt := g.2.2.1
        show zr_K c < (xOy t).toInt
        omega
      · rcases la with ⟨e0, _⟩ | ⟨haC, _⟩
        · rw [e0]; exact Or.inl ⟨rfl, rfl, rfl⟩
        · refine Or.inr ⟨?_, if_neg (hz a haC), ?_⟩
          · obtain ⟨_, _, _, _, _, _, q, _⟩ := Y.1 a haC
            omega
          · have q := Int32.not_lt.mp (fun z => hy ⟨hz a haC, z⟩)
            exact Int32.le_iff_toInt_le.mp q
    · simp only [pk_un e, pk_uLn e]
      exact hT' t' ht'
end
end
section
theorem jt_mono {b b' : Nat} {WX : (Int32 → SX → Prop) → Prop} {WY : (Int32 → SY → Prop) → Prop} (h : zz_J b WX WY) (e : b ≤ b') : zz_J b' WX WY := by
  obtain ⟨r, u', v', h1, h2, h3, h4⟩ := h
  exact ⟨r, u', v', h1, zz_R_mono h2 e, h3, h4⟩
theorem zl_tail {C1 C2 : List zr_T} {c : zr_T} (s1 : (zr_0 :: C1).Pairwise (fun a b => zr_K a < zr_K b)) (s2 : (zr_0 :: C2).Pairwise (fun a b => zr_K a < zr_K b)) (mem : ∀ x, x ∈ zr_0 :: C2 ↔ x = c ∨ x ∈ zr_0 :: C1) (hn : ¬ c = zr_0) : ∀ x, x ∈ C2 ↔ x = c ∨ x ∈ C1 := by
  have no : ∀ C : List zr_T, (zr_0 :: C).Pairwise (fun a b => zr_K a < zr_K b) → ∀ x, x ∈ C → ¬ x = zr_0 := by
    intro C s x hx e
    have := (List.pairwise_cons.mp s).1 x hx
    rw [e] at this
    omega
  intro x
  constructor
  · intro hx
    rcases (mem x).mp (List.mem_cons_of_mem _ hx) with h | h
    · exact Or.inl h
    · rcases List.mem_cons.mp h with h | h
      · exact absurd h (no C2 s2 x hx)
      · exact Or.inr h
  · intro hx
    have hx' : x ∈ zr_0 :: C2 := (mem x).mpr (hx.imp_right (List.mem_cons_of_mem _))
    rcases List.mem_cons.mp hx' with h | h
    · rcases hx with e | e
      · rw [e] at h; exact absurd h hn
      · exact absurd h (no C1 s1 x e)
    · exact h
section
variable {b n m last lf t k : Nat} {C : List zr_T} {F : List Nat} {c a : zr_T} {xFt xHc xLc xCl xLf : Int32} {xKs xSt xLk xPh xOk xOy xRs xLr xLw xUr xUw : Nat → Int32} {yCe : Int32} {yLf : Int32} {yLn : Int32} {yLd : Int64} {yS : Nat → Int32} {yK : Nat → Int32} {yI : Nat → Int64} {yPh : Nat → Int32} {yOk : Nat → Int32} {yOy : Nat → Int32} {yRs : Nat → Int32} {yPo : Nat → Int32} {yLi : Nat → Int64} {yLw : Nat → Int32} {yUi : Nat → Int64} {yUw : Nat → Int32} {yMi : Nat → Int64}
theorem ys_full {post : Int32 → SY → Prop} (ht : t < 4) (hn : n ≤ 16) (hk : zz_cn yS 16 = n) (h : post 10 (nI n, yLf, yLn, yLd, yS, yK, yI, upd yPh t 4, yOk, yOy, upd yRs t 10, yPo, yLi, yLw, yUi, yUw, yMi)) : ∃ q, wY_insert_55 post (nI t) (nI n) yLf yLn yLd yS yK yI yPh yOk yOy yRs yPo yLi yLw yUi yUw yMi q (-1) 0 := by
  refine ⟨17, yw_free_loop (br_t (nI_le (a := 16) (b := 16) (by omega) (by decide)) ?_) 16 0 rfl⟩
  rcases zf_fe yS 16 with ⟨e, _⟩ | ⟨f, hf, e, _⟩
  · rw [e]
    exact br_t (by decide) (yw_fin ht h)
  · rw [e]
    refine br_f (nI_pos (by omega)) (yw_held ?_)
    rw [hk]
    exact br_f (nI_nlt (Nat.le_refl n) (by omega)) (yw_fin ht h)
theorem ys_new (ht : t < 4) (hn : n ≤ 16) (hk : zz_cn yS 16 = k) (hkn : k < n) : ∃ f, f < 16 ∧ yS f = 0 ∧ ∀ post : Int32 → SY → Prop, post 8 (nI n, yLf, yLn + 1, yLd + 1, upd yS f 1, upd yK f (yOy t), vp_updL yI f (yLd + 1), upd yPh t 4, yOk, yOy, upd yRs t 8, yPo, yLi, yLw, yUi, yUw, yMi) → ∃ q, wY_insert_55 post (nI t) (nI n) yLf yLn yLd yS yK yI yPh yOk yOy yRs yPo yLi yLw yUi yUw yMi q (-1) 0 := by
  rcases zf_fe yS 16 with ⟨e, h⟩ | ⟨f, hf, e, h0⟩
  · have := zf_cn 16 h
    omega
  · refine ⟨f, hf, h0, fun post h => ⟨17, yw_free_loop (br_t (nI_le (a := 16) (b := 16) (by omega) (by decide)) ?_) 16 0 rfl⟩⟩
    rw [e]
    refine br_f (nI_pos (by omega)) (yw_held ?_)
    rw [hk]
    refine br_t (nI_lt hkn (by omega)) (nm_e (And.intro (zv_16 hf) (nm_r (zc_uL (by omega)) (And.intro (zv_4 ht) (And.intro (zv_16 hf) (nm_r (e' := upd yK f (yOy t)) ?_ (And.intro (zv_16 hf) (nm_r (zc_u (by omega)) (nm_e (yw_fin ht h))))))))))
    rw [zc_n (by omega), zc_n (by omega)]
/-! ===== insert ===== -/
theorem jt_ins (ht : t < 4) (hb : b + 1 < 2 ^ 30) (hC : zz_Co b n m last lf C F xFt xHc xLc xCl xLf xKs xSt xLk yCe yLf yLn yLd yS yK yI) (hT : zz_T m last C xPh xOk xOy xRs xLr xLw xUr xUw yPh yOk yOy yRs yPo yLi yLw yUi yUw yMi) (hph : xPh t = 2) (hne : ¬ xUw t = xOy t) : zz_J (b + 1) (fun post => wpX_insert post (xFt, xHc, xLc, xCl, xLf, xKs, xSt, xLk, xPh, xOk, xOy, xRs, xLr, xLw, xUr, xUw) (nI t)) (fun post => wpY_insert post (yCe, yLf, yLn, yLd, yS, yK, yI, yPh, yOk, yOy, yRs, yPo, yLi, yLw, yUi, yUw, yMi) (nI t)) := by
  have hC0 := hC
  obtain ⟨c1, c2, c3, c4, c5, c6, c7, c8, c9, c10, I, Y⟩ := hC
  obtain ⟨hp, hTt⟩ := hT t ht
  rw [hph] at hTt
  rcases hTt with h | h | ⟨h1, h2, h3, h4, h5, h6, s, p, id, h7, h8, h9, h10, h11⟩
  · exact absurd h.1 (by decide)
  · exact absurd h.1 (by decide)
  rcases h11 with h | ⟨_, hli, hlw, s2, p2, id2, hur, hR2, hui, hid2⟩ | h
  · exact absurd h.1 (by decide)
  rotate_left
  · exact absurd h.1 (by decide)
  have hph' : yPh t = 2 := hp.trans hph
  have srt := xk_srt I
  have hz : ∀ x, x ∈ C → zr_p x ≠ 0 := fun x hx => xk_tail0 (A := []) (c := zr_0) (R := C) I hx
  have top : ∀ x, x ∈ C → zr_K x ≤ 9999 := fun x hx => xk_top I (List.mem_cons_of_mem _ hx)
  have hm30 := xk_m I
  have hn16 := xk_n I
  obtain ⟨l, u, g, hl, hu, hg, Hf⟩ := xw_fresh (xLc := xLc) (xCl := xCl) (xLf := xLf) (xPh := xPh) (xOk := xOk) (xOy := xOy) (xRs := xRs) ht I h7 h8 h9 hur hR2
  have huw : (id2 = 0 ∧ yUw t = 10000) ∨ (id2 ≠ 0 ∧ yUw t = xUw t) := by
    rcases hid2 with z | z
    · exact Or.inl ⟨z.1, z.2.2⟩
    · exact Or.inr ⟨z.1, z.2.1⟩
  have Hy : ∀ post : Int32 → Prop, post (zz_fv l u g) → wpY_fresh post (yCe, yLf, yLn, yLd, yS, yK, yI, yPh, yOk, yOy, yRs, yPo, yLi, yLw, yUi, yUw, yMi) (nI t) := fun post hpost => yw_fresh ht hz top Y srt hph' h8.2.2.1 hR2.2.2.1 hli hui hlw huw hl hu hg hpost
  by_cases h77 : l = true ∧ u = true ∧ g = true
  rotate_left
  · refine jt_mk 6 (xFt, xHc, xLc, xCl, xLf, xKs, xSt, xLk, upd xPh t 1, xOk, xOy, xRs, upd xLr t 0, upd xLw t (-1), upd xUr t 0, upd xUw t (-1)) (yCe, yLf, yLn, yLd, yS, yK, yI, upd yPh t 1, yOk, yOy, yRs, upd yPo t (-1), yLi, yLw, yUi, yUw, yMi) (Or.inr (Or.inl (Or.inr (Or.inr (Or.inl rfl))))) ?_ (fun post hpost => ?_) (fun post hpost => ?_)
    · refine zz_R_mono (b := b) ⟨n, m, last, lf, C, F, hC0, tt_again hT ?_ h1 h2 h3 h4 h5 h6⟩ (by omega)
      exact rx_of I Y (List.mem_cons_self)
    · unfold wpX_insert
      dsimp only
      exact Hf _ (br_f (fun z => h77 ((zf_7 _ _ _).mp z)) (xw_toStart ht hpost))
    · unfold wpY_insert
      dsimp only
      exact Hy _ (br_f (fun z => h77 ((zf_7 _ _ _).mp z)) (yw_again ht hpost))
  have f7 : zz_fv l u g = 7 := (zf_7 _ _ _).mpr h77
  obtain ⟨hl1, hu1, hg1⟩ := h77
  subst c1 c2 c3 c6 c7 c8 c9
  by_cases hml : m = lf
  · refine jt_mk 11 (xFt, xHc, nI m, nI n, nI lf, xKs, xSt, xLk, upd xPh t 4, xOk, xOy, upd xRs t 11, xLr, xLw, xUr, xUw) (nI n, nI lf, nI m, lN last, yS, yK, yI, upd yPh t 4, yOk, yOy, upd yRs t 11, yPo, yLi, yLw, yUi, yUw, yMi) (Or.inr (Or.inr (Or.inr (Or.inr (Or.inr rfl))))) ?_ (fun post hpost => ?_) (fun post hpost => ?_)
    · exact zz_R_mono (b := b) ⟨n, m, last, lf, C, F, hC0, tt_fin hT h1 h2 11⟩ (by omega)
    · unfold wpX_insert
      dsimp only
      exact Hf _ (br_t f7 (br_t (by rw [hml]) (xw_fin ht hpost)))
    · unfold wpY_insert
      dsimp only
      exact Hy _ (br_t f7 (br_t (by rw [hml]) (yw_fin ht hpost)))
  have hml' : ¬ nI m = nI lf := fun z => hml ((nI_eq (by omega) (by omega)).mp z)
  obtain ⟨c, hcK, hci, hcd⟩ := hl.mp hl1
  have hck : zr_k c = xLw t := h8.2.2.2.2 c hcK hci
  have hcpv := (h8.2.2.2.1 c hcK).mpr hci
  have hcKK : zr_K c = (xLw t).toInt := by unfold zr_K; rw [hck]
  have G : zz_GL (zr_0 :: C) (xLw t).toInt c := ⟨hcK, hcd, by omega, fun x _ _ hx => by omega⟩
  obtain ⟨a, la, _, ft', hc', st', lk', F', J, H3, A, R, e, ea⟩ := xw_win (xLc := nI m) (xCl := nI n) (xLf := nI lf) (xPh := xPh) (xOk := xOk) (xOy := xOy) (xRs := xRs) (xLr := xLr) (xLw := xLw) (xUr := xUr) (xUw := xUw) I G
  have hga : zr_p a = 0 ∨ (id2 ≠ 0 ∧ ¬ zr_k a < xUw t) := by
    obtain ⟨a', la', q⟩ := hg
    rw [zl_LAu srt la la']
    exact q.mp hg1
  have hall : zz_h32 a = yUw t ∧ (zr_p a ≠ 0 → (xOy t).toInt < zr_K a) := by
    rcases huw with ⟨i0, uw0⟩ | ⟨i0, uw0⟩
    · have pa : zr_p a = 0 := hga.resolve_right (fun z => z.1 i0)
      rw [uw0]
      exact ⟨if_pos pa, fun z => absurd pa z⟩
    · have hle : (xOy t).toInt ≤ (xUw t).toInt := by
        rcases hid2 with z | z
        · exact absurd z.1 i0
        · exact z.2.2
      have hltx : (xOy t).toInt < (xUw t).toInt := by
        have : (xOy t).toInt ≠ (xUw t).toInt := fun z => hne (Int32.toInt_inj.mp z.symm)
        omega
      obtain ⟨cu, hcuK, hcui, hcud⟩ := hu.mp hu1
      have hcuk : zr_K cu = (xUw t).toInt := by unfold zr_K; rw [hR2.2.2.2.2 cu hcuK hcui]
      have hcuC : cu ∈ C := by
        rcases List.mem_cons.mp hcuK with z | z
        · rw [z] at hcui; exact absurd hcui.symm i0
        · exact z
      rcases la with ⟨_, q⟩ | ⟨haC, had, haq, ham⟩
      · have := q cu hcuC hcud; omega
      · have q1 := ham cu hcuC hcud (by omega)
        have q2 : ¬ zr_K a < (xUw t).toInt := fun z => (hga.resolve_left (hz a haC)).2 (Int32.lt_iff_toInt_lt.mpr z)
        have q3 : zr_k a = xUw t := Int32.toInt_inj.mp (by show zr_K a = _; omega)
        refine ⟨?_, fun _ => by omega⟩
        rw [uw0, ← q3]
        exact if_neg (hz a haC)
  have Y' : zz_YC last (zz_sS yS yK (yLw t) (yUw t) 16) yK yI (zz_sw (zr_K c) (zz_hk a) C) := by
    have q := yc_sweep Y (zr_k c) (zz_h32 a)
    rw [zh_toInt] at q
    rw [hlw, ← hck, ← hall.1]
    exact q
  have hT' : zz_T m last (zz_sw (zr_K c) (zz_hk a) C) xPh xOk xOy xRs xLr xLw xUr xUw yPh yOk yOy yRs yPo yLi yLw yUi yUw yMi := tt_ext hT ex_sw
  have srtJ := xk_srt J
  have cn := yc_cn Y' (List.pairwise_cons.mp srtJ).2
  have lenJ := xk_len J
  have hcJ := xk_hc J
  rw [List.length_cons] at lenJ hcJ
  have ex2 : xLr t &&& 31 = nI (zr_p c) := by rw [h7, rf_and (by have := h8.1; omega) h8.2.1, hcpv.1]
  by_cases hfull : (zz_sw (zr_K c) (zz_hk a) C).length = n
  · refine jt_mk 10 (ft', hc', nI m, nI n, nI lf, xKs, st', lk', upd xPh t 4, xOk, xOy, upd xRs t 10, xLr, xLw, xUr, xUw) (nI n, nI lf, nI m, lN last, zz_sS yS yK (yLw t) (yUw t) 16, yK, yI, upd yPh t 4, yOk, yOy, upd yRs t 10, yPo, yLi, yLw, yUi, yUw, yMi) (Or.inr (Or.inr (Or.inr (Or.inr (Or.inl rfl))))) ?_ (fun post hpost => ?_) (fun post hpost => ?_)
    · exact zz_R_mono (b := b) ⟨n, m, last, lf, _, F', ⟨rfl, rfl, rfl, c4, c5, rfl, rfl, rfl, rfl, c10, J, Y'⟩, tt_fin hT' h1 h2 10⟩ (by omega)
    · unfold wpX_insert
      dsimp only
      rw [zc_n (t := t) (by omega)]
      refine Hf _ (br_t f7 (br_f hml' ⟨zv_4 ht, nm_r ex2 (H3 _ (br_t ?_ (xw_fin ht hpost)))⟩))
      rw [hcJ, hfull]
      rfl
    · unfold wpY_insert
      dsimp only
      rw [zc_n (t := t) (by omega)]
      exact Hy _ (br_t f7 (br_f hml' ⟨zv_4 ht, zv_4 ht, yw_sweep (ys_full ht hn16 (cn.trans hfull) hpost)⟩))
  cases F' with
  | nil => exact absurd (by rw [List.length_nil] at lenJ; omega) hfull
  | cons p' F'' =>
    have eft : ft' = nI p' := J.2.2.1.1
    subst eft
    have hp32 : p' < 32 := J.2.2.2.2.1 p' (by simp)
    obtain ⟨f, hf, hf0, Hn⟩ := ys_new (yLf := nI lf) (yLn := nI m) (yLd := lN last) (yS := zz_sS yS yK (yLw t) (yUw t) 16) (yK := yK) (yI := yI) (yPh := yPh) (yOk := yOk) (yOy := yOy) (yRs := yRs) (yPo := yPo) (yLi := yLi) (yLw := yLw) (yUi := yUi) (yUw := yUw) (yMi := yMi) ht hn16 cn (by rw [List.length_cons] at lenJ; omega)
    have J' := J
    rw [e] at J'
    have I2 := xk_link (c := (p', nI f, xOy t, m + 1, last + 1, false)) J' hcd rfl rfl rfl (show zr_K c < (xOy t).toInt by omega) (fun x hx => ?_) (show (xOy t).toInt ≤ 9999 by omega) (by omega)
    rotate_left
    · show (xOy t).toInt < zr_K x
      cases R with
      | nil => exact nomatch hx
      | cons d R =>
        have eda : d = a := ea
        subst eda
        have dp : zr_p d ≠ 0 := (xk_tails J' rfl).1 d (by simp)
        have q := hall.2 dp
        rcases List.mem_cons.mp hx with z | z
        · rw [z]; exact q
        · have e3 : A ++ c :: d :: R = (A ++ [c]) ++ d :: R := by simp
          have q2 := (zl_split (xk_srt J') e3).2 x z
          omega
    obtain ⟨C2, eC2⟩ := xk_0 I2
    rw [eC2] at I2
    have mem : ∀ x, x ∈ zr_0 :: C2 ↔ x = (p', nI f, xOy t, m + 1, last + 1, false) ∨ x ∈ zr_0 :: zz_sw (zr_K c) (zz_hk a) C := by
      intro x
      rw [← eC2, e]
      simp only [List.mem_append, List.mem_cons]
      constructor
      · rintro (z | z | z | z)
        · exact Or.inr (Or.inl z)
        · exact Or.inr (Or.inr (Or.inl z))
        · exact Or.inl z
        · exact Or.inr (Or.inr (Or.inr z))
      · rintro (z | z | z | z)
        · exact Or.inr (Or.inr (Or.inl z))
        · exact Or.inl z
        · exact Or.inr (Or.inl z)
        · exact Or.inr (Or.inr (Or.inr z))
    have mem2 := zl_tail srtJ (xk_srt I2) mem (fun z => absurd (congrArg zr_v z) (Nat.succ_ne_zero m))
    have Y2 := yc_add (c := (p', nI f, xOy t, m + 1, last + 1, false)) Y' hf hf0 rfl rfl rfl mem2 (by omega)
    have ex3 : zz_Ext (zr_0 :: zz_sw (zr_K c) (zz_hk a) C) m last (zr_0 :: C2) (m + 1) (last + 1) := by
      refine ⟨by omega, by omega, fun x hx => ?_⟩
      rcases (mem x).mp hx with z | z
      · rw [z]; exact Or.inr ⟨Nat.lt_succ_self m, Nat.lt_succ_self last⟩
      · exact Or.inl ⟨x, z, rfl, rfl, rfl, rfl, fun w => w⟩
    have hT2 := tt_fin (t := t) (tt_ext hT' ex3) h1 h2 8
    refine jt_mk 8 (lk' p', hc' + 1, nI (m + 1), nI n, nI lf, upd xKs p' (xOy t), upd st' p' (nI (m + 1)), upd (upd lk' p' (lk' (zr_p c))) (zr_p c) (rf_of (m + 1) p' <<< ((1 : Int32) &&& 31)), upd xPh t 4, xOk, xOy, upd xRs t 8, xLr, xLw, xUr, xUw) (nI n, nI lf, nI m + 1, lN last + 1, upd (zz_sS yS yK (yLw t) (yUw t) 16) f 1, upd yK f (yOy t), vp_updL yI f (lN last + 1), upd yPh t 4, yOk, yOy, upd yRs t 8, yPo, yLi, yLw, yUi, yUw, yMi) (Or.inr (Or.inr (Or.inl rfl))) ?_ (fun post hpost => ?_) (fun post hpost => ?_)
    · rw [nI_1, lN_1, h2]
      exact ⟨n, m + 1, last + 1, lf, C2, F'', ⟨rfl, rfl, rfl, by omega, c5, rfl, rfl, rfl, rfl, by omega, I2, Y2⟩, hT2⟩
    · unfold wpX_insert
      dsimp only
      rw [zc_n (t := t) (by omega)]
      refine Hf _ (br_t f7 (br_f hml' ⟨zv_4 ht, nm_r ex2 (H3 _ (br_f ?_ ⟨zv_4 ht, xw_link (c := (p', nI f, xOy t, m + 1, last + 1, false)) hp32 ?_ rfl (xw_fin ht hpost)⟩))⟩))
      · show ¬ hc' = nI n
        rw [hcJ]
        exact fun z => hfull ((nI_eq (by omega) (by omega)).mp z)
      · exact (xk_dat I hcK).1
    · unfold wpY_insert
      dsimp only
      rw [zc_n (t := t) (by omega)]
      exact Hy _ (br_t f7 (br_f hml' ⟨zv_4 ht, zv_4 ht, yw_sweep (Hn _ hpost)⟩))
end
end
section
section
variable {b n m last lf t k : Nat} {C : List zr_T} {F : List Nat} {c a : zr_T} {xFt xHc xLc xCl xLf : Int32} {xKs xSt xLk xPh xOk xOy xRs xLr xLw xUr xUw : Nat → Int32} {yCe : Int32} {yLf : Int32} {yLn : Int32} {yLd : Int64} {yS : Nat → Int32} {yK : Nat → Int32} {yI : Nat → Int64} {yPh : Nat → Int32} {yOk : Nat → Int32} {yOy : Nat → Int32} {yRs : Nat → Int32} {yPo : Nat → Int32} {yLi : Nat → Int64} {yLw : Nat → Int32} {yUi : Nat → Int64} {yUw : Nat → Int32} {yMi : Nat → Int64}
/-! ===== act, up to its match ===== -/
theorem xs_act0 {post : Int32 → SX → Prop} (ht : t < 4) (hne : ¬ xUw t = xOy t) (h : wX_act_43 post (nI t) 0 0 xFt xHc xLc xCl xLf xKs xSt xLk xPh xOk xOy xRs xLr xLw xUr xUw) : wpX_act post (xFt, xHc, xLc, xCl, xLf, xKs, xSt, xLk, xPh, xOk, xOy, xRs, xLr, xLw, xUr, xUw) (nI t) := by
  unfold wpX_act
  dsimp only
  rw [zc_n (t := t) (by omega)]
  exact ⟨zv_4 ht, zv_4 ht, br_f hne (br_t rfl h)⟩
theorem xs_act1 {post : Int32 → SX → Prop} {l : Bool} (ht : t < 4) (he : xUw t = xOy t) (Hu : ∀ post' : Int32 → Prop, post' (cond l 1 0) → wpX_isLive post' (xFt, xHc, xLc, xCl, xLf, xKs, xSt, xLk, xPh, xOk, xOy, xRs, xLr, xLw, xUr, xUw) (xUr t)) (h : wX_act_43 post (nI t) 1 (cond l 1 0) xFt xHc xLc xCl xLf xKs xSt xLk xPh xOk xOy xRs xLr xLw xUr xUw) : wpX_act post (xFt, xHc, xLc, xCl, xLf, xKs, xSt, xLk, xPh, xOk, xOy, xRs, xLr, xLw, xUr, xUw) (nI t) := by
  unfold wpX_act
  dsimp only
  rw [zc_n (t := t) (by omega)]
  refine ⟨zv_4 ht, zv_4 ht, br_t he (br_f (by decide) ?_)⟩
  rw [zc_n (t := t) (by omega)]
  refine ⟨zv_4 ht, Hu _ ?_⟩
  cases l
  · exact br_t rfl h
  · exact br_f (by decide) h
theorem ys_act0 {post : Int32 → SY → Prop} (ht : t < 4) (hne : yUi t = 0 ∨ ¬ yUw t = yOy t) (h : wY_act_55 post (nI t) 0 0 yCe yLf yLn yLd yS yK yI yPh yOk yOy yRs yPo yLi yLw yUi yUw yMi) : wpY_act post (yCe, yLf, yLn, yLd, yS, yK, yI, yPh, yOk, yOy, yRs, yPo, yLi, yLw, yUi, yUw, yMi) (nI t) := by
  unfold wpY_act
  dsimp only
  rw [zc_n (t := t) (by omega)]
  refine ⟨zv_4 ht, br_c (fun _ => br_t rfl h) (fun h0 => ⟨zv_4 ht, zv_4 ht, br_f (hne.resolve_left h0) (br_t rfl h)⟩)⟩
theorem ys_act1 {post : Int32 → SY → Prop} {l : Bool} {id : Nat} (ht : t < 4) (Y : zz_YC last yS yK yI C) (hui : yUi t = lN id) (hid : id ≤ last) (h0 : id ≠ 0) (he : yUw t = yOy t) (hl : zz_liv (zr_0 :: C) id l) (h : wY_act_55 post (nI t) 1 (cond l 1 0) yCe yLf yLn yLd yS yK yI yPh yOk yOy yRs yPo yLi yLw yUi yUw yMi) : wpY_act post (yCe, yLf, yLn, yLd, yS, yK, yI, yPh, yOk, yOy, yRs, yPo, yLi, yLw, yUi, yUw, yMi) (nI t) := by
  have hb := Y.2.2.2.2
  have e0 : ¬ lN id = 0 := fun z => h0 ((lN_eq (a := id) (b := 0) (by omega) (by omega)).mp z)
  unfold wpY_act
  dsimp only
  rw [zc_n (t := t) (by omega), hui]
  refine ⟨zv_4 ht, br_f e0 ⟨zv_4 ht, zv_4 ht, br_t he (br_f (by decide) ?_)⟩⟩
  rw [zc_n (t := t) (by omega), hui]
  refine (yv_live ht Y hid hl (fun e => ?_) (fun e => ?_)).2 e0
  · rw [e] at h; exact h
  · rw [e] at h; exact h
/-! ===== mark ===== -/
theorem xw_mark {post : Int32 → SX → Prop} {s p : Nat} (ht : t < 4) (hs : s < 2 ^ 20) (hp : p < 32) (hur : xUr t = rf_of s p) (h : post 7 (xFt, xHc, xLc, xCl, xLf, xKs, xSt, upd xLk p (xLk p ||| 1), upd xPh t 3, xOk, xOy, xRs, xLr, xLw, xUr, xUw)) : wpX_mark post (xFt, xHc, xLc, xCl, xLf, xKs, xSt, xLk, xPh, xOk, xOy, xRs, xLr, xLw, xUr, xUw) (nI t) := by
  have e : xUr (nI t).toNatClampNeg &&& 31 = nI p := by rw [zc_n (by omega), hur, rf_and hs hp]
  refine And.intro (zv_4 ht) (nm_r e (And.intro (zv_32 hp) (And.intro (zv_32 hp) (nm_r (e' := upd xLk p (xLk p ||| 1)) ?_ (And.intro (zv_4 ht) (nm_r (zc_u (by omega)) h))))))
  rw [zc_n hp]
theorem jt_mark (ht : t < 4) (hC : zz_Co b n m last lf C F xFt xHc xLc xCl xLf xKs xSt xLk yCe yLf yLn yLd yS yK yI) (hT : zz_T m last C xPh xOk xOy xRs xLr xLw xUr xUw yPh yOk yOy yRs yPo yLi yLw yUi yUw yMi) {s p id s2 p2 id2 : Nat} (h1 : yOk t = xOk t) (h2 : yOy t = xOy t) (h3 : xRs t = 0) (h4 : xOk t = 1 ∨ xOk t = 2 ∨ xOk t = 3) (h5 : 0 ≤ (xOy t).toInt) (h6 : (xOy t).toInt ≤ 9999) (h7 : xLr t = rf_of s p) (h8 : zz_Rf (zr_0 :: C) m last s p id (xLw t)) (h9 : -1 ≤ (xLw t).toInt) (h10 : (xLw t).toInt < (xOy t).toInt)
    (hur : xUr t = rf_of s2 p2) (hR2 : zz_Rf (zr_0 :: C) m last s2 p2 id2 (xOy t)) (hui : yUi t = lN id2) (hid : id2 ≠ 0) (hcu : c ∈ zr_0 :: C) (hci : zr_i c = id2) (hcd : zr_d c = false) : zz_J b (fun post => wpX_mark post (xFt, xHc, xLc, xCl, xLf, xKs, xSt, xLk, xPh, xOk, xOy, xRs, xLr, xLw, xUr, xUw) (nI t)) (fun post => ∃ q, wY_act_136 post (nI t) yCe yLf yLn yLd q 0 yS yK yI yPh yOk yOy yRs yPo yLi yLw yUi yUw yMi) := by
  obtain ⟨c1, c2, c3, c4, c5, c6, c7, c8, c9, c10, I, Y⟩ := hC
  have hm30 := xk_m I
  have srt := xk_srt I
  have hcC : c ∈ C := by
    rcases List.mem_cons.mp hcu with z | z
    · rw [z] at hci; exact absurd hci.symm hid
    · exact z
  have hcpv := (hR2.2.2.2.1 c hcu).mpr hci
  obtain ⟨A, R, e⟩ := List.append_of_mem hcC
  subst e
  have eK : zr_0 :: (A ++ c :: R) = (zr_0 :: A) ++ c :: R := rfl
  have d := xk_dat I hcu
  have J : zz_XK n m xFt xHc xKs xSt (upd xLk (zr_p c) (xLk (zr_p c) ||| 1)) (zr_0 :: (A ++ zz_dd c :: R)) F := by
    rw [eK] at I
    refine xk_set (b' := zz_dd c) I rfl rfl d.2.2.2 (fun z => ?_) d.2.2.1 (fun _ _ => rfl) (zb_set (xk_nx I))
    rw [z] at hci; exact absurd hci.symm hid
  have Y' : zz_YC last (zz_mS yS yI (yUi t) 16) yK yI (A ++ zz_dd c :: R) := by
    rw [hui, ← hci]
    exact yc_mark Y (List.pairwise_cons.mp srt).2 hcd
  have ex : zz_Ext (zr_0 :: (A ++ c :: R)) m last (zr_0 :: (A ++ zz_dd c :: R)) m last := by
    refine ⟨Nat.le_refl _, Nat.le_refl _, fun x hx => Or.inl ?_⟩
    by_cases z : x = zz_dd c
    · rw [z]; exact ⟨c, hcu, rfl, rfl, rfl, rfl, fun _ => rfl⟩
    · refine ⟨x, ?_, rfl, rfl, rfl, rfl, fun w => w⟩
      simp only [List.mem_cons, List.mem_append] at hx ⊢
      rcases hx with w | w | w | w
      · exact Or.inl w
      · exact Or.inr (Or.inl w)
      · exact absurd w z
      · exact Or.inr (Or.inr (Or.inr w))
  have hT' : zz_T m last (A ++ zz_dd c :: R) xPh xOk xOy xRs xLr xLw xUr xUw yPh yOk yOy yRs yPo yLi yLw yUi yUw yMi := tt_ext hT ex
  have dead : ∀ x, x ∈ zr_0 :: (A ++ zz_dd c :: R) → zr_i x = id2 → zr_d x = true := by
    intro x hx hxi
    have q : x = zz_dd c := yc_id Y' x hx (zz_dd c) (by simp) (hxi.trans hci.symm)
    rw [q]; rfl
  rw [hcpv.1] at J
  refine jt_mk 7 (xFt, xHc, xLc, xCl, xLf, xKs, xSt, upd xLk p2 (xLk p2 ||| 1), upd xPh t 3, xOk, xOy, xRs, xLr, xLw, xUr, xUw) (yCe, yLf, yLn, yLd, zz_mS yS yI (yUi t) 16, yK, yI, upd yPh t 3, yOk, yOy, yRs, yPo, yLi, yLw, yUi, yUw, vp_updL yMi t (yUi t)) (Or.inr (Or.inl (Or.inr (Or.inr (Or.inr rfl))))) ?_ (fun post hpost => xw_mark ht (by have := hR2.1; omega) hR2.2.1 hur hpost) (fun post hpost => ⟨17, ?_⟩)
  · refine ⟨n, m, last, lf, _, F, ⟨c1, c2, c3, c4, c5, c6, c7, c8, c9, c10, J, Y'⟩, fun t' ht' => ?_⟩
    by_cases e : t' = t
    · rw [e]
      simp only [pk_us, pk_uLs]
      exact ⟨rfl, Or.inr (Or.inr ⟨h1, h2, h3, h4, h5, h6, s, p, id, h7, rx_ext h8 ex, h9, h10, Or.inr (Or.inr ⟨rfl, s2, p2, id2, hur, rx_ext hR2 ex, hui, hid, dead⟩)⟩)⟩
    · simp only [pk_un e, pk_uLn e]
      exact hT' t' ht'
  · have q := yw_mark_loop (yCe := yCe) (yLf := yLf) (yLn := yLn) (yLd := yLd) (yK := yK) (yOk := yOk) (yOy := yOy) (yRs := yRs) (yPo := yPo) (yLi := yLi) (yLw := yLw) (yUw := yUw) ht hpost 16 0 rfl
    rw [zm_0] at q
    exact q
/-! ===== act ===== -/
theorem jt_act (ht : t < 4) (hb : b + 1 < 2 ^ 30) (hC : zz_Co b n m last lf C F xFt xHc xLc xCl xLf xKs xSt xLk yCe yLf yLn yLd yS yK yI) (hT : zz_T m last C xPh xOk xOy xRs xLr xLw xUr xUw yPh yOk yOy yRs yPo yLi yLw yUi yUw yMi) (hph : xPh t = 2) : zz_J (b + 1) (fun post => wpX_act post (xFt, xHc, xLc, xCl, xLf, xKs, xSt, xLk, xPh, xOk, xOy, xRs, xLr, xLw, xUr, xUw) (nI t)) (fun post => wpY_act post (yCe, yLf, yLn, yLd, yS, yK, yI, yPh, yOk, yOy, yRs, yPo, yLi, yLw, yUi, yUw, yMi) (nI t)) := by
  have hC0 := hC
  obtain ⟨c1, c2, c3, c4, c5, c6, c7, c8, c9, c10, I, Y⟩ := hC
  obtain ⟨hp, hTt⟩ := hT t ht
  rw [hph] at hTt
  rcases hTt with h | h | ⟨h1, h2, h3, h4, h5, h6, s, p, id, h7, h8, h9, h10, h11⟩
  · exact absurd h.1 (by decide)
  · exact absurd h.1 (by decide)
  rcases h11 with h | ⟨_, hli, hlw, s2, p2, id2, hur, hR2, hui, hid2⟩ | h
  · exact absurd h.1 (by decide)
  rotate_left
  · exact absurd h.1 (by decide)
  have hm30 := xk_m I
  have fin : ∀ r : Int32, zz_R (b + 1) (xFt, xHc, xLc, xCl, xLf, xKs, xSt, xLk, upd xPh t 4, xOk, xOy, upd xRs t r, xLr, xLw, xUr, xUw) (yCe, yLf, yLn, yLd, yS, yK, yI, upd yPh t 4, yOk, yOy, upd yRs t r, yPo, yLi, yLw, yUi, yUw, yMi) := fun r => zz_R_mono (b := b) ⟨n, m, last, lf, C, F, hC0, tt_fin hT h1 h2 r⟩ (by omega)
  have ek : xOk (nI t).toNatClampNeg = xOk t := zc_f (by omega)
  have ek' : yOk (nI t).toNatClampNeg = xOk t := (zc_f (by omega)).trans h1
  by_cases hmt : xUw t = xOy t
  · have hid0 : id2 ≠ 0 ∧ yUw t = xUw t := by
      rcases hid2 with z | z
      · exfalso
        rw [z.2.1] at hmt
        rw [← hmt] at h5
        exact absurd h5 (by decide)
      · exact ⟨z.1, z.2.1⟩
    obtain ⟨l, hl, Hl⟩ := xw_liv (xLc := xLc) (xCl := xCl) (xLf := xLf) (xPh := xPh) (xOk := xOk) (xOy := xOy) (xRs := xRs) (xLr := xLr) (xLw := xLw) (xUr := xUr) (xUw := xUw) I hR2
    rw [← hur] at Hl
    have hyu : yUw t = yOy t := by rw [hid0.2, hmt, h2]
    have X1 : ∀ post : Int32 → SX → Prop, wX_act_43 post (nI t) 1 (cond l 1 0) xFt xHc xLc xCl xLf xKs xSt xLk xPh xOk xOy xRs xLr xLw xUr xUw → wpX_act post (xFt, xHc, xLc, xCl, xLf, xKs, xSt, xLk, xPh, xOk, xOy, xRs, xLr, xLw, xUr, xUw) (nI t) := fun post h => xs_act1 ht hmt Hl h
    have Y1 : ∀ post : Int32 → SY → Prop, wY_act_55 post (nI t) 1 (cond l 1 0) yCe yLf yLn yLd yS yK yI yPh yOk yOy yRs yPo yLi yLw yUi yUw yMi → wpY_act post (yCe, yLf, yLn, yLd, yS, yK, yI, yPh, yOk, yOy, yRs, yPo, yLi, yLw, yUi, yUw, yMi) (nI t) := fun post h => ys_act1 ht Y hui hR2.2.2.1 hid0.1 hyu hl h
    cases l
    · rcases h4 with k1 | k2 | k3
      · refine jt_mk 9 _ _ (Or.inr (Or.inr (Or.inr (Or.inl rfl)))) (fin 9) (fun post hpost => X1 post ?_) (fun post hpost => Y1 post ?_)
        · refine And.intro (zv_4 ht) ?_
          rw [ek, k1]
          exact br_f (by decide) (br_t rfl (xw_fin ht hpost))
        · refine And.intro (zv_4 ht) ?_
          rw [ek', k1]
          exact br_t rfl (br_t rfl (yw_fin ht hpost))
      · refine jt_mk 6 (xFt, xHc, xLc, xCl, xLf, xKs, xSt, xLk, upd xPh t 1, xOk, xOy, xRs, upd xLr t 0, upd xLw t (-1), upd xUr t 0, upd xUw t (-1)) (yCe, yLf, yLn, yLd, yS, yK, yI, upd yPh t 1, yOk, yOy, yRs, upd yPo t (-1), yLi, yLw, yUi, yUw, yMi) (Or.inr (Or.inl (Or.inr (Or.inr (Or.inl rfl))))) ?_ (fun post hpost => X1 post ?_) (fun post hpost => Y1 post ?_)
        · refine zz_R_mono (b := b) ⟨n, m, last, lf, C, F, hC0, tt_again hT ?_ h1 h2 h3 (Or.inr (Or.inl k2)) h5 h6⟩ (by omega)
          exact rx_of I Y (List.mem_cons_self)
        · refine And.intro (zv_4 ht) ?_
          rw [ek, k2]
          exact br_t rfl (br_f (by decide) (br_t rfl (xw_toStart ht hpost)))
        · refine And.intro (zv_4 ht) ?_
          rw [ek', k2]
          exact br_f (by decide) (And.intro (zv_4 ht) (br_t rfl (br_t rfl (br_f (by decide) (yw_again ht hpost)))))
      · refine jt_mk 9 _ _ (Or.inr (Or.inr (Or.inr (Or.inl rfl)))) (fin 9) (fun post hpost => X1 post ?_) (fun post hpost => Y1 post ?_)
        · refine And.intro (zv_4 ht) ?_
          rw [ek, k3]
          exact br_f (by decide) (br_t rfl (xw_fin ht hpost))
        · refine And.intro (zv_4 ht) ?_
          rw [ek', k3]
          exact br_f (by decide) (And.intro (zv_4 ht) (br_f (by decide) (br_t rfl (yw_fin ht hpost))))
    · rcases h4 with k1 | k2 | k3
      · refine jt_mk 8 _ _ (Or.inr (Or.inr (Or.inl rfl))) (fin 8) (fun post hpost => X1 post ?_) (fun post hpost => Y1 post ?_)
        · refine And.intro (zv_4 ht) ?_
          rw [ek, k1]
          exact br_f (by decide) (br_f (by decide) (And.intro (zv_4 ht) (br_t rfl (xw_fin ht hpost))))
        · refine And.intro (zv_4 ht) ?_
          rw [ek', k1]
          exact br_t rfl (br_f (by decide) (yw_fin ht hpost))
      · refine jt_mk 9 _ _ (Or.inr (Or.inr (Or.inr (Or.inl rfl)))) (fin 9) (fun post hpost => X1 post ?_) (fun post hpost => Y1 post ?_)
        · refine And.intro (zv_4 ht) ?_
          rw [ek, k2]
          exact br_t rfl (br_f (by decide) (br_f (by decide) (xw_fin ht hpost)))
        · refine And.intro (zv_4 ht) ?_
          rw [ek', k2]
          exact br_f (by decide) (And.intro (zv_4 ht) (br_t rfl (br_f (by decide) (yw_fin ht hpost))))
      · obtain ⟨c, hcK, hci, hcd⟩ := hl.mp rfl
        rw [hmt] at hR2
        obtain ⟨r, ⟨uFt, uHc, uLc, uCl, uLf, uKs, uSt, uLk, uPh, uOk, uOy, uRs, uLr, uLw, uUr, uUw⟩, ⟨vCe, vLf, vLn, vLd, vS, vK, vI, vPh, vOk, vOy, vRs, vPo, vLi, vLw, vUi, vUw, vMi⟩, j1, j2, j3, j4⟩ := jt_mark ht hC0 hT h1 h2 h3 (Or.inr (Or.inr k3)) h5 h6 h7 h8 h9 h10 hur hR2 hui hid0.1 hcK hci hcd
        refine jt_mk r _ _ j1 (zz_R_mono j2 (by omega)) (fun post hpost => X1 post ?_) (fun post hpost => Y1 post ?_)
        · refine And.intro (zv_4 ht) ?_
          rw [ek, k3]
          exact br_f (by decide) (br_f (by decide) (And.intro (zv_4 ht) (br_f (by decide) (j3 _ hpost))))
        · refine And.intro (zv_4 ht) ?_
          rw [ek', k3]
          exact br_f (by decide) (And.intro (zv_4 ht) (br_f (by decide) (br_f (by decide) (j4 _ hpost))))
  · have hne : yUi t = 0 ∨ ¬ yUw t = yOy t := by
      rcases hid2 with z | z
      · rw [hui, z.1]; exact Or.inl rfl
      · rw [z.2.1, h2]; exact Or.inr hmt
    have X0 : ∀ post : Int32 → SX → Prop, wX_act_43 post (nI t) 0 0 xFt xHc xLc xCl xLf xKs xSt xLk xPh xOk xOy xRs xLr xLw xUr xUw → wpX_act post (xFt, xHc, xLc, xCl, xLf, xKs, xSt, xLk, xPh, xOk, xOy, xRs, xLr, xLw, xUr, xUw) (nI t) := fun post h => xs_act0 ht hmt h
    have Y0 : ∀ post : Int32 → SY → Prop, wY_act_55 post (nI t) 0 0 yCe yLf yLn yLd yS yK yI yPh yOk yOy yRs yPo yLi yLw yUi yUw yMi → wpY_act post (yCe, yLf, yLn, yLd, yS, yK, yI, yPh, yOk, yOy, yRs, yPo, yLi, yLw, yUi, yUw, yMi) (nI t) := fun post h => ys_act0 ht hne h
    rcases h4 with k1 | k2 | k3
    · refine jt_mk 9 _ _ (Or.inr (Or.inr (Or.inr (Or.inl rfl)))) (fin 9) (fun post hpost => X0 post ?_) (fun post hpost => Y0 post ?_)
      · refine And.intro (zv_4 ht) ?_
        rw [ek, k1]
        exact br_f (by decide) (br_t rfl (xw_fin ht hpost))
      · refine And.intro (zv_4 ht) ?_
        rw [ek', k1]
        exact br_t rfl (br_t rfl (yw_fin ht hpost))
    · obtain ⟨r, ⟨uFt, uHc, uLc, uCl, uLf, uKs, uSt, uLk, uPh, uOk, uOy, uRs, uLr, uLw, uUr, uUw⟩, ⟨vCe, vLf, vLn, vLd, vS, vK, vI, vPh, vOk, vOy, vRs, vPo, vLi, vLw, vUi, vUw, vMi⟩, j1, j2, j3, j4⟩ := jt_ins ht hb hC0 hT hph hmt
      refine jt_mk r _ _ j1 j2 (fun post hpost => X0 post ?_) (fun post hpost => Y0 post ?_)
      · refine And.intro (zv_4 ht) ?_
        rw [ek, k2]
        exact br_t rfl (br_t rfl (j3 _ hpost))
      · refine And.intro (zv_4 ht) ?_
        rw [ek', k2]
        exact br_f (by decide) (And.intro (zv_4 ht) (br_t rfl (br_t rfl (br_t rfl (j4 _ hpost)))))
    · refine jt_mk 9 _ _ (Or.inr (Or.inr (Or.inr (Or.inl rfl)))) (fin 9) (fun post hpost => X0 post ?_) (fun post hpost => Y0 post ?_)
      · refine And.intro (zv_4 ht) ?_
        rw [ek, k3]
        exact br_f (by decide) (br_t rfl (xw_fin ht hpost))
      · refine And.intro (zv_4 ht) ?_
        rw [ek', k3]
        exact br_f (by decide) (And.intro (zv_4 ht) (br_f (by decide) (br_t rfl (yw_fin ht hpost))))
end
end
section
theorem zi_pred {x : Int32} (h : 0 ≤ x.toInt) : (x - 1).toInt = x.toInt - 1 := by
  have e1 : (1 : Int32).toInt = 1 := by decide
  have h2 := x.toInt_lt
  rw [Int32.toInt_sub, e1]
  exact Int.bmod_eq_of_le (by omega) (by omega)
section
variable {b n m last lf t k : Nat} {C : List zr_T} {F : List Nat} {c a : zr_T} {xFt xHc xLc xCl xLf : Int32} {xKs xSt xLk xPh xOk xOy xRs xLr xLw xUr xUw : Nat → Int32} {yCe : Int32} {yLf : Int32} {yLn : Int32} {yLd : Int64} {yS : Nat → Int32} {yK : Nat → Int32} {yI : Nat → Int64} {yPh : Nat → Int32} {yOk : Nat → Int32} {yOy : Nat → Int32} {yRs : Nat → Int32} {yPo : Nat → Int32} {yLi : Nat → Int64} {yLw : Nat → Int32} {yUi : Nat → Int64} {yUw : Nat → Int32} {yMi : Nat → Int64}
/-! ===== tidy ===== -/
theorem jt_tidy (ht : t < 4) (hC : zz_Co b n m last lf C F xFt xHc xLc xCl xLf xKs xSt xLk yCe yLf yLn yLd yS yK yI) (hT : zz_T m last C xPh xOk xOy xRs xLr xLw xUr xUw yPh yOk yOy yRs yPo yLi yLw yUi yUw yMi) (hph : xPh t = 3) : zz_J b (fun post => wpX_tidy post (xFt, xHc, xLc, xCl, xLf, xKs, xSt, xLk, xPh, xOk, xOy, xRs, xLr, xLw, xUr, xUw) (nI t)) (fun post => wpY_tidy post (yCe, yLf, yLn, yLd, yS, yK, yI, yPh, yOk, yOy, yRs, yPo, yLi, yLw, yUi, yUw, yMi) (nI t)) := by
  have hC0 := hC
  obtain ⟨c1, c2, c3, c4, c5, c6, c7, c8, c9, c10, I, Y⟩ := hC
  obtain ⟨hp, hTt⟩ := hT t ht
  rw [hph] at hTt
  rcases hTt with h | h | ⟨h1, h2, h3, h4, h5, h6, s, p, id, h7, h8, h9, h10, h11⟩
  · exact absurd h.1 (by decide)
  · exact absurd h.1 (by decide)
  rcases h11 with h | h | ⟨_, s2, p2, id2, hur, hR2, hmi, hid, hdead⟩
  · exact absurd h.1 (by decide)
  · exact absurd h.1 (by decide)
  have srt := xk_srt I
  have hz : ∀ x, x ∈ C → zr_p x ≠ 0 := fun x hx => xk_tail0 (A := []) (c := zr_0) (R := C) I hx
  by_cases hh : ∃ cu, cu ∈ zr_0 :: C ∧ zr_i cu = id2
  rotate_left
  · refine jt_mk 8 (xFt, xHc, xLc, xCl, xLf, xKs, xSt, xLk, upd xPh t 4, xOk, xOy, upd xRs t 8, xLr, xLw, xUr, xUw) (yCe, yLf, yLn, yLd, yS, yK, yI, upd yPh t 4, yOk, yOy, upd yRs t 8, yPo, yLi, yLw, yUi, yUw, yMi) (Or.inr (Or.inr (Or.inl rfl))) ⟨n, m, last, lf, C, F, hC0, tt_fin hT h1 h2 8⟩ (fun post hpost => ?_) (fun post hpost => ?_)
    · unfold wpX_tidy
      dsimp only
      rw [zc_n (t := t) (by omega), hur]
      exact ⟨zv_4 ht, xw_held I hR2.1 hR2.2.1 (fun x hx q1 q2 => absurd ⟨x, hx, (hR2.2.2.2.1 x hx).mp ⟨q1, q2⟩⟩ hh) (fun _ => br_t rfl (xw_fin ht hpost))⟩
    · unfold wpY_tidy
      dsimp only
      rw [zc_n (t := t) (by omega), hmi]
      exact ⟨zv_4 ht, yw_fate Y hR2.2.2.1 (fun x hx q => absurd ⟨x, List.mem_cons_of_mem _ hx, q⟩ hh) (fun _ => br_t rfl (yw_fin ht hpost))⟩
  obtain ⟨cu, hcuK, hcui⟩ := hh
  have hcud := hdead cu hcuK hcui
  have hcuk : zr_K cu = (xOy t).toInt := by unfold zr_K; rw [hR2.2.2.2.2 cu hcuK hcui]
  have hcur := (hR2.2.2.2.1 cu hcuK).mpr hcui
  have hcuC : cu ∈ C := by
    rcases List.mem_cons.mp hcuK with z | z
    · rw [z] at hcui; exact absurd hcui.symm hid
    · exact z
  have eq1 := zi_pred h5
  obtain ⟨bb, c, H1, H2, g⟩ := xw_low (xLc := xLc) (xCl := xCl) (xLf := xLf) (xPh := xPh) (xOk := xOk) (xOy := xOy) (xRs := xRs) (xLr := xLr) (xLw := xLw) (xUr := xUr) (xUw := xUw) (q := xOy t - 1) I h8 (by omega) (by omega)
  obtain ⟨a, la, _, ft', hc', st', lk', F', J, H3, A, R, e, ea⟩ := xw_win (xLc := xLc) (xCl := xCl) (xLf := xLf) (xPh := xPh) (xOk := xOk) (xOy := xOy) (xRs := xRs) (xLr := xLr) (xLw := xLw) (xUr := xUr) (xUw := xUw) I g
  have noeq : ∀ x, x ∈ C → zr_d x = false → zr_K x ≠ (xOy t).toInt := by
    intro x hx hxd hxk
    have q := zl_sort srt x (List.mem_cons_of_mem _ hx) cu hcuK (by omega)
    rw [q] at hxd
    exact zd_no hcud hxd
  have la' : zz_LA C (xOy t).toInt a := by
    rw [eq1] at la
    rcases la with ⟨q1, q2⟩ | ⟨q1, q2, q3, q4⟩
    · exact Or.inl ⟨q1, fun x hx hxd => by have := q2 x hx hxd; omega⟩
    · have := noeq a q1 q2
      exact Or.inr ⟨q1, q2, by omega, fun x hx hxd hlt => q4 x hx hxd (by omega)⟩
  have Y' : zz_YC last (zz_sS yS yK (zr_k c) (zz_h32 a) 16) yK yI (zz_sw (zr_K c) (zz_hk a) C) := by
    have := yc_sweep Y (zr_k c) (zz_h32 a)
    rw [zh_toInt] at this
    exact this
  have hT' : zz_T m last (zz_sw (zr_K c) (zz_hk a) C) xPh xOk xOy xRs xLr xLw xUr xUw yPh yOk yOy yRs yPo yLi yLw yUi yUw yMi := tt_ext hT ex_sw
  refine jt_mk 8 (ft', hc', xLc, xCl, xLf, xKs, st', lk', upd xPh t 4, xOk, xOy, upd xRs t 8, xLr, xLw, xUr, xUw) (yCe, yLf, yLn, yLd, zz_sS yS yK (zr_k c) (zz_h32 a) 16, yK, yI, upd yPh t 4, yOk, yOy, upd yRs t 8, yPo, yLi, yLw, yUi, yUw, yMi) (Or.inr (Or.inr (Or.inl rfl))) ⟨n, m, last, lf, _, F', ⟨c1, c2, c3, c4, c5, c6, c7, c8, c9, c10, J, Y'⟩, tt_fin hT' h1 h2 8⟩ (fun post hpost => ?_) (fun post hpost => ?_)
  · unfold wpX_tidy
    dsimp only
    rw [zc_n (t := t) (by omega), hur, h7]
    exact ⟨zv_4 ht, xw_held I hR2.1 hR2.2.1 (fun x hx q1 q2 => br_f (by decide) ⟨zv_4 ht, H1 _ ⟨zv_4 ht, H2 _ (H3 _ (xw_fin ht hpost))⟩⟩) (fun z => absurd hcur (z cu hcuK))⟩
  · unfold wpY_tidy
    dsimp only
    rw [zc_n (t := t) (by omega), hmi, h2]
    refine ⟨zv_4 ht, yw_fate Y hR2.2.2.1 (fun x hx q => br_f (zt_0 x) ⟨zv_4 ht, yw_am Y srt g ⟨zv_4 ht, yw_ab Y srt la' ?_⟩⟩) (fun z => absurd hcui (z cu hcuC))⟩
    refine yv_k (Q := fun z => wY_tidy_51 post (nI t) (zr_s a) z yCe yLf yLn yLd yS yK yI yPh yOk yOy yRs yPo yLi yLw yUi yUw yMi) Y g.1 ?_
    refine yv_h (Q := fun z => wY_tidy_69 post (nI t) (zr_k c) z yCe yLf yLn yLd yS yK yI yPh yOk yOy yRs yPo yLi yLw yUi yUw yMi) Y hz (zl_LA la) ?_
    exact yw_sweep (yw_fin ht hpost)
end
/-! ===== step ===== -/
theorem jt_step {b : Nat} {u : SX} {v : SY} (hR : zz_R b u v) (hb : b + 1 < 2 ^ 30) (v1 : Int32) : zz_J (b + 1) (fun post => wpX_step post u v1) (fun post => wpY_step post v v1) := by
  obtain ⟨xFt, xHc, xLc, xCl, xLf, xKs, xSt, xLk, xPh, xOk, xOy, xRs, xLr, xLw, xUr, xUw⟩ := u
  obtain ⟨yCe, yLf, yLn, yLd, yS, yK, yI, yPh, yOk, yOy, yRs, yPo, yLi, yLw, yUi, yUw, yMi⟩ := v
  have hR1 := zz_R_mono hR (Nat.le_succ b)
  obtain ⟨n, m, last, lf, C, F, hC, hT⟩ := hR
  have out : (v1 < 0 ∨ nI 4 ≤ v1) ∨ ∃ t, t < 4 ∧ v1 = nI t := by
    rcases pk_ix v1 (n := 4) (by omega) with h | h | h
    · exact Or.inl (Or.inl h)
    · exact Or.inl (Or.inr h)
    · exact Or.inr h
  rcases out with hv | ⟨t, ht, rfl⟩
  · refine jt_mk 0 _ _ (Or.inl (Or.inl rfl)) hR1 (fun post hpost => ?_) (fun post hpost => ?_)
    · unfold wpX_step
      dsimp only
      exact xw_nth hv (br_t rfl hpost)
    · unfold wpY_step
      dsimp only
      exact yw_bad1 hv (br_f (by decide) hpost)
  · have hp := (hT t ht).1
    have ex : xPh (nI t).toNatClampNeg = xPh t := zc_f (by omega)
    have ey : yPh (nI t).toNatClampNeg = xPh t := (zc_f (by omega)).trans hp
    rcases th_ph (hT t ht) with hid | h1 | h2 | h3
    · have n1 : ¬ xPh t = 1 := by rcases hid with e | e <;> rw [e] <;> decide
      have n2 : ¬ xPh t = 2 := by rcases hid with e | e <;> rw [e] <;> decide
      have n3 : ¬ xPh t = 3 := by rcases hid with e | e <;> rw [e] <;> decide
      refine jt_mk 3 _ _ (Or.inl (Or.inr rfl)) hR1 (fun post hpost => ?_) (fun post hpost => ?_)
      · unfold wpX_step
        dsimp only
        exact xw_thr ht (br_f (by decide) ⟨zv_4 ht, nm_r ex (br_f n1 (br_f n2 (br_f n3 hpost)))⟩)
      · unfold wpY_step
        dsimp only
        rw [ey]
        exact yw_bad0 ht (br_t rfl ⟨zv_4 ht, br_f n1 ⟨zv_4 ht, br_f n2 ⟨zv_4 ht, br_f n3 hpost⟩⟩⟩)
    · obtain ⟨r, ⟨uFt, uHc, uLc, uCl, uLf, uKs, uSt, uLk, uPh, uOk, uOy, uRs, uLr, uLw, uUr, uUw⟩, ⟨vCe, vLf, vLn, vLd, vS, vK, vI, vPh, vOk, vOy, vRs, vPo, vLi, vLw, vUi, vUw, vMi⟩, j1, j2, j3, j4⟩ := jt_seek ht hC hT h1
      refine jt_mk r _ _ j1 (zz_R_mono j2 (Nat.le_succ b)) (fun post hpost => ?_) (fun post hpost => ?_)
      · unfold wpX_step
        dsimp only
        exact xw_thr ht (br_f (by decide) ⟨zv_4 ht, nm_r (ex.trans h1) (br_t rfl (j3 _ hpost))⟩)
      · unfold wpY_step
        dsimp only
        rw [ey, h1]
        exact yw_bad0 ht (br_t rfl ⟨zv_4 ht, br_t rfl (j4 _ hpost)⟩)
    · obtain ⟨r, ⟨uFt, uHc, uLc, uCl, uLf, uKs, uSt, uLk, uPh, uOk, uOy, uRs, uLr, uLw, uUr, uUw⟩, ⟨vCe, vLf, vLn, vLd, vS, vK, vI, vPh, vOk, vOy, vRs, vPo, vLi, vLw, vUi, vUw, vMi⟩, j1, j2, j3, j4⟩ := jt_act ht hb hC hT h2
      refine jt_mk r _ _ j1 j2 (fun post hpost => ?_) (fun post hpost => ?_)
      · unfold wpX_step
        dsimp only
        exact xw_thr ht (br_f (by decide) ⟨zv_4 ht, nm_r (ex.trans h2) (br_f (by decide) (br_t rfl (j3 _ hpost)))⟩)
      · unfold wpY_step
        dsimp only
        rw [ey, h2]
        exact yw_bad0 ht (br_t rfl ⟨zv_4 ht, br_f (by decide) ⟨zv_4 ht, br_t rfl (j4 _ hpost)⟩⟩)
    · obtain ⟨r, ⟨uFt, uHc, uLc, uCl, uLf, uKs, uSt, uLk, uPh, uOk, uOy, uRs, uLr, uLw, uUr, uUw⟩, ⟨vCe, vLf, vLn, vLd, vS, vK, vI, vPh, vOk, vOy, vRs, vPo, vLi, vLw, vUi, vUw, vMi⟩, j1, j2, j3, j4⟩ := jt_tidy ht hC hT h3
      refine jt_mk r _ _ j1 (zz_R_mono j2 (Nat.le_succ b)) (fun post hpost => ?_) (fun post hpost => ?_)
      · unfold wpX_step
        dsimp only
        exact xw_thr ht (br_f (by decide) ⟨zv_4 ht, nm_r (ex.trans h3) (br_f (by decide) (br_f (by decide) (br_t rfl (j3 _ hpost))))⟩)
      · unfold wpY_step
        dsimp only
        rw [ey, h3]
        exact yw_bad0 ht (br_t rfl ⟨zv_4 ht, br_f (by decide) ⟨zv_4 ht, br_f (by decide) ⟨zv_4 ht, br_t rfl (j4 _ hpost)⟩⟩⟩)
/-! ===== run ===== -/
theorem jt_run (v1 : Int32) (k : Nat) (hk : k ≤ 64) : ∀ (d i b : Nat) (x : Int32) (xFt xHc xLc xCl xLf : Int32) (xKs xSt xLk xPh xOk xOy xRs xLr xLw xUr xUw : Nat → Int32) (yCe : Int32) (yLf : Int32) (yLn : Int32) (yLd : Int64) (yS : Nat → Int32) (yK : Nat → Int32) (yI : Nat → Int64) (yPh : Nat → Int32) (yOk : Nat → Int32) (yOy : Nat → Int32) (yRs : Nat → Int32) (yPo : Nat → Int32) (yLi : Nat → Int64) (yLw : Nat → Int32) (yUi : Nat → Int64) (yUw : Nat → Int32) (yMi : Nat → Int64), i + d = k → zz_R b (xFt, xHc, xLc, xCl, xLf, xKs, xSt, xLk, xPh, xOk, xOy, xRs, xLr, xLw, xUr, xUw) (yCe, yLf, yLn, yLd, yS, yK, yI, yPh, yOk, yOy, yRs, yPo, yLi, yLw, yUi, yUw, yMi) → b + d < 2 ^ 30 → ∃ r u' v', zz_R (b + d) u' v' ∧ (∀ post : Int32 → SX → Prop, post r u' → wX_run_15 post v1 (nI k) (d + 1) x (nI i) xFt xHc xLc xCl xLf xKs xSt xLk xPh xOk xOy xRs xLr xLw xUr xUw) ∧ (∀ post : Int32 → SY → Prop, post r v' → wY_run_28 post v1 (nI k) (d + 1) x (nI i) yCe yLf yLn yLd yS yK yI yPh yOk yOy yRs yPo yLi yLw yUi yUw yMi) := by
  intro d
  induction d with
  | zero =>
    intro i b x xFt xHc xLc xCl xLf xKs xSt xLk xPh xOk xOy xRs xLr xLw xUr xUw yCe yLf yLn yLd yS yK yI yPh yOk yOy yRs yPo yLi yLw yUi yUw yMi hi hR hb
    have e : i = k := by omega
    subst e
    exact ⟨x, _, _, hR, fun post hpost => br_t (nI_le (Nat.le_refl _) (by omega)) hpost, fun post hpost => br_t (nI_le (Nat.le_refl _) (by omega)) hpost⟩
  | succ d ih =>
    intro i b x xFt xHc xLc xCl xLf xKs xSt xLk xPh xOk xOy xRs xLr xLw xUr xUw yCe yLf yLn yLd yS yK yI yPh yOk yOy yRs yPo yLi yLw yUi yUw yMi hi hR hb
    have hlt : ¬ nI k ≤ nI i := nI_ge (by omega) (by omega)
    obtain ⟨r, ⟨uFt, uHc, uLc, uCl, uLf, uKs, uSt, uLk, uPh, uOk, uOy, uRs, uLr, uLw, uUr, uUw⟩, ⟨vCe, vLf, vLn, vLd, vS, vK, vI, vPh, vOk, vOy, vRs, vPo, vLi, vLw, vUi, vUw, vMi⟩, j1, j2, j3, j4⟩ := jt_step hR (by omega) v1
    rcases j1 with j1 | j1 | j1
    · refine ⟨r, _, _, zz_R_mono j2 (by omega), fun post hpost => br_f hlt (j3 _ ?_), fun post hpost => br_f hlt (j4 _ ?_)⟩
      · rcases j1 with rfl | rfl
        · exact br_t rfl hpost
        · exact br_f (by decide) (br_t rfl hpost)
      · rcases j1 with rfl | rfl
        · exact br_t rfl hpost
        · exact br_f (by decide) (br_t rfl hpost)
    · obtain ⟨r', u', v', k1, k2, k3⟩ := ih (i + 1) (b + 1) r _ _ _ _ _ _ _ _ _ _ _ _ _ _ _ _ _ _ _ _ _ _ _ _ _ _ _ _ _ _ _ _ _ (by omega) j2 (by omega)
      refine ⟨r', u', v', zz_R_mono k1 (by omega), fun post hpost => br_f hlt (j3 _ ?_), fun post hpost => br_f hlt (j4 _ ?_)⟩
      · have q := nm_r (P := fun z => wX_run_15 post v1 (nI k) (d + 1) r z uFt uHc uLc uCl uLf uKs uSt uLk uPh uOk uOy uRs uLr uLw uUr uUw) (nI_1 i) (k2 post hpost)
        rcases j1 with rfl | rfl | rfl | rfl <;> exact br_f (by decide) (br_f (by decide) (br_t (by decide) q))
      · have q := nm_r (P := fun z => wY_run_28 post v1 (nI k) (d + 1) r z vCe vLf vLn vLd vS vK vI vPh vOk vOy vRs vPo vLi vLw vUi vUw vMi) (nI_1 i) (k3 post hpost)
        rcases j1 with rfl | rfl | rfl | rfl <;> exact br_f (by decide) (br_f (by decide) (br_f (by decide) (br_f (by decide) (br_f (by decide) (br_f (by decide) q)))))
    · refine ⟨r, _, _, zz_R_mono j2 (by omega), fun post hpost => br_f hlt (j3 _ ?_), fun post hpost => br_f hlt (j4 _ ?_)⟩
      · rcases j1 with rfl | rfl | rfl | rfl <;> exact br_f (by decide) (br_f (by decide) (br_f (by decide) hpost))
      · rcases j1 with rfl | rfl | rfl | rfl
        · exact br_f (by decide) (br_f (by decide) (br_t rfl hpost))
        · exact br_f (by decide) (br_f (by decide) (br_f (by decide) (br_t rfl hpost)))
        · exact br_f (by decide) (br_f (by decide) (br_f (by decide) (br_f (by decide) (br_t rfl hpost))))
        · exact br_f (by decide) (br_f (by decide) (br_f (by decide) (br_f (by decide) (br_f (by decide) (br_t rfl hpost)))))
end
section
/-! ===== begin, drop, renew ===== -/
def zz_Q (b : Nat) (WX : (Int32 → SX → Prop) → Prop) (WY : (Int32 → SY → Prop) → Prop) : Prop := ∃ r u' v', zz_R b u' v' ∧ (∀ post : Int32 → SX → Prop, post r u' → WX post) ∧ (∀ post : Int32 → SY → Prop, post r v' → WY post)
theorem jq_mk {b : Nat} {WX : (Int32 → SX → Prop) → Prop} {WY : (Int32 → SY → Prop) → Prop} (r : Int32) (u' : SX) (v' : SY) (h2 : zz_R b u' v') (h3 : ∀ post : Int32 → SX → Prop, post r u' → WX post) (h4 : ∀ post : Int32 → SY → Prop, post r v' → WY post) : zz_Q b WX WY := ⟨r, u', v', h2, h3, h4⟩
theorem zo_out (v1 : Int32) : (v1 < 0 ∨ nI 4 ≤ v1) ∨ ∃ t, t < 4 ∧ v1 = nI t := by
  rcases pk_ix v1 (n := 4) (by omega) with h | h | h
  · exact Or.inl (Or.inl h)
  · exact Or.inl (Or.inr h)
  · exact Or.inr h
theorem zo_kind (x : Int32) : (x = 1 ∨ x = 2 ∨ x = 3) ∨ ((x < 1 ∨ ¬ x ≤ 3) ∧ ¬ x = 1 ∧ ¬ x = 2 ∧ ¬ x = 3) := by
  by_cases h1 : x = 1
  · exact Or.inl (Or.inl h1)
  by_cases h2 : x = 2
  · exact Or.inl (Or.inr (Or.inl h2))
  by_cases h3 : x = 3
  · exact Or.inl (Or.inr (Or.inr h3))
  refine Or.inr ⟨?_, h1, h2, h3⟩
  have e1 : (1 : Int32).toInt = 1 := by decide
  have e2 : (2 : Int32).toInt = 2 := by decide
  have e3 : (3 : Int32).toInt = 3 := by decide
  have n1 : x.toInt ≠ 1 := fun z => h1 (Int32.toInt_inj.mp (z.trans e1.symm))
  have n2 : x.toInt ≠ 2 := fun z => h2 (Int32.toInt_inj.mp (z.trans e2.symm))
  have n3 : x.toInt ≠ 3 := fun z => h3 (Int32.toInt_inj.mp (z.trans e3.symm))
  rw [Int32.lt_iff_toInt_lt, Int32.le_iff_toInt_le, e1, e3]
  omega
section
variable {b n m last lf t k : Nat} {C : List zr_T} {F : List Nat} {c a : zr_T} {xFt xHc xLc xCl xLf : Int32} {xKs xSt xLk xPh xOk xOy xRs xLr xLw xUr xUw : Nat → Int32} {yCe : Int32} {yLf : Int32} {yLn : Int32} {yLd : Int64} {yS : Nat → Int32} {yK : Nat → Int32} {yI : Nat → Int64} {yPh : Nat → Int32} {yOk : Nat → Int32} {yOy : Nat → Int32} {yRs : Nat → Int32} {yPo : Nat → Int32} {yLi : Nat → Int64} {yLw : Nat → Int32} {yUi : Nat → Int64} {yUw : Nat → Int32} {yMi : Nat → Int64}
theorem jq_begin {u : SX} {v : SY} (hR : zz_R b u v) (v1 v2 v3 : Int32) : zz_Q b (fun post => wpX_begin post u v1 v2 v3) (fun post => wpY_begin post v v1 v2 v3) := by
  obtain ⟨xFt, xHc, xLc, xCl, xLf, xKs, xSt, xLk, xPh, xOk, xOy, xRs, xLr, xLw, xUr, xUw⟩ := u
  obtain ⟨yCe, yLf, yLn, yLd, yS, yK, yI, yPh, yOk, yOy, yRs, yPo, yLi, yLw, yUi, yUw, yMi⟩ := v
  have hR1 := hR
  obtain ⟨n, m, last, lf, C, F, hC, hT⟩ := hR
  rcases zo_out v1 with hv | ⟨t, ht, rfl⟩
  · refine jq_mk 0 _ _ hR1 (fun post hpost => ?_) (fun post hpost => ?_)
    · unfold wpX_begin
      dsimp only
      exact xw_nth hv (br_t rfl hpost)
    · unfold wpY_begin
      dsimp only
      exact yw_bad1 hv (br_f (by decide) hpost)
  · rcases zo_kind v2 with hk | ⟨hk, n1, n2, n3⟩
    rotate_left
    · refine jq_mk 0 _ _ hR1 (fun post hpost => ?_) (fun post hpost => ?_)
      · unfold wpX_begin
        dsimp only
        exact xw_thr ht (br_f (by decide) (br_c (fun _ => hpost) (fun h => br_f (hk.resolve_left h) hpost)))
      · unfold wpY_begin
        dsimp only
        exact yw_bad0 ht (br_t rfl (br_f n1 (br_f n2 (br_f n3 hpost))))
    have k1 : ¬ v2 < 1 := by rcases hk with e | e | e <;> rw [e] <;> decide
    have k2 : v2 ≤ 3 := by rcases hk with e | e | e <;> rw [e] <;> decide
    have YB : ∀ post : Int32 → SY → Prop, wY_begin_27 post (nI t) v2 v3 yCe yLf yLn yLd yS yK yI yPh yOk yOy yRs yPo yLi yLw yUi yUw yMi → wpY_begin post (yCe, yLf, yLn, yLd, yS, yK, yI, yPh, yOk, yOy, yRs, yPo, yLi, yLw, yUi, yUw, yMi) (nI t) v2 v3 := by
      intro post h
      unfold wpY_begin
      dsimp only
      refine yw_bad0 ht (br_t rfl (br_c (fun _ => h) (fun n1 => br_c (fun _ => h) (fun n2 => br_c (fun _ => h) (fun n3 => ?_)))))
      rcases hk with e | e | e
      · exact absurd e n1
      · exact absurd e n2
      · exact absurd e n3
    by_cases h0 : v3 < 0
    · refine jq_mk 0 _ _ hR1 (fun post hpost => ?_) (fun post hpost => YB post (br_t h0 hpost))
      unfold wpX_begin
      dsimp only
      exact xw_thr ht (br_f (by decide) (br_f k1 (br_t k2 (br_t h0 hpost))))
    by_cases h9 : v3 ≤ 9999
    rotate_left
    · refine jq_mk 0 _ _ hR1 (fun post hpost => ?_) (fun post hpost => YB post (br_f h0 (br_f h9 hpost)))
      unfold wpX_begin
      dsimp only
      exact xw_thr ht (br_f (by decide) (br_f k1 (br_t k2 (br_f h0 (br_f h9 hpost)))))
    have hp := (hT t ht).1
    rcases th_ph (hT t ht) with hid | hbu
    rotate_left
    · refine jq_mk 2 _ _ hR1 (fun post hpost => ?_) (fun post hpost => YB post (br_f h0 (br_t h9 (yw_busy1 ht (by rw [hp]; exact hbu) (br_f (by decide) hpost)))))
      unfold wpX_begin
      dsimp only
      exact xw_thr ht (br_f (by decide) (br_f k1 (br_t k2 (br_f h0 (br_t h9 (xw_busy1 ht hbu (br_f (by decide) hpost)))))))
    refine jq_mk 1 (xFt, xHc, xLc, xCl, xLf, xKs, xSt, xLk, upd xPh t 1, upd xOk t v2, upd xOy t v3, upd xRs t 0, upd xLr t 0, upd xLw t (-1), upd xUr t 0, upd xUw t (-1)) (yCe, yLf, yLn, yLd, yS, yK, yI, upd yPh t 1, upd yOk t v2, upd yOy t v3, yRs, upd yPo t (-1), yLi, yLw, yUi, yUw, yMi) ?_ (fun post hpost => ?_) (fun post hpost => YB post (br_f h0 (br_t h9 (yw_busy0 ht (by rw [hp]; exact hid) (br_t rfl ?_)))))
    · refine ⟨n, m, last, lf, C, F, hC, fun t' ht' => ?_⟩
      by_cases e : t' = t
      · rw [e]
        simp only [pk_us]
        have e1 : (-1 : Int32).toInt = -1 := by decide
        have e0 : (0 : Int32).toInt = 0 := by decide
        have e9 : (9999 : Int32).toInt = 9999 := by decide
        have q0 : ¬ v3.toInt < 0 := fun z => h0 (Int32.lt_iff_toInt_lt.mpr (by rw [e0]; exact z))
        have q9 : v3.toInt ≤ 9999 := by have := Int32.le_iff_toInt_le.mp h9; rw [e9] at this; exact this
        exact ⟨rfl, Or.inr (Or.inr ⟨rfl, rfl, rfl, hk, by omega, q9, 0, 0, 0, rf_00.symm, rx_of (c := zr_0) hC.2.2.2.2.2.2.2.2.2.2.1 hC.2.2.2.2.2.2.2.2.2.2.2 List.mem_cons_self, by rw [e1]; exact Int.le_refl _, by rw [e1]; omega, Or.inl ⟨rfl, rfl⟩⟩)⟩
      · simp only [pk_un e]
        exact hT t' ht'
    · unfold wpX_begin
      dsimp only
      exact xw_thr ht (br_f (by decide) (br_f k1 (br_t k2 (br_f h0 (br_t h9 (xw_busy0 ht hid (br_t rfl (And.intro (zv_4 ht) (nm_r (zc_u (by omega)) (And.intro (zv_4 ht) (nm_r (zc_u (by omega)) (And.intro (zv_4 ht) (nm_r (zc_u (by omega)) (xw_toStart ht hpost))))))))))))))
    · exact And.intro (zv_4 ht) (nm_r (zc_u (by omega)) (And.intro (zv_4 ht) (nm_r (zc_u (by omega)) (And.intro (zv_4 ht) (nm_r (zc_u (by omega)) (And.intro (zv_4 ht) (nm_r (zc_u (by omega)) hpost)))))))
theorem jq_drop {u : SX} {v : SY} (hR : zz_R b u v) (v1 : Int32) : zz_Q b (fun post => wpX_drop post u v1) (fun post => wpY_drop post v v1) := by
  obtain ⟨xFt, xHc, xLc, xCl, xLf, xKs, xSt, xLk, xPh, xOk, xOy, xRs, xLr, xLw, xUr, xUw⟩ := u
  obtain ⟨yCe, yLf, yLn, yLd, yS, yK, yI, yPh, yOk, yOy, yRs, yPo, yLi, yLw, yUi, yUw, yMi⟩ := v
  have hR1 := hR
  obtain ⟨n, m, last, lf, C, F, hC, hT⟩ := hR
  rcases zo_out v1 with hv | ⟨t, ht, rfl⟩
  · refine jq_mk 0 _ _ hR1 (fun post hpost => ?_) (fun post hpost => ?_)
    · unfold wpX_drop
      dsimp only
      exact xw_nth hv (br_t rfl hpost)
    · unfold wpY_drop
      dsimp only
      exact yw_bad1 hv (br_f (by decide) hpost)
  · have hp := (hT t ht).1
    by_cases h0 : xPh t = 0
    · refine jq_mk 3 _ _ hR1 (fun post hpost => ?_) (fun post hpost => ?_)
      · unfold wpX_drop
        dsimp only
        rw [zc_n (t := t) (by omega)]
        exact xw_thr ht (br_f (by decide) ⟨zv_4 ht, br_t h0 hpost⟩)
      · unfold wpY_drop
        dsimp only
        rw [zc_n (t := t) (by omega)]
        exact yw_bad0 ht (br_t rfl ⟨zv_4 ht, br_t (hp.trans h0) hpost⟩)
    · refine jq_mk 1 (xFt, xHc, xLc, xCl, xLf, xKs, xSt, xLk, upd xPh t 0, upd xOk t 0, upd xOy t (-1), upd xRs t 0, upd xLr t 0, upd xLw t (-1), upd xUr t 0, upd xUw t (-1)) (yCe, yLf, yLn, yLd, yS, yK, yI, upd yPh t 0, yOk, yOy, yRs, yPo, yLi, yLw, yUi, yUw, yMi) ?_ (fun post hpost => ?_) (fun post hpost => ?_)
      · refine ⟨n, m, last, lf, C, F, hC, fun t' ht' => ?_⟩
        by_cases e : t' = t
        · rw [e]
          simp only [pk_us]
          exact ⟨rfl, Or.inl ⟨rfl, rfl, rfl, rfl⟩⟩
        · simp only [pk_un e]
          exact hT t' ht'
      · unfold wpX_drop
        dsimp only
        rw [zc_n (t := t) (by omega)]
        exact xw_thr ht (br_f (by decide) ⟨zv_4 ht, br_f h0 (xw_clear ht hpost)⟩)
      · unfold wpY_drop
        dsimp only
        rw [zc_n (t := t) (by omega)]
        exact yw_bad0 ht (br_t rfl ⟨zv_4 ht, br_f (by rw [hp]; exact h0) ⟨zv_4 ht, nm_e hpost⟩⟩)
/-! ===== renew ===== -/
theorem xw_renew {post : Int32 → SX → Prop} (hph : ∀ t, t < 4 → (xPh t = 0 ∨ xPh t = 4) ∨ (xPh t = 1 ∨ xPh t = 2 ∨ xPh t = 3)) (H2 : ¬ (∀ t, t < 4 → (xPh t = 0 ∨ xPh t = 4)) → post 2 (xFt, xHc, xLc, xCl, xLf, xKs, xSt, xLk, xPh, xOk, xOy, xRs, xLr, xLw, xUr, xUw)) (H1 : (∀ t, t < 4 → (xPh t = 0 ∨ xPh t = 4)) → wpX_restampAll (fun u => match u with | (xFt, xHc, xLc, xCl, xLf, xKs, xSt, xLk, xPh, xOk, xOy, xRs, xLr, xLw, xUr, xUw) => post 1 (xFt, xHc, 0, xCl, xLf, xKs, xSt, xLk, xPh, xOk, xOy, xRs, xLr, xLw, xUr, xUw)) (xFt, xHc, xLc, xCl, xLf, xKs, xSt, xLk, xPh, xOk, xOy, xRs, xLr, xLw, xUr, xUw)) : ∀ (d i : Nat), i + d = 4 → (∀ j, j < i → (xPh j = 0 ∨ xPh j = 4)) → wX_renew_2 post xFt xHc xLc xCl xLf xKs xSt xLk xPh xOk xOy xRs xLr xLw xUr xUw (d + 1) (nI i) := by
  intro d
  induction d with
  | zero =>
    intro i hi h
    have e : i = 4 := by omega
    subst e
    exact br_t (nI_le (a := 4) (b := 4) (by omega) (by decide)) (H1 h)
  | succ d ih =>
    intro i hi h
    have hi4 : i < 4 := by omega
    refine br_f (nI_ge (b := 4) hi4 (by decide)) ?_
    rcases hph i hi4 with hid | hbu
    · exact xw_busy0 hi4 hid (br_t rfl (nm_r (nI_1 i) (ih (i + 1) (by omega) (zj_lt h hid))))
    · refine xw_busy1 hi4 hbu (br_f (by decide) (H2 (fun z => ?_)))
      have q := z i hi4
      rcases hbu with e | e | e <;> rw [e] at q <;> exact absurd q (by decide)
theorem yw_renew {post : Int32 → SY → Prop} (hph : ∀ t, t < 4 → (yPh t = 0 ∨ yPh t = 4) ∨ (yPh t = 1 ∨ yPh t = 2 ∨ yPh t = 3)) (H2 : ¬ (∀ t, t < 4 → (yPh t = 0 ∨ yPh t = 4)) → post 2 (yCe, yLf, yLn, yLd, yS, yK, yI, yPh, yOk, yOy, yRs, yPo, yLi, yLw, yUi, yUw, yMi)) (H1 : (∀ t, t < 4 → (yPh t = 0 ∨ yPh t = 4)) → post 1 (yCe, yLf, 0, yLd, zz_sS yS yK (-1) 10000 16, yK, yI, yPh, yOk, yOy, yRs, yPo, yLi, yLw, yUi, yUw, yMi)) : ∀ (d i : Nat), i + d = 4 → (∀ j, j < i → (yPh j = 0 ∨ yPh j = 4)) → wY_renew_2 post yCe yLf yLn yLd yS yK yI yPh yOk yOy yRs yPo yLi yLw yUi yUw yMi (d + 1) (nI i) := by
  intro d
  induction d with
  | zero =>
    intro i hi h
    have e : i = 4 := by omega
    subst e
    exact br_t (nI_le (a := 4) (b := 4) (by omega) (by decide)) (yw_sweep (H1 h))
  | succ d ih =>
    intro i hi h
    have hi4 : i < 4 := by omega
    refine br_f (nI_ge (b := 4) hi4 (by decide)) ?_
    rcases hph i hi4 with hid | hbu
    · exact yw_busy0 hi4 hid (br_t rfl (nm_r (nI_1 i) (ih (i + 1) (by omega) (zj_lt h hid))))
    · refine yw_busy1 hi4 hbu (br_f (by decide) (H2 (fun z => ?_)))
      have q := z i hi4
      rcases hbu with e | e | e <;> rw [e] at q <;> exact absurd q (by decide)
theorem jq_renew {u : SX} {v : SY} (hR : zz_R b u v) : zz_Q b (fun post => wpX_renew post u) (fun post => wpY_renew post v) := by
  obtain ⟨xFt, xHc, xLc, xCl, xLf, xKs, xSt, xLk, xPh, xOk, xOy, xRs, xLr, xLw, xUr, xUw⟩ := u
  obtain ⟨yCe, yLf, yLn, yLd, yS, yK, yI, yPh, yOk, yOy, yRs, yPo, yLi, yLw, yUi, yUw, yMi⟩ := v
  have hR1 := hR
  obtain ⟨n, m, last, lf, C, F, ⟨c1, c2, c3, c4, c5, c6, c7, c8, c9, c10, I, Y⟩, hT⟩ := hR
  have px : ∀ t, t < 4 → (xPh t = 0 ∨ xPh t = 4) ∨ (xPh t = 1 ∨ xPh t = 2 ∨ xPh t = 3) := fun t ht => th_ph (hT t ht)
  have py : ∀ t, t < 4 → (yPh t = 0 ∨ yPh t = 4) ∨ (yPh t = 1 ∨ yPh t = 2 ∨ yPh t = 3) := fun t ht => by rw [(hT t ht).1]; exact px t ht
  by_cases hall : ∀ t, t < 4 → (xPh t = 0 ∨ xPh t = 4)
  · have hall' : ∀ t, t < 4 → (yPh t = 0 ∨ yPh t = 4) := fun t ht => by rw [(hT t ht).1]; exact hall t ht
    obtain ⟨ft', hc', st', lk', F', J, H⟩ := xw_rs (xLc := xLc) (xCl := xCl) (xLf := xLf) (xPh := xPh) (xOk := xOk) (xOy := xOy) (xRs := xRs) (xLr := xLr) (xLw := xLw) (xUr := xUr) (xUw := xUw) I
    refine jq_mk 1 (ft', hc', 0, xCl, xLf, xKs, st', lk', xPh, xOk, xOy, xRs, xLr, xLw, xUr, xUw) (yCe, yLf, 0, yLd, zz_sS yS yK (-1) 10000 16, yK, yI, yPh, yOk, yOy, yRs, yPo, yLi, yLw, yUi, yUw, yMi) ?_ (fun post hpost => ?_) (fun post hpost => ?_)
    · have srt := xk_srt I
      have es : zz_sw (-1 : Int32).toInt (10000 : Int32).toInt C = C.filter (fun c => !zr_d c) := by
        unfold zz_sw
        refine List.filter_congr (fun x hx => ?_)
        have q1 := (List.pairwise_cons.mp srt).1 x hx
        have q2 := xk_top I (List.mem_cons_of_mem _ hx)
        have e1 : (-1 : Int32).toInt = -1 := by decide
        have e2 : (10000 : Int32).toInt = 10000 := by decide
        rw [zr_K0] at q1
        rw [e1, e2, decide_eq_true q1, decide_eq_true (by omega : zr_K x < 10000), Bool.and_true, Bool.and_true]
      have Y1 := yc_sweep Y (-1) 10000
      rw [es] at Y1
      have J0 : zz_XK n 0 ft' hc' xKs st' lk' (zr_0 :: zz_rs C) F' := by
        obtain ⟨i1, i2, i3, i4, i5, i6, i7, i8, i9, i10, i11, i12, i13⟩ := J
        refine ⟨i1, i2, i3, i4, i5, fun x hx => ?_, i7, i8, i9, i10, i11, i12, by omega⟩
        have q := i6 x hx
        refine ⟨q.1, q.2.1, q.2.2.1, ?_⟩
        rcases List.mem_cons.mp hx with z | z
        · rw [z]; exact Nat.le_refl _
        · obtain ⟨y, _, rfl⟩ := List.mem_map.mp z
          exact Nat.le_refl _
      refine ⟨n, 0, last, lf, zz_rs C, F', ⟨nI_0.symm, c2, c3, by omega, c5, c6, c7, nI_0.symm, c9, c10, J0, yc_r0 Y1⟩, fun t ht => th_idle (hT t ht) (hall t ht)⟩
    · exact ⟨5, xw_renew px (fun z => absurd hall z) (fun _ => H _ hpost) 4 0 rfl (fun j hj => absurd hj (Nat.not_lt_zero j))⟩
    · exact ⟨5, yw_renew py (fun z => absurd hall' z) (fun _ => hpost) 4 0 rfl (fun j hj => absurd hj (Nat.not_lt_zero j))⟩
  · refine jq_mk 2 _ _ hR1 (fun post hpost => ?_) (fun post hpost => ?_)
    · exact ⟨5, xw_renew px (fun _ => hpost) (fun z => absurd z hall) 4 0 rfl (fun j hj => absurd hj (Nat.not_lt_zero j))⟩
    · exact ⟨5, yw_renew py (fun _ => hpost) (fun z => absurd (fun t ht => by rw [← (hT t ht).1]; exact z t ht) hall) 4 0 rfl (fun j hj => absurd hj (Nat.not_lt_zero j))⟩
end
end
section
/-! ===== the calls that only read: one answer for both ===== -/
theorem th_nz {K : List zr_T} {m last : Nat} {ph ok oy rs lr lw ur uw ph' ok' oy' rs' po' lw' uw' : Int32} {li' ui' mi' : Int64} (h : zz_Th K m last ph ok oy rs lr lw ur uw ph' ok' oy' rs' po' li' lw' ui' uw' mi') : (ph = 0 ∧ ok = 0 ∧ oy = -1 ∧ rs = 0) ∨ (¬ ph = 0 ∧ ok' = ok ∧ oy' = oy ∧ ((ph = 4 ∧ rs' = rs) ∨ (¬ ph = 4 ∧ rs = 0))) := by
  rcases h.2 with h | h | ⟨h1, h2, h3, h4, h5, h6, s, p, id, h7, h8, h9, h10, h11⟩
  · exact Or.inl h
  · exact Or.inr ⟨by rw [h.1]; decide, h.2.1, h.2.2.1, Or.inl ⟨h.1, h.2.2.2⟩⟩
  · refine Or.inr ⟨?_, h1, h2, Or.inr ⟨?_, h3⟩⟩
    · rcases h11 with h | h | h <;> rw [h.1] <;> decide
    · rcases h11 with h | h | h <;> rw [h.1] <;> decide
section
variable {b n m last lf t k : Nat} {C : List zr_T} {F : List Nat} {c a : zr_T} {xFt xHc xLc xCl xLf : Int32} {xKs xSt xLk xPh xOk xOy xRs xLr xLw xUr xUw : Nat → Int32} {yCe : Int32} {yLf : Int32} {yLn : Int32} {yLd : Int64} {yS : Nat → Int32} {yK : Nat → Int32} {yI : Nat → Int64} {yPh : Nat → Int32} {yOk : Nat → Int32} {yOy : Nat → Int32} {yRs : Nat → Int32} {yPo : Nat → Int32} {yLi : Nat → Int64} {yLw : Nat → Int32} {yUi : Nat → Int64} {yUw : Nat → Int32} {yMi : Nat → Int64} {u : SX} {v : SY} {Q : Int32 → Int32 → Prop}
theorem gt_phase (hR : zz_R b u v) (hq : ∀ r, Q r r) (v1 : Int32) : wpX_phase (fun r => wpY_phase (fun r' => Q r' r) v v1) u v1 := by
  obtain ⟨xFt, xHc, xLc, xCl, xLf, xKs, xSt, xLk, xPh, xOk, xOy, xRs, xLr, xLw, xUr, xUw⟩ := u
  obtain ⟨yCe, yLf, yLn, yLd, yS, yK, yI, yPh, yOk, yOy, yRs, yPo, yLi, yLw, yUi, yUw, yMi⟩ := v
  obtain ⟨n, m, last, lf, C, F, hC, hT⟩ := hR
  unfold wpX_phase wpY_phase
  dsimp only
  rcases zo_out v1 with hv | ⟨t, ht, rfl⟩
  · exact xw_nth hv (br_t rfl (yw_bad1 hv (br_f (by decide) (hq _))))
  · rw [zc_n (t := t) (by omega), (hT t ht).1]
    exact xw_thr ht (br_f (by decide) ⟨zv_4 ht, yw_bad0 ht (br_t rfl ⟨zv_4 ht, hq _⟩)⟩)
theorem gt_kind (hR : zz_R b u v) (hq : ∀ r, Q r r) (v1 : Int32) : wpX_kind (fun r => wpY_kind (fun r' => Q r' r) v v1) u v1 := by
  obtain ⟨xFt, xHc, xLc, xCl, xLf, xKs, xSt, xLk, xPh, xOk, xOy, xRs, xLr, xLw, xUr, xUw⟩ := u
  obtain ⟨yCe, yLf, yLn, yLd, yS, yK, yI, yPh, yOk, yOy, yRs, yPo, yLi, yLw, yUi, yUw, yMi⟩ := v
  obtain ⟨n, m, last, lf, C, F, hC, hT⟩ := hR
  unfold wpX_kind wpY_kind
  dsimp only
  rcases zo_out v1 with hv | ⟨t, ht, rfl⟩
  · exact xw_nth hv (br_t rfl (yw_bad1 hv (br_f (by decide) (hq _))))
  · rw [zc_n (t := t) (by omega), (hT t ht).1]
    refine xw_thr ht (br_f (by decide) ⟨zv_4 ht, yw_bad0 ht (br_t rfl ⟨zv_4 ht, ?_⟩)⟩)
    rcases th_nz (hT t ht) with h | h
    · rw [h.2.1]; exact br_t h.1 (hq _)
    · rw [h.2.1]; exact br_f h.1 ⟨zv_4 ht, hq _⟩
theorem gt_key (hR : zz_R b u v) (hq : ∀ r, Q r r) (v1 : Int32) : wpX_key (fun r => wpY_key (fun r' => Q r' r) v v1) u v1 := by
  obtain ⟨xFt, xHc, xLc, xCl, xLf, xKs, xSt, xLk, xPh, xOk, xOy, xRs, xLr, xLw, xUr, xUw⟩ := u
  obtain ⟨yCe, yLf, yLn, yLd, yS, yK, yI, yPh, yOk, yOy, yRs, yPo, yLi, yLw, yUi, yUw, yMi⟩ := v
  obtain ⟨n, m, last, lf, C, F, hC, hT⟩ := hR
  unfold wpX_key wpY_key
  dsimp only
  rcases zo_out v1 with hv | ⟨t, ht, rfl⟩
  · exact xw_nth hv (br_t rfl (yw_bad1 hv (br_f (by decide) (hq _))))
  · rw [zc_n (t := t) (by omega), (hT t ht).1]
    refine xw_thr ht (br_f (by decide) ⟨zv_4 ht, yw_bad0 ht (br_t rfl ⟨zv_4 ht, ?_⟩)⟩)
    rcases th_nz (hT t ht) with h | h
    · rw [h.2.2.1]; exact br_t h.1 (hq _)
    · rw [h.2.2.1]; exact br_f h.1 ⟨zv_4 ht, hq _⟩
theorem gt_result (hR : zz_R b u v) (hq : ∀ r, Q r r) (v1 : Int32) : wpX_result (fun r => wpY_result (fun r' => Q r' r) v v1) u v1 := by
  obtain ⟨xFt, xHc, xLc, xCl, xLf, xKs, xSt, xLk, xPh, xOk, xOy, xRs, xLr, xLw, xUr, xUw⟩ := u
  obtain ⟨yCe, yLf, yLn, yLd, yS, yK, yI, yPh, yOk, yOy, yRs, yPo, yLi, yLw, yUi, yUw, yMi⟩ := v
  obtain ⟨n, m, last, lf, C, F, hC, hT⟩ := hR
  unfold wpX_result wpY_result
  dsimp only
  rcases zo_out v1 with hv | ⟨t, ht, rfl⟩
  · exact xw_nth hv (br_t rfl (yw_bad1 hv (br_f (by decide) (hq _))))
  · rw [zc_n (t := t) (by omega), (hT t ht).1]
    refine xw_thr ht (br_f (by decide) ⟨zv_4 ht, yw_bad0 ht (br_t rfl ⟨zv_4 ht, ?_⟩)⟩)
    rcases th_nz (hT t ht) with h | ⟨_, _, _, h | h⟩
    · rw [h.2.2.2]; exact br_f (by rw [h.1]; decide) (hq _)
    · rw [h.2]; exact br_t h.1 ⟨zv_4 ht, hq _⟩
    · rw [h.2]; exact br_f h.1 (hq _)
theorem gt_position (hR : zz_R b u v) (hq : ∀ r, Q r r) (v1 : Int32) : wpX_position (fun r => wpY_position (fun r' => Q r' r) v v1) u v1 := by
  obtain ⟨xFt, xHc, xLc, xCl, xLf, xKs, xSt, xLk, xPh, xOk, xOy, xRs, xLr, xLw, xUr, xUw⟩ := u
  obtain ⟨yCe, yLf, yLn, yLd, yS, yK, yI, yPh, yOk, yOy, yRs, yPo, yLi, yLw, yUi, yUw, yMi⟩ := v
  obtain ⟨n, m, last, lf, C, F, hC, hT⟩ := hR
  unfold wpX_position wpY_position
  dsimp only
  rcases zo_out v1 with hv | ⟨t, ht, rfl⟩
  · exact xw_nth hv (br_t rfl (yw_bad1 hv (br_f (by decide) (hq _))))
  · rw [zc_n (t := t) (by omega), (hT t ht).1]
    have hz := zv_4 ht
    rcases (hT t ht).2 with h | h | ⟨h1, h2, h3, h4, h5, h6, s, p, id, h7, h8, h9, h10, h11⟩
    · rw [h.1]
      exact xw_thr ht (br_f (by decide) ⟨hz, br_f (by decide) ⟨hz, br_f (by decide) (yw_bad0 ht (br_t rfl ⟨hz, br_f (by decide) ⟨hz, br_f (by decide) (hq _)⟩⟩))⟩⟩)
    · rw [h.1]
      exact xw_thr ht (br_f (by decide) ⟨hz, br_f (by decide) ⟨hz, br_f (by decide) (yw_bad0 ht (br_t rfl ⟨hz, br_f (by decide) ⟨hz, br_f (by decide) (hq _)⟩⟩))⟩⟩)
    · rcases h11 with h | h | h
      · rw [h.1, h.2]
        exact xw_thr ht (br_f (by decide) ⟨hz, br_t rfl ⟨hz, yw_bad0 ht (br_t rfl ⟨hz, br_t rfl ⟨hz, hq _⟩⟩)⟩⟩)
      · rw [h.1, h.2.2.1]
        exact xw_thr ht (br_f (by decide) ⟨hz, br_f (by decide) ⟨hz, br_t rfl ⟨hz, yw_bad0 ht (br_t rfl ⟨hz, br_f (by decide) ⟨hz, br_t rfl ⟨hz, hq _⟩⟩⟩)⟩⟩⟩)
      · rw [h.1]
        exact xw_thr ht (br_f (by decide) ⟨hz, br_f (by decide) ⟨hz, br_f (by decide) (yw_bad0 ht (br_t rfl ⟨hz, br_f (by decide) ⟨hz, br_f (by decide) (hq _)⟩⟩))⟩⟩)
theorem gt_upper (hR : zz_R b u v) (hq : ∀ r, Q r r) (v1 : Int32) : wpX_upper (fun r => wpY_upper (fun r' => Q r' r) v v1) u v1 := by
  obtain ⟨xFt, xHc, xLc, xCl, xLf, xKs, xSt, xLk, xPh, xOk, xOy, xRs, xLr, xLw, xUr, xUw⟩ := u
  obtain ⟨yCe, yLf, yLn, yLd, yS, yK, yI, yPh, yOk, yOy, yRs, yPo, yLi, yLw, yUi, yUw, yMi⟩ := v
  obtain ⟨n, m, last, lf, C, F, hC, hT⟩ := hR
  unfold wpX_upper wpY_upper
  dsimp only
  rcases zo_out v1 with hv | ⟨t, ht, rfl⟩
  · exact xw_nth hv (br_t rfl (yw_bad1 hv (br_f (by decide) (hq _))))
  · rw [zc_n (t := t) (by omega), (hT t ht).1]
    have hz := zv_4 ht
    rcases (hT t ht).2 with h | h | ⟨h1, h2, h3, h4, h5, h6, s, p, id, h7, h8, h9, h10, h11⟩
    · rw [h.1]
      exact xw_thr ht (br_f (by decide) ⟨hz, br_f (by decide) (yw_bad0 ht (br_t rfl ⟨hz, br_f (by decide) (hq _)⟩))⟩)
    · rw [h.1]
      exact xw_thr ht (br_f (by decide) ⟨hz, br_f (by decide) (yw_bad0 ht (br_t rfl ⟨hz, br_f (by decide) (hq _)⟩))⟩)
    · rcases h11 with h | ⟨g1, _, _, s2, p2, i2, g4, g5, g6, g7⟩ | h
      · rw [h.1]
        exact xw_thr ht (br_f (by decide) ⟨hz, br_f (by decide) (yw_bad0 ht (br_t rfl ⟨hz, br_f (by decide) (hq _)⟩))⟩)
      · rw [g1, g6]
        refine xw_thr ht (br_f (by decide) ⟨hz, br_t rfl ⟨hz, yw_bad0 ht (br_t rfl ⟨hz, br_t rfl ⟨hz, ?_⟩⟩)⟩⟩)
        have hl := hC.2.2.2.2.2.2.2.2.2.2.2.2.2.2.2
        have hi2 := g5.2.2.1
        rcases g7 with ⟨q1, q2, q3⟩ | ⟨q1, q2, q3⟩
        · rw [q1, q2]; exact br_t rfl (hq _)
        · rw [q2]
          exact br_f (fun z => q1 ((lN_eq (a := i2) (b := 0) (by omega) (by omega)).mp z)) ⟨hz, hq _⟩
      · rw [h.1]
        exact xw_thr ht (br_f (by decide) ⟨hz, br_f (by decide) (yw_bad0 ht (br_t rfl ⟨hz, br_f (by decide) (hq _)⟩))⟩)
theorem gt_fresh (hR : zz_R b u v) (hq : ∀ r, Q r r) (v1 : Int32) : wpX_fresh (fun r => wpY_fresh (fun r' => Q r' r) v v1) u v1 := by
  obtain ⟨xFt, xHc, xLc, xCl, xLf, xKs, xSt, xLk, xPh, xOk, xOy, xRs, xLr, xLw, xUr, xUw⟩ := u
  obtain ⟨yCe, yLf, yLn, yLd, yS, yK, yI, yPh, yOk, yOy, yRs, yPo, yLi, yLw, yUi, yUw, yMi⟩ := v
  obtain ⟨n, m, last, lf, C, F, hC, hT⟩ := hR
  rcases zo_out v1 with hv | ⟨t, ht, rfl⟩
  · unfold wpX_fresh wpY_fresh
    dsimp only
    exact xw_nth hv (br_t rfl (yw_bad1 hv (br_f (by decide) (hq _))))
  · obtain ⟨c1, c2, c3, c4, c5, c6, c7, c8, c9, c10, I, Y⟩ := hC
    have hz := zv_4 ht
    have hp := (hT t ht).1
    have hzC : ∀ x, x ∈ C → zr_p x ≠ 0 := fun x hx => xk_tail0 (A := []) (c := zr_0) (R := C) I hx
    have top : ∀ x, x ∈ C → zr_K x ≤ 9999 := fun x hx => xk_top I (List.mem_cons_of_mem _ hx)
    have idle : ¬ xPh t = 2 → ¬ xPh t = 3 → wpX_fresh (fun r => wpY_fresh (fun r' => Q r' r) (yCe, yLf, yLn, yLd, yS, yK, yI, yPh, yOk, yOy, yRs, yPo, yLi, yLw, yUi, yUw, yMi) (nI t)) (xFt, xHc, xLc, xCl, xLf, xKs, xSt, xLk, xPh, xOk, xOy, xRs, xLr, xLw, xUr, xUw) (nI t) := by
      intro n2 n3
      unfold wpX_fresh wpY_fresh
      dsimp only
      rw [zc_n (t := t) (by omega), hp]
      exact xw_thr ht (br_f (by decide) ⟨hz, br_f n2 ⟨hz, br_f n3 (yw_bad0 ht (br_t rfl ⟨hz, br_f n3 ⟨hz, br_f n2 (hq _)⟩⟩))⟩⟩)
    rcases (hT t ht).2 with h | h | ⟨h1, h2, h3, h4, h5, h6, s, p, id, h7, h8, h9, h10, h11⟩
    · exact idle (by rw [h.1]; decide) (by rw [h.1]; decide)
    · exact idle (by rw [h.1]; decide) (by rw [h.1]; decide)
    · rcases h11 with h | ⟨g1, hli, hlw, s2, p2, id2, hur, hR2, hui, hid2⟩ | ⟨g1, s2, p2, id2, hur, hR2, hmi, hid, hdead⟩
      · exact idle (by rw [h.1]; decide) (by rw [h.1]; decide)
      · obtain ⟨l, w, g, hl, hw, hg, Hf⟩ := xw_fresh (xLc := xLc) (xCl := xCl) (xLf := xLf) (xPh := xPh) (xOk := xOk) (xOy := xOy) (xRs := xRs) ht I h7 h8 h9 hur hR2
        have huw : (id2 = 0 ∧ yUw t = 10000) ∨ (id2 ≠ 0 ∧ yUw t = xUw t) := by
          rcases hid2 with z | z
          · exact Or.inl ⟨z.1, z.2.2⟩
          · exact Or.inr ⟨z.1, z.2.1⟩
        unfold wpX_fresh
        dsimp only
        rw [zc_n (t := t) (by omega), g1]
        exact xw_thr ht (br_f (by decide) ⟨hz, br_t rfl (Hf _ (yw_fresh ht hzC top Y (xk_srt I) (hp.trans g1) h8.2.2.1 hR2.2.2.1 hli hui hlw huw hl hw hg (hq _)))⟩)
      · unfold wpX_fresh wpY_fresh
        dsimp only
        rw [zc_n (t := t) (by omega), hp, g1, hur, hmi]
        refine xw_thr ht (br_f (by decide) ⟨hz, br_f (by decide) ⟨hz, br_t rfl ⟨hz, ?_⟩⟩⟩)
        refine xw_held I hR2.1 hR2.2.1 (fun x hx q1 q2 => br_f (by decide) (yw_bad0 ht (br_t rfl ⟨hz, br_t rfl ⟨hz, ?_⟩⟩))) (fun z => br_t rfl (yw_bad0 ht (br_t rfl ⟨hz, br_t rfl ⟨hz, ?_⟩⟩)))
        · have hxi := (hR2.2.2.2.1 x hx).mp ⟨q1, q2⟩
          refine yw_fate Y hR2.2.2.1 (fun y hy q => br_f (zt_0 y) (hq _)) (fun z => ?_)
          rcases List.mem_cons.mp hx with e | e
          · rw [e] at hxi; exact absurd hxi.symm hid
          · exact absurd hxi (z x e)
        · refine yw_fate Y hR2.2.2.1 (fun y hy q => ?_) (fun _ => br_t rfl (hq _))
          exact absurd ((hR2.2.2.2.1 y (List.mem_cons_of_mem _ hy)).mpr q) (z y (List.mem_cons_of_mem _ hy))
theorem gt_look (hR : zz_R b u v) (hq : ∀ r, Q r r) (v1 : Int32) : wpX_look (fun r => wpY_look (fun r' => Q r' r) v v1) u v1 := by
  obtain ⟨xFt, xHc, xLc, xCl, xLf, xKs, xSt, xLk, xPh, xOk, xOy, xRs, xLr, xLw, xUr, xUw⟩ := u
  obtain ⟨yCe, yLf, yLn, yLd, yS, yK, yI, yPh, yOk, yOy, yRs, yPo, yLi, yLw, yUi, yUw, yMi⟩ := v
  obtain ⟨n, m, last, lf, C, F, ⟨c1, c2, c3, c4, c5, c6, c7, c8, c9, c10, I, Y⟩, hT⟩ := hR
  have srt := xk_srt I
  refine xw_look I v1 (yw_look Y (fun c hc e => ?_) (fun h => ?_))
  · rcases zz_lo_spec (List.pairwise_cons.mp srt).2 v1 with ⟨d, h1, h2, h3⟩ | ⟨h1, _⟩
    · have q : c = d := zl_sort srt c (List.mem_cons_of_mem _ hc) d (List.mem_cons_of_mem _ h1) (by unfold zr_K; rw [e, h2])
      rw [h3, q]; exact hq _
    · exact absurd e (h1 c hc)
  · rcases zz_lo_spec (List.pairwise_cons.mp srt).2 v1 with ⟨d, h1, h2, h3⟩ | ⟨_, h2⟩
    · exact absurd h2 (h d h1)
    · rw [h2]; exact hq _
theorem gt_next (hR : zz_R b u v) (hq : ∀ r, Q r r) (v1 : Int32) : wpX_next (fun r => wpY_next (fun r' => Q r' r) v v1) u v1 := by
  obtain ⟨xFt, xHc, xLc, xCl, xLf, xKs, xSt, xLk, xPh, xOk, xOy, xRs, xLr, xLw, xUr, xUw⟩ := u
  obtain ⟨yCe, yLf, yLn, yLd, yS, yK, yI, yPh, yOk, yOy, yRs, yPo, yLi, yLw, yUi, yUw, yMi⟩ := v
  obtain ⟨n, m, last, lf, C, F, ⟨c1, c2, c3, c4, c5, c6, c7, c8, c9, c10, I, Y⟩, hT⟩ := hR
  have srt := xk_srt I
  have key : ∃ c a, (∀ post : Int32 → Prop, post (nI (zr_p c)) → wpX_lastLive post (xFt, xHc, xLc, xCl, xLf, xKs, xSt, xLk, xPh, xOk, xOy, xRs, xLr, xLw, xUr, xUw) (nI (zr_p zr_0)) v1) ∧ zz_LA C v1.toInt a ∧ (∀ post : Int32 → Prop, post (nI (zr_p a)) → wpX_liveAfter post (xFt, xHc, xLc, xCl, xLf, xKs, xSt, xLk, xPh, xOk, xOy, xRs, xLr, xLw, xUr, xUw) (nI (zr_p c))) := by
    by_cases h : -1 ≤ v1.toInt
    · have g := zz_ll_GL (A := []) (b := zr_0) (R := C) v1 srt rfl rfl (by rw [zr_K0]; exact h)
      obtain ⟨a, la, H, _⟩ := xw_win (xLc := xLc) (xCl := xCl) (xLf := xLf) (xPh := xPh) (xOk := xOk) (xOy := xOy) (xRs := xRs) (xLr := xLr) (xLw := xLw) (xUr := xUr) (xUw := xUw) I g
      exact ⟨_, a, fun post hp => xw_ll (A := []) (c := zr_0) (R := C) I v1 rfl hp, la, H⟩
    · have pos : ∀ x, x ∈ C → -1 < zr_K x := fun x hx => by have := (List.pairwise_cons.mp srt).1 x hx; rw [zr_K0] at this; exact this
      have e : zz_ll v1 zr_0 C = zr_0 := by
        cases C with
        | nil => rfl
        | cons d R =>
          have q := pos d (by simp)
          rw [zz_ll, if_pos]
          rw [Int32.lt_iff_toInt_lt]
          show v1.toInt < zr_K d
          omega
      have g : zz_GL (zr_0 :: C) (-1) zr_0 := by
        refine ⟨List.mem_cons_self, rfl, by rw [zr_K0]; exact Int.le_refl _, fun x hx _ hle => by rw [zr_K0]; exact hle⟩
      obtain ⟨a, la, H, _⟩ := xw_win (xLc := xLc) (xCl := xCl) (xLf := xLf) (xPh := xPh) (xOk := xOk) (xOy := xOy) (xRs := xRs) (xLr := xLr) (xLw := xLw) (xUr := xUr) (xUw := xUw) I g
      refine ⟨zr_0, a, fun post hp => xw_ll (A := []) (c := zr_0) (R := C) I v1 rfl (by rw [e]; exact hp), ?_, H⟩
      rcases la with ⟨q1, q2⟩ | ⟨q1, q2, q3, q4⟩
      · exact Or.inl ⟨q1, fun x hx hd => by have := q2 x hx hd; have := pos x hx; omega⟩
      · exact Or.inr ⟨q1, q2, by omega, fun x hx hd _ => q4 x hx hd (pos x hx)⟩
  obtain ⟨c, a, H1, la, H2⟩ := key
  have d := xk_dat I (zl_LA la)
  unfold wpX_next wpY_next
  dsimp only
  refine H1 _ (H2 _ ?_)
  rw [zc_n d.1, d.2.1]
  exact ⟨zv_32 d.1, yw_ab Y srt la (yv_k (Q := fun z => Q z (zr_k a)) Y (zl_LA la) (hq _))⟩
theorem gt_held (hR : zz_R b u v) (hq : ∀ r, Q r r) : wpX_held (fun r => wpY_held (fun r' => Q r' r) v) u := by
  obtain ⟨xFt, xHc, xLc, xCl, xLf, xKs, xSt, xLk, xPh, xOk, xOy, xRs, xLr, xLw, xUr, xUw⟩ := u
  obtain ⟨yCe, yLf, yLn, yLd, yS, yK, yI, yPh, yOk, yOy, yRs, yPo, yLi, yLw, yUi, yUw, yMi⟩ := v
  obtain ⟨n, m, last, lf, C, F, ⟨c1, c2, c3, c4, c5, c6, c7, c8, c9, c10, I, Y⟩, hT⟩ := hR
  have srt := xk_srt I
  have e := xk_hc I
  rw [List.length_cons] at e
  refine yw_held (?_ : Q (nI (zz_cn yS 16)) xHc)
  rw [yc_cn Y (List.pairwise_cons.mp srt).2, e]
  exact hq _
theorem gt_spare (hR : zz_R b u v) (hq : ∀ r, Q r r) : wpX_spare (fun r => wpY_spare (fun r' => Q r' r) v) u := by
  obtain ⟨xFt, xHc, xLc, xCl, xLf, xKs, xSt, xLk, xPh, xOk, xOy, xRs, xLr, xLw, xUr, xUw⟩ := u
  obtain ⟨yCe, yLf, yLn, yLd, yS, yK, yI, yPh, yOk, yOy, yRs, yPo, yLi, yLw, yUi, yUw, yMi⟩ := v
  obtain ⟨n, m, last, lf, C, F, ⟨c1, c2, c3, c4, c5, c6, c7, c8, c9, c10, I, Y⟩, hT⟩ := hR
  show Q (yLf - yLn) (xLf - xLc)
  rw [c1, c3, c7, c8]
  exact hq _
end
end
section
/-! ===== the constructors ===== -/
def zz_cl (x lo hi : Int32) : Int32 := if lo ≤ x then (if x ≤ hi then x else hi) else lo
theorem zq_cl {a b : Nat} (hab : a ≤ b) (hb : b < 2 ^ 31) (x : Int32) : ∃ n, a ≤ n ∧ n ≤ b ∧ zz_cl x (nI a) (nI b) = nI n := by
  unfold zz_cl
  by_cases h1 : nI a ≤ x
  · rw [if_pos h1]
    by_cases h2 : x ≤ nI b
    · rw [if_pos h2]
      have h0 : ¬ x < 0 := Int32.not_lt.mpr (Int32.le_trans (nI_pos' (by omega)) h1)
      obtain ⟨j, hj, rfl⟩ := nI_of2 (nI_toInt hb) h0 h2
      exact ⟨j, (nI_leI (by omega) (by omega)).mp h1, hj, rfl⟩
    · rw [if_neg h2]; exact ⟨b, hab, Nat.le_refl _, rfl⟩
  · rw [if_neg h1]; exact ⟨a, Nat.le_refl _, hab, rfl⟩
section
variable {n : Nat} {xFt xHc xLc xCl xLf : Int32} {xKs xSt xLk xPh xOk xOy xRs xLr xLw xUr xUw : Nat → Int32} {yCe : Int32} {yLf : Int32} {yLn : Int32} {yLd : Int64} {yS : Nat → Int32} {yK : Nat → Int32} {yI : Nat → Int64} {yPh : Nat → Int32} {yOk : Nat → Int32} {yOy : Nat → Int32} {yRs : Nat → Int32} {yPo : Nat → Int32} {yLi : Nat → Int64} {yLw : Nat → Int32} {yUi : Nat → Int64} {yUw : Nat → Int32} {yMi : Nat → Int64}
theorem xw_clamp {post : Int32 → Prop} {x lo hi : Int32} (h : post (zz_cl x lo hi)) : wpX_clamp post (xFt, xHc, xLc, xCl, xLf, xKs, xSt, xLk, xPh, xOk, xOy, xRs, xLr, xLw, xUr, xUw) x lo hi := by
  unfold zz_cl at h
  refine br_c (fun h1 => br_c (fun h2 => ?_) (fun h2 => ?_)) (fun h1 => ?_)
  · rw [if_pos h1, if_pos h2] at h; exact h
  · rw [if_pos h1, if_neg h2] at h; exact h
  · rw [if_neg h1] at h; exact h
theorem yi_init {post : SY → Prop} {x y : Int32} (h : post (zz_cl x 2 16, zz_cl y 4 30000, 0, 0, fun _ => 0, fun _ => 0, fun _ => 0, fun _ => 0, fun _ => 0, fun _ => 0, fun _ => 0, fun _ => 0, fun _ => 0, fun _ => 0, fun _ => 0, fun _ => 0, fun _ => 0)) : wpY_init post x y := by
  have s120 : wY_init_120 post y (zz_cl x 2 16) 0 0 0 0 (fun _ => 0) (fun _ => 0) (fun _ => 0) (fun _ => 0) (fun _ => 0) (fun _ => 0) (fun _ => 0) (fun _ => 0) (fun _ => 0) (fun _ => 0) (fun _ => 0) (fun _ => 0) (fun _ => 0) := by
    generalize zz_cl x 2 16 = z at h
    unfold zz_cl at h
    refine br_c (fun h1 => br_c (fun h2 => ?_) (fun h2 => ?_)) (fun h1 => ?_)
    · rw [if_pos h1, if_pos h2] at h; exact h
    · rw [if_pos h1, if_neg h2] at h; exact h
    · rw [if_neg h1] at h; exact h
  unfold zz_cl at s120
  refine br_c (fun h1 => br_c (fun h2 => ?_) (fun h2 => ?_)) (fun h1 => ?_)
  · rw [if_pos h1, if_pos h2] at s120; exact s120
  · rw [if_pos h1, if_neg h2] at s120; exact s120
  · rw [if_neg h1] at s120; exact s120
theorem xi_119 {post : SX → Prop} (hn : n ≤ 16) (H : ∀ (ft : Int32) (st lk : Nat → Int32), zz_fr lk ft (List.range' 1 n) → (∀ p, 0 < p → p < 32 → st p = -1) → st 0 = 0 → lk 0 = 0 → ∃ q, wX_init_162 post q 0 ft xHc xLc (nI n) xLf xKs st lk xPh xOk xOy xRs xLr xLw xUr xUw) : ∀ (i fu : Nat) (ft : Int32) (st lk : Nat → Int32), i < 32 → i < fu → zz_fr lk ft (List.range' (i + 1) (n - i)) → (∀ p, i < p → p < 32 → st p = -1) → st 0 = 0 → lk 0 = 0 → wX_init_119 post xHc xLc (nI n) xLf fu (nI i) ft xKs st lk xPh xOk xOy xRs xLr xLw xUr xUw := by
  intro i
  induction i with
  | zero =>
    intro fu ft st lk hi hf h1 h2 h3 h4
    obtain ⟨z, rfl⟩ : ∃ z, fu = z + 1 := ⟨fu - 1, by omega⟩
    exact br_t (by decide) (H ft st lk h1 h2 h3 h4)
  | succ i ih =>
    intro fu ft st lk hi hf h1 h2 h3 h4
    obtain ⟨z, rfl⟩ : ∃ z, fu = z + 1 := ⟨fu - 1, by omega⟩
    have st2 : ∀ p, i < p → p < 32 → upd st (i + 1) (-1) p = -1 := by
      intro p q1 q2
      by_cases e : p = i + 1
      · rw [e, pk_us]
      · rw [pk_un e]; exact h2 p (by omega) q2
    have st3 : upd st (i + 1) (-1) 0 = 0 := by rw [pk_un (by omega)]; exact h3
    refine br_f (nI_nlt (b := 1) (by omega) (by omega)) (And.intro (zv_32 hi) (nm_r (zc_u hi) (br_c (fun h => nm_r (pk_m1 i) (ih z ft _ lk (by omega) (by omega) ?_ st2 st3 h4)) (fun h => And.intro (zv_32 hi) (nm_r (zc_u hi) (nm_r (pk_m1 i) (ih z _ _ _ (by omega) (by omega) ?_ st2 st3 ?_)))))))
    · have hlt := (nI_ltI (by omega) (by omega)).mp h
      have e1 : n - (i + 1) = 0 := by omega
      have e2 : n - i = 0 := by omega
      rw [e1] at h1
      rw [e2]
      exact h1
    · have hlt : ¬ n < i + 1 := fun w => h (nI_lt w (by omega))
      have e2 : n - i = (n - (i + 1)) + 1 := by omega
      rw [e2, List.range'_succ]
      refine ⟨rfl, ?_⟩
      rw [pk_us]
      refine zz_fr_congr (fun p hp => pk_un ?_) h1
      have := (List.mem_range'_1.mp hp).1
      omega
    · rw [pk_un (by omega)]; exact h4
theorem xi_162 {post : SX → Prop} (H : ∀ (xPh xOk xOy xRs xLr xLw xUr xUw : Nat → Int32), (∀ j, j < 4 → (xPh j = 0 ∧ xOk j = 0 ∧ xOy j = -1 ∧ xRs j = 0)) → post (xFt, xHc, xLc, xCl, xLf, xKs, xSt, xLk, xPh, xOk, xOy, xRs, xLr, xLw, xUr, xUw)) : ∀ (d i : Nat) (xPh xOk xOy xRs xLr xLw xUr xUw : Nat → Int32), i + d = 4 → (∀ j, j < i → (xPh j = 0 ∧ xOk j = 0 ∧ xOy j = -1 ∧ xRs j = 0)) → wX_init_162 post (d + 1) (nI i) xFt xHc xLc xCl xLf xKs xSt xLk xPh xOk xOy xRs xLr xLw xUr xUw := by
  intro d
  induction d with
  | zero =>
    intro i xPh xOk xOy xRs xLr xLw xUr xUw hi h
    have e : i = 4 := by omega
    subst e
    exact br_t (nI_le (a := 4) (b := 4) (by omega) (by decide)) (H _ _ _ _ _ _ _ _ h)
  | succ d ih =>
    intro i xPh xOk xOy xRs xLr xLw xUr xUw hi h
    have hi4 : i < 4 := by omega
    refine br_f (nI_ge (b := 4) hi4 (by decide)) (xw_clear hi4 (nm_r (nI_1 i) (ih (i + 1) _ _ _ _ _ _ _ _ (by omega) ?_)))
    intro j hj
    by_cases e : j = i
    · rw [e]
      exact ⟨pk_us, pk_us, pk_us, pk_us⟩
    · simp only [pk_un e]
      exact h j (by omega)
end
theorem zk_init {n : Nat} (hn : n ≤ 16) {ft : Int32} {ks st lk : Nat → Int32} (h1 : zz_fr lk ft (List.range' 1 n)) (h2 : ∀ p, 0 < p → p < 32 → st p = -1) (h3 : st 0 = 0) (h4 : lk 0 = 0) (h5 : ks 0 = -1) : zz_XK n 0 ft 0 ks st lk [zr_0] (List.range' 1 n) := by
  refine ⟨rfl, ⟨?_, trivial⟩, h1, ?_, ?_, ?_, ?_, rfl, ?_, List.pairwise_singleton _ _, ?_, hn, by omega⟩
  · show zz_nx (lk 0) 0 false
    rw [h4]
    exact ⟨by decide, by decide⟩
  · show (0 :: List.range' 1 n).Nodup
    refine List.nodup_cons.mpr ⟨fun z => ?_, List.nodup_range'⟩
    have := (List.mem_range'_1.mp z).1
    omega
  · intro p hp
    have := (List.mem_range'_1.mp hp).2
    omega
  · intro c hc
    rw [List.mem_singleton.mp hc]
    exact ⟨by decide, h5, h3, Nat.le_refl _⟩
  · intro p hp h
    refine h2 p ?_ hp
    have := h zr_0 (by simp)
    have h0 : zr_p zr_0 = 0 := rfl
    omega
  · rw [List.length_range', List.length_singleton]; omega
  · intro c hc
    rw [List.mem_singleton.mp hc, zr_K0]
    omega
end
section
/-- the relation: one list of records behind both objects; Y's numbers grow by at most one a step, so by 64 a turn -/
def i_Rel (k : Nat) (u : SX) (v : SY) : Prop := zz_R (64 * k) u v
theorem i_up {k : Nat} {u : SX} {v : SY} (h : i_Rel k u v) : i_Rel (k + 4) u v := zz_R_mono h (by omega)
theorem i_vc0 (k0 : Int32) (k1 : Int32) : wpX_init (fun u => wpY_init (fun v => i_Rel 2 u v) k0 k1) k0 k1 := by
  obtain ⟨n, _, hn, en⟩ : ∃ n, 2 ≤ n ∧ n ≤ 16 ∧ zz_cl k0 2 16 = nI n := zq_cl (a := 2) (b := 16) (by omega) (by omega) k0
  obtain ⟨lf, _, hlf, elf⟩ : ∃ n, 4 ≤ n ∧ n ≤ 30000 ∧ zz_cl k1 4 30000 = nI n := zq_cl (a := 4) (b := 30000) (by omega) (by omega) k1
  refine xw_clamp (xw_clamp (nm_e ⟨32, ?_⟩))
  rw [en, elf]
  refine xi_119 hn (fun ft st lk h1 h2 h3 h4 => ⟨5, xi_162 (fun xPh xOk xOy xRs xLr xLw xUr xUw hT => yi_init ?_) 4 0 _ _ _ _ _ _ _ _ rfl (fun j hj => absurd hj (Nat.not_lt_zero j))⟩) 31 32 0 (fun _ => 0) (fun _ => 0) (by omega) (by omega) ?_ (fun p q1 q2 => by omega) rfl rfl
  · rw [en, elf]
    refine ⟨n, 0, 0, lf, [], List.range' 1 n, ⟨nI_0.symm, rfl, rfl, Nat.zero_le _, hlf, rfl, rfl, nI_0.symm, rfl, Nat.zero_le _, zk_init hn h1 h2 h3 h4 pk_us, ?_⟩, fun t ht => ?_⟩
    · exact ⟨fun c hc => (nomatch hc), fun i hi h => absurd rfl h, fun a ha => (nomatch ha), fun a ha => (nomatch ha), by omega⟩
    · obtain ⟨q1, q2, q3, q4⟩ := hT t ht
      exact ⟨q1.symm, Or.inl ⟨q1, q2, q3, q4⟩⟩
  · have e : n - 31 = 0 := by omega
    rw [e]
    exact rfl
theorem i_vc_begin {k : Nat} {u : SX} {v : SY} (I : i_Rel k u v) (hk : k + 4 ≤ 2050) (v1 : Int32) (v2 : Int32) (v3 : Int32) : wpX_begin (fun r u' => wpY_begin (fun r' v' => r' = r ∧ i_Rel (k + 4) u' v') v v1 v2 v3) u v1 v2 v3 := by
  obtain ⟨r, u', v', h, hx, hy⟩ := jq_begin I v1 v2 v3
  exact hx _ (hy _ ⟨rfl, zz_R_mono h (by omega)⟩)
theorem i_vc_step {k : Nat} {u : SX} {v : SY} (I : i_Rel k u v) (hk : k + 4 ≤ 2050) (v1 : Int32) : wpX_step (fun r u' => wpY_step (fun r' v' => r' = r ∧ i_Rel (k + 4) u' v') v v1) u v1 := by
  obtain ⟨r, u', v', _, h, hx, hy⟩ := jt_step I (by omega) v1
  exact hx _ (hy _ ⟨rfl, zz_R_mono h (by omega)⟩)
theorem i_vc_run {k : Nat} {u : SX} {v : SY} (I : i_Rel k u v) (hk : k + 4 ≤ 2050) (v1 : Int32) (v2 : Int32) : wpX_run (fun r u' => wpY_run (fun r' v' => r' = r ∧ i_Rel (k + 4) u' v') v v1 v2) u v1 v2 := by
  obtain ⟨xFt, xHc, xLc, xCl, xLf, xKs, xSt, xLk, xPh, xOk, xOy, xRs, xLr, xLw, xUr, xUw⟩ := u
  obtain ⟨yCe, yLf, yLn, yLd, yS, yK, yI, yPh, yOk, yOy, yRs, yPo, yLi, yLw, yUi, yUw, yMi⟩ := v
  obtain ⟨n, h1, hn, en⟩ : ∃ n, 1 ≤ n ∧ n ≤ 64 ∧ zz_cl v2 1 64 = nI n := zq_cl (a := 1) (b := 64) (by omega) (by omega) v2
  obtain ⟨r, u', v', h, hx, hy⟩ := jt_run v1 n hn n 0 (64 * k) 0 xFt xHc xLc xCl xLf xKs xSt xLk xPh xOk xOy xRs xLr xLw xUr xUw yCe yLf yLn yLd yS yK yI yPh yOk yOy yRs yPo yLi yLw yUi yUw yMi (by omega) I (by omega)
  unfold wpX_run
  dsimp only
  refine xw_clamp ⟨n + 1, ?_⟩
  rw [en]
  refine hx _ ?_
  have q : ∃ q, wY_run_28 (fun r' v' => r' = r ∧ i_Rel (k + 4) u' v') v1 (zz_cl v2 1 64) q 0 0 yCe yLf yLn yLd yS yK yI yPh yOk yOy yRs yPo yLi yLw yUi yUw yMi := ⟨n + 1, by rw [en]; exact hy _ ⟨rfl, zz_R_mono h (by omega)⟩⟩
  unfold zz_cl at q
  refine br_c (fun h1 => br_c (fun h2 => ?_) (fun h2 => ?_)) (fun h1 => ?_)
  · rw [if_pos h1, if_pos h2] at q; exact q
  · rw [if_pos h1, if_neg h2] at q; exact q
  · rw [if_neg h1] at q; exact q
theorem i_vc_drop {k : Nat} {u : SX} {v : SY} (I : i_Rel k u v) (hk : k + 4 ≤ 2050) (v1 : Int32) : wpX_drop (fun r u' => wpY_drop (fun r' v' => r' = r ∧ i_Rel (k + 4) u' v') v v1) u v1 := by
  obtain ⟨r, u', v', h, hx, hy⟩ := jq_drop I v1
  exact hx _ (hy _ ⟨rfl, zz_R_mono h (by omega)⟩)
theorem i_vc_renew {k : Nat} {u : SX} {v : SY} (I : i_Rel k u v) (hk : k + 4 ≤ 2050) : wpX_renew (fun r u' => wpY_renew (fun r' v' => r' = r ∧ i_Rel (k + 4) u' v') v) u := by
  obtain ⟨r, u', v', h, hx, hy⟩ := jq_renew I
  exact hx _ (hy _ ⟨rfl, zz_R_mono h (by omega)⟩)
theorem i_vc_phase {k : Nat} {u : SX} {v : SY} (I : i_Rel k u v) (hk : k + 4 ≤ 2050) (v1 : Int32) : wpX_phase (fun r => wpY_phase (fun r' => r' = r ∧ i_Rel (k + 4) u v) v v1) u v1 := gt_phase (Q := fun r' r => r' = r ∧ i_Rel (k + 4) u v) I (fun _ => ⟨rfl, i_up I⟩) v1
theorem i_vc_kind {k : Nat} {u : SX} {v : SY} (I : i_Rel k u v) (hk : k + 4 ≤ 2050) (v1 : Int32) : wpX_kind (fun r => wpY_kind (fun r' => r' = r ∧ i_Rel (k + 4) u v) v v1) u v1 := gt_kind (Q := fun r' r => r' = r ∧ i_Rel (k + 4) u v) I (fun _ => ⟨rfl, i_up I⟩) v1
theorem i_vc_key {k : Nat} {u : SX} {v : SY} (I : i_Rel k u v) (hk : k + 4 ≤ 2050) (v1 : Int32) : wpX_key (fun r => wpY_key (fun r' => r' = r ∧ i_Rel (k + 4) u v) v v1) u v1 := gt_key (Q := fun r' r => r' = r ∧ i_Rel (k + 4) u v) I (fun _ => ⟨rfl, i_up I⟩) v1
theorem i_vc_result {k : Nat} {u : SX} {v : SY} (I : i_Rel k u v) (hk : k + 4 ≤ 2050) (v1 : Int32) : wpX_result (fun r => wpY_result (fun r' => r' = r ∧ i_Rel (k + 4) u v) v v1) u v1 := gt_result (Q := fun r' r => r' = r ∧ i_Rel (k + 4) u v) I (fun _ => ⟨rfl, i_up I⟩) v1
theorem i_vc_position {k : Nat} {u : SX} {v : SY} (I : i_Rel k u v) (hk : k + 4 ≤ 2050) (v1 : Int32) : wpX_position (fun r => wpY_position (fun r' => r' = r ∧ i_Rel (k + 4) u v) v v1) u v1 := gt_position (Q := fun r' r => r' = r ∧ i_Rel (k + 4) u v) I (fun _ => ⟨rfl, i_up I⟩) v1
theorem i_vc_upper {k : Nat} {u : SX} {v : SY} (I : i_Rel k u v) (hk : k + 4 ≤ 2050) (v1 : Int32) : wpX_upper (fun r => wpY_upper (fun r' => r' = r ∧ i_Rel (k + 4) u v) v v1) u v1 := gt_upper (Q := fun r' r => r' = r ∧ i_Rel (k + 4) u v) I (fun _ => ⟨rfl, i_up I⟩) v1
theorem i_vc_fresh {k : Nat} {u : SX} {v : SY} (I : i_Rel k u v) (hk : k + 4 ≤ 2050) (v1 : Int32) : wpX_fresh (fun r => wpY_fresh (fun r' => r' = r ∧ i_Rel (k + 4) u v) v v1) u v1 := gt_fresh (Q := fun r' r => r' = r ∧ i_Rel (k + 4) u v) I (fun _ => ⟨rfl, i_up I⟩) v1
theorem i_vc_look {k : Nat} {u : SX} {v : SY} (I : i_Rel k u v) (hk : k + 4 ≤ 2050) (v1 : Int32) : wpX_look (fun r => wpY_look (fun r' => r' = r ∧ i_Rel (k + 4) u v) v v1) u v1 := gt_look (Q := fun r' r => r' = r ∧ i_Rel (k + 4) u v) I (fun _ => ⟨rfl, i_up I⟩) v1
theorem i_vc_next {k : Nat} {u : SX} {v : SY} (I : i_Rel k u v) (hk : k + 4 ≤ 2050) (v1 : Int32) : wpX_next (fun r => wpY_next (fun r' => r' = r ∧ i_Rel (k + 4) u v) v v1) u v1 := gt_next (Q := fun r' r => r' = r ∧ i_Rel (k + 4) u v) I (fun _ => ⟨rfl, i_up I⟩) v1
theorem i_vc_held {k : Nat} {u : SX} {v : SY} (I : i_Rel k u v) (hk : k + 4 ≤ 2050) : wpX_held (fun r => wpY_held (fun r' => r' = r ∧ i_Rel (k + 4) u v) v) u := gt_held (Q := fun r' r => r' = r ∧ i_Rel (k + 4) u v) I (fun _ => ⟨rfl, i_up I⟩)
theorem i_vc_spare {k : Nat} {u : SX} {v : SY} (I : i_Rel k u v) (hk : k + 4 ≤ 2050) : wpX_spare (fun r => wpY_spare (fun r' => r' = r ∧ i_Rel (k + 4) u v) v) u := gt_spare (Q := fun r' r => r' = r ∧ i_Rel (k + 4) u v) I (fun _ => ⟨rfl, i_up I⟩)
end

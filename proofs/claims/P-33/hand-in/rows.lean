section
/-! starting text: rows of the kit, pasted (pk_, wb_) -/
theorem pk_us {f : Nat → Int32} {k : Nat} {x : Int32} : upd f k x k = x := if_pos rfl
theorem pk_un {f : Nat → Int32} {k j : Nat} {x : Int32} (h : j ≠ k) : upd f k x j = f j := if_neg h
theorem pk_uLs {f : Nat → Int64} {k : Nat} {x : Int64} : vp_updL f k x k = x := if_pos rfl
theorem pk_uLn {f : Nat → Int64} {k j : Nat} {x : Int64} (h : j ≠ k) : vp_updL f k x j = f j := if_neg h
theorem pk_sub {a b : Nat} (h : b ≤ a) : nI a - nI b = nI (a - b) := by
  obtain ⟨c, rfl⟩ : ∃ c, a = c + b := ⟨a - b, by omega⟩
  rw [← nI_add, Int32.add_sub_cancel, Nat.add_sub_cancel]
theorem pk_m1 (n : Nat) : nI (n + 1) + (-1) = nI n := by
  rw [← nI_1, Int32.add_assoc, show (1 : Int32) + (-1) = 0 from rfl, Int32.add_zero]
theorem pk_mul (a b : Nat) : nI a * nI b = nI (a * b) := (Int32.ofNat_mul a b).symm
theorem pk_div {a d : Nat} (ha : a < 2 ^ 31) (h0 : 0 < d) (hd : d < 2 ^ 31) : nI a / nI d = nI (a / d) := by
  apply Int32.toInt_inj.mp
  rw [lg_idiv_nonneg (by rw [nI_toInt ha]; omega) (by rw [nI_toInt hd]; omega), nI_toInt ha, nI_toInt hd, nI_toInt (Nat.lt_of_le_of_lt (Nat.div_le_self a d) ha)]
  first | rfl | exact (Int.natCast_ediv _ _).symm
theorem pk_rem {a d : Nat} (ha : a < 2 ^ 31) (h0 : 0 < d) (hd : d < 2 ^ 31) : nI a - nI a / nI d * nI d = nI (a % d) := by
  rw [pk_div ha h0 hd, pk_mul, pk_sub (Nat.div_mul_le_self a d)]
  exact congrArg nI (by have := Nat.div_add_mod' a d; omega)
theorem pk_sub_toInt {a b : Nat} (ha : a < 2 ^ 30) (hb : b < 2 ^ 30) : (nI a - nI b).toInt = (a : Int) - b := by
  rw [Int32.toInt_sub, nI_toInt (by omega), nI_toInt (by omega)]
  exact Int.bmod_eq_of_le (by omega) (by omega)
theorem pk_sneg {a b : Nat} (hb : b < 2 ^ 30) (h : a < b) : nI a - nI b < 0 := by
  rw [Int32.lt_iff_toInt_lt, pk_sub_toInt (by omega) hb, show (0 : Int32).toInt = 0 from by decide]
  omega
theorem pk_ix (x : Int32) {n : Nat} (hn : n < 2 ^ 31) : x < 0 ∨ nI n ≤ x ∨ ∃ j : Nat, j < n ∧ x = nI j := by
  by_cases h : x < 0
  · exact Or.inl h
  · obtain ⟨j, hj, rfl⟩ := nI_of h
    by_cases h2 : j < n
    · exact Or.inr (Or.inr ⟨j, h2, rfl⟩)
    · exact Or.inr (Or.inl (nI_le (by omega) hj))
theorem pk_le {x y : Int32} {A B : Prop} (a b : Nat) (f : a ≤ b → A) (g : b < a → B) (hx : x = nI a := by rfl) (hy : y = nI b := by rfl) (ha : a < 2 ^ 31 := by omega) (hb : b < 2 ^ 31 := by omega) : (x ≤ y → A) ∧ (¬ x ≤ y → B) := by
  subst hx hy
  rw [nI_leI ha hb]
  exact ⟨f, fun z => g (by omega)⟩
theorem pk_lt {x y : Int32} {A B : Prop} (a b : Nat) (f : a < b → A) (g : b ≤ a → B) (hx : x = nI a := by rfl) (hy : y = nI b := by rfl) (ha : a < 2 ^ 31 := by omega) (hb : b < 2 ^ 31 := by omega) : (x < y → A) ∧ (¬ x < y → B) := by
  subst hx hy
  rw [nI_ltI ha hb]
  exact ⟨f, fun z => g (by omega)⟩
theorem pk_eq {x y : Int32} {A B : Prop} (a b : Nat) (f : a = b → A) (g : a ≠ b → B) (hx : x = nI a := by rfl) (hy : y = nI b := by rfl) (ha : a < 2 ^ 31 := by omega) (hb : b < 2 ^ 31 := by omega) : (x = y → A) ∧ (¬ x = y → B) := by
  subst hx hy
  rw [nI_eq ha hb]
  exact ⟨f, g⟩
theorem pk_in {x : Int32} (n N : Nat) (h : n < N) (hx : x = nI n := by rfl) (hN : N < 2 ^ 31 := by omega) : vp_in x N := by
  subst hx
  exact vp_in_nI h hN
theorem pk_cl {x : Int32} (n : Nat) (hx : x = nI n := by rfl) (h : n < 2 ^ 31 := by omega) : x.toNatClampNeg = n := by
  subst hx
  exact nI_clamp h
theorem pk_tn {n : Nat} (h : n < 2 ^ 32) : (nI n).toBitVec.toNat = n := Nat.mod_eq_of_lt h
theorem pk_and (x : Int32) {m : Int32} (k : Nat) (hm : m.toBitVec.toNat = 2 ^ k - 1) : x &&& m = nI (x.toBitVec.toNat % 2 ^ k) := by
  apply Int32.toBitVec_inj.mp
  apply BitVec.eq_of_toNat_eq
  rw [Int32.toBitVec_and, BitVec.toNat_and, hm, Nat.and_two_pow_sub_one_eq_mod]
  show _ = (BitVec.ofNat 32 _).toNat
  rw [BitVec.toNat_ofNat]
  exact (Nat.mod_eq_of_lt (Nat.lt_of_le_of_lt (Nat.mod_le _ _) x.toBitVec.isLt)).symm
theorem pk_andN {n : Nat} (h : n < 2 ^ 32) {m : Int32} (k : Nat) (hm : m.toBitVec.toNat = 2 ^ k - 1) : nI n &&& m = nI (n % 2 ^ k) := by
  rw [pk_and _ k hm, pk_tn h]
theorem pk_andE (x : Int32) {m : Int32} (k : Nat) (hm : m.toBitVec.toNat = 2 ^ k - 1) : ∃ j : Nat, j < 2 ^ k ∧ x &&& m = nI j := ⟨_, Nat.mod_lt _ (Nat.two_pow_pos k), pk_and x k hm⟩
theorem pk_andIn (x : Int32) {m : Int32} (k : Nat) (hm : m.toBitVec.toNat = 2 ^ k - 1) (hk : k ≤ 30) : vp_in (x &&& m) (2 ^ k) := by
  obtain ⟨j, hj, e⟩ := pk_andE x k hm
  rw [e]
  exact vp_in_nI hj (Nat.lt_of_le_of_lt (Nat.pow_le_pow_right (by decide) hk) (by decide))
theorem pk_shl (a s : Int32) (k : Nat) (hs : (s.toBitVec.smod 32).toNat = k) : (a <<< s).toBitVec.toNat = a.toBitVec.toNat * 2 ^ k % 2 ^ 32 := by
  show (a.toBitVec <<< (s.toBitVec.smod 32).toNat).toNat = _
  rw [hs, BitVec.toNat_shiftLeft, Nat.shiftLeft_eq]
theorem pk_shlN {n : Nat} (s : Int32) (k : Nat) (hs : (s.toBitVec.smod 32).toNat = k) (h : n * 2 ^ k < 2 ^ 32) : nI n <<< s = nI (n * 2 ^ k) := by
  apply Int32.toBitVec_inj.mp
  apply BitVec.eq_of_toNat_eq
  have hn : n < 2 ^ 32 := Nat.lt_of_le_of_lt (Nat.le_mul_of_pos_right n (Nat.two_pow_pos k)) h
  rw [pk_shl _ _ k hs, pk_tn hn, pk_tn h, Nat.mod_eq_of_lt h]
theorem pk_shr (a s : Int32) (k : Nat) (hs : (s.toBitVec.smod 32).toNat = k) : (a >>> s).toInt = a.toInt >>> k := by
  show (a.toBitVec.sshiftRight (s.toBitVec.smod 32).toNat).toInt = _
  rw [hs, BitVec.toInt_sshiftRight]
  rfl
theorem pk_shrN {n : Nat} (h : n < 2 ^ 31) (s : Int32) (k : Nat) (hs : (s.toBitVec.smod 32).toNat = k) : nI n >>> s = nI (n / 2 ^ k) := by
  apply Int32.toInt_inj.mp
  have h2 : n / 2 ^ k ≤ n := Nat.div_le_self _ _
  rw [pk_shr _ _ k hs, nI_toInt h, nI_toInt (by omega), Int.shiftRight_eq_div_pow]
  rfl
theorem pk_ushr (x s : Int32) (k : Nat) (hs : ((s.toUInt32 &&& Int32.toUInt32 31).toBitVec % 32).toNat = k) : (x.toUInt32 >>> (s.toUInt32 &&& Int32.toUInt32 31)).toInt32.toBitVec.toNat = x.toBitVec.toNat / 2 ^ k := by
  have e : (x.toUInt32 >>> (s.toUInt32 &&& Int32.toUInt32 31)).toInt32.toBitVec = x.toBitVec >>> k := by
    rw [← hs]
    exact UInt32.toBitVec_shiftRight _ _
  rw [e, BitVec.toNat_ushiftRight, Nat.shiftRight_eq_div_pow]
theorem pk_ushrN {n : Nat} (hn : n < 2 ^ 32) (s : Int32) (k : Nat) (hs : ((s.toUInt32 &&& Int32.toUInt32 31).toBitVec % 32).toNat = k) : ((nI n).toUInt32 >>> (s.toUInt32 &&& Int32.toUInt32 31)).toInt32 = nI (n / 2 ^ k) := by
  apply Int32.toBitVec_inj.mp
  apply BitVec.eq_of_toNat_eq
  rw [pk_ushr _ s k hs, pk_tn hn, pk_tn (Nat.lt_of_le_of_lt (Nat.div_le_self _ _) hn)]
theorem pk_nb (z : Int32) : narrow .byte (.int z.toInt8.toInt32) = .int z.toInt8.toInt32 := congrArg Value.int (by simp)
theorem pk_ns (z : Int32) : narrow .short (.int z.toInt16.toInt32) = .int z.toInt16.toInt32 := congrArg Value.int (by simp)
theorem pk_fb (r : Int32) : fits .byte (.int r.toInt8.toInt32) = true := by
  have ⟨a, b⟩ := lg_i2b_range r
  have h1 : (-128 : Int32).toInt = -128 := by decide
  have h2 : (127 : Int32).toInt = 127 := by decide
  simp only [fits, Bool.and_eq_true, decide_eq_true_eq, Int32.le_iff_toInt_le, h1, h2]
  omega
theorem pk_fs (r : Int32) : fits .short (.int r.toInt16.toInt32) = true := by
  have ⟨a, b⟩ := lg_i2s_range r
  have h1 : (-32768 : Int32).toInt = -32768 := by decide
  have h2 : (32767 : Int32).toInt = 32767 := by decide
  simp only [fits, Bool.and_eq_true, decide_eq_true_eq, Int32.le_iff_toInt_le, h1, h2]
  omega
theorem pk_charN {q : Nat} (hq : q < 65536) : narrow .char (.int (nI q)) = .int (nI q) ∧ fits .char (.int (nI q)) = true := by
  constructor
  · have e : (nI q).toUInt32.toUInt16.toUInt32.toInt32 = nI q := by
      apply Int32.toBitVec_inj.mp
      apply BitVec.eq_of_toNat_eq
      show (nI q).toUInt32.toUInt16.toUInt32.toNat = q % 2 ^ 32
      rw [UInt16.toNat_toUInt32, UInt32.toNat_toUInt16, show (nI q).toUInt32.toNat = q % 2 ^ 32 from rfl]
      omega
    exact congrArg Value.int e
  · have a : (0 : Int32) ≤ nI q := nI_pos' (by omega)
    have b : nI q ≤ 65535 := nI_le (b := 65535) (by omega) (by decide)
    show (decide ((0 : Int32) ≤ nI q) && decide (nI q ≤ 65535)) = true
    rw [decide_eq_true a, decide_eq_true b]
    rfl
theorem pk_char (x : Int32) : (x.toUInt32 % 65536).toInt32 = nI (x.toBitVec.toNat % 65536) := by
  apply Int32.toBitVec_inj.mp
  apply BitVec.eq_of_toNat_eq
  rw [pk_tn (by omega)]
  show (x.toUInt32 % 65536).toNat = _
  rw [UInt32.toNat_mod]
  rfl
theorem pk_nc (x : Int32) : narrow .char (.int (x.toUInt32 % 65536).toInt32) = .int (x.toUInt32 % 65536).toInt32 := by
  rw [pk_char]
  exact (pk_charN (Nat.mod_lt _ (by decide))).1
theorem pk_fc (x : Int32) : fits .char (.int (x.toUInt32 % 65536).toInt32) = true := by
  rw [pk_char]
  exact (pk_charN (Nat.mod_lt _ (by decide))).2
theorem pk_vb (z : Int32) : vp_nar .byte z.toInt8.toInt32 = z.toInt8.toInt32 := by rw [vp_nar_byte]; simp
theorem pk_vs (z : Int32) : vp_nar .short z.toInt16.toInt32 = z.toInt16.toInt32 := by rw [vp_nar_short]; simp
theorem pk_vc (z : Int32) : vp_nar .char (z.toUInt32 % 65536).toInt32 = (z.toUInt32 % 65536).toInt32 := Value.int.inj (pk_nc z)
theorem pk_lT {n : Nat} (h : n < 2 ^ 63) : (lN n).toInt = (n : Int) := lg_ofNat_toInt h
theorem pk_lLT {a b : Nat} (ha : a < 2 ^ 63) (hb : b < 2 ^ 63) : lN a < lN b ↔ a < b := by
  rw [Int64.lt_iff_toInt_lt, pk_lT ha, pk_lT hb]; omega
theorem pk_lLE {a b : Nat} (ha : a < 2 ^ 63) (hb : b < 2 ^ 63) : lN a ≤ lN b ↔ a ≤ b := by
  rw [Int64.le_iff_toInt_le, pk_lT ha, pk_lT hb]; omega
theorem pk_lEQ {a b : Nat} (ha : a < 2 ^ 63) (hb : b < 2 ^ 63) : lN a = lN b ↔ a = b := by
  rw [← Int64.toInt_inj, pk_lT ha, pk_lT hb]; omega
theorem pk_lOf {x : Int64} (h : ¬ x < 0) : ∃ k : Nat, k < 2 ^ 63 ∧ x = lN k := by
  rw [Int64.lt_iff_toInt_lt] at h
  have h0 : (0 : Int64).toInt = 0 := by decide
  have hx := Int64.toInt_lt x
  refine ⟨x.toInt.toNat, by omega, Int64.toInt_inj.mp ?_⟩
  rw [pk_lT (by omega)]
  omega
theorem pk_lDiv {a b : Nat} (ha : a < 2 ^ 63) (h0 : 0 < b) (hb : b < 2 ^ 63) : lN a / lN b = lN (a / b) := by
  apply Int64.toInt_inj.mp
  rw [lg_ldiv_nonneg (by rw [pk_lT ha]; omega) (by rw [pk_lT hb]; omega), pk_lT ha, pk_lT hb, pk_lT (Nat.lt_of_le_of_lt (Nat.div_le_self a b) ha)]
  rfl
theorem pk_lRem {a b : Nat} (ha : a < 2 ^ 63) (h0 : 0 < b) (hb : b < 2 ^ 63) : lN a - lN a / lN b * lN b = lN (a % b) := by
  rw [pk_lDiv ha h0 hb, lN_mul, lN_sub (Nat.div_mul_le_self a b)]
  exact congrArg lN (by have := Nat.div_add_mod' a b; omega)
theorem wb_tb (n : Nat) : (lN n).toBitVec = BitVec.ofNat 64 n := rfl
theorem wb_inj {a b : Int64} (h : a.toBitVec = b.toBitVec) : a = b := Int64.toBitVec_inj.mp h
theorem wb_tn {n : Nat} (h : n < 2 ^ 64) : (lN n).toBitVec.toNat = n := by rw [wb_tb, BitVec.toNat_ofNat, Nat.mod_eq_of_lt h]
theorem wb_of (x : Int64) : ∃ n, n < 2 ^ 64 ∧ x = lN n := ⟨x.toBitVec.toNat, x.toBitVec.isLt, wb_inj (by rw [wb_tb]; simp)⟩
theorem wb_of32 (x : Int32) : ∃ n, n < 2 ^ 32 ∧ x = nI n := ⟨x.toBitVec.toNat, x.toBitVec.isLt, Int32.toBitVec_inj.mp (by show _ = BitVec.ofNat 32 _; simp)⟩
theorem wb_c : ∀ k, k < 64 → ((nI k).toInt64 &&& 63) = lN k := by decide +kernel
theorem wb_cu : ∀ k, k < 64 → ((nI k).toInt64.toUInt64 &&& Int64.toUInt64 63) = UInt64.ofNat k := by decide +kernel
theorem wb_sm : ∀ k, k < 64 → (BitVec.ofNat 64 k).smod 64 = BitVec.ofNat 64 k := by decide +kernel
theorem wb_pw {a b : Nat} (h : a ≤ b) : 2 ^ b = 2 ^ a * 2 ^ (b - a) := by rw [← Nat.pow_add]; congr 1; omega
theorem wb_lt2 {a b : Nat} (h : a < b) : 2 ^ a < 2 ^ b := Nat.pow_lt_pow_right (by decide) h
theorem wb_mod (n : Nat) : lN n = lN (n % 2 ^ 64) := wb_inj (by rw [wb_tb, wb_tb]; apply BitVec.eq_of_toNat_eq; rw [BitVec.toNat_ofNat, BitVec.toNat_ofNat, Nat.mod_mod])
theorem wb_shr {n k : Nat} (hn : n < 2 ^ 64) (hk : k < 64) : ((lN n).toUInt64 >>> ((nI k).toInt64.toUInt64 &&& Int64.toUInt64 63)).toInt64 = lN (n / 2 ^ k) := by
  rw [wb_cu k hk]
  apply wb_inj
  apply BitVec.eq_of_toNat_eq
  show ((lN n).toUInt64 >>> UInt64.ofNat k).toNat = (BitVec.ofNat 64 _).toNat
  have h1 : (UInt64.ofNat k).toNat = k := by
    show (BitVec.ofNat 64 k).toNat = k
    rw [BitVec.toNat_ofNat, Nat.mod_eq_of_lt (by omega)]
  have h2 : (lN n).toUInt64.toNat = n := wb_tn hn
  rw [UInt64.toNat_shiftRight, h1, h2, Nat.mod_eq_of_lt hk, Nat.shiftRight_eq_div_pow, BitVec.toNat_ofNat, Nat.mod_eq_of_lt (Nat.lt_of_le_of_lt (Nat.div_le_self _ _) hn)]
theorem wb_shl (n : Nat) {k : Nat} (hk : k < 64) : lN n <<< ((nI k).toInt64 &&& 63) = lN (n * 2 ^ k) := by
  rw [wb_c k hk]
  apply wb_inj
  rw [Int64.toBitVec_shiftLeft, wb_tb, wb_tb, wb_tb, wb_sm k hk]
  apply BitVec.eq_of_toNat_eq
  rw [BitVec.shiftLeft_eq', BitVec.toNat_shiftLeft, BitVec.toNat_ofNat, BitVec.toNat_ofNat, BitVec.toNat_ofNat, Nat.mod_eq_of_lt (show k < 2 ^ 64 by omega), Nat.shiftLeft_eq, Nat.mul_mod, Nat.mod_mod, ← Nat.mul_mod]
theorem wb_and {a b : Nat} (ha : a < 2 ^ 64) (hb : b < 2 ^ 64) : lN a &&& lN b = lN (a &&& b) := by
  apply wb_inj
  rw [Int64.toBitVec_and, wb_tb, wb_tb, wb_tb]
  apply BitVec.eq_of_toNat_eq
  rw [BitVec.toNat_and, BitVec.toNat_ofNat, BitVec.toNat_ofNat, BitVec.toNat_ofNat, Nat.mod_eq_of_lt ha, Nat.mod_eq_of_lt hb, Nat.mod_eq_of_lt (Nat.and_lt_two_pow _ hb)]
theorem wb_or {a b : Nat} (ha : a < 2 ^ 64) (hb : b < 2 ^ 64) : lN a ||| lN b = lN (a ||| b) := by
  apply wb_inj
  rw [Int64.toBitVec_or, wb_tb, wb_tb, wb_tb]
  apply BitVec.eq_of_toNat_eq
  rw [BitVec.toNat_or, BitVec.toNat_ofNat, BitVec.toNat_ofNat, BitVec.toNat_ofNat, Nat.mod_eq_of_lt ha, Nat.mod_eq_of_lt hb, Nat.mod_eq_of_lt (Nat.or_lt_two_pow ha hb)]
theorem wb_mask {n k : Nat} (hn : n < 2 ^ 64) (hk : k < 64) : lN n &&& lN (2 ^ k - 1) = lN (n % 2 ^ k) := by
  rw [wb_and hn (by have := wb_lt2 hk; omega), Nat.and_two_pow_sub_one_eq_mod]
theorem wb_a1 {n : Nat} (hn : n < 2 ^ 64) : lN n &&& 1 = lN (n % 2) := wb_mask (k := 1) hn (by decide)
end
section
/-! pure: products, digits, addresses, sums -/
def sg_P (d : Nat → Nat) : Nat → Nat
  | 0 => 1
  | k + 1 => sg_P d k * d k
def sg_z (x : Nat) : Nat := if x = 0 then 1 else x
def sg_Z (d : Nat → Nat) : Nat → Nat
  | 0 => 1
  | k + 1 => sg_Z d k * sg_z (d k)
def sg_A (d : Nat → Nat) (s : Nat → Int64) : Nat → Nat → Int64
  | 0 => fun _ => 0
  | k + 1 => fun f => sg_A d s k (f / d k) + lN (f % d k) * s k
def sg_D (d : Nat → Nat) : Nat → Nat → Nat → Nat
  | 0 => fun _ _ => 0
  | k + 1 => fun f j => if j = k then f % d k else sg_D d k (f / d k) j
def sg_F (d x : Nat → Nat) : Nat → Nat
  | 0 => 0
  | k + 1 => sg_F d x k * d k + x k
def sg_S (s : Nat → Int64) (x : Nat → Nat) : Nat → Int64
  | 0 => 0
  | k + 1 => sg_S s x k + lN (x k) * s k
def sg_U (d : Nat → Nat) : Nat → Nat → Nat
  | 0 => fun _ => 1
  | r + 1 => fun k => if k ≤ r then sg_U d r k * d r else 1
def sg_fo {α : Type} (op : α → α → α) (e : α) (f : Nat → α) : Nat → α
  | 0 => e
  | k + 1 => op (sg_fo op e f k) (f k)

theorem sg_z0 : sg_z 0 = 1 := rfl
theorem sg_zn {x : Nat} (h : x ≠ 0) : sg_z x = x := if_neg h
theorem sg_z_pos (x : Nat) : 0 < sg_z x := by unfold sg_z; split <;> omega
theorem sg_z_ge (x : Nat) : x ≤ sg_z x := by unfold sg_z; split <;> omega
theorem sg_z_mono {x y : Nat} (h : x ≤ y) : sg_z x ≤ sg_z y := by unfold sg_z; split <;> split <;> omega
theorem sg_Z_pos (d : Nat → Nat) : ∀ r, 0 < sg_Z d r
  | 0 => Nat.one_pos
  | r + 1 => Nat.mul_pos (sg_Z_pos d r) (sg_z_pos _)
theorem sg_Z_ge (d : Nat → Nat) : ∀ r k, k < r → d k ≤ sg_Z d r := by
  intro r
  induction r with
  | zero => intro k h; omega
  | succ r ih =>
    intro k h
    show d k ≤ sg_Z d r * sg_z (d r)
    by_cases e : k = r
    · subst e
      exact Nat.le_trans (sg_z_ge _) (Nat.le_mul_of_pos_left _ (sg_Z_pos d k))
    · exact Nat.le_trans (ih k (by omega)) (Nat.le_mul_of_pos_right _ (sg_z_pos _))
theorem sg_P_le (d : Nat → Nat) : ∀ r, sg_P d r ≤ sg_Z d r
  | 0 => Nat.le_refl 1
  | r + 1 => Nat.mul_le_mul (sg_P_le d r) (sg_z_ge _)
theorem sg_Z_mono {d e : Nat → Nat} : ∀ r, (∀ k, k < r → d k ≤ e k) → sg_Z d r ≤ sg_Z e r
  | 0 => fun _ => Nat.le_refl 1
  | r + 1 => fun h => Nat.mul_le_mul (sg_Z_mono r (fun k hk => h k (by omega))) (sg_z_mono (h r (by omega)))
theorem sg_P_pos {d : Nat → Nat} : ∀ r, 0 < sg_P d r → ∀ k, k < r → 0 < d k := by
  intro r
  induction r with
  | zero => intro _ k h; omega
  | succ r ih =>
    intro h k hk
    have h' : 0 < sg_P d r * d r := h
    by_cases e : k = r
    · subst e
      exact Nat.pos_of_mul_pos_left h'
    · exact ih (Nat.pos_of_mul_pos_right h') k (by omega)
theorem sg_P_congr {d e : Nat → Nat} : ∀ r, (∀ k, k < r → d k = e k) → sg_P d r = sg_P e r
  | 0 => fun _ => rfl
  | r + 1 => fun h => by
    show sg_P d r * d r = sg_P e r * e r
    rw [sg_P_congr r (fun k hk => h k (by omega)), h r (by omega)]
theorem sg_A_congr {d e : Nat → Nat} {s t : Nat → Int64} : ∀ r, (∀ k, k < r → d k = e k) → (∀ k, k < r → s k = t k) → ∀ f, sg_A d s r f = sg_A e t r f
  | 0 => fun _ _ _ => rfl
  | r + 1 => fun h g f => by
    show sg_A d s r (f / d r) + lN (f % d r) * s r = sg_A e t r (f / e r) + lN (f % e r) * t r
    rw [sg_A_congr r (fun k hk => h k (by omega)) (fun k hk => g k (by omega)), h r (by omega), g r (by omega)]
theorem sg_S_congr {s t : Nat → Int64} {x y : Nat → Nat} : ∀ r, (∀ k, k < r → s k = t k) → (∀ k, k < r → x k = y k) → sg_S s x r = sg_S t y r
  | 0 => fun _ _ => rfl
  | r + 1 => fun h g => by
    show sg_S s x r + lN (x r) * s r = sg_S t y r + lN (y r) * t r
    rw [sg_S_congr r (fun k hk => h k (by omega)) (fun k hk => g k (by omega)), h r (by omega), g r (by omega)]
/-- an address is the sum over the digits -/
theorem sg_A_D (d : Nat → Nat) (s : Nat → Int64) : ∀ r f, sg_A d s r f = sg_S s (sg_D d r f) r := by
  intro r
  induction r with
  | zero => intro f; rfl
  | succ r ih =>
    intro f
    show sg_A d s r (f / d r) + lN (f % d r) * s r = sg_S s (sg_D d (r + 1) f) r + lN (sg_D d (r + 1) f r) * s r
    have e1 : sg_D d (r + 1) f r = f % d r := if_pos rfl
    have e2 : sg_S s (sg_D d (r + 1) f) r = sg_S s (sg_D d r (f / d r)) r :=
      sg_S_congr r (fun _ _ => rfl) (fun k hk => if_neg (by omega))
    rw [e1, e2, ih]
theorem sg_F_div {a b c : Nat} (h : c < b) : (a * b + c) / b = a := by
  rw [Nat.mul_comm, Nat.mul_add_div (by omega), Nat.div_eq_of_lt h, Nat.add_zero]
theorem sg_F_mod {a b c : Nat} (h : c < b) : (a * b + c) % b = c := by
  rw [Nat.mul_comm, Nat.mul_add_mod, Nat.mod_eq_of_lt h]
theorem sg_A_F {d x : Nat → Nat} (s : Nat → Int64) : ∀ r, (∀ k, k < r → x k < d k) → sg_A d s r (sg_F d x r) = sg_S s x r
  | 0 => fun _ => rfl
  | r + 1 => fun h => by
    show sg_A d s r ((sg_F d x r * d r + x r) / d r) + lN ((sg_F d x r * d r + x r) % d r) * s r = sg_S s x r + lN (x r) * s r
    rw [sg_F_div (h r (by omega)), sg_F_mod (h r (by omega)), sg_A_F s r (fun k hk => h k (by omega))]
theorem sg_F_lt {d x : Nat → Nat} : ∀ r, (∀ k, k < r → x k < d k) → sg_F d x r < sg_P d r
  | 0 => fun _ => Nat.one_pos
  | r + 1 => fun h => by
    show sg_F d x r * d r + x r < sg_P d r * d r
    have h1 := sg_F_lt r (fun k hk => h k (by omega))
    have h2 := h r (by omega)
    have h3 : (sg_F d x r + 1) * d r ≤ sg_P d r * d r := Nat.mul_le_mul_right _ h1
    rw [Nat.add_mul, Nat.one_mul] at h3
    omega
theorem sg_F_congr {d x y : Nat → Nat} : ∀ r, (∀ k, k < r → x k = y k) → sg_F d x r = sg_F d y r
  | 0 => fun _ => rfl
  | r + 1 => fun h => by
    show sg_F d x r * d r + x r = sg_F d y r * d r + y r
    rw [sg_F_congr r (fun k hk => h k (by omega)), h r (by omega)]
theorem sg_D_lt {d : Nat → Nat} : ∀ r f k, k < r → 0 < d k → sg_D d r f k < d k := by
  intro r
  induction r with
  | zero => intro f k h; omega
  | succ r ih =>
    intro f k h h0
    show (if k = r then f % d r else sg_D d r (f / d r) k) < d k
    by_cases e : k = r
    · rw [if_pos e]
      subst e
      exact Nat.mod_lt _ h0
    · rw [if_neg e]
      exact ih _ k (by omega) h0
theorem sg_D_0 (d : Nat → Nat) : ∀ r k, sg_D d r 0 k = 0 := by
  intro r
  induction r with
  | zero => intro k; rfl
  | succ r ih =>
    intro k
    show (if k = r then 0 % d r else sg_D d r (0 / d r) k) = 0
    rw [Nat.zero_mod, Nat.zero_div, ih]
    split <;> rfl
theorem sg_D_top (d : Nat → Nat) (r f : Nat) : sg_D d (r + 1) f r = f % d r := if_pos rfl
theorem sg_D_low (d : Nat → Nat) {r f k : Nat} (h : k < r) : sg_D d (r + 1) f k = sg_D d r (f / d r) k := if_neg (by omega)
/-- the change of one axis -/
theorem sg_S_ax {s t : Nat → Int64} {x y : Nat → Nat} {ax : Nat} {c T : Int64} (R : Nat) (h1 : ∀ k, k < R → k ≠ ax → t k = s k ∧ y k = x k) (h2 : t ax = s ax * T) (h3 : lN (y ax) = c + lN (x ax) * T) :
    ∀ r, r ≤ R → (r ≤ ax → sg_S t x r = sg_S s y r) ∧ (ax < r → sg_S t x r + c * s ax = sg_S s y r) := by
  intro r
  induction r with
  | zero => intro _; exact ⟨fun _ => rfl, fun h => absurd h (by omega)⟩
  | succ r ih =>
    intro hr
    have ⟨i1, i2⟩ := ih (by omega)
    constructor
    · intro h
      show sg_S t x r + lN (x r) * t r = sg_S s y r + lN (y r) * s r
      have ⟨e1, e2⟩ := h1 r (by omega) (by omega)
      rw [i1 (by omega), e1, e2]
    · intro h
      show sg_S t x r + lN (x r) * t r + c * s ax = sg_S s y r + lN (y r) * s r
      by_cases e : r = ax
      · subst e
        rw [i1 (by omega), h2, h3]
        grind
      · have ⟨e1, e2⟩ := h1 r (by omega) e
        rw [← i2 (by omega), e1, e2]
        grind
/-- row-major strides: the address of f is f -/
theorem sg_U_ge {d : Nat → Nat} : ∀ r k, r ≤ k → sg_U d r k = 1
  | 0 => fun _ _ => rfl
  | r + 1 => fun k h => if_neg (by omega)
theorem sg_U_lt (d : Nat → Nat) {r k : Nat} (h : k ≤ r) : sg_U d (r + 1) k = sg_U d r k * d r := if_pos h
theorem sg_U_step {d : Nat → Nat} : ∀ r k, k < r → sg_U d r k = sg_U d r (k + 1) * d k := by
  intro r
  induction r with
  | zero => intro k h; omega
  | succ r ih =>
    intro k h
    rw [sg_U_lt d (show k ≤ r by omega)]
    by_cases e : k = r
    · subst e
      rw [sg_U_ge k k (Nat.le_refl k), sg_U_ge (k + 1) (k + 1) (Nat.le_refl _)]
    · rw [sg_U_lt d (show k + 1 ≤ r by omega), ih k (by omega), Nat.mul_assoc, Nat.mul_assoc, Nat.mul_comm (d k)]
theorem sg_A_mul (d : Nat → Nat) (s : Nat → Int64) (c : Int64) : ∀ r f, sg_A d (fun k => s k * c) r f = sg_A d s r f * c := by
  intro r
  induction r with
  | zero => intro f; show (0 : Int64) = 0 * c; grind
  | succ r ih =>
    intro f
    show sg_A d (fun k => s k * c) r (f / d r) + lN (f % d r) * (s r * c) = (sg_A d s r (f / d r) + lN (f % d r) * s r) * c
    rw [ih]
    grind
theorem sg_A_U (d : Nat → Nat) : ∀ r f, f < sg_P d r → sg_A d (fun k => lN (sg_U d r (k + 1))) r f = lN f := by
  intro r
  induction r with
  | zero =>
    intro f h
    have h' : f < 1 := h
    have : f = 0 := by omega
    subst this
    rfl
  | succ r ih =>
    intro f h
    have h' : f < sg_P d r * d r := h
    show sg_A d (fun k => lN (sg_U d (r + 1) (k + 1))) r (f / d r) + lN (f % d r) * lN (sg_U d (r + 1) (r + 1)) = lN f
    have e : sg_A d (fun k => lN (sg_U d (r + 1) (k + 1))) r (f / d r) = sg_A d (fun k => lN (sg_U d r (k + 1)) * lN (d r)) r (f / d r) :=
      sg_A_congr r (fun _ _ => rfl) (fun k hk => by
        show lN (sg_U d (r + 1) (k + 1)) = lN (sg_U d r (k + 1)) * lN (d r)
        rw [sg_U_lt d (show k + 1 ≤ r by omega), lN_mul]) _
    rw [e, sg_A_mul, ih (f / d r) (Nat.div_lt_of_lt_mul (by rw [Nat.mul_comm]; exact h')), sg_U_ge (r + 1) (r + 1) (Nat.le_refl _), lN_mul, lN_mul, lN_add, Nat.mul_one]
    exact congrArg lN (Nat.div_add_mod' f (d r))
end
section
/-! permutations of at most four axes: a sum, a product, onto -/
theorem sg_pm4 {α : Type} (op : α → α → α) (e : α) (hA : ∀ a b c, op (op a b) c = op a (op b c)) (hC : ∀ a b, op a b = op b a) (f : Nat → α) (a b c t : Nat) (h0 : a < 4) (h1 : b < 4) (h2 : c < 4) (h3 : t < 4)
    (n01 : a ≠ b) (n02 : a ≠ c) (n03 : a ≠ t) (n12 : b ≠ c) (n13 : b ≠ t) (n23 : c ≠ t) :
    op (op (op (op e (f a)) (f b)) (f c)) (f t) = op (op (op (op e (f 0)) (f 1)) (f 2)) (f 3) := by
  have hL : ∀ a b c, op a (op b c) = op b (op a c) := fun a b c => by rw [← hA, hC a b, hA]
  rcases (show a = 0 ∨ a = 1 ∨ a = 2 ∨ a = 3 by omega) with rfl | rfl | rfl | rfl <;>
  rcases (show b = 0 ∨ b = 1 ∨ b = 2 ∨ b = 3 by omega) with rfl | rfl | rfl | rfl <;>
  first
  | exact absurd rfl n01
  | (rcases (show c = 0 ∨ c = 1 ∨ c = 2 ∨ c = 3 by omega) with rfl | rfl | rfl | rfl <;>
     first
     | exact absurd rfl n02
     | exact absurd rfl n12
     | (rcases (show t = 0 ∨ t = 1 ∨ t = 2 ∨ t = 3 by omega) with rfl | rfl | rfl | rfl <;>
        first
        | exact absurd rfl n03
        | exact absurd rfl n13
        | exact absurd rfl n23
        | simp only [hA, hC, hL]))
theorem sg_pm3 {α : Type} (op : α → α → α) (e : α) (hA : ∀ a b c, op (op a b) c = op a (op b c)) (hC : ∀ a b, op a b = op b a) (f : Nat → α) (a b c : Nat) (h0 : a < 3) (h1 : b < 3) (h2 : c < 3)
    (n01 : a ≠ b) (n02 : a ≠ c) (n12 : b ≠ c) :
    op (op (op e (f a)) (f b)) (f c) = op (op (op e (f 0)) (f 1)) (f 2) := by
  have hL : ∀ a b c, op a (op b c) = op b (op a c) := fun a b c => by rw [← hA, hC a b, hA]
  rcases (show a = 0 ∨ a = 1 ∨ a = 2 by omega) with rfl | rfl | rfl <;>
  rcases (show b = 0 ∨ b = 1 ∨ b = 2 by omega) with rfl | rfl | rfl <;>
  first
  | exact absurd rfl n01
  | (rcases (show c = 0 ∨ c = 1 ∨ c = 2 by omega) with rfl | rfl | rfl <;>
     first
     | exact absurd rfl n02
     | exact absurd rfl n12
     | simp only [hA, hC, hL])
theorem sg_pm2 {α : Type} (op : α → α → α) (e : α) (hA : ∀ a b c, op (op a b) c = op a (op b c)) (hC : ∀ a b, op a b = op b a) (f : Nat → α) (a b : Nat) (h0 : a < 2) (h1 : b < 2)
    (n01 : a ≠ b) :
    op (op e (f a)) (f b) = op (op e (f 0)) (f 1) := by
  have hL : ∀ a b c, op a (op b c) = op b (op a c) := fun a b c => by rw [← hA, hC a b, hA]
  rcases (show a = 0 ∨ a = 1 by omega) with rfl | rfl <;>
  rcases (show b = 0 ∨ b = 1 by omega) with rfl | rfl <;>
  first
  | exact absurd rfl n01
  | simp only [hA, hC, hL]
theorem sg_fo_perm {α : Type} (op : α → α → α) (e : α) (hA : ∀ a b c, op (op a b) c = op a (op b c)) (hC : ∀ a b, op a b = op b a) (f : Nat → α) {r : Nat} {p : Nat → Nat} (hr : r ≤ 4)
    (hp : ∀ k, k < r → p k < r) (hi : ∀ j k, j < r → k < r → p j = p k → j = k) : sg_fo op e (fun k => f (p k)) r = sg_fo op e f r := by
  have ne : ∀ j k, j < r → k < r → j ≠ k → p j ≠ p k := fun j k hj hk h z => h (hi j k hj hk z)
  rcases (show r = 0 ∨ r = 1 ∨ r = 2 ∨ r = 3 ∨ r = 4 by omega) with rfl | rfl | rfl | rfl | rfl
  · rfl
  · show op e (f (p 0)) = op e (f 0)
    have := hp 0 (by omega)
    rw [show p 0 = 0 by omega]
  · exact sg_pm2 op e hA hC f (p 0) (p 1) (hp 0 (by omega)) (hp 1 (by omega)) (ne 0 1 (by omega) (by omega) (by omega))
  · exact sg_pm3 op e hA hC f (p 0) (p 1) (p 2) (hp 0 (by omega)) (hp 1 (by omega)) (hp 2 (by omega)) (ne 0 1 (by omega) (by omega) (by omega)) (ne 0 2 (by omega) (by omega) (by omega)) (ne 1 2 (by omega) (by omega) (by omega))
  · exact sg_pm4 op e hA hC f (p 0) (p 1) (p 2) (p 3) (hp 0 (by omega)) (hp 1 (by omega)) (hp 2 (by omega)) (hp 3 (by omega)) (ne 0 1 (by omega) (by omega) (by omega)) (ne 0 2 (by omega) (by omega) (by omega)) (ne 0 3 (by omega) (by omega) (by omega)) (ne 1 2 (by omega) (by omega) (by omega)) (ne 1 3 (by omega) (by omega) (by omega)) (ne 2 3 (by omega) (by omega) (by omega))
theorem sg_S_fo (s : Nat → Int64) (x : Nat → Nat) : ∀ r, sg_S s x r = sg_fo (fun a b : Int64 => a + b) 0 (fun k => lN (x k) * s k) r
  | 0 => rfl
  | r + 1 => by
    show sg_S s x r + _ = sg_fo (fun a b : Int64 => a + b) 0 (fun k => lN (x k) * s k) r + _
    rw [sg_S_fo s x r]
theorem sg_Z_fo (d : Nat → Nat) : ∀ r, sg_Z d r = sg_fo (fun a b : Nat => a * b) 1 (fun k => sg_z (d k)) r
  | 0 => rfl
  | r + 1 => by
    show sg_Z d r * _ = sg_fo (fun a b : Nat => a * b) 1 (fun k => sg_z (d k)) r * _
    rw [sg_Z_fo d r]
theorem sg_S_perm {s : Nat → Int64} {x y p : Nat → Nat} {r : Nat} (hr : r ≤ 4) (hp : ∀ k, k < r → p k < r) (hi : ∀ j k, j < r → k < r → p j = p k → j = k) (h : ∀ k, k < r → x (p k) = y k) :
    sg_S (fun k => s (p k)) y r = sg_S s x r := by
  rw [sg_S_congr (x := y) (y := fun k => x (p k)) (s := fun k => s (p k)) (t := fun k => s (p k)) r (fun _ _ => rfl) (fun k hk => (h k hk).symm), sg_S_fo, sg_S_fo]
  exact sg_fo_perm (fun a b : Int64 => a + b) 0 Int64.add_assoc Int64.add_comm (fun k => lN (x k) * s k) hr hp hi
theorem sg_Z_perm {d p : Nat → Nat} {r : Nat} (hr : r ≤ 4) (hp : ∀ k, k < r → p k < r) (hi : ∀ j k, j < r → k < r → p j = p k → j = k) :
    sg_Z (fun k => d (p k)) r = sg_Z d r := by
  rw [sg_Z_fo, sg_Z_fo]
  exact sg_fo_perm (fun a b : Nat => a * b) 1 Nat.mul_assoc Nat.mul_comm (fun k => sg_z (d k)) hr hp hi
theorem sg_sj4 : ∀ a b c t j : Fin 4, a ≠ b → a ≠ c → a ≠ t → b ≠ c → b ≠ t → c ≠ t → (a = j ∨ b = j ∨ c = j ∨ t = j) := by decide +kernel
theorem sg_sj3 : ∀ a b c j : Fin 3, a ≠ b → a ≠ c → b ≠ c → (a = j ∨ b = j ∨ c = j) := by decide +kernel
theorem sg_sj2 : ∀ a b j : Fin 2, a ≠ b → (a = j ∨ b = j) := by decide +kernel
theorem sg_surj {r : Nat} {p : Nat → Nat} (hr : r ≤ 4) (hp : ∀ k, k < r → p k < r) (hi : ∀ j k, j < r → k < r → p j = p k → j = k) : ∀ j, j < r → ∃ k, k < r ∧ p k = j := by
  have ne : ∀ j k (hj : j < r) (hk : k < r), j ≠ k → (⟨p j, hp j hj⟩ : Fin r) ≠ ⟨p k, hp k hk⟩ := fun j k hj hk h z => h (hi j k hj hk (congrArg Fin.val z))
  intro j hj
  rcases (show r = 0 ∨ r = 1 ∨ r = 2 ∨ r = 3 ∨ r = 4 by omega) with rfl | rfl | rfl | rfl | rfl
  · omega
  · exact ⟨0, by omega, by have := hp 0 (by omega); omega⟩
  · rcases sg_sj2 _ _ ⟨j, hj⟩ (ne 0 1 (by omega) (by omega) (by omega)) with h | h
    · exact ⟨0, by omega, congrArg Fin.val h⟩
    · exact ⟨1, by omega, congrArg Fin.val h⟩
  · rcases sg_sj3 _ _ _ ⟨j, hj⟩ (ne 0 1 (by omega) (by omega) (by omega)) (ne 0 2 (by omega) (by omega) (by omega)) (ne 1 2 (by omega) (by omega) (by omega)) with h | h | h
    · exact ⟨0, by omega, congrArg Fin.val h⟩
    · exact ⟨1, by omega, congrArg Fin.val h⟩
    · exact ⟨2, by omega, congrArg Fin.val h⟩
  · rcases sg_sj4 _ _ _ _ ⟨j, hj⟩ (ne 0 1 (by omega) (by omega) (by omega)) (ne 0 2 (by omega) (by omega) (by omega)) (ne 0 3 (by omega) (by omega) (by omega)) (ne 1 2 (by omega) (by omega) (by omega)) (ne 1 3 (by omega) (by omega) (by omega)) (ne 2 3 (by omega) (by omega) (by omega)) with h | h | h | h
    · exact ⟨0, by omega, congrArg Fin.val h⟩
    · exact ⟨1, by omega, congrArg Fin.val h⟩
    · exact ⟨2, by omega, congrArg Fin.val h⟩
    · exact ⟨3, by omega, congrArg Fin.val h⟩
end
section
/-! times, sizeTest, grade -/
theorem sz_ti {m : Nat} (h : m < 2 ^ 64) : (lN m).toInt = if m < 2 ^ 63 then (m : Int) else (m : Int) - 2 ^ 64 := by
  have c := BitVec.toInt_eq_toNat_cond (lN m).toBitVec
  rw [wb_tn h] at c
  show (lN m).toBitVec.toInt = _
  rw [c]
  split <;> split <;> omega
theorem sz_neg {n : Nat} (h : 2 ^ 63 ≤ n) (h' : n < 2 ^ 64) : ¬ (0 : Int64) ≤ lN n := by
  rw [Int64.le_iff_toInt_le, sz_ti h', if_neg (by omega), show (0 : Int64).toInt = 0 by decide]
  omega
theorem sz_nn {n : Nat} (h : n < 2 ^ 63) : (0 : Int64) ≤ lN n := (pk_lLE (a := 0) (by decide) h).mpr (Nat.zero_le _)
theorem sz_ne0 {n : Nat} (h : n < 2 ^ 63) (h0 : n ≠ 0) : ¬ lN n = 0 := fun z => h0 ((pk_lEQ (b := 0) h (by decide)).mp z)
theorem sz_mul2 (a b : Nat) : (a + a) * (b / 2) + a * (b % 2) = a * b := by
  have e1 : a * (2 * (b / 2) + b % 2) = a * b := by rw [Nat.div_add_mod]
  rw [Nat.mul_add, ← Nat.mul_assoc, Nat.mul_two] at e1
  exact e1
theorem tm_37 {post : Int64 → Prop} {m i a b acc T : Nat} (hb : b < 2 ^ 63) (ha : a < 2 ^ 63) (hT : acc + (a + a) * (b / 2) = T) (hacc : acc < 2 ^ 63)
    (h1 : T < 2 ^ 63 → post (lN T)) (h2 : 2 ^ 63 ≤ T → post (-1))
    (J : 0 < b / 2 → a + a < 2 ^ 63 → wY_times_6 post m (lN (a + a)) (lN (b / 2)) (lN acc) (nI (i + 1))) :
    wY_times_37 post (wY_times_6 post m) (lN a) (lN b) (lN acc) (nI i) := by
  have hs : ((lN b).toUInt64 >>> ((1 : Int32).toInt64.toUInt64 &&& Int64.toUInt64 63)).toInt64 = lN (b / 2) := wb_shr (k := 1) (n := b) (by omega) (by decide)
  unfold wY_times_37
  rw [hs, lN_add]
  intro x2 e2
  subst e2
  by_cases hz : b / 2 = 0
  · refine br_t (by rw [hz]; rfl) ?_
    rw [hz, Nat.mul_zero, Nat.add_zero] at hT
    subst hT
    exact h1 hacc
  · refine br_f (sz_ne0 (by omega) hz) ?_
    intro x0 e0
    subst e0
    by_cases hov : a + a < 2 ^ 63
    · refine br_t (sz_nn hov) ?_
      intro x6 e6
      rw [nI_1] at e6
      subst e6
      exact J (by omega) hov
    · refine br_f (sz_neg (by omega) (by omega)) (h2 ?_)
      have := Nat.le_mul_of_pos_right (a + a) (show 0 < b / 2 by omega)
      omega
theorem tm_6 {post : Int64 → Prop} {T : Nat} (h1 : T < 2 ^ 63 → post (lN T)) (h2 : 2 ^ 63 ≤ T → post (-1)) :
    ∀ m i a b acc : Nat, i + m = 63 → b < 2 ^ m → 0 < b → 0 < a → a < 2 ^ 63 → acc < 2 ^ 63 → acc + a * b = T → wY_times_6 post (m + 1) (lN a) (lN b) (lN acc) (nI i) := by
  intro m
  induction m with
  | zero =>
    intro i a b acc _ hb hb0
    have : b < 1 := hb
    omega
  | succ m ih =>
    intro i a b acc him hb hb0 ha0 ha hacc hT
    have hi : ¬ (63 : Int32) ≤ nI i := nI_ge (b := 63) (by omega) (by decide)
    have hb63 : b < 2 ^ 63 := Nat.lt_of_lt_of_le hb (Nat.pow_le_pow_right (by decide) (by omega))
    have hbit : lN b &&& 1 = lN (b % 2) := wb_a1 (by omega)
    have hm := sz_mul2 a b
    have hb2 : b / 2 < 2 ^ m := Nat.div_lt_of_lt_mul (by rw [Nat.mul_comm, ← Nat.pow_succ]; exact hb)
    refine br_f hi ?_
    rw [hbit]
    by_cases ho : b % 2 = 0
    · rw [ho, Nat.mul_zero] at hm
      refine br_t (by rw [ho]; rfl) (tm_37 (T := T) hb63 ha (by omega) hacc h1 h2 (fun z0 z1 => ih (i + 1) (a + a) (b / 2) acc (by omega) hb2 z0 (by omega) z1 hacc (by omega)))
    · have ho1 : b % 2 = 1 := by omega
      rw [ho1, Nat.mul_one] at hm
      refine br_f (sz_ne0 (by omega) ho) ?_
      rw [lN_add]
      intro x4 e4
      subst e4
      by_cases hov : acc + a < 2 ^ 63
      · exact br_t (sz_nn hov) (tm_37 (T := T) hb63 ha (by omega) hov h1 h2 (fun z0 z1 => ih (i + 1) (a + a) (b / 2) (acc + a) (by omega) hb2 z0 (by omega) z1 hov (by omega)))
      · exact br_f (sz_neg (by omega) (by omega)) (h2 (by omega))
theorem tm_wp {post : Int64 → Prop} {a b : Nat} (ha0 : 0 < a) (ha : a < 2 ^ 63) (hb0 : 0 < b) (hb : b < 2 ^ 63) (h1 : a * b < 2 ^ 63 → post (lN (a * b))) (h2 : 2 ^ 63 ≤ a * b → post (-1)) : wpY_times post (lN a) (lN b) :=
  ⟨64, tm_6 h1 h2 63 0 a b 0 (by omega) hb hb0 ha0 ha (by omega) (by omega)⟩

theorem sz_2 {r : Nat} {d : Nat → Nat} (hr : r ≤ 4) (hd : ∀ k, k < r → d k < 2 ^ 63) :
    ∀ m i, i + m = r → sg_Z d i < 2 ^ 63 → ∃ c : Int32, (c = 0 → sg_Z d r ≤ 64) ∧
      (∀ (fb : Int64) (fr : Int32) (av ac : Nat → Int64), (∀ k, k < r → ac k = lN (d k)) → ∀ post : Int32 → Prop, post c → wX_sizeTest_31 post (nI r) fb fr av ac (m + 1) (lN (sg_Z d i)) (nI i)) ∧
      (∀ (fl fs : Int64) (fq fc : Int32) (sh ns tb ol : Nat → Int64) (pk sr ix oi : Nat → Int32), (∀ k, k < r → ns k = lN (d k)) → ∀ post : Int32 → Prop, post c → wY_grade_34 post (nI r) fl fs fq fc sh ns tb ol pk sr ix oi (m + 1) (lN (sg_Z d i)) (nI i)) := by
  intro m
  induction m with
  | zero =>
    intro i hi hz
    have e : i = r := by omega
    subst e
    have h : nI i ≤ nI i := nI_le (Nat.le_refl _) (by omega)
    by_cases h64 : sg_Z d i ≤ 64
    · have hc : lN (sg_Z d i) ≤ 64 := (pk_lLE (b := 64) hz (by decide)).mpr h64
      exact ⟨0, fun _ => h64, fun _ _ _ _ _ _ hp => br_t h (br_t hc hp), fun _ _ _ _ _ _ _ _ _ _ _ _ _ _ hp => br_t h (br_t hc hp)⟩
    · have hc : ¬ lN (sg_Z d i) ≤ 64 := fun z => h64 ((pk_lLE (b := 64) hz (by decide)).mp z)
      exact ⟨4, fun z => absurd z (by decide), fun _ _ _ _ _ _ hp => br_t h (br_f hc hp), fun _ _ _ _ _ _ _ _ _ _ _ _ _ _ hp => br_t h (br_f hc hp)⟩
  | succ m ih =>
    intro i hi hz
    have h : ¬ nI r ≤ nI i := nI_ge (by omega) (by omega)
    have hi9 : vp_in (nI i) 9 := vp_in_nI (by omega) (by decide)
    have hi4 : vp_in (nI i) 4 := vp_in_nI (by omega) (by decide)
    have cl : (nI i).toNatClampNeg = i := nI_clamp (by omega)
    have hdi := hd i (by omega)
    have hzp := sg_Z_pos d i
    by_cases hd0 : d i = 0
    · have eZ : sg_Z d (i + 1) = sg_Z d i := by
        show sg_Z d i * sg_z (d i) = sg_Z d i
        rw [hd0, sg_z0, Nat.mul_one]
      obtain ⟨c, hc, kX, kY⟩ := ih (i + 1) (by omega) (by omega)
      rw [eZ] at kX kY
      have z0 : lN (d i) = 0 := by rw [hd0]; rfl
      refine ⟨c, hc, fun fb fr av ac hX post hp => br_f h ⟨hi9, ?_⟩, fun fl fs fq fc sh ns tb ol pk sr ix oi hY post hp => br_f h ⟨hi4, ?_⟩⟩
      · intro x5 e5
        rw [cl, hX i (by omega)] at e5
        subst e5
        refine br_t z0 ?_
        intro x4 e4
        rw [nI_1] at e4
        subst e4
        exact kX fb fr av ac hX post hp
      · rw [cl, hY i (by omega)]
        refine br_t z0 ?_
        intro x4 e4
        rw [nI_1] at e4
        subst e4
        exact kY fl fs fq fc sh ns tb ol pk sr ix oi hY post hp
    · have z0 := sz_ne0 hdi hd0
      have eZ : sg_Z d (i + 1) = sg_Z d i * d i := by
        show sg_Z d i * sg_z (d i) = sg_Z d i * d i
        rw [sg_zn hd0]
      have eD : (9223372036854775807 : Int64) / lN (d i) = lN (9223372036854775807 / d i) := pk_lDiv (a := 9223372036854775807) (by decide) (by omega) hdi
      have hq : 9223372036854775807 / d i < 2 ^ 63 := Nat.lt_of_le_of_lt (Nat.div_le_self _ _) (by decide)
      have hiff : lN (sg_Z d i) ≤ (9223372036854775807 : Int64) / lN (d i) ↔ sg_Z d i * d i < 2 ^ 63 := by
        rw [eD, pk_lLE hz hq, Nat.le_div_iff_mul_le (by omega)]
        omega
      by_cases hov : sg_Z d i * d i < 2 ^ 63
      · obtain ⟨c, hc, kX, kY⟩ := ih (i + 1) (by omega) (by omega)
        rw [eZ] at kX kY
        refine ⟨c, hc, fun fb fr av ac hX post hp => br_f h ⟨hi9, ?_⟩, fun fl fs fq fc sh ns tb ol pk sr ix oi hY post hp => br_f h ⟨hi4, ?_⟩⟩
        · intro x5 e5
          rw [cl, hX i (by omega)] at e5
          subst e5
          refine br_f z0 ⟨z0, br_t (hiff.mpr hov) ?_⟩
          intro x2 e2 x4 e4
          rw [nI_1] at e4
          rw [lN_mul] at e2
          subst e2 e4
          exact kX fb fr av ac hX post hp
        · rw [cl, hY i (by omega)]
          refine br_f z0 ⟨hi4, ?_⟩
          refine tm_wp hzp hz (by omega) hdi (fun _ => ?_) (fun z => absurd z (by omega))
          refine br_t (sz_nn hov) ?_
          intro x4 e4
          rw [nI_1] at e4
          subst e4
          exact kY fl fs fq fc sh ns tb ol pk sr ix oi hY post hp
      · refine ⟨3, fun z => absurd z (by decide), fun fb fr av ac hX post hp => br_f h ⟨hi9, ?_⟩, fun fl fs fq fc sh ns tb ol pk sr ix oi hY post hp => br_f h ⟨hi4, ?_⟩⟩
        · intro x5 e5
          rw [cl, hX i (by omega)] at e5
          subst e5
          exact br_f z0 ⟨z0, br_f (fun z => hov (hiff.mp z)) hp⟩
        · rw [cl, hY i (by omega)]
          refine br_f z0 ⟨hi4, ?_⟩
          exact tm_wp hzp hz (by omega) hdi (fun z => absurd z hov) (fun _ => br_f (by decide) hp)
theorem sz_1 {r : Nat} {w : Nat → Int64} (hr : r ≤ 4) :
    ∀ m i, i + m = r → (∀ k, k < i → 0 ≤ w k) → ∃ c : Int32, (c = 0 → ∃ d : Nat → Nat, (∀ k, k < r → w k = lN (d k)) ∧ sg_Z d r ≤ 64) ∧
      (∀ (fb : Int64) (fr : Int32) (av ac : Nat → Int64), (∀ k, k < r → ac k = w k) → ∀ post : Int32 → Prop, post c → wX_sizeTest_2 post (nI r) fb fr av ac (m + 1) (nI i)) ∧
      (∀ (fl fs : Int64) (fq fc : Int32) (sh ns tb ol : Nat → Int64) (pk sr ix oi : Nat → Int32), (∀ k, k < r → ns k = w k) → ∀ post : Int32 → Prop, post c → wY_grade_5 post (nI r) 1 fl fs fq fc sh ns tb ol pk sr ix oi (m + 1) (nI i)) := by
  intro m
  induction m with
  | zero =>
    intro i hi hn
    have e : i = r := by omega
    subst e
    have h : nI i ≤ nI i := nI_le (Nat.le_refl _) (by omega)
    have hd : ∀ k, k < i → (w k).toInt.toNat < 2 ^ 63 ∧ w k = lN (w k).toInt.toNat := by
      intro k hk
      obtain ⟨n, hn, e⟩ := pk_lOf (x := w k) (Int64.not_lt.mpr (hn k hk))
      rw [e, pk_lT hn]
      exact ⟨hn, rfl⟩
    obtain ⟨c, hc, kX, kY⟩ := sz_2 (d := fun k => (w k).toInt.toNat) hr (fun k hk => (hd k hk).1) i 0 (by omega) (show (1 : Nat) < 2 ^ 63 by decide)
    exact ⟨c, fun z => ⟨_, fun k hk => (hd k hk).2, hc z⟩, fun fb fr av ac hX post hp => br_t h ⟨_, kX fb fr av ac (fun k hk => (hX k hk).trans (hd k hk).2) post hp⟩,
      fun fl fs fq fc sh ns tb ol pk sr ix oi hY post hp => br_t h ⟨_, kY fl fs fq fc sh ns tb ol pk sr ix oi (fun k hk => (hY k hk).trans (hd k hk).2) post hp⟩⟩
  | succ m ih =>
    intro i hi hn
    have h : ¬ nI r ≤ nI i := nI_ge (by omega) (by omega)
    have hi9 : vp_in (nI i) 9 := vp_in_nI (by omega) (by decide)
    have hi4 : vp_in (nI i) 4 := vp_in_nI (by omega) (by decide)
    have cl : (nI i).toNatClampNeg = i := nI_clamp (by omega)
    by_cases hw : 0 ≤ w i
    · obtain ⟨c, hc, kX, kY⟩ := ih (i + 1) (by omega) (lt_s hn hw)
      refine ⟨c, hc, fun fb fr av ac hX post hp => br_f h ⟨hi9, ?_⟩, fun fl fs fq fc sh ns tb ol pk sr ix oi hY post hp => br_f h ⟨hi4, ?_⟩⟩
      · rw [cl, hX i (by omega)]
        refine br_t hw ?_
        intro x e
        rw [nI_1] at e
        subst e
        exact kX fb fr av ac hX post hp
      · rw [cl, hY i (by omega)]
        refine br_t hw ?_
        intro x e
        rw [nI_1] at e
        subst e
        exact kY fl fs fq fc sh ns tb ol pk sr ix oi hY post hp
    · refine ⟨2, fun z => absurd z (by decide), fun fb fr av ac hX post hp => br_f h ⟨hi9, ?_⟩, fun fl fs fq fc sh ns tb ol pk sr ix oi hY post hp => br_f h ⟨hi4, ?_⟩⟩
      · rw [cl, hX i (by omega)]
        exact br_f hw hp
      · rw [cl, hY i (by omega)]
        exact br_f hw hp
theorem sz_wp {r : Nat} {w : Nat → Int64} (hr : r ≤ 4) :
    ∃ c : Int32, (c = 0 → ∃ d : Nat → Nat, (∀ k, k < r → w k = lN (d k)) ∧ sg_Z d r ≤ 64) ∧
      (∀ (fb : Int64) (fr : Int32) (av ac : Nat → Int64), (∀ k, k < r → ac k = w k) → ∀ post : Int32 → Prop, post c → wpX_sizeTest post (fb, fr, av, ac) (nI r)) ∧
      (∀ (fl fs : Int64) (fq fc : Int32) (sh ns tb ol : Nat → Int64) (pk sr ix oi : Nat → Int32), (∀ k, k < r → ns k = w k) → ∀ post : Int32 → Prop, post c → wpY_grade post (fl, fs, fq, fc, sh, ns, tb, ol, pk, sr, ix, oi) (nI r)) := by
  obtain ⟨c, hc, kX, kY⟩ := sz_1 (w := w) hr r 0 (by omega) lt_0
  exact ⟨c, hc, fun fb fr av ac hX post hp => ⟨_, kX fb fr av ac hX post hp⟩, fun fl fs fq fc sh ns tb ol pk sr ix oi hY post hp => ⟨_, kY fl fs fq fc sh ns tb ol pk sr ix oi hY post hp⟩⟩
end
section
/-! the reference's commit and rebuild -/
theorem sg_suc_lo {f m : Nat} (h : f % m + 1 < m) : (f + 1) / m = f / m ∧ (f + 1) % m = f % m + 1 := by
  have e : f + 1 = f / m * m + (f % m + 1) := by have := Nat.div_add_mod' f m; omega
  constructor
  · rw [e, sg_F_div h]
  · rw [e, sg_F_mod h]
theorem sg_suc_hi {f m : Nat} (h : f % m + 1 = m) : (f + 1) / m = f / m + 1 ∧ (f + 1) % m = 0 := by
  have e : f + 1 = (f / m + 1) * m + 0 := by
    have := Nat.div_add_mod' f m
    rw [Nat.add_mul, Nat.one_mul]
    omega
  have h0 : 0 < m := by omega
  constructor
  · rw [e, sg_F_div h0]
  · rw [e, sg_F_mod h0]
section
variable {fl fs : Int64} {fq fc : Int32} {sh ns tb ol : Nat → Int64} {pk sr ix oi : Nat → Int32}
theorem yc_12 {post : Int32 → SY → Prop} {r : Nat} {nd : Nat → Nat} (hr : r ≤ 4) (hN : ∀ k, k < r → ns k = lN (nd k))
    (H : ∀ sh' : Nat → Int64, (∀ k, k < r → sh' k = lN (nd k)) → post 0 (fl, lN (sg_P nd r), fq, fc, sh', ns, tb, ol, pk, sr, ix, oi)) :
    ∀ m i (sh : Nat → Int64), i + m = r → (∀ k, k < i → sh k = lN (nd k)) → wY_commit_12 post (nI r) fl fq fc (m + 1) (nI i) (lN (sg_P nd i)) sh ns tb ol pk sr ix oi := by
  intro m
  induction m with
  | zero =>
    intro i sh hi hs
    have e : i = r := by omega
    subst e
    exact br_t (nI_le (Nat.le_refl _) (by omega)) (H sh hs)
  | succ m ih =>
    intro i sh hi hs
    have h : ¬ nI r ≤ nI i := nI_ge (by omega) (by omega)
    have hi4 : vp_in (nI i) 4 := vp_in_nI (by omega) (by decide)
    have cl : (nI i).toNatClampNeg = i := nI_clamp (by omega)
    refine br_f h ⟨hi4, hi4, ?_⟩
    intro sh' e1 sz e2 x e3
    rw [cl, hN i (by omega)] at e1 e2
    rw [lN_mul] at e2
    rw [nI_1] at e3
    subst e1 e2 e3
    refine ih (i + 1) _ (by omega) ?_
    intro k hk
    by_cases e : k = i
    · subst e
      exact pk_uLs
    · rw [pk_uLn e]
      exact hs k (by omega)
theorem yc_wp {post : Int32 → SY → Prop} {r : Nat} {nd : Nat → Nat} (hr : r ≤ 4) (hN : ∀ k, k < r → ns k = lN (nd k))
    (H : ∀ sh' : Nat → Int64, (∀ k, k < r → sh' k = lN (nd k)) → post 0 (fl, lN (sg_P nd r), nI r, fc, sh', ns, tb, ol, pk, sr, ix, oi)) :
    wpY_commit post (fl, fs, fq, fc, sh, ns, tb, ol, pk, sr, ix, oi) (nI r) :=
  ⟨r + 1, yc_12 hr hN H r 0 sh (by omega) lt_0⟩
theorem yo_182 {post : Int32 → SY → Prop} {J : Int32 → (Nat → Int64) → (Nat → Int64) → (Nat → Int64) → (Nat → Int64) → (Nat → Int32) → (Nat → Int32) → (Nat → Int32) → (Nat → Int32) → Prop} {x1 : Int32} {f3 K : Nat} {nd : Nat → Nat} (hK : K ≤ 4)
    (hN : ∀ k, k < K → ns k = lN (nd k)) (hb : ∀ k, k < K → nd k ≤ 64) :
    ∀ k, k ≤ K → ∀ ix : Nat → Int32, ∃ ix' : Nat → Int32,
      (∀ f, f + 1 < sg_P nd k → (∀ j, j < k → ix j = nI (sg_D nd k f j)) → ∀ j, j < k → ix' j = nI (sg_D nd k (f + 1) j)) ∧
      (∀ j, k ≤ j → ix' j = ix j) ∧
      (J (nI (f3 + 1)) sh ns tb ol pk sr ix' oi → wY_rebuild_182 post J x1 (nI f3) fl fs fq fc (k + 1) (nI k - 1) sh ns tb ol pk sr ix oi) := by
  intro k
  induction k with
  | zero =>
    intro _ ix
    refine ⟨ix, fun f _ _ j hj => absurd hj (by omega), fun _ _ => rfl, fun hJ => ?_⟩
    refine br_t (by decide) ?_
    intro x e
    rw [nI_1] at e
    subst e
    exact hJ
  | succ k ih =>
    intro hk ix
    have hi4 : vp_in (nI k) 4 := vp_in_nI (by omega) (by decide)
    have cl : (nI k).toNatClampNeg = k := nI_clamp (by omega)
    have h0 : ¬ nI k < 0 := nI_pos (by omega)
    have hb' := hb k (by omega)
    rw [nI_pred]
    by_cases hc : (ix k + 1).toInt64 < ns k
    · refine ⟨upd ix k (ix k + 1), ?_, fun j hj => pk_un (by omega), fun hJ => ?_⟩
      · intro f hf hx j hj
        have hd0 : 0 < nd k := sg_P_pos (k + 1) (Nat.lt_of_le_of_lt (Nat.zero_le _) hf) k (by omega)
        have hm := Nat.mod_lt f hd0
        have e1 : ix k = nI (f % nd k) := by rw [hx k (by omega), sg_D_top]
        have hlt : f % nd k + 1 < nd k := by
          rw [e1, nI_1, nI_l (by omega), hN k (by omega), pk_lLT (by omega) (by omega)] at hc
          exact hc
        have ⟨q1, q2⟩ := sg_suc_lo hlt
        by_cases e : j = k
        · subst e
          rw [pk_us, sg_D_top, q2, e1, nI_1]
        · rw [pk_un e, hx j hj, sg_D_low nd (show j < k by omega), sg_D_low nd (show j < k by omega), q1]
      · refine br_f h0 ⟨hi4, hi4, ?_⟩
        intro a ea
        rw [cl] at ea ⊢
        subst ea
        refine ⟨hi4, br_t hc ?_⟩
        intro x e
        rw [nI_1] at e
        subst e
        exact hJ
    · obtain ⟨ix', p1, p2, p3⟩ := ih (by omega) (upd (upd ix k (ix k + 1)) k 0)
      refine ⟨ix', ?_, fun j hj => ?_, fun hJ => ?_⟩
      · intro f hf hx j hj
        have hd0 : 0 < nd k := sg_P_pos (k + 1) (Nat.lt_of_le_of_lt (Nat.zero_le _) hf) k (by omega)
        have hm := Nat.mod_lt f hd0
        have e1 : ix k = nI (f % nd k) := by rw [hx k (by omega), sg_D_top]
        have hge : f % nd k + 1 = nd k := by
          rw [e1, nI_1, nI_l (by omega), hN k (by omega), pk_lLT (by omega) (by omega)] at hc
          omega
        have ⟨q1, q2⟩ := sg_suc_hi hge
        have hf' : f + 1 < sg_P nd k * nd k := hf
        have hlt : f / nd k + 1 < sg_P nd k := by
          rw [← q1]
          exact Nat.div_lt_of_lt_mul (by rw [Nat.mul_comm]; exact hf')
        by_cases e : j = k
        · subst e
          rw [p2 j (Nat.le_refl _), pk_us, sg_D_top, q2]
          rfl
        · rw [sg_D_low nd (show j < k by omega), q1]
          refine p1 (f / nd k) hlt ?_ j (by omega)
          intro i hi
          rw [pk_un (by omega), pk_un (by omega), hx i (by omega), sg_D_low nd hi]
      · rw [p2 j (by omega), pk_un (by omega), pk_un (by omega)]
      · refine br_f h0 ⟨hi4, hi4, ?_⟩
        intro a ea
        rw [cl] at ea ⊢
        subst ea
        refine ⟨hi4, br_f hc ⟨hi4, ?_⟩⟩
        intro b eb x e
        rw [← Int32.sub_eq_add_neg] at e
        subst eb e
        exact p3 hJ
theorem yf_125 {post : Int32 → SY → Prop} {J : Int32 → (Nat → Int64) → (Nat → Int64) → (Nat → Int64) → (Nat → Int64) → (Nat → Int32) → (Nat → Int32) → (Nat → Int32) → (Nat → Int32) → Prop} {x1 : Int32} {f r : Nat} {d : Nat → Nat} (hr : r ≤ 4) (hf : f < 64)
    (hS : ∀ k, k < r → sh k = lN (d k)) :
    ∀ m i (g : Int32), i + m = r → ∃ g' : Int32,
      (∀ x : Nat → Nat, (∀ j, j < r → oi j = nI (x j)) → g = nI (sg_F d x i) → g' = nI (sg_F d x r)) ∧
      ((∀ tb' : Nat → Int64, tb' = vp_updL tb f (ol (g' &&& 63).toNatClampNeg) → ∃ n, wY_rebuild_182 post J x1 (nI f) fl fs (nI r) fc n (nI r - 1) sh ns tb' ol pk sr ix oi) →
        wY_rebuild_125 post J x1 (nI f) fl fs (nI r) fc sh ns tb ol pk sr ix oi (m + 1) g (nI i)) := by
  intro m
  induction m with
  | zero =>
    intro i g hi
    have e : i = r := by omega
    subst e
    have cl : (nI f).toNatClampNeg = f := nI_clamp (by omega)
    refine ⟨g, fun x _ h => h, fun H => ?_⟩
    refine br_t (nI_le (Nat.le_refl _) (by omega)) ⟨pk_andIn g 6 (by decide) (by decide), vp_in_nI hf (by decide), ?_⟩
    intro tb' e1 x e2
    rw [cl] at e1
    subst e2
    exact H tb' e1
  | succ m ih =>
    intro i g hi
    have h : ¬ nI r ≤ nI i := nI_ge (by omega) (by omega)
    have hi4 : vp_in (nI i) 4 := vp_in_nI (by omega) (by decide)
    have cl : (nI i).toNatClampNeg = i := nI_clamp (by omega)
    obtain ⟨g', h1, h2⟩ := ih (i + 1) (g * (sh i).toInt32 + oi i) (by omega)
    refine ⟨g', ?_, fun H => ?_⟩
    · intro x hx hg
      refine h1 x hx ?_
      rw [hS i (by omega), lN_i, hx i (by omega), hg, pk_mul, nI_add]
      rfl
    · refine br_f h ⟨hi4, hi4, ?_⟩
      intro x4 e4 x5 e5
      rw [cl] at e4
      rw [nI_1] at e5
      subst e4 e5
      exact h2 H
theorem y6_62 {post : Int32 → SY → Prop} {J : Int32 → (Nat → Int64) → (Nat → Int64) → (Nat → Int64) → (Nat → Int64) → (Nat → Int32) → (Nat → Int32) → (Nat → Int32) → (Nat → Int32) → Prop} {x1 x3 x4 : Int32} {r : Nat} {p : Nat → Nat} {vl : Nat → Int32} (hr : r ≤ 4)
    (hS : ∀ k, k < r → sr k = nI (p k)) (hp : ∀ k, k < r → p k < r) (hi : ∀ j k, j < r → k < r → p j = p k → j = k)
    (hv : ∀ k, k < r → (nI k = x1 → vl k = pk (ix k &&& 63).toNatClampNeg) ∧ (¬ nI k = x1 → vl k = ix k))
    (H : ∀ oi' : Nat → Int32, (∀ k, k < r → oi' (p k) = vl k) → ∃ n, wY_rebuild_125 post J x1 x3 fl fs (nI r) fc sh ns tb ol pk sr ix oi' n x4 0) :
    ∀ m i (oi : Nat → Int32), i + m = r → (∀ k, k < i → oi (p k) = vl k) → wY_rebuild_62 post J x1 x3 x4 fl fs (nI r) fc (m + 1) (nI i) sh ns tb ol pk sr ix oi := by
  intro m
  induction m with
  | zero =>
    intro i oi hir ho
    have e : i = r := by omega
    subst e
    exact br_t (nI_le (Nat.le_refl _) (by omega)) (H oi ho)
  | succ m ih =>
    intro i oi hir ho
    have h : ¬ nI r ≤ nI i := nI_ge (by omega) (by omega)
    have hi4 : vp_in (nI i) 4 := vp_in_nI (by omega) (by decide)
    have cl : (nI i).toNatClampNeg = i := nI_clamp (by omega)
    have hpi := hp i (by omega)
    have es : sr i &&& 3 = nI (p i) := by
      rw [hS i (by omega), pk_andN (by omega) 2 (by decide), Nat.mod_eq_of_lt (by omega)]
    have cp : (nI (p i)).toNatClampNeg = p i := nI_clamp (by omega)
    have hp4 : vp_in (nI (p i)) 4 := vp_in_nI (by omega) (by decide)
    have step : ∀ v : Int32, v = vl i → ∀ k, k < i + 1 → upd oi (p i) v (p k) = vl k := by
      intro v ev k hk
      by_cases e : k = i
      · subst e
        rw [pk_us, ev]
      · rw [pk_un (fun z => e (hi k i (by omega) (by omega) z))]
        exact ho k (by omega)
    refine br_f h ⟨hi4, ?_⟩
    rw [cl, es, cp]
    refine br_c (fun hx => ⟨hi4, pk_andIn (ix i) 6 (by decide) (by decide), hp4, ?_⟩) (fun hx => ⟨hi4, hp4, ?_⟩)
    · intro a ea x ex
      rw [nI_1] at ex
      subst ea ex
      exact ih (i + 1) _ (by omega) (step _ ((hv i (by omega)).1 hx).symm)
    · intro a ea x ex
      rw [nI_1] at ex
      subst ea ex
      exact ih (i + 1) _ (by omega) (step _ ((hv i (by omega)).2 hx).symm)
end
end
section
/-! the reference's rebuild, whole -/
def yr_I (r : Nat) (d nd p : Nat → Nat) (V : Nat → Nat → Nat) (ol : Nat → Int64) (f : Nat) (tb : Nat → Int64) (ix : Nat → Int32) : Prop :=
  (f < sg_P nd r → ∀ k, k < r → ix k = nI (sg_D nd r f k)) ∧
  (∀ j, j < f → j < sg_P nd r → ∀ x : Nat → Nat, (∀ k, k < r → x (p k) = V k (sg_D nd r j k)) → tb j = ol (sg_F d x r))
def yr_H (r : Nat) (d nd p : Nat → Nat) (V : Nat → Nat → Nat) (x1 : Int32) (sh ns : Nat → Int64) (pk sr : Nat → Int32) : Prop :=
  r ≤ 4 ∧ (∀ k, k < r → sh k = lN (d k)) ∧ (∀ k, k < r → ns k = lN (nd k)) ∧ (∀ k, k < r → sr k = nI (p k)) ∧
  (∀ k, k < r → p k < r) ∧ (∀ j k, j < r → k < r → p j = p k → j = k) ∧ sg_Z nd r ≤ 64 ∧ sg_Z d r ≤ 64 ∧
  (∀ k, k < r → ∀ i, i < nd k → (nI k = x1 → pk i = nI (V k i)) ∧ (¬ nI k = x1 → V k i = i) ∧ V k i < d (p k))
section
variable {fl fs : Int64} {fq fc : Int32} {sh ns tb ol : Nat → Int64} {pk sr ix oi : Nat → Int32}
theorem y5_50 {post : Int32 → SY → Prop} {x1 : Int32} {r : Nat} {d nd p : Nat → Nat} {V : Nat → Nat → Nat} (hh : yr_H r d nd p V x1 sh ns pk sr)
    (H : ∀ (sh' tb' : Nat → Int64) (ix' oi' : Nat → Int32), (∀ k, k < r → sh' k = lN (nd k)) → yr_I r d nd p V ol 64 tb' ix' → post 0 (fl, lN (sg_P nd r), nI r, fc, sh', ns, tb', ol, pk, sr, ix', oi')) :
    ∀ m f (tb : Nat → Int64) (ix oi : Nat → Int32), f + m = 64 → yr_I r d nd p V ol f tb ix → wY_rebuild_50 post x1 fl fs (nI r) fc (m + 1) (nI f) sh ns tb ol pk sr ix oi := by
  have ⟨hr, hS, hN, hsr, hp, hinj, hz, hzd, hV⟩ := hh
  have hP : sg_P nd r ≤ 64 := Nat.le_trans (sg_P_le nd r) hz
  have hPd : sg_P d r ≤ 64 := Nat.le_trans (sg_P_le d r) hzd
  have hnd : ∀ k, k < r → nd k ≤ 64 := fun k hk => Nat.le_trans (sg_Z_ge nd r k hk) hz
  have hsu := sg_surj hr hp hinj
  intro m
  induction m with
  | zero =>
    intro f tb ix oi hf hI
    have e : f = 64 := by omega
    subst e
    refine br_t (nI_le (a := 64) (b := 64) (by omega) (by decide)) ?_
    refine yc_wp hr hN ?_
    intro sh' hs'
    exact H sh' tb ix oi hs' hI
  | succ m ih =>
    intro f tb ix oi hf hI
    refine br_f (nI_ge (b := 64) (by omega) (by decide)) ⟨r + 1, ?_⟩
    refine y6_62 (vl := fun k => if nI k = x1 then pk (ix k &&& 63).toNatClampNeg else ix k) hr hsr hp hinj (fun k hk => ⟨fun z => if_pos z, fun z => if_neg z⟩) ?_ r 0 oi (by omega) lt_0
    intro oi' ho
    obtain ⟨g', hg, k125⟩ := yf_125 (post := post) (J := wY_rebuild_50 post x1 fl fs (nI r) fc (m + 1)) (x1 := x1) (fl := fl) (fs := fs) (fc := fc) (sh := sh) (ns := ns) (tb := tb) (ol := ol) (pk := pk) (sr := sr) (ix := ix) (oi := oi') (f := f) hr (by omega) hS r 0 0 (by omega)
    refine ⟨r + 1, k125 (fun tb' et => ?_)⟩
    obtain ⟨ix', q1, _, q3⟩ := yo_182 (post := post) (J := wY_rebuild_50 post x1 fl fs (nI r) fc (m + 1)) (x1 := x1) (fl := fl) (fs := fs) (fq := nI r) (fc := fc) (sh := sh) (ns := ns) (tb := tb') (ol := ol) (pk := pk) (sr := sr) (oi := oi') (f3 := f) (nd := nd) hr hN hnd r (Nat.le_refl _) ix
    refine ⟨r + 1, q3 (ih (f + 1) tb' ix' oi' (by omega) ⟨fun hlt => q1 f hlt (hI.1 (by omega)), ?_⟩)⟩
    intro j hj hjP x hx
    by_cases e : j = f
    · subst e
      have hpos := sg_P_pos r (Nat.lt_of_le_of_lt (Nat.zero_le _) hjP)
      have hD : ∀ k, k < r → sg_D nd r j k < nd k := fun k hk => sg_D_lt r j k hk (hpos k hk)
      have hov : ∀ k, k < r → oi' (p k) = nI (x (p k)) := by
        intro k hk
        have hk64 := hnd k hk
        have hDk := hD k hk
        have ⟨v1, v2, _⟩ := hV k hk _ hDk
        have ek := hI.1 hjP k hk
        rw [ho k hk, hx k hk]
        show (if nI k = x1 then pk (ix k &&& 63).toNatClampNeg else ix k) = _
        by_cases z : nI k = x1
        · rw [if_pos z, ek, pk_andN (by omega) 6 (by decide), Nat.mod_eq_of_lt (by omega), nI_clamp (by omega)]
          exact v1 z
        · rw [if_neg z, ek, v2 z]
      have hoj : ∀ i, i < r → oi' i = nI (x i) := by
        intro i hi
        obtain ⟨k, hk, ek⟩ := hsu i hi
        rw [← ek]
        exact hov k hk
      have hxl : ∀ i, i < r → x i < d i := by
        intro i hi
        obtain ⟨k, hk, ek⟩ := hsu i hi
        rw [← ek, hx k hk]
        exact (hV k hk _ (hD k hk)).2.2
      have hF := sg_F_lt r hxl
      rw [et, pk_uLs, hg x hoj rfl, pk_andN (by omega) 6 (by decide), Nat.mod_eq_of_lt (by omega), nI_clamp (by omega)]
    · rw [et, pk_uLn e]
      exact hI.2 j (by omega) hjP x hx
theorem y3_30 {post : Int32 → SY → Prop} {x1 : Int32} (H : ∀ ix' : Nat → Int32, (∀ k, k < 4 → ix' k = 0) → ∃ n, wY_rebuild_50 post x1 fl fs fq fc n 0 sh ns tb ol pk sr ix' oi) :
    ∀ m i (ix : Nat → Int32), i + m = 4 → (∀ k, k < i → ix k = 0) → wY_rebuild_30 post x1 fl fs fq fc (m + 1) (nI i) sh ns tb ol pk sr ix oi := by
  intro m
  induction m with
  | zero =>
    intro i ix hi hz
    exact br_t (nI_le (a := 4) (by omega) (by omega)) (H ix (fun k hk => hz k (by omega)))
  | succ m ih =>
    intro i ix hi hz
    have cl : (nI i).toNatClampNeg = i := nI_clamp (by omega)
    refine br_f (nI_ge (b := 4) (by omega) (by decide)) ⟨vp_in_nI (by omega) (by decide), ?_⟩
    intro a ea x ex
    rw [cl] at ea
    rw [nI_1] at ex
    subst ea ex
    refine ih (i + 1) _ (by omega) ?_
    intro k hk
    by_cases e : k = i
    · subst e
      exact pk_us
    · rw [pk_un e]
      exact hz k (by omega)
theorem y7_7 {post : Int32 → SY → Prop} {x1 : Int32} (H : ∀ ol' : Nat → Int64, (∀ k, k < 64 → ol' k = tb k) → ∃ n, wY_rebuild_30 post x1 fl fs fq fc n 0 sh ns tb ol' pk sr ix oi) :
    ∀ m i (ol : Nat → Int64), i + m = 64 → (∀ k, k < i → ol k = tb k) → wY_rebuild_7 post x1 fl fs fq fc (m + 1) (nI i) sh ns tb ol pk sr ix oi := by
  intro m
  induction m with
  | zero =>
    intro i ol hi hz
    exact br_t (nI_le (a := 64) (by omega) (by omega)) (H ol (fun k hk => hz k (by omega)))
  | succ m ih =>
    intro i ol hi hz
    have cl : (nI i).toNatClampNeg = i := nI_clamp (by omega)
    have hin : vp_in (nI i) 64 := vp_in_nI (by omega) (by decide)
    refine br_f (nI_ge (b := 64) (by omega) (by decide)) ⟨hin, hin, ?_⟩
    intro a ea x ex
    rw [cl] at ea
    rw [nI_1] at ex
    subst ea ex
    refine ih (i + 1) _ (by omega) ?_
    intro k hk
    by_cases e : k = i
    · subst e
      exact pk_uLs
    · rw [pk_uLn e]
      exact hz k (by omega)
theorem yr_wp {post : Int32 → SY → Prop} {x1 : Int32} {r : Nat} {d nd p : Nat → Nat} {V : Nat → Nat → Nat} (hh : yr_H r d nd p V x1 sh ns pk sr)
    (H : ∀ (sh' tb' ol' : Nat → Int64) (ix' oi' : Nat → Int32), (∀ k, k < r → sh' k = lN (nd k)) →
      (∀ f, f < sg_P nd r → ∀ x : Nat → Nat, (∀ k, k < r → x (p k) = V k (sg_D nd r f k)) → (∀ k, k < r → x k < d k) → tb' f = tb (sg_F d x r)) →
      post 0 (fl, lN (sg_P nd r), nI r, fc, sh', ns, tb', ol', pk, sr, ix', oi')) :
    wpY_rebuild post (fl, fs, nI r, fc, sh, ns, tb, ol, pk, sr, ix, oi) x1 := by
  refine ⟨65, y7_7 ?_ 64 0 ol (by omega) lt_0⟩
  intro ol' ho
  refine ⟨5, y3_30 ?_ 4 0 ix (by omega) lt_0⟩
  intro ix' hx
  have hr : r ≤ 4 := hh.1
  have hzd : sg_Z d r ≤ 64 := hh.2.2.2.2.2.2.2.1
  refine ⟨65, y5_50 hh ?_ 64 0 tb ix' oi (by omega) ⟨fun _ k hk => ?_, fun j hj => absurd hj (by omega)⟩⟩
  · intro sh' tb' ix2 oi' hs hI
    refine H sh' tb' ol' ix2 oi' hs ?_
    intro f hf x hx1 hx2
    have hP := sg_P_le nd r
    have hz : sg_Z nd r ≤ 64 := hh.2.2.2.2.2.2.1
    have hPd := sg_P_le d r
    have hF := sg_F_lt r hx2
    rw [hI.2 f (by omega) hf x hx1, ho _ (by omega)]
  · rw [hx k (by omega), sg_D_0]
    rfl
end
end
section
/-! the relation, and what each kind of change does to it -/
def sg_R (r : Nat) (d : Nat → Nat) (av sh tb : Nat → Int64) : Prop :=
  r ≤ 4 ∧ sg_Z d r ≤ 64 ∧ (∀ k, k < r → av (1 + 2 * k) = lN (d k)) ∧ (∀ k, k < r → sh k = lN (d k)) ∧
  (∀ f, f < sg_P d r → tb f = av 0 + sg_A d (fun k => av (2 + 2 * k)) r f)
/-- the relation at the head of a turn whose first cell is k -/
def i_Rel (k : Nat) (u : SX) (v : SY) : Prop :=
  ∃ (b r : Nat) (d : Nat → Nat) (av ac sh ns tb ol : Nat → Int64) (fc : Int32) (pk sr ix oi : Nat → Int32),
    b < 2 ^ 63 ∧ sg_R r d av sh tb ∧ u = (lN b, nI r, av, ac) ∧ v = (lN b, lN (sg_P d r), nI r, fc, sh, ns, tb, ol, pk, sr, ix, oi)
theorem sg_mk {k b r : Nat} {d : Nat → Nat} {av ac sh ns tb ol : Nat → Int64} {fc : Int32} {pk sr ix oi : Nat → Int32} (hb : b < 2 ^ 63) (hR : sg_R r d av sh tb) :
    i_Rel k (lN b, nI r, av, ac) (lN b, lN (sg_P d r), nI r, fc, sh, ns, tb, ol, pk, sr, ix, oi) :=
  ⟨b, r, d, av, ac, sh, ns, tb, ol, fc, pk, sr, ix, oi, hb, hR, rfl, rfl⟩
/-- the change of one axis: index i of the new axis reads index V i of the old one -/
theorem sg_R_ax {r ax : Nat} {d nd V : Nat → Nat} {av av' sh sh' tb tb' : Nat → Int64} {c T : Int64} (hR : sg_R r d av sh tb) (hax : ax < r)
    (hnd : ∀ k, k < r → k ≠ ax → nd k = d k) (hz : sg_Z nd r ≤ 64)
    (h1 : ∀ k, k < r → av' (1 + 2 * k) = lN (nd k)) (h0 : av' 0 = av 0 + c * av (2 + 2 * ax)) (h2 : av' (2 + 2 * ax) = av (2 + 2 * ax) * T)
    (h3 : ∀ k, k < r → k ≠ ax → av' (2 + 2 * k) = av (2 + 2 * k))
    (hV : ∀ i, i < nd ax → V i < d ax ∧ lN (V i) = c + lN i * T)
    (hs : ∀ k, k < r → sh' k = lN (nd k))
    (ht : ∀ f, f < sg_P nd r → ∀ x : Nat → Nat, (∀ k, k < r → x k = if k = ax then V (sg_D nd r f k) else sg_D nd r f k) → (∀ k, k < r → x k < d k) → tb' f = tb (sg_F d x r)) :
    sg_R r nd av' sh' tb' := by
  obtain ⟨hr, hzd, g1, g2, g3⟩ := hR
  refine ⟨hr, hz, h1, hs, ?_⟩
  intro f hf
  have hpos := sg_P_pos r (Nat.lt_of_le_of_lt (Nat.zero_le _) hf)
  have hD : ∀ k, k < r → sg_D nd r f k < nd k := fun k hk => sg_D_lt r f k hk (hpos k hk)
  have hx : ∀ k, k < r → (fun k => if k = ax then V (sg_D nd r f k) else sg_D nd r f k) k < d k := by
    intro k hk
    show (if k = ax then V (sg_D nd r f k) else sg_D nd r f k) < d k
    by_cases e : k = ax
    · rw [if_pos e, e]
      exact (hV _ (hD ax hax)).1
    · rw [if_neg e, ← hnd k hk e]
      exact hD k hk
  have K := (sg_S_ax (s := fun k => av (2 + 2 * k)) (t := fun k => av' (2 + 2 * k)) (x := sg_D nd r f) (y := fun k => if k = ax then V (sg_D nd r f k) else sg_D nd r f k) (ax := ax) (c := c) (T := T) r
    (fun k hk e => ⟨h3 k hk e, if_neg e⟩) h2 (by
      show lN (if ax = ax then V (sg_D nd r f ax) else sg_D nd r f ax) = _
      rw [if_pos rfl]
      exact (hV _ (hD ax hax)).2) r (Nat.le_refl _)).2 hax
  rw [ht f hf _ (fun _ _ => rfl) hx, g3 _ (sg_F_lt r hx), sg_A_F _ r hx, sg_A_D, h0, ← K]
  grind
/-- the axes permuted -/
theorem sg_R_pm {r : Nat} {d p : Nat → Nat} {av av' sh sh' tb tb' : Nat → Int64} (hR : sg_R r d av sh tb)
    (hp : ∀ k, k < r → p k < r) (hi : ∀ j k, j < r → k < r → p j = p k → j = k)
    (h0 : av' 0 = av 0) (h1 : ∀ k, k < r → av' (1 + 2 * k) = av (1 + 2 * p k)) (h2 : ∀ k, k < r → av' (2 + 2 * k) = av (2 + 2 * p k))
    (hs : ∀ k, k < r → sh' k = lN (d (p k)))
    (ht : ∀ f, f < sg_P (fun k => d (p k)) r → ∀ x : Nat → Nat, (∀ k, k < r → x (p k) = sg_D (fun k => d (p k)) r f k) → (∀ k, k < r → x k < d k) → tb' f = tb (sg_F d x r)) :
    sg_R r (fun k => d (p k)) av' sh' tb' := by
  obtain ⟨hr, hzd, g1, g2, g3⟩ := hR
  refine ⟨hr, by rw [sg_Z_perm hr hp hi]; exact hzd, fun k hk => by rw [h1 k hk, g1 _ (hp k hk)], hs, ?_⟩
  intro f hf
  have hpos := sg_P_pos r (Nat.lt_of_le_of_lt (Nat.zero_le _) hf)
  have hsu := sg_surj hr hp hi
  have hq : ∀ j, ∃ k, j < r → (k < r ∧ p k = j) := by
    intro j
    by_cases h : j < r
    · obtain ⟨k, hk⟩ := hsu j h
      exact ⟨k, fun _ => hk⟩
    · exact ⟨0, fun z => absurd z h⟩
  obtain ⟨q, hq⟩ := Classical.skolem.mp hq
  have e1 : ∀ k, k < r → (fun j => sg_D (fun k => d (p k)) r f (q j)) (p k) = sg_D (fun k => d (p k)) r f k := by
    intro k hk
    have ⟨a, b⟩ := hq (p k) (hp k hk)
    show sg_D (fun k => d (p k)) r f (q (p k)) = _
    rw [hi _ _ a hk b]
  have hx : ∀ j, j < r → (fun j => sg_D (fun k => d (p k)) r f (q j)) j < d j := by
    intro j hj
    have ⟨a, b⟩ := hq j hj
    have := sg_D_lt (d := fun k => d (p k)) r f (q j) a (hpos _ a)
    show sg_D (fun k => d (p k)) r f (q j) < d j
    rw [b] at this
    exact this
  rw [ht f hf _ e1 hx, g3 _ (sg_F_lt r hx), sg_A_F _ r hx, sg_A_D, h0]
  rw [← sg_S_perm hr hp hi e1]
  rw [sg_S_congr r (fun k hk => h2 k hk) (fun _ _ => rfl)]
/-- a new row-major view -/
theorem sg_R_ct {r : Nat} {d : Nat → Nat} {av sh tb : Nat → Int64} {off : Int64} (hr : r ≤ 4) (hz : sg_Z d r ≤ 64) (h0 : av 0 = off)
    (h1 : ∀ k, k < r → av (1 + 2 * k) = lN (d k) ∧ av (2 + 2 * k) = lN (sg_U d r (k + 1))) (hs : ∀ k, k < r → sh k = lN (d k))
    (ht : ∀ f, f < 64 → tb f = off + lN f) : sg_R r d av sh tb := by
  refine ⟨hr, hz, fun k hk => (h1 k hk).1, hs, ?_⟩
  intro f hf
  have hP := sg_P_le d r
  rw [ht f (by omega), h0, sg_A_congr r (fun _ _ => rfl) (fun k hk => (h1 k hk).2), sg_A_U d r f hf]
/-! indices 1 + 2 k, 2 + 2 k -/
theorem sg_i1 (k : Nat) : (1 : Int32) + 2 * nI k = nI (1 + 2 * k) := by
  show nI 1 + nI 2 * nI k = nI (1 + 2 * k)
  rw [pk_mul, nI_add]
theorem sg_i2 (k : Nat) : (2 : Int32) + 2 * nI k = nI (2 + 2 * k) := by
  show nI 2 + nI 2 * nI k = nI (2 + 2 * k)
  rw [pk_mul, nI_add]
theorem sg_in1 {k : Nat} (h : k < 4) : vp_in ((1 : Int32) + 2 * nI k) 9 := by
  rw [sg_i1]
  exact vp_in_nI (by omega) (by decide)
theorem sg_in2 {k : Nat} (h : k < 4) : vp_in ((2 : Int32) + 2 * nI k) 9 := by
  rw [sg_i2]
  exact vp_in_nI (by omega) (by decide)
theorem sg_c1 {k : Nat} (h : k < 4) : ((1 : Int32) + 2 * nI k).toNatClampNeg = 1 + 2 * k := by
  rw [sg_i1]
  exact nI_clamp (by omega)
theorem sg_c2 {k : Nat} (h : k < 4) : ((2 : Int32) + 2 * nI k).toNatClampNeg = 2 + 2 * k := by
  rw [sg_i2]
  exact nI_clamp (by omega)
/-- an argument that is an axis, or not -/
theorem sg_axis (v : Int32) {r : Nat} (hr : r ≤ 4) : v < 0 ∨ (¬ v < 0 ∧ ¬ v < nI r) ∨ ∃ a, a < r ∧ v = nI a ∧ ¬ nI a < 0 ∧ nI a < nI r := by
  rcases pk_ix v (n := r) (by omega) with h | h | ⟨a, ha, rfl⟩
  · exact Or.inl h
  · by_cases h0 : v < 0
    · exact Or.inl h0
    · exact Or.inr (Or.inl ⟨h0, Int32.not_lt.mpr h⟩)
  · exact Or.inr (Or.inr ⟨a, ha, rfl, nI_pos (by omega), nI_lt ha (by omega)⟩)
/-! offsetOf -/
section
variable {fb : Int64} {fr : Int32} {av ac : Nat → Int64}
theorem xo_69 {post : Int64 → Prop} {d : Nat → Nat} {r : Nat} (hr : r ≤ 4) (hd : ∀ k, k < r → av (1 + 2 * k) = lN (d k) ∧ 0 < d k ∧ d k < 2 ^ 63) :
    ∀ k, k ≤ r → ∀ (acc : Int64) (g : Nat), g < 2 ^ 63 → post (acc + sg_A d (fun k => av (2 + 2 * k)) k g) → wX_offsetOf_69 post fb fr av ac (k + 1) acc (lN g) (nI k - 1) := by
  intro k
  induction k with
  | zero =>
    intro _ acc g _ hp
    refine br_t (by decide) ?_
    have e : acc + (0 : Int64) = acc := Int64.add_zero acc
    rw [← e]
    exact hp
  | succ k ih =>
    intro hk acc g hg hp
    have ⟨e1, e2, e3⟩ := hd k (by omega)
    have z0 : ¬ lN (d k) = 0 := sz_ne0 e3 (by omega)
    rw [nI_pred]
    refine br_f (nI_pos (by omega)) ⟨sg_in1 (by omega), ?_⟩
    intro x10 ex
    rw [sg_c1 (by omega), e1] at ex
    subst ex
    refine ⟨z0, ?_⟩
    intro x12 ex
    rw [pk_lRem hg e2 e3] at ex
    subst ex
    refine ⟨z0, ?_⟩
    intro x7 ex
    rw [pk_lDiv hg e2 e3] at ex
    subst ex
    refine ⟨sg_in2 (by omega), ?_⟩
    intro x5 ex x9 ey
    rw [sg_c2 (by omega)] at ex
    rw [← Int32.sub_eq_add_neg] at ey
    subst ex ey
    refine ih (by omega) _ (g / d k) (Nat.lt_of_le_of_lt (Nat.div_le_self _ _) hg) ?_
    have e : acc + lN (g % d k) * av (2 + 2 * k) + sg_A d (fun k => av (2 + 2 * k)) k (g / d k) = acc + (sg_A d (fun k => av (2 + 2 * k)) k (g / d k) + lN (g % d k) * av (2 + 2 * k)) := by grind
    rw [e]
    exact hp
theorem xo_5 {post : Int64 → Prop} {d : Nat → Nat} {r : Nat} {q : Int64} (hr : r ≤ 4) (hz : sg_Z d r ≤ 64) (hd : ∀ k, k < r → av (1 + 2 * k) = lN (d k))
    (hneg : q < 0 → post (-1)) (hbig : ∀ g, q = lN g → g < 2 ^ 63 → sg_P d r ≤ g → post (-1))
    (hok : ∀ g, q = lN g → g < sg_P d r → post (av 0 + sg_A d (fun k => av (2 + 2 * k)) r g)) :
    ∀ m i, i + m = r → wX_offsetOf_5 post q fb (nI r) av ac (m + 1) (lN (sg_P d i)) (nI i) := by
  intro m
  induction m with
  | zero =>
    intro i hi
    have e : i = r := by omega
    subst e
    have hP := sg_P_le d i
    refine br_t (nI_le (Nat.le_refl _) (by omega)) (br_c hneg (fun h => ?_))
    obtain ⟨g, hg, rfl⟩ := pk_lOf h
    refine br_c (fun hl => ?_) (fun hl => ?_)
    · rw [pk_lLT hg (by omega)] at hl
      intro x5 e5 x9 e9
      subst e5 e9
      have hpos := sg_P_pos i (Nat.lt_of_le_of_lt (Nat.zero_le _) hl)
      exact ⟨_, xo_69 hr (fun k hk => ⟨hd k hk, hpos k hk, by have := sg_Z_ge d i k hk; omega⟩) i (Nat.le_refl _) _ g hg (hok g rfl hl)⟩
    · rw [pk_lLT hg (by omega)] at hl
      exact hbig g rfl hg (by omega)
  | succ m ih =>
    intro i hi
    refine br_f (nI_ge (by omega) (by omega)) ⟨sg_in1 (by omega), ?_⟩
    intro x3 e3 x5 e5
    rw [sg_c1 (by omega), hd i (by omega), lN_mul] at e3
    rw [nI_1] at e5
    subst e3 e5
    exact ih (i + 1) (by omega)
end
end
section
/-! contiguous -/
section
variable {fb : Int64} {fr : Int32} {av ac : Nat → Int64} {fl fs : Int64} {fq fc : Int32} {sh ns tb ol : Nat → Int64} {pk sr ix oi : Nat → Int32}
theorem xc_132 {post : Int32 → SX → Prop} {d : Nat → Nat} {r : Nat} {off : Int64} (hr : r ≤ 4) (hd : ∀ k, k < r → ac k = lN (d k))
    (H : ∀ av' : Nat → Int64, av' 0 = off → (∀ j, j < r → av' (1 + 2 * j) = lN (d j) ∧ av' (2 + 2 * j) = lN (sg_U d r (j + 1))) → post 0 (fb, fr, av', ac)) :
    ∀ k, k ≤ r → ∀ av : Nat → Int64, av 0 = off → (∀ j, k ≤ j → j < r → av (1 + 2 * j) = lN (d j) ∧ av (2 + 2 * j) = lN (sg_U d r (j + 1))) →
      wX_contiguous_132 post fb fr (k + 1) (lN (sg_U d r k)) (nI k - 1) av ac := by
  intro k
  induction k with
  | zero =>
    intro _ av h0 hj
    exact br_t (by decide) (H av h0 (fun j h => hj j (Nat.zero_le _) h))
  | succ k ih =>
    intro hk av h0 hj
    have hi9 : vp_in (nI k) 9 := vp_in_nI (by omega) (by decide)
    have cl : (nI k).toNatClampNeg = k := nI_clamp (by omega)
    rw [nI_pred]
    refine br_f (nI_pos (by omega)) ⟨hi9, sg_in1 (by omega), ?_⟩
    intro a ea
    rw [sg_c1 (by omega), cl, hd k (by omega)] at ea
    refine ⟨sg_in2 (by omega), ?_⟩
    intro b eb
    rw [sg_c2 (by omega)] at eb
    refine ⟨hi9, ?_⟩
    intro s es x ex
    rw [cl, hd k (by omega), lN_mul, ← sg_U_step r k (by omega)] at es
    rw [← Int32.sub_eq_add_neg] at ex
    subst es ex
    refine ih (by omega) b ?_ ?_
    · rw [eb, pk_uLn (by omega), ea, pk_uLn (by omega), h0]
    · intro j hkj hjr
      by_cases e : j = k
      · subst e
        constructor
        · rw [eb, pk_uLn (by omega), ea, pk_uLs]
        · rw [eb, pk_uLs]
      · have := hj j (by omega) hjr
        constructor
        · rw [eb, pk_uLn (by omega), ea, pk_uLn (by omega)]
          exact this.1
        · rw [eb, pk_uLn (by omega), ea, pk_uLn (by omega)]
          exact this.2
theorem xc_63 {post : Int32 → SX → Prop} {d : Nat → Nat} {r : Nat} {off : Int64} (hr : r ≤ 4) (hd : ∀ k, k < r → ac k = lN (d k))
    (H5 : (off < 0 ∨ ¬ off ≤ fb - lN (sg_P d r)) → post 5 (fb, fr, av, ac))
    (H0 : ¬ off < 0 → off ≤ fb - lN (sg_P d r) → ∀ av' : Nat → Int64, av' 0 = off → (∀ j, j < r → av' (1 + 2 * j) = lN (d j) ∧ av' (2 + 2 * j) = lN (sg_U d r (j + 1))) → post 0 (fb, nI r, av', ac)) :
    ∀ m i, i + m = r → wX_contiguous_63 post (nI r) off fb fr av ac (m + 1) (lN (sg_P d i)) (nI i) := by
  intro m
  induction m with
  | zero =>
    intro i hi
    have e : i = r := by omega
    subst e
    refine br_t (nI_le (Nat.le_refl _) (by omega)) (br_c (fun h => br_c (fun h2 => ?_) (fun h2 => H5 (Or.inr h2))) (fun h => H5 (Or.inl (Int64.not_le.mp h))))
    intro a ea x ex
    subst ex
    have hU : sg_U d i i = 1 := sg_U_ge i i (Nat.le_refl _)
    refine ⟨i + 1, ?_⟩
    have K := xc_132 (post := post) (fb := fb) (fr := nI i) (ac := ac) (d := d) (off := off) hr hd (fun av' => H0 (Int64.not_lt.mpr h) h2 av') i (Nat.le_refl _) a (by rw [ea, pk_uLs]) (fun j h1 h2 => absurd h1 (by omega))
    rw [hU] at K
    exact K
  | succ m ih =>
    intro i hi
    have cl : (nI i).toNatClampNeg = i := nI_clamp (by omega)
    refine br_f (nI_ge (by omega) (by omega)) ⟨vp_in_nI (by omega) (by decide), ?_⟩
    intro x3 e3 x5 e5
    rw [cl, hd i (by omega), lN_mul] at e3
    rw [nI_1] at e5
    subst e3 e5
    exact ih (i + 1) (by omega)
theorem yc_116 {post : Int32 → SY → Prop} {d : Nat → Nat} {r : Nat} {off : Int64} (hr : r ≤ 4) (hd : ∀ k, k < r → ns k = lN (d k))
    (H : ∀ sh' tb' : Nat → Int64, (∀ k, k < r → sh' k = lN (d k)) → (∀ f, f < 64 → tb' f = off + lN f) → post 0 (fl, lN (sg_P d r), nI r, fc, sh', ns, tb', ol, pk, sr, ix, oi)) :
    ∀ m i (tb : Nat → Int64), i + m = 64 → (∀ f, f < i → tb f = off + lN f) → wY_contiguous_116 post (nI r) fl fs fq fc (m + 1) (off + lN i) (nI i) sh ns tb ol pk sr ix oi := by
  intro m
  induction m with
  | zero =>
    intro i tb hi ht
    refine br_t (nI_le (a := 64) (by omega) (by omega)) ?_
    refine yc_wp hr hd ?_
    intro sh' hs
    exact H sh' tb hs (fun f hf => ht f (by omega))
  | succ m ih =>
    intro i tb hi ht
    have cl : (nI i).toNatClampNeg = i := nI_clamp (by omega)
    refine br_f (nI_ge (b := 64) (by omega) (by decide)) ?_
    intro x15 e15
    rw [Int64.add_assoc, lN_1] at e15
    subst e15
    refine ⟨vp_in_nI (by omega) (by decide), ?_⟩
    intro a ea x ex
    rw [cl] at ea
    rw [nI_1] at ex
    subst ea ex
    refine ih (i + 1) _ (by omega) ?_
    intro f hf
    by_cases e : f = i
    · subst e
      exact pk_uLs
    · rw [pk_uLn e]
      exact ht f (by omega)
theorem yc_67 {post : Int32 → SY → Prop} {d : Nat → Nat} {r : Nat} {off : Int64} (hr : r ≤ 4) (hd : ∀ k, k < r → ns k = lN (d k))
    (H5 : (off < 0 ∨ ¬ lN (sg_P d r) ≤ fl - off) → post 5 (fl, fs, fq, fc, sh, ns, tb, ol, pk, sr, ix, oi))
    (H0 : ¬ off < 0 → lN (sg_P d r) ≤ fl - off → ∀ sh' tb' : Nat → Int64, (∀ k, k < r → sh' k = lN (d k)) → (∀ f, f < 64 → tb' f = off + lN f) → post 0 (fl, lN (sg_P d r), nI r, fc, sh', ns, tb', ol, pk, sr, ix, oi)) :
    ∀ m i, i + m = r → wY_contiguous_67 post (nI r) off off fl fs fq fc sh ns tb ol pk sr ix oi (m + 1) (lN (sg_P d i)) (nI i) := by
  intro m
  induction m with
  | zero =>
    intro i hi
    have e : i = r := by omega
    subst e
    refine br_t (nI_le (Nat.le_refl _) (by omega)) (br_c (fun h => H5 (Or.inl h)) (fun h => br_c (fun h2 => ⟨65, ?_⟩) (fun h2 => H5 (Or.inr h2))))
    have K := yc_116 (post := post) (fl := fl) (fs := fs) (fq := fq) (fc := fc) (sh := sh) (ol := ol) (pk := pk) (sr := sr) (ix := ix) (oi := oi) (off := off) hr hd (H0 h h2) 64 0 tb (by omega) lt_0
    have e : off + lN 0 = off := Int64.add_zero off
    rw [e] at K
    exact K
  | succ m ih =>
    intro i hi
    have cl : (nI i).toNatClampNeg = i := nI_clamp (by omega)
    refine br_f (nI_ge (by omega) (by omega)) ⟨vp_in_nI (by omega) (by decide), ?_⟩
    intro x3 e3 x5 e5
    rw [cl, hd i (by omega), lN_mul] at e3
    rw [nI_1] at e5
    subst e3 e5
    exact ih (i + 1) (by omega)
end
theorem sg_subT {a b : Nat} (ha : a < 2 ^ 63) (hb : b < 2 ^ 63) : (lN a - lN b).toInt = (a : Int) - b := by
  rw [Int64.toInt_sub, pk_lT ha, pk_lT hb]
  exact Int.bmod_eq_of_le (by omega) (by omega)
theorem sg_room {b P : Nat} {off : Int64} (hb : b < 2 ^ 63) (hP : P ≤ 64) (h : ¬ off < 0) : off ≤ lN b - lN P ↔ lN P ≤ lN b - off := by
  obtain ⟨o, ho, rfl⟩ := pk_lOf h
  rw [Int64.le_iff_toInt_le, Int64.le_iff_toInt_le, sg_subT hb (by omega), sg_subT hb ho, pk_lT ho, pk_lT (by omega)]
  omega
theorem sg_four (f g : Nat → Int64) (p1 p2 p3 p4 : Int64) : ∀ k, k < 4 → vp_updL (vp_updL (vp_updL (vp_updL g 0 p1) 1 p2) 2 p3) 3 p4 k = vp_updL (vp_updL (vp_updL (vp_updL f 0 p1) 1 p2) 2 p3) 3 p4 k := by
  intro k hk
  rcases (show k = 0 ∨ k = 1 ∨ k = 2 ∨ k = 3 by omega) with rfl | rfl | rfl | rfl <;> rfl
theorem i_vc_contiguous {k : Nat} {u : SX} {v : SY} (I : i_Rel k u v) (hk : k + 12 ≤ 6146) (v1 : Int32) (a1 : Int64) (a2 : Int64) (a3 : Int64) (a4 : Int64) (a5 : Int64) : wpX_contiguous (fun r u' => wpY_contiguous (fun r' v' => r' = r ∧ i_Rel (k + 12) u' v') v v1 a1 a2 a3 a4 a5) u v1 a1 a2 a3 a4 a5 := by
  obtain ⟨b, r0, d0, av, ac, sh, ns, tb, ol, fc, pk, sr, ix, oi, hb, hR, rfl, rfl⟩ := I
  by_cases h0 : v1 < 0
  · exact br_t h0 (br_t h0 ⟨rfl, sg_mk hb hR⟩)
  by_cases h4 : v1 ≤ 4
  · obtain ⟨r, hr, rfl⟩ := nI_of2 (M := 4) (n := 4) (by decide) h0 h4
    refine br_f h0 (br_t h4 ?_)
    intro c1 e1 c2 e2 c3 e3 c4 e4
    subst e1 e2 e3 e4
    obtain ⟨c, hc, kX, kY⟩ := sz_wp (w := vp_updL (vp_updL (vp_updL (vp_updL ac 0 a1) 1 a2) 2 a3) 3 a4) hr
    have hY : ∀ k, k < r → vp_updL (vp_updL (vp_updL (vp_updL ns 0 a1) 1 a2) 2 a3) 3 a4 k = vp_updL (vp_updL (vp_updL (vp_updL ac 0 a1) 1 a2) 2 a3) 3 a4 k := fun k hk => sg_four ac ns a1 a2 a3 a4 k (by omega)
    by_cases hc0 : c = 0
    · obtain ⟨d, hd, hz⟩ := hc hc0
      have hdY : ∀ k, k < r → vp_updL (vp_updL (vp_updL (vp_updL ns 0 a1) 1 a2) 2 a3) 3 a4 k = lN (d k) := fun k hk => (sg_four ac ns a1 a2 a3 a4 k (by omega)).trans (hd k hk)
      have hP : sg_P d r ≤ 64 := Nat.le_trans (sg_P_le d r) hz
      refine kX _ _ _ _ (fun _ _ => rfl) _ (br_t hc0 ⟨r + 1, xc_63 hr hd (fun h5 => ?_) (fun g1 g2 av' w0 w1 => ?_) r 0 (by omega)⟩)
      · refine br_f h0 (br_t h4 ?_)
        intro c1 e1 c2 e2 c3 e3 c4 e4
        subst e1 e2 e3 e4
        refine kY _ _ _ _ _ _ _ _ _ _ _ _ hY _ (br_t hc0 ⟨r + 1, yc_67 hr hdY (fun _ => ⟨rfl, sg_mk hb hR⟩) (fun g1 g2 => ?_) r 0 (by omega)⟩)
        exact absurd h5 (fun z => z.elim g1 (fun z => z ((sg_room hb hP g1).mpr g2)))
      · refine br_f h0 (br_t h4 ?_)
        intro c1 e1 c2 e2 c3 e3 c4 e4
        subst e1 e2 e3 e4
        refine kY _ _ _ _ _ _ _ _ _ _ _ _ hY _ (br_t hc0 ⟨r + 1, yc_67 hr hdY (fun h5 => ?_) (fun _ _ sh' tb' s1 s2 => ⟨rfl, sg_mk hb (sg_R_ct hr hz w0 w1 s1 s2)⟩) r 0 (by omega)⟩)
        exact absurd h5 (fun z => z.elim g1 (fun z => z ((sg_room hb hP g1).mp g2)))
    · refine kX _ _ _ _ (fun _ _ => rfl) _ (br_f hc0 ?_)
      refine br_f h0 (br_t h4 ?_)
      intro c1 e1 c2 e2 c3 e3 c4 e4
      subst e1 e2 e3 e4
      exact kY _ _ _ _ _ _ _ _ _ _ _ _ hY _ (br_f hc0 ⟨rfl, sg_mk hb hR⟩)
  · exact br_f h0 (br_f h4 (br_f h0 (br_f h4 ⟨rfl, sg_mk hb hR⟩)))
end
section
/-! permute -/
def pm_a (x : Int32) (k : Nat) : Nat := ((x.toUInt32 >>> ((4 * nI k).toUInt32 &&& Int32.toUInt32 31)).toInt32).toBitVec.toNat % 2 ^ 4
theorem pm_e (x : Int32) (k : Nat) : ((x.toUInt32 >>> ((4 * nI k).toUInt32 &&& Int32.toUInt32 31)).toInt32) &&& 15 = nI (pm_a x k) := pk_and _ 4 (by decide)
theorem pm_lt (x : Int32) (k : Nat) : pm_a x k < 16 := Nat.mod_lt _ (by decide)
theorem pm_t1 : ∀ s, s < 16 → ∀ a, a < 4 → ((nI s &&& ((1 : Int32) <<< (nI a &&& 31))) = 0 ↔ s.testBit a = false) := by decide +kernel
theorem pm_t2 : ∀ s, s < 16 → ∀ a, a < 4 → (((nI s >>> (nI a &&& 31)) &&& 1) = 0 ↔ s.testBit a = false) := by decide +kernel
theorem pm_t3 : ∀ s, s < 16 → ∀ a, a < 4 → (nI s ||| ((1 : Int32) <<< (nI a &&& 31))) = nI (s ||| 2 ^ a) := by decide +kernel
theorem pm_t4 : ∀ s, s < 16 → ∀ a, a < 4 → s ||| 2 ^ a < 16 := by decide +kernel
theorem pm_t5 : ∀ s, s < 16 → ∀ a, a < 4 → ∀ j, j < 4 → (s ||| 2 ^ a).testBit j = (s.testBit j || decide (a = j)) := by decide +kernel
theorem pm_b : ∀ a, a < 4 → (nI a).toInt8.toInt32 = nI a := by decide +kernel
theorem pm_nb {a : Nat} (h : a < 4) : vp_nar .byte (nI a).toInt8.toInt32 = nI a := by rw [pk_vb, pm_b a h]
section
variable {fb : Int64} {fr : Int32} {av ac : Nat → Int64} {fl fs : Int64} {fq fc : Int32} {sh ns tb ol : Nat → Int64} {pk sr ix oi : Nat → Int32}
theorem xp_89 {post : Int32 → SX → Prop} {x : Int32} {r : Nat} {a0 : Nat → Int64} (hr : r ≤ 4) (hp : ∀ k, k < r → pm_a x k < r) (hc : ∀ j, j < 9 → ac j = a0 j)
    (H : ∀ av' : Nat → Int64, av' 0 = a0 0 → (∀ k, k < r → av' (1 + 2 * k) = a0 (1 + 2 * pm_a x k) ∧ av' (2 + 2 * k) = a0 (2 + 2 * pm_a x k)) → post 0 (fb, nI r, av', ac)) :
    ∀ m i (av : Nat → Int64), i + m = r → av 0 = a0 0 → (∀ k, k < i → av (1 + 2 * k) = a0 (1 + 2 * pm_a x k) ∧ av (2 + 2 * k) = a0 (2 + 2 * pm_a x k)) →
      wX_permute_89 post x fb (nI r) (m + 1) (nI i) av ac := by
  intro m
  induction m with
  | zero =>
    intro i av hi h0 hv
    have e : i = r := by omega
    subst e
    exact br_t (nI_le (Nat.le_refl _) (by omega)) (H av h0 hv)
  | succ m ih =>
    intro i av hi h0 hv
    have hpi := hp i (by omega)
    refine br_f (nI_ge (by omega) (by omega)) ?_
    intro x4 e4
    rw [pm_e] at e4
    subst e4
    refine ⟨sg_in1 (by omega), sg_in1 (by omega), ?_⟩
    intro a ea
    rw [sg_c1 (by omega), sg_c1 (by omega), hc _ (by omega)] at ea
    refine ⟨sg_in2 (by omega), sg_in2 (by omega), ?_⟩
    intro b eb x3 e3
    rw [sg_c2 (by omega), sg_c2 (by omega), hc _ (by omega)] at eb
    rw [nI_1] at e3
    subst e3
    refine ih (i + 1) b (by omega) ?_ ?_
    · rw [eb, pk_uLn (by omega), ea, pk_uLn (by omega), h0]
    · intro k hk
      by_cases e : k = i
      · subst e
        constructor
        · rw [eb, pk_uLn (by omega), ea, pk_uLs]
        · rw [eb, pk_uLs]
      · have := hv k (by omega)
        constructor
        · rw [eb, pk_uLn (by omega), ea, pk_uLn (by omega)]
          exact this.1
        · rw [eb, pk_uLn (by omega), ea, pk_uLn (by omega)]
          exact this.2
theorem xp_63 {post : Int32 → SX → Prop} {x : Int32} (H : ∀ ac' : Nat → Int64, (∀ j, j < 9 → ac' j = av j) → ∃ n, wX_permute_89 post x fb fr n 0 av ac') :
    ∀ m i (ac : Nat → Int64), i + m = 9 → (∀ j, j < i → ac j = av j) → wX_permute_63 post x fb fr (m + 1) (nI i) av ac := by
  intro m
  induction m with
  | zero =>
    intro i ac hi hc
    exact br_t (nI_le (a := 9) (by omega) (by omega)) (H ac (fun j hj => hc j (by omega)))
  | succ m ih =>
    intro i ac hi hc
    have cl : (nI i).toNatClampNeg = i := nI_clamp (by omega)
    have hin : vp_in (nI i) 9 := vp_in_nI (by omega) (by decide)
    refine br_f (nI_ge (b := 9) (by omega) (by decide)) ⟨hin, hin, ?_⟩
    intro a ea x ex
    rw [cl] at ea
    rw [nI_1] at ex
    subst ea ex
    refine ih (i + 1) _ (by omega) ?_
    intro k hk
    by_cases e : k = i
    · subst e
      exact pk_uLs
    · rw [pk_uLn e]
      exact hc k (by omega)
theorem pm_scan {x : Int32} {r : Nat} (hr : r ≤ 4) :
    ∀ m i s (ns : Nat → Int64) (sr : Nat → Int32), i + m = r → s < 16 → (∀ k, k < i → pm_a x k < r) → (∀ j k, j < i → k < i → pm_a x j = pm_a x k → j = k) →
      (∀ a, a < 4 → s.testBit a = true → ∃ k, k < i ∧ pm_a x k = a) → (∀ k, k < i → s.testBit (pm_a x k) = true) → (∀ k, k < i → sr k = nI (pm_a x k) ∧ ns k = sh (pm_a x k)) →
      (∃ (ns' : Nat → Int64) (sr' : Nat → Int32),
        (∀ post : Int32 → SX → Prop, post 8 (fb, nI r, av, ac) → wX_permute_4 post x fb (nI r) av ac (m + 1) (nI s) (nI i)) ∧
        (∀ post : Int32 → SY → Prop, post 8 (fl, fs, nI r, fc, sh, ns', tb, ol, pk, sr', ix, oi) → wY_permute_4 post x fl fs (nI r) fc (m + 1) (nI s) (nI i) sh ns tb ol pk sr ix oi)) ∨
      ((∀ k, k < r → pm_a x k < r) ∧ (∀ j k, j < r → k < r → pm_a x j = pm_a x k → j = k) ∧
       ∃ (ns' : Nat → Int64) (sr' : Nat → Int32), (∀ k, k < r → sr' k = nI (pm_a x k) ∧ ns' k = sh (pm_a x k)) ∧
        (∀ post : Int32 → SX → Prop, (∃ n, wX_permute_63 post x fb (nI r) n 0 av ac) → wX_permute_4 post x fb (nI r) av ac (m + 1) (nI s) (nI i)) ∧
        (∀ post : Int32 → SY → Prop, wpY_rebuild post (fl, fs, nI r, fc, sh, ns', tb, ol, pk, sr', ix, oi) (-1) → wY_permute_4 post x fl fs (nI r) fc (m + 1) (nI s) (nI i) sh ns tb ol pk sr ix oi)) := by
  intro m
  induction m with
  | zero =>
    intro i s ns sr hi hs hp hinj _ _ hsr
    have e : i = r := by omega
    subst e
    have h : nI i ≤ nI i := nI_le (Nat.le_refl _) (by omega)
    exact Or.inr ⟨hp, hinj, ns, sr, hsr, fun post hp => br_t h hp, fun post hp => br_t h hp⟩
  | succ m ih =>
    intro i s ns sr hi hs hp hinj hb1 hb2 hsr
    have h : ¬ nI r ≤ nI i := nI_ge (by omega) (by omega)
    have hlt := pm_lt x i
    by_cases ha : pm_a x i < r
    · have hX1 : nI (pm_a x i) < nI r := nI_lt ha (by omega)
      have hY1 : ¬ nI r ≤ nI (pm_a x i) := nI_ge ha (by omega)
      have t1 := pm_t1 s hs (pm_a x i) (by omega)
      have t2 := pm_t2 s hs (pm_a x i) (by omega)
      by_cases hbit : s.testBit (pm_a x i) = false
      · have cl : (nI i).toNatClampNeg = i := nI_clamp (by omega)
        have ca : (nI (pm_a x i)).toNatClampNeg = pm_a x i := nI_clamp (by omega)
        have hi4 : vp_in (nI i) 4 := vp_in_nI (by omega) (by decide)
        have ha4 : vp_in (nI (pm_a x i)) 4 := vp_in_nI (by omega) (by decide)
        have K := ih (i + 1) (s ||| 2 ^ (pm_a x i)) (vp_updL ns i (sh (pm_a x i))) (upd sr i (nI (pm_a x i))) (by omega) (pm_t4 s hs _ (by omega))
          (lt_s hp ha)
          (by
            intro j k hj hk ejk
            by_cases e1 : j = i
            · by_cases e2 : k = i
              · omega
              · have := hb2 k (by omega)
                rw [← ejk, e1, hbit] at this
                exact absurd this (by decide)
            · by_cases e2 : k = i
              · have := hb2 j (by omega)
                rw [ejk, e2, hbit] at this
                exact absurd this (by decide)
              · exact hinj j k (by omega) (by omega) ejk)
          (by
            intro a h4 hbt
            rw [pm_t5 s hs _ (by omega) a h4] at hbt
            by_cases e : pm_a x i = a
            · exact ⟨i, by omega, e⟩
            · rw [decide_eq_false e, Bool.or_false] at hbt
              obtain ⟨k, hk, ek⟩ := hb1 a h4 hbt
              exact ⟨k, by omega, ek⟩)
          (by
            intro k hk
            by_cases e : k = i
            · subst e
              rw [pm_t5 s hs _ (by omega) _ (by omega), decide_eq_true rfl, Bool.or_true]
            · have := hp k (by omega)
              rw [pm_t5 s hs _ (by omega) _ (by omega), hb2 k (by omega), Bool.true_or])
          (by
            intro k hk
            by_cases e : k = i
            · subst e
              exact ⟨pk_us, pk_uLs⟩
            · rw [pk_un e, pk_uLn e]
              exact hsr k (by omega))
        have stX : ∀ post : Int32 → SX → Prop, wX_permute_4 post x fb (nI r) av ac (m + 1) (nI (s ||| 2 ^ (pm_a x i))) (nI (i + 1)) → wX_permute_4 post x fb (nI r) av ac (m + 1 + 1) (nI s) (nI i) := by
          intro post hk
          refine br_f h ?_
          intro x4 e4
          rw [pm_e] at e4
          subst e4
          refine br_t hX1 ?_
          intro x5 e5
          subst e5
          refine br_t (t1.mpr hbit) ?_
          intro x2 e2 x3 e3
          rw [pm_t3 s hs _ (by omega)] at e2
          rw [nI_1] at e3
          subst e2 e3
          exact hk
        have stY : ∀ post : Int32 → SY → Prop, wY_permute_4 post x fl fs (nI r) fc (m + 1) (nI (s ||| 2 ^ (pm_a x i))) (nI (i + 1)) sh (vp_updL ns i (sh (pm_a x i))) tb ol pk (upd sr i (nI (pm_a x i))) ix oi → wY_permute_4 post x fl fs (nI r) fc (m + 1 + 1) (nI s) (nI i) sh ns tb ol pk sr ix oi := by
          intro post hk
          refine br_f h ?_
          intro x4 e4
          rw [pm_e] at e4
          subst e4
          refine br_f hY1 (br_t (t2.mpr hbit) ?_)
          intro x2 e2
          rw [pm_t3 s hs _ (by omega)] at e2
          subst e2
          refine ⟨hi4, ?_⟩
          intro a ea
          rw [cl, pm_nb (by omega)] at ea
          subst ea
          refine ⟨ha4, hi4, ?_⟩
          intro b eb x3 e3
          rw [cl, ca] at eb
          rw [nI_1] at e3
          subst eb e3
          exact hk
        rcases K with ⟨ns', sr', kX, kY⟩ | ⟨q1, q2, ns', sr', q3, kX, kY⟩
        · exact Or.inl ⟨ns', sr', fun post hp => stX post (kX post hp), fun post hp => stY post (kY post hp)⟩
        · exact Or.inr ⟨q1, q2, ns', sr', q3, fun post hp => stX post (kX post hp), fun post hp => stY post (kY post hp)⟩
      · refine Or.inl ⟨ns, sr, fun post hp => br_f h ?_, fun post hp => br_f h ?_⟩
        · intro x4 e4
          rw [pm_e] at e4
          subst e4
          refine br_t hX1 ?_
          intro x5 e5
          subst e5
          exact br_f (fun z => hbit (t1.mp z)) hp
        · intro x4 e4
          rw [pm_e] at e4
          subst e4
          exact br_f hY1 (br_f (fun z => hbit (t2.mp z)) hp)
    · refine Or.inl ⟨ns, sr, fun post hp => br_f h ?_, fun post hp => br_f h ?_⟩
      · intro x4 e4
        rw [pm_e] at e4
        subst e4
        exact br_f (nI_nlt (by omega) (by omega)) hp
      · intro x4 e4
        rw [pm_e] at e4
        subst e4
        exact br_t (nI_le (by omega) (by omega)) hp
end
theorem pm_m1 {k : Nat} (h : k < 4) : ¬ nI k = -1 := by
  intro z
  have := nI_pos (n := k) (by omega)
  rw [z] at this
  exact this (by decide)
theorem i_vc_permute {k : Nat} {u : SX} {v : SY} (I : i_Rel k u v) (hk : k + 12 ≤ 6146) (v1 : Int32) : wpX_permute (fun r u' => wpY_permute (fun r' v' => r' = r ∧ i_Rel (k + 12) u' v') v v1) u v1 := by
  obtain ⟨b, r, d, av, ac, sh, ns, tb, ol, fc, pk, sr, ix, oi, hb, hR, rfl, rfl⟩ := I
  have ⟨hr, hz, g1, g2, g3⟩ := hR
  rcases pm_scan (fb := lN b) (av := av) (ac := ac) (fl := lN b) (fs := lN (sg_P d r)) (fc := fc) (sh := sh) (tb := tb) (ol := ol) (pk := pk) (ix := ix) (oi := oi) (x := v1) hr r 0 0 ns sr (by omega) (by omega) lt_0 (fun j k hj => absurd hj (by omega)) (fun a _ h => absurd h (by rw [Nat.zero_testBit]; decide)) lt_0 lt_0 with ⟨ns', sr', kX, kY⟩ | ⟨hp, hinj, ns', sr', hs, kX, kY⟩
  · exact ⟨r + 1, kX _ ⟨r + 1, kY _ ⟨rfl, sg_mk hb hR⟩⟩⟩
  · refine ⟨r + 1, kX _ ⟨10, xp_63 (fun ac' hc => ⟨r + 1, xp_89 (a0 := av) hr hp hc (fun av' w0 w1 => ?_) r 0 av (by omega) rfl lt_0⟩) 9 0 ac (by omega) lt_0⟩⟩
    refine ⟨r + 1, kY _ ?_⟩
    refine yr_wp (d := d) (nd := fun k => d (pm_a v1 k)) (p := pm_a v1) (V := fun _ i => i) ?_ ?_
    · refine ⟨hr, g2, fun k hk => by rw [(hs k hk).2, g2 _ (hp k hk)], fun k hk => (hs k hk).1, hp, hinj, by rw [sg_Z_perm hr hp hinj]; exact hz, hz, ?_⟩
      intro k hk i hi
      exact ⟨fun z => absurd z (pm_m1 (by omega)), fun _ => rfl, hi⟩
    · intro sh' tb' ol' ix' oi' s1 s2
      exact ⟨rfl, sg_mk hb (sg_R_pm hR hp hinj w0 (fun k hk => (w1 k hk).1) (fun k hk => (w1 k hk).2) s1 s2)⟩
end
section
/-! keep, expandTo -/
section
variable {fb : Int64} {fr : Int32} {av ac : Nat → Int64} {fl fs : Int64} {fq fc : Int32} {sh ns tb ol : Nat → Int64} {pk sr ix oi : Nat → Int32}
theorem yk_2 {post : SY → Prop} (H : ∀ (ns' : Nat → Int64) (sr' : Nat → Int32), (∀ k, k < 4 → ns' k = sh k) → (∀ k, k < 4 → sr' k = nI k) → post (fl, fs, fq, fc, sh, ns', tb, ol, pk, sr', ix, oi)) :
    ∀ m i (ns : Nat → Int64) (sr : Nat → Int32), i + m = 4 → (∀ k, k < i → ns k = sh k) → (∀ k, k < i → sr k = nI k) → wY_keep_2 post fl fs fq fc (m + 1) (nI i) sh ns tb ol pk sr ix oi := by
  intro m
  induction m with
  | zero =>
    intro i ns sr hi hn hs
    exact br_t (nI_le (a := 4) (by omega) (by omega)) (H ns sr (fun k hk => hn k (by omega)) (fun k hk => hs k (by omega)))
  | succ m ih =>
    intro i ns sr hi hn hs
    have cl : (nI i).toNatClampNeg = i := nI_clamp (by omega)
    have hin : vp_in (nI i) 4 := vp_in_nI (by omega) (by decide)
    refine br_f (nI_ge (b := 4) (by omega) (by decide)) ⟨hin, ?_⟩
    intro a ea
    rw [cl, pm_nb (by omega)] at ea
    subst ea
    refine ⟨hin, hin, ?_⟩
    intro c ec x ex
    rw [cl] at ec
    rw [nI_1] at ex
    subst ec ex
    refine ih (i + 1) _ _ (by omega) ?_ ?_
    · intro k hk
      by_cases e : k = i
      · subst e
        exact pk_uLs
      · rw [pk_uLn e]
        exact hn k (by omega)
    · intro k hk
      by_cases e : k = i
      · subst e
        exact pk_us
      · rw [pk_un e]
        exact hs k (by omega)
theorem yk_wp {post : SY → Prop} (H : ∀ (ns' : Nat → Int64) (sr' : Nat → Int32), (∀ k, k < 4 → ns' k = sh k) → (∀ k, k < 4 → sr' k = nI k) → post (fl, fs, fq, fc, sh, ns', tb, ol, pk, sr', ix, oi)) :
    wpY_keep post (fl, fs, fq, fc, sh, ns, tb, ol, pk, sr, ix, oi) :=
  ⟨5, yk_2 H 4 0 ns sr (by omega) lt_0 lt_0⟩
theorem ye_s0 : vp_nar .short 0 = 0 := by rw [vp_nar_short]; decide
theorem ye_74 {post : Int32 → SY → Prop} {x1 : Int32} (H : ∀ pk' : Nat → Int32, (∀ i, i < 64 → pk' i = 0) → wpY_rebuild post (fl, fs, fq, fc, sh, ns, tb, ol, pk', sr, ix, oi) x1) :
    ∀ m i (pk : Nat → Int32), i + m = 64 → (∀ k, k < i → pk k = 0) → wY_expandTo_74 post x1 fl fs fq fc (m + 1) (nI i) sh ns tb ol pk sr ix oi := by
  intro m
  induction m with
  | zero =>
    intro i pk hi hp
    exact br_t (nI_le (a := 64) (by omega) (by omega)) (H pk (fun k hk => hp k (by omega)))
  | succ m ih =>
    intro i pk hi hp
    have cl : (nI i).toNatClampNeg = i := nI_clamp (by omega)
    refine br_f (nI_ge (b := 64) (by omega) (by decide)) ⟨vp_in_nI (by omega) (by decide), ?_⟩
    intro a ea x ex
    rw [cl, ye_s0] at ea
    rw [nI_1] at ex
    subst ea ex
    refine ih (i + 1) _ (by omega) ?_
    intro k hk
    by_cases e : k = i
    · subst e
      exact pk_us
    · rw [pk_un e]
      exact hp k (by omega)
theorem xe_53 {post : Int32 → SX → Prop} {r a : Nat} {q : Int64} {c : Int32} {d : Nat → Nat} (hr : r ≤ 4) (ha : a < r) (hd : ∀ k, k < r → av (1 + 2 * k) = lN (d k))
    (kX : ∀ ac' : Nat → Int64, (∀ k, k < r → ac' k = if k = a then q else lN (d k)) → ∀ post' : Int32 → Prop, post' c → wpX_sizeTest post' (fb, nI r, av, ac') (nI r))
    (H1 : ¬ c = 0 → ∀ ac' : Nat → Int64, post c (fb, nI r, av, ac'))
    (H0 : c = 0 → ∀ ac' av' : Nat → Int64, av' 0 = av 0 → av' (1 + 2 * a) = q → av' (2 + 2 * a) = 0 → (∀ k, k < r → k ≠ a → av' (1 + 2 * k) = av (1 + 2 * k) ∧ av' (2 + 2 * k) = av (2 + 2 * k)) → post 0 (fb, nI r, av', ac')) :
    ∀ m i (ac : Nat → Int64), i + m = r → (∀ k, k < i → ac k = lN (d k)) → wX_expandTo_53 post (nI a) q fb (nI r) (m + 1) (nI i) av ac := by
  intro m
  induction m with
  | zero =>
    intro i ac hi hc
    have e : i = r := by omega
    subst e
    have ca : (nI a).toNatClampNeg = a := nI_clamp (by omega)
    refine br_t (nI_le (Nat.le_refl _) (by omega)) ⟨vp_in_nI (by omega) (by decide), ?_⟩
    intro c9 e9
    rw [ca] at e9
    refine kX c9 ?_ _ (br_c (fun z => ⟨sg_in1 (by omega), ?_⟩) (fun z => H1 z c9))
    · intro k hk
      by_cases e : k = a
      · rw [e9, e, pk_uLs, if_pos rfl]
      · rw [e9, pk_uLn e, if_neg e]
        exact hc k hk
    · intro a1 e1
      rw [sg_c1 (by omega)] at e1
      refine ⟨sg_in2 (by omega), ?_⟩
      intro a2 e2
      rw [sg_c2 (by omega)] at e2
      refine H0 z c9 a2 ?_ ?_ ?_ ?_
      · rw [e2, pk_uLn (by omega), e1, pk_uLn (by omega)]
      · rw [e2, pk_uLn (by omega), e1, pk_uLs]
      · rw [e2, pk_uLs]
      · intro k hk hka
        constructor
        · rw [e2, pk_uLn (by omega), e1, pk_uLn (by omega)]
        · rw [e2, pk_uLn (by omega), e1, pk_uLn (by omega)]
  | succ m ih =>
    intro i ac hi hc
    have cl : (nI i).toNatClampNeg = i := nI_clamp (by omega)
    refine br_f (nI_ge (by omega) (by omega)) ⟨sg_in1 (by omega), vp_in_nI (by omega) (by decide), ?_⟩
    intro c1 e1 x ex
    rw [cl, sg_c1 (by omega), hd i (by omega)] at e1
    rw [nI_1] at ex
    subst e1 ex
    refine ih (i + 1) _ (by omega) ?_
    intro k hk
    by_cases e : k = i
    · subst e
      exact pk_uLs
    · rw [pk_uLn e]
      exact hc k (by omega)
end
theorem i_vc_expandTo {k : Nat} {u : SX} {v : SY} (I : i_Rel k u v) (hk : k + 12 ≤ 6146) (v1 : Int32) (a1 : Int64) : wpX_expandTo (fun r u' => wpY_expandTo (fun r' v' => r' = r ∧ i_Rel (k + 12) u' v') v v1 a1) u v1 a1 := by
  obtain ⟨b, r, d, av, ac, sh, ns, tb, ol, fc, pk, sr, ix, oi, hb, hR, rfl, rfl⟩ := I
  have ⟨hr, hz, g1, g2, g3⟩ := hR
  rcases sg_axis v1 hr with h0 | ⟨h0, hrr⟩ | ⟨a, ha, rfl, h0, har⟩
  · exact br_t h0 (br_t h0 ⟨rfl, sg_mk hb hR⟩)
  · exact br_f h0 (br_f hrr (br_f h0 (br_f hrr ⟨rfl, sg_mk hb hR⟩)))
  have eX : av ((1 : Int32) + 2 * nI a).toNatClampNeg = lN (d a) := by rw [sg_c1 (by omega)]; exact g1 a ha
  have eY : sh (nI a).toNatClampNeg = lN (d a) := by rw [nI_clamp (by omega)]; exact g2 a ha
  have iX : vp_in ((1 : Int32) + 2 * nI a) 9 := sg_in1 (by omega)
  have iY : vp_in (nI a) 4 := vp_in_nI (by omega) (by decide)
  by_cases c1 : lN (d a) = a1
  · exact br_f h0 (br_t har ⟨iX, br_t (eX.trans c1) (br_f h0 (br_t har ⟨iY, br_t (eY.trans c1) ⟨rfl, sg_mk hb hR⟩⟩))⟩)
  have nX1 : ¬ av ((1 : Int32) + 2 * nI a).toNatClampNeg = a1 := fun z => c1 (eX.symm.trans z)
  have nY1 : ¬ sh (nI a).toNatClampNeg = a1 := fun z => c1 (eY.symm.trans z)
  by_cases c2 : lN (d a) = 1
  · obtain ⟨c, hc, kX, kY⟩ := sz_wp (w := fun k => if k = a then a1 else lN (d k)) hr
    have hda : d a ≤ 64 := Nat.le_trans (sg_Z_ge d r a ha) hz
    have hd1 : d a = 1 := (pk_lEQ (b := 1) (by omega) (by decide)).mp c2
    have ca : (nI a).toNatClampNeg = a := nI_clamp (by omega)
    have hY : ∀ ns' ns2 : Nat → Int64, (∀ k, k < 4 → ns' k = sh k) → ns2 = vp_updL ns' (nI a).toNatClampNeg a1 → ∀ k, k < r → ns2 k = if k = a then a1 else lN (d k) := by
      intro ns' ns2 h1 h2 k hk
      rw [h2, ca]
      by_cases e : k = a
      · rw [e, pk_uLs, if_pos rfl]
      · rw [pk_uLn e, if_neg e, h1 k (by omega), g2 k hk]
    refine br_f h0 (br_t har ⟨iX, br_f nX1 ⟨iX, br_t (eX.trans c2) ⟨r + 1, ?_⟩⟩⟩)
    refine xe_53 (c := c) hr ha g1 (fun ac' h => kX _ _ _ ac' h) (fun hc0 ac' => ?_) (fun hc0 ac' av' w0 w1 w2 w3 => ?_) r 0 ac (by omega) lt_0
    · refine br_f h0 (br_t har ⟨iY, br_f nY1 ⟨iY, br_t (eY.trans c2) (yk_wp (fun ns' sr' n1 s1 => ⟨iY, ?_⟩))⟩⟩)
      intro ns2 e2
      exact kY _ _ _ _ _ _ _ _ _ _ _ _ (hY ns' ns2 n1 e2) _ (br_f hc0 ⟨rfl, sg_mk hb hR⟩)
    · obtain ⟨nd, hnd, hzn⟩ := hc hc0
      have hnk : ∀ k, k < r → nd k ≤ 64 := fun k hk => Nat.le_trans (sg_Z_ge nd r k hk) hzn
      have hdk : ∀ k, k < r → d k ≤ 64 := fun k hk => Nat.le_trans (sg_Z_ge d r k hk) hz
      have hna : a1 = lN (nd a) := by
        have := hnd a ha
        rw [if_pos rfl] at this
        exact this
      have hne : ∀ k, k < r → k ≠ a → nd k = d k := by
        intro k hk e
        have h1 := hnd k hk
        rw [if_neg e] at h1
        have h2 := hnk k hk
        have h3 := hdk k hk
        exact ((pk_lEQ (by omega) (by omega)).mp h1).symm
      refine br_f h0 (br_t har ⟨iY, br_f nY1 ⟨iY, br_t (eY.trans c2) (yk_wp (fun ns' sr' n1 s1 => ⟨iY, ?_⟩))⟩⟩)
      intro ns2 e2
      have hns := hY ns' ns2 n1 e2
      refine kY _ _ _ _ _ _ _ _ _ _ _ _ hns _ (br_t hc0 ⟨65, ye_74 (fun pk' hp => ?_) 64 0 pk (by omega) lt_0⟩)
      refine yr_wp (d := d) (nd := nd) (p := fun k => k) (V := fun k i => if k = a then 0 else i) ?_ ?_
      · refine ⟨hr, g2, fun k hk => (hns k hk).trans (hnd k hk), fun k hk => s1 k (by omega), fun k hk => hk, fun j k _ _ e => e, hzn, hz, ?_⟩
        intro k hk i hi
        have h2 := hnk k hk
        refine ⟨fun z => ?_, fun z => ?_, ?_⟩
        · have e : k = a := (nI_eq (by omega) (by omega)).mp z
          show pk' i = nI (if k = a then 0 else i)
          rw [if_pos e, hp i (by omega)]
          rfl
        · exact if_neg (fun e => z (congrArg nI e))
        · show (if k = a then 0 else i) < d k
          by_cases e : k = a
          · rw [if_pos e, e, hd1]
            decide
          · rw [if_neg e, ← hne k hk e]
            exact hi
      · intro sh' tb' ol' ix' oi' t1 t2
        refine ⟨rfl, sg_mk hb (sg_R_ax (V := fun _ => 0) (c := 0) (T := 0) hR ha hne hzn ?_ ?_ ?_ (fun k hk e => (w3 k hk e).2) ?_ t1 t2)⟩
        · intro k hk
          by_cases e : k = a
          · rw [e, w1, hna]
          · rw [(w3 k hk e).1, g1 k hk, hne k hk e]
        · rw [w0, Int64.zero_mul, Int64.add_zero]
        · rw [w2, Int64.mul_zero]
        · intro i hi
          refine ⟨by rw [hd1]; decide, ?_⟩
          rw [Int64.mul_zero]
          rfl
  · have nX2 : ¬ av ((1 : Int32) + 2 * nI a).toNatClampNeg = 1 := fun z => c2 (eX.symm.trans z)
    have nY2 : ¬ sh (nI a).toNatClampNeg = 1 := fun z => c2 (eY.symm.trans z)
    exact br_f h0 (br_t har ⟨iX, br_f nX1 ⟨iX, br_f nX2 (br_f h0 (br_t har ⟨iY, br_f nY1 ⟨iY, br_f nY2 ⟨rfl, sg_mk hb hR⟩⟩⟩))⟩⟩)
end
section
/-! slice: the pure part -/
def sl_z (x n s : Int64) : Int64 := if 0 ≤ x then (if x < n then x else if 0 ≤ s then n else n - 1) else (if 0 ≤ x + n then x + n else if 0 ≤ s then 0 else -1)
def sl_m (a b s : Int64) : Int64 := if 0 ≤ s then (if b ≤ a then 0 else (b - a - 1) / s + 1) else (if a ≤ b then 0 else (a - b - 1) / (-s) + 1)
def sl_y (x n : Int64) : Int64 := if 0 ≤ x then x else x + n
theorem sl_0 : (0 : Int64).toInt = 0 := by decide
theorem sl_1 : (1 : Int64).toInt = 1 := by decide
theorem sl_le0 {x : Int64} : 0 ≤ x ↔ 0 ≤ x.toInt := by rw [Int64.le_iff_toInt_le, sl_0]
theorem sl_add {x y : Int64} (h1 : -9223372036854775808 ≤ x.toInt + y.toInt) (h2 : x.toInt + y.toInt < 9223372036854775808) : (x + y).toInt = x.toInt + y.toInt := by
  rw [Int64.toInt_add]
  exact Int.bmod_eq_of_le (by omega) (by omega)
theorem sl_sub {x y : Int64} (h1 : -9223372036854775808 ≤ x.toInt - y.toInt) (h2 : x.toInt - y.toInt < 9223372036854775808) : (x - y).toInt = x.toInt - y.toInt := by
  rw [Int64.toInt_sub]
  exact Int.bmod_eq_of_le (by omega) (by omega)
theorem sl_bd (x : Int64) : -9223372036854775808 ≤ x.toInt ∧ x.toInt < 9223372036854775808 := by
  have h1 := Int64.le_toInt x
  have h2 := Int64.toInt_lt x
  constructor <;> omega
theorem sl_lN {n : Nat} (h : n ≤ 64) : (lN n).toInt = n := pk_lT (by omega)
theorem sl_yT (x : Int64) {n : Nat} (hn : n ≤ 64) : (sl_y x (lN n)).toInt = if 0 ≤ x.toInt then x.toInt else x.toInt + n := by
  have hb := sl_bd x
  unfold sl_y
  by_cases h : 0 ≤ x
  · rw [if_pos h, if_pos (sl_le0.mp h)]
  · have h' : ¬ 0 ≤ x.toInt := fun z => h (sl_le0.mpr z)
    rw [if_neg h, if_neg h', sl_add (by rw [sl_lN hn]; omega) (by rw [sl_lN hn]; omega), sl_lN hn]
theorem sl_zp {x s : Int64} {n : Nat} {y : Int} (hn : n ≤ 64) (hs : 0 ≤ s) (hy : (sl_y x (lN n)).toInt = y) :
    (y ≤ 0 → (sl_z x (lN n) s).toInt = 0) ∧ (0 ≤ y → y ≤ n → (sl_z x (lN n) s).toInt = y) ∧ (n ≤ y → (sl_z x (lN n) s).toInt = n) := by
  have hb := sl_bd x
  have hl := sl_lN hn
  rw [sl_yT x hn] at hy
  unfold sl_z
  by_cases h : 0 ≤ x
  · have h' := sl_le0.mp h
    rw [if_pos h'] at hy
    rw [if_pos h]
    by_cases h2 : x < lN n
    · rw [if_pos h2]
      rw [Int64.lt_iff_toInt_lt, hl] at h2
      omega
    · rw [if_neg h2, if_pos hs, hl]
      rw [Int64.lt_iff_toInt_lt, hl] at h2
      omega
  · have h' : ¬ 0 ≤ x.toInt := fun z => h (sl_le0.mpr z)
    have ha : (x + lN n).toInt = x.toInt + n := by rw [sl_add (by rw [hl]; omega) (by rw [hl]; omega), hl]
    rw [if_neg h'] at hy
    rw [if_neg h]
    by_cases h2 : 0 ≤ x + lN n
    · rw [if_pos h2, ha]
      rw [sl_le0, ha] at h2
      omega
    · rw [if_neg h2, if_pos hs, sl_0]
      rw [sl_le0, ha] at h2
      omega
theorem sl_zn {x s : Int64} {n : Nat} {y : Int} (hn : n ≤ 64) (hs : ¬ 0 ≤ s) (hy : (sl_y x (lN n)).toInt = y) :
    (y ≤ -1 → (sl_z x (lN n) s).toInt = -1) ∧ (-1 ≤ y → y ≤ n - 1 → (sl_z x (lN n) s).toInt = y) ∧ ((n : Int) - 1 ≤ y → (sl_z x (lN n) s).toInt = n - 1) := by
  have hb := sl_bd x
  have hl := sl_lN hn
  rw [sl_yT x hn] at hy
  unfold sl_z
  by_cases h : 0 ≤ x
  · have h' := sl_le0.mp h
    rw [if_pos h'] at hy
    rw [if_pos h]
    by_cases h2 : x < lN n
    · rw [if_pos h2]
      rw [Int64.lt_iff_toInt_lt, hl] at h2
      omega
    · rw [if_neg h2, if_neg hs, sl_sub (by rw [hl, sl_1]; omega) (by rw [hl, sl_1]; omega), hl, sl_1]
      rw [Int64.lt_iff_toInt_lt, hl] at h2
      omega
  · have h' : ¬ 0 ≤ x.toInt := fun z => h (sl_le0.mpr z)
    have ha : (x + lN n).toInt = x.toInt + n := by rw [sl_add (by rw [hl]; omega) (by rw [hl]; omega), hl]
    rw [if_neg h'] at hy
    rw [if_neg h]
    by_cases h2 : 0 ≤ x + lN n
    · rw [if_pos h2, ha]
      rw [sl_le0, ha] at h2
      omega
    · rw [if_neg h2, if_neg hs, show (-1 : Int64).toInt = -1 by decide]
      rw [sl_le0, ha] at h2
      omega
/-! the count: ceil (q / M) -/
def sl_c (q M : Nat) : Nat := (q + M - 1) / M
theorem sl_c0 {M : Nat} (h : 0 < M) : sl_c 0 M = 0 := Nat.div_eq_of_lt (by omega)
theorem sl_cs {q M : Nat} (h : 0 < M) : sl_c (q + 1) M = q / M + 1 := by
  unfold sl_c
  rw [show q + 1 + M - 1 = q + M by omega, Nat.add_div_right _ h]
theorem sl_c1 {q M : Nat} (h : 0 < M) (hq : q % M = 0) : sl_c q M * M = q ∧ sl_c (q + 1) M = sl_c q M + 1 := by
  have e := Nat.div_add_mod' q M
  have e1 : sl_c q M = q / M := by
    unfold sl_c
    rw [show q + M - 1 = q / M * M + (M - 1) by omega, sg_F_div (by omega)]
  rw [sl_cs h, e1]
  exact ⟨by omega, rfl⟩
theorem sl_c2 {q M : Nat} (h : 0 < M) (hq : ¬ q % M = 0) : sl_c (q + 1) M = sl_c q M := by
  have e := Nat.div_add_mod' q M
  have hm := Nat.mod_lt q h
  have e1 : sl_c q M = q / M + 1 := by
    unfold sl_c
    have e2 : q + M - 1 = (q / M + 1) * M + (q % M - 1) := by
      rw [Nat.add_mul, Nat.one_mul]
      omega
    rw [e2, sg_F_div (by omega)]
  rw [sl_cs h, e1]
theorem sl_cle {q M : Nat} (h : 0 < M) : sl_c q M ≤ q := by
  cases q with
  | zero => rw [sl_c0 h]; exact Nat.le_refl _
  | succ q =>
    rw [sl_cs h]
    have := Nat.div_le_self q M
    omega
theorem sl_cj {q M j : Nat} (h : 0 < M) (hj : j < sl_c q M) : j * M < q := by
  unfold sl_c at hj
  have h1 : j + 1 ≤ (q + M - 1) / M := hj
  rw [Nat.le_div_iff_mul_le h, Nat.add_mul, Nat.one_mul] at h1
  omega
/-! the remainder -/
theorem sl_rp {q M : Nat} (hq : q < 64) (h0 : 0 < M) (hM : M < 2 ^ 63) : (nI q).toInt64 - (nI q).toInt64 / lN M * lN M = 0 ↔ q % M = 0 := by
  have hm : q % M ≤ q := Nat.mod_le _ _
  rw [nI_l (by omega), pk_lRem (by omega) h0 hM]
  exact pk_lEQ (b := 0) (by omega) (by decide)
theorem sl_rn {q B : Nat} {s : Int64} (hq : q < 64) (h0 : 0 < B) (hB : B ≤ 2 ^ 63) (hs : s.toInt = -(B : Int)) (hs2 : s = -(lN B)) : (nI q).toInt64 - (nI q).toInt64 / s * s = 0 ↔ q % B = 0 := by
  have hm : q % B ≤ q := Nat.mod_le _ _
  have hd : q / B ≤ q := Nat.div_le_self _ _
  have e : lN q / s = -(lN (q / B)) := by
    apply Int64.toInt_inj.mp
    rw [Int64.toInt_div, hs, pk_lT (by omega), Int.tdiv_neg, Int.tdiv_eq_ediv_of_nonneg (by omega), Int64.toInt_neg, pk_lT (by omega), Int.natCast_ediv]
  rw [nI_l (by omega), e, hs2, Int64.neg_mul_neg, lN_mul, lN_sub (Nat.div_mul_le_self q B)]
  rw [show q - q / B * B = q % B by have := Nat.div_add_mod' q B; omega]
  exact pk_lEQ (b := 0) (by omega) (by decide)
/-! positive step -/
theorem sl_P1 {z1 z2 s : Int64} {n M lo hi : Nat} {y1 y2 : Int} (hn : n ≤ 64) (h0 : 0 < M) (hM : M < 2 ^ 63) (hs : s = lN M)
    (hz1 : (y1 ≤ 0 → z1.toInt = 0) ∧ (0 ≤ y1 → y1 ≤ n → z1.toInt = y1) ∧ (n ≤ y1 → z1.toInt = n))
    (hz2 : (y2 ≤ 0 → z2.toInt = 0) ∧ (0 ≤ y2 → y2 ≤ n → z2.toInt = y2) ∧ (n ≤ y2 → z2.toInt = n))
    (hlo : lo = y1.toNat) (hhi : hi = (min y2 n).toNat) : sl_m z1 z2 s = lN (sl_c (hi - lo) M) ∧ (lo < hi → z1 = lN lo) := by
  have hs0 : 0 ≤ s := by rw [hs]; exact sz_nn hM
  unfold sl_m
  rw [if_pos hs0]
  by_cases h : lo < hi
  · have e1 : z1.toInt = lo := by omega
    have e2 : z2.toInt = hi := by omega
    have f1 : z1 = lN lo := Int64.toInt_inj.mp (by rw [e1, pk_lT (by omega)])
    have f2 : z2 = lN hi := Int64.toInt_inj.mp (by rw [e2, pk_lT (by omega)])
    refine ⟨?_, fun _ => f1⟩
    have hle : ¬ z2 ≤ z1 := by rw [Int64.le_iff_toInt_le]; omega
    have e3 : lN (hi - lo) - 1 = lN (hi - lo - 1) := lN_sub (a := hi - lo) (b := 1) (by omega)
    rw [if_neg hle, f1, f2, lN_sub (by omega), e3, hs, pk_lDiv (by omega) h0 hM, lN_1]
    rw [show hi - lo = hi - lo - 1 + 1 by omega, sl_cs h0]
    rfl
  · have hle : z2 ≤ z1 := by rw [Int64.le_iff_toInt_le]; omega
    rw [if_pos hle, show hi - lo = 0 by omega, sl_c0 h0]
    exact ⟨rfl, fun z => absurd z h⟩
theorem sl_P2 {z s : Int64} {n M lo hi : Nat} (h0 : 0 < M) (hs : s = lN M) (hz : lo < hi → z = lN lo) (hh : hi ≤ n) :
    ∀ j, j < sl_c (hi - lo) M → lo + j * M < n ∧ lN (lo + j * M) = z + lN j * s := by
  intro j hj
  have := sl_cj h0 hj
  refine ⟨by omega, ?_⟩
  rw [hz (by omega), hs, lN_mul, lN_add]
/-! negative step -/
theorem sl_N1 {z1 z2 s : Int64} {n M lo hi : Nat} {y1 y2 : Int} (hn : n ≤ 64) (h0 : 0 < M) (hM : M < 2 ^ 63) (hs : s = -(lN M))
    (hz1 : (y1 ≤ -1 → z1.toInt = -1) ∧ (-1 ≤ y1 → y1 ≤ n - 1 → z1.toInt = y1) ∧ ((n : Int) - 1 ≤ y1 → z1.toInt = n - 1))
    (hz2 : (y2 ≤ -1 → z2.toInt = -1) ∧ (-1 ≤ y2 → y2 ≤ n - 1 → z2.toInt = y2) ∧ ((n : Int) - 1 ≤ y2 → z2.toInt = n - 1))
    (hlo : lo = ((n : Int) - 1 - y1).toNat) (hhi : hi = (min ((n : Int) - 1 - y2) n).toNat) : sl_m z1 z2 s = lN (sl_c (hi - lo) M) ∧ (lo < hi → z1 = lN (n - 1 - lo)) := by
  have hs1 : s.toInt = -(M : Int) := by
    rw [hs, Int64.toInt_neg, pk_lT hM]
    exact Int.bmod_eq_of_le (by omega) (by omega)
  have hs0 : ¬ 0 ≤ s := by rw [sl_le0, hs1]; omega
  unfold sl_m
  rw [if_neg hs0]
  by_cases h : lo < hi
  · have e1 : z1.toInt = (n : Int) - 1 - lo := by omega
    have e2 : z2.toInt = (n : Int) - 1 - hi := by omega
    have f1 : z1 = lN (n - 1 - lo) := Int64.toInt_inj.mp (by rw [e1, pk_lT (by omega)]; omega)
    refine ⟨?_, fun _ => f1⟩
    have hle : ¬ z1 ≤ z2 := by rw [Int64.le_iff_toInt_le]; omega
    have e4 : (z1 - z2).toInt = (hi : Int) - lo := by rw [sl_sub (by omega) (by omega)]; omega
    have e3 : z1 - z2 - 1 = lN (hi - lo - 1) := by
      apply Int64.toInt_inj.mp
      rw [sl_sub (by rw [e4, sl_1]; omega) (by rw [e4, sl_1]; omega), e4, sl_1, pk_lT (by omega)]
      omega
    rw [if_neg hle, e3, hs, Int64.neg_neg, pk_lDiv (by omega) h0 hM, lN_1]
    rw [show hi - lo = hi - lo - 1 + 1 by omega, sl_cs h0]
    rfl
  · have hle : z1 ≤ z2 := by rw [Int64.le_iff_toInt_le]; omega
    rw [if_pos hle, show hi - lo = 0 by omega, sl_c0 h0]
    exact ⟨rfl, fun z => absurd z h⟩
theorem sl_N2 {z s : Int64} {n M lo hi : Nat} (h0 : 0 < M) (hs : s = -(lN M)) (hz : lo < hi → z = lN (n - 1 - lo)) (hh : hi ≤ n) :
    ∀ j, j < sl_c (hi - lo) M → n - 1 - (lo + j * M) < n ∧ lN (n - 1 - (lo + j * M)) = z + lN j * s := by
  intro j hj
  have := sl_cj h0 hj
  refine ⟨by omega, ?_⟩
  rw [hz (by omega), hs, Int64.mul_neg, ← Int64.sub_eq_add_neg, lN_mul, lN_sub (by omega)]
  exact congrArg lN (by omega)
end
section
/-! slice: the walks -/
theorem sl_ng {s : Int64} (h : ¬ s = 0) : ¬ -s = 0 := fun z => h (by
  have e : - -s = -(0 : Int64) := congrArg (fun t => -t) z
  rw [Int64.neg_neg] at e
  exact e)
theorem sl_s16 : ∀ v, v < 64 → (nI v).toInt16.toInt32 = nI v := by decide +kernel
theorem sl_nar {v : Nat} (h : v < 64) : vp_nar .short (lN v).toInt32.toInt16.toInt32 = nI v := by rw [lN_i, pk_vs, sl_s16 v h]
section
variable {fb : Int64} {fr : Int32} {av ac : Nat → Int64} {fl fs : Int64} {fq fc : Int32} {sh ns tb ol : Nat → Int64} {pk sr ix oi : Nat → Int32}
theorem xs_176 {post : Int32 → SX → Prop} {x1 : Int32} {x2 x4 x6 : Int64} (h0 : ¬ x6 = 0) (h : wX_slice_235 post x1 x2 x6 (sl_m x2 x4 x6) fb fr av ac) : wX_slice_176 post x1 x2 x4 x6 fb fr av ac := by
  unfold sl_m at h
  by_cases a : 0 ≤ x6
  · rw [if_pos a] at h
    by_cases b : x4 ≤ x2
    · rw [if_pos b] at h
      exact br_t a (br_t b h)
    · rw [if_neg b] at h
      exact br_t a (br_f b ⟨h0, h⟩)
  · rw [if_neg a] at h
    by_cases b : x2 ≤ x4
    · rw [if_pos b] at h
      exact br_f a (br_t b h)
    · rw [if_neg b] at h
      exact br_f a (br_f b ⟨sl_ng h0, h⟩)
theorem xs_110 {post : Int32 → SX → Prop} {x1 : Int32} {x2 x4 x6 x8 : Int64} (h : wX_slice_176 post x1 x2 (sl_z x4 x8 x6) x6 fb fr av ac) : wX_slice_110 post x1 x2 x4 x6 x8 fb fr av ac := by
  unfold sl_z at h
  by_cases a : 0 ≤ x4
  · rw [if_pos a] at h
    by_cases b : x4 < x8
    · rw [if_pos b] at h
      exact br_t a (br_t b h)
    · rw [if_neg b] at h
      by_cases c : 0 ≤ x6
      · rw [if_pos c] at h
        exact br_t a (br_f b (br_t c h))
      · rw [if_neg c] at h
        exact br_t a (br_f b (br_f c h))
  · rw [if_neg a] at h
    refine br_f a ?_
    intro y ey
    subst ey
    by_cases b : 0 ≤ x4 + x8
    · rw [if_pos b] at h
      exact br_t b h
    · rw [if_neg b] at h
      by_cases c : 0 ≤ x6
      · rw [if_pos c] at h
        exact br_f b (br_t c h)
      · rw [if_neg c] at h
        exact br_f b (br_f c h)
theorem xs_51 {post : Int32 → SX → Prop} {x1 : Int32} {x2 x4 x6 x8 : Int64} (h : wX_slice_110 post x1 (sl_z x2 x8 x6) x4 x6 x8 fb fr av ac) : wX_slice_51 post x1 x2 x4 x6 x8 fb fr av ac := by
  unfold sl_z at h
  by_cases a : 0 ≤ x2
  · rw [if_pos a] at h
    by_cases b : x2 < x8
    · rw [if_pos b] at h
      exact br_t a (br_t b h)
    · rw [if_neg b] at h
      by_cases c : 0 ≤ x6
      · rw [if_pos c] at h
        exact br_t a (br_f b (br_t c h))
      · rw [if_neg c] at h
        exact br_t a (br_f b (br_f c h))
  · rw [if_neg a] at h
    refine br_f a ?_
    intro y ey
    subst ey
    by_cases b : 0 ≤ x2 + x8
    · rw [if_pos b] at h
      exact br_t b h
    · rw [if_neg b] at h
      by_cases c : 0 ≤ x6
      · rw [if_pos c] at h
        exact br_f b (br_t c h)
      · rw [if_neg c] at h
        exact br_f b (br_f c h)
theorem xs_235 {post : Int32 → SX → Prop} {a : Nat} {z s m : Int64} (ha : a < 4)
    (H : ∀ av' : Nat → Int64, av' 0 = av 0 + z * av (2 + 2 * a) → av' (2 + 2 * a) = av (2 + 2 * a) * s → av' (1 + 2 * a) = m → (∀ k, k ≠ a → av' (1 + 2 * k) = av (1 + 2 * k) ∧ av' (2 + 2 * k) = av (2 + 2 * k)) → post 0 (fb, fr, av', ac)) :
    wX_slice_235 post (nI a) z s m fb fr av ac := by
  refine ⟨sg_in2 ha, ?_⟩
  intro b eb
  rw [sg_c2 ha] at eb
  refine ⟨sg_in2 ha, sg_in2 ha, ?_⟩
  intro c ec
  rw [sg_c2 ha] at ec
  refine ⟨sg_in1 ha, ?_⟩
  intro e ee
  rw [sg_c1 ha] at ee
  have hb2 : b (2 + 2 * a) = av (2 + 2 * a) := by rw [eb, pk_uLn (by omega)]
  refine H e ?_ ?_ ?_ ?_
  · rw [ee, pk_uLn (by omega), ec, pk_uLn (by omega), eb, pk_uLs]
  · rw [ee, pk_uLn (by omega), ec, pk_uLs, hb2]
  · rw [ee, pk_uLs]
  · intro k hk
    constructor
    · rw [ee, pk_uLn (by omega), ec, pk_uLn (by omega), eb, pk_uLn (by omega)]
    · rw [ee, pk_uLn (by omega), ec, pk_uLn (by omega), eb, pk_uLn (by omega)]
theorem ys_p {post : Int32 → SY → Prop} {J : Int32 → Int32 → Int32 → (Nat → Int64) → (Nat → Int64) → (Nat → Int64) → (Nat → Int64) → (Nat → Int32) → (Nat → Int32) → (Nat → Int32) → (Nat → Int32) → Prop} {x1 x14 : Int32} {x6 x8 x10 x12 z0 : Int64} {t n lo hi : Nat}
    (c0 : ¬ x6 ≤ 0) (c1 : x8 ≤ (nI t).toInt64 ↔ n ≤ t) (c2 : z0 < x10 ↔ t < lo) (c3 : t < n → (x12 ≤ z0 ↔ hi ≤ t)) (hn : hi ≤ n)
    (h1 : lo ≤ t → t < hi → wY_slice_160 post J x1 x6 x8 x10 x12 x14 (nI t) z0 fl fs fq fc sh ns tb ol pk sr ix oi)
    (h2 : ¬ (lo ≤ t ∧ t < hi) → J x14 (nI (t + 1)) fc sh ns tb ol pk sr ix oi) :
    wY_slice_107 post J x1 x6 x8 x10 x12 x14 (nI t) z0 fl fs fq fc sh ns tb ol pk sr ix oi := by
  refine br_c (fun z => ?_) (fun z => br_f c0 (br_c (fun z2 => ?_) (fun z2 => br_c (fun z3 => ?_) (fun z3 => ?_))))
  · intro x e
    rw [nI_1] at e
    subst e
    rw [c1] at z
    exact h2 (by omega)
  · intro x e
    rw [nI_1] at e
    subst e
    rw [c2] at z2
    exact h2 (by omega)
  · intro x e
    rw [nI_1] at e
    subst e
    rw [c1] at z
    rw [c3 (by omega)] at z3
    exact h2 (by omega)
  · rw [c1] at z
    rw [c2] at z2
    rw [c3 (by omega)] at z3
    exact h1 (by omega) (by omega)
theorem ys_n {post : Int32 → SY → Prop} {J : Int32 → Int32 → Int32 → (Nat → Int64) → (Nat → Int64) → (Nat → Int64) → (Nat → Int64) → (Nat → Int32) → (Nat → Int32) → (Nat → Int32) → (Nat → Int32) → Prop} {x1 x14 : Int32} {x6 x8 x10 x12 z0 : Int64} {t n lo hi : Nat}
    (c0 : x6 ≤ 0) (c1 : x8 ≤ (nI t).toInt64 ↔ n ≤ t) (c2 : x10 < z0 ↔ t < lo) (c3 : t < n → (z0 ≤ x12 ↔ hi ≤ t)) (hn : hi ≤ n)
    (h1 : lo ≤ t → t < hi → wY_slice_160 post J x1 x6 x8 x10 x12 x14 (nI t) z0 fl fs fq fc sh ns tb ol pk sr ix oi)
    (h2 : ¬ (lo ≤ t ∧ t < hi) → J x14 (nI (t + 1)) fc sh ns tb ol pk sr ix oi) :
    wY_slice_107 post J x1 x6 x8 x10 x12 x14 (nI t) z0 fl fs fq fc sh ns tb ol pk sr ix oi := by
  refine br_c (fun z => ?_) (fun z => br_t c0 (br_c (fun z2 => ?_) (fun z2 => br_c (fun z3 => ?_) (fun z3 => ?_))))
  · intro x e
    rw [nI_1] at e
    subst e
    rw [c1] at z
    exact h2 (by omega)
  · intro x e
    rw [nI_1] at e
    subst e
    rw [c2] at z2
    exact h2 (by omega)
  · intro x e
    rw [nI_1] at e
    subst e
    rw [c1] at z
    rw [c3 (by omega)] at z3
    exact h2 (by omega)
  · rw [c1] at z
    rw [c2] at z2
    rw [c3 (by omega)] at z3
    exact h1 (by omega) (by omega)
theorem ys_79 {post : Int32 → SY → Prop} {x1 : Int32} {x6 x8 x10 x12 : Int64} {lo hi M : Nat} {IX : Nat → Nat} (hM : 0 < M) (h6 : ¬ x6 = 0)
    (hrem : ∀ q, q < 64 → ((nI q).toInt64 - (nI q).toInt64 / x6 * x6 = 0 ↔ q % M = 0)) (hhi : hi ≤ 64) (hIX : ∀ t, t < hi → IX t < 64)
    (hst : ∀ t, t < 64 → ∀ (J : Int32 → Int32 → Int32 → (Nat → Int64) → (Nat → Int64) → (Nat → Int64) → (Nat → Int64) → (Nat → Int32) → (Nat → Int32) → (Nat → Int32) → (Nat → Int32) → Prop) (x14 fc : Int32) (pk : Nat → Int32),
      (lo ≤ t → t < hi → wY_slice_160 post J x1 x6 x8 x10 x12 x14 (nI t) (lN (IX t)) fl fs fq fc sh ns tb ol pk sr ix oi) →
      (¬ (lo ≤ t ∧ t < hi) → J x14 (nI (t + 1)) fc sh ns tb ol pk sr ix oi) →
      ((x6 ≤ 0 → wY_slice_107 post J x1 x6 x8 x10 x12 x14 (nI t) ((x8 - 1) - (nI t).toInt64) fl fs fq fc sh ns tb ol pk sr ix oi) ∧
       (¬ x6 ≤ 0 → wY_slice_107 post J x1 x6 x8 x10 x12 x14 (nI t) (nI t).toInt64 fl fs fq fc sh ns tb ol pk sr ix oi)))
    (H : ∀ (pk' sr' : Nat → Int32) (ns' : Nat → Int64), (∀ j, j < sl_c (hi - lo) M → pk' j = nI (IX (lo + j * M))) → (∀ k, k < 4 → ns' k = sh k) → (∀ k, k < 4 → sr' k = nI k) →
      vp_in x1 4 ∧ ∀ ns2, ns2 = vp_updL ns' x1.toNatClampNeg (nI (sl_c (hi - lo) M)).toInt64 → wpY_rebuild post (fl, fs, fq, nI (sl_c (hi - lo) M), sh, ns2, tb, ol, pk', sr', ix, oi) x1) :
    ∀ m t (pk : Nat → Int32), t + m = 64 → (∀ j, j < sl_c (min t hi - lo) M → pk j = nI (IX (lo + j * M))) →
      wY_slice_79 post x1 x6 x8 x10 x12 fl fs fq (m + 1) (nI (min t hi - lo)) (nI t) (nI (sl_c (min t hi - lo) M)) sh ns tb ol pk sr ix oi := by
  intro m
  induction m with
  | zero =>
    intro t pk ht hp
    have e : min t hi = hi := by omega
    rw [e] at hp ⊢
    refine br_t (nI_le (a := 64) (by omega) (by omega)) ?_
    exact yk_wp (fun ns' sr' n1 s1 => H pk sr' ns' hp n1 s1)
  | succ m ih =>
    intro t pk ht hp
    refine br_f (nI_ge (b := 64) (by omega) (by decide)) ?_
    refine hst t (by omega) _ _ _ _ (fun g1 g2 => ?_) (fun g => ?_)
    · have eq1 : min (t + 1) hi - lo = min t hi - lo + 1 := by omega
      have hq : min t hi - lo = t - lo := by omega
      have K := ih (t + 1)
      rw [eq1] at K
      have hcl := sl_cle (q := min t hi - lo) hM
      have hq64 : min t hi - lo < 64 := by omega
      have htq : lo + (min t hi - lo) = t := by omega
      generalize min t hi - lo = q at K hp hcl hq64 htq ⊢
      unfold wY_slice_160
      intro x14 e14
      rw [nI_1] at e14
      subst e14
      refine ⟨h6, ?_⟩
      by_cases hz : q % M = 0
      · have ⟨c1, c2⟩ := sl_c1 hM hz
        rw [c2] at K
        have ec : nI (sl_c q M) &&& 63 = nI (sl_c q M) := by
          rw [pk_andN (by omega) 6 (by decide), Nat.mod_eq_of_lt (by omega)]
        have cl : (nI (sl_c q M)).toNatClampNeg = sl_c q M := nI_clamp (by omega)
        refine br_t ((hrem q hq64).mpr hz) ?_
        intro fc' ef
        rw [nI_1] at ef
        subst ef
        rw [ec, cl, sl_nar (hIX t g2)]
        refine ⟨vp_in_nI (by omega) (by decide), ?_⟩
        intro pk' ep x ex
        rw [nI_1] at ex
        subst ep ex
        refine K _ (by omega) ?_
        intro j hj
        by_cases e : j = sl_c q M
        · rw [e, pk_us, c1, htq]
        · rw [pk_un e]
          exact hp j (by omega)
      · rw [sl_c2 hM hz] at K
        refine br_f (fun z => hz ((hrem q hq64).mp z)) ?_
        intro x ex
        rw [nI_1] at ex
        subst ex
        exact K pk (by omega) hp
    · have eq1 : min (t + 1) hi - lo = min t hi - lo := by omega
      have K := ih (t + 1) pk (by omega)
      rw [eq1] at K
      exact K hp
theorem ys_66 {post : Int32 → SY → Prop} {a : Nat} {p1 p2 p3 n : Int64} {r : Nat} (ha : a < 4) (h0 : ¬ nI a < 0) (har : nI a < nI r) (h3 : ¬ p3 = 0) (hs : sh a = n)
    (h : ∃ m, wY_slice_79 post (nI a) p3 n (sl_y p1 n) (sl_y p2 n) fl fs (nI r) m 0 0 0 sh ns tb ol pk sr ix oi) :
    wpY_slice post (fl, fs, nI r, fc, sh, ns, tb, ol, pk, sr, ix, oi) (nI a) p1 p2 p3 := by
  have ca : (nI a).toNatClampNeg = a := nI_clamp (by omega)
  refine br_f h0 (br_t har (br_f h3 ⟨vp_in_nI ha (by decide), ?_⟩))
  intro x8 e8
  rw [ca, hs] at e8
  subst e8
  unfold sl_y at h
  by_cases c : 0 ≤ p1
  · rw [if_pos c] at h
    by_cases e : 0 ≤ p2
    · rw [if_pos e] at h
      exact br_t c (br_t e h)
    · rw [if_neg e] at h
      exact br_t c (br_f e h)
  · rw [if_neg c] at h
    by_cases e : 0 ≤ p2
    · rw [if_pos e] at h
      exact br_f c (br_t e h)
    · rw [if_neg e] at h
      exact br_f c (br_f e h)
theorem xs_wp {post : Int32 → SX → Prop} {a r : Nat} {p1 p2 p3 n s : Int64} (ha : a < 4) (h0 : ¬ nI a < 0) (har : nI a < nI r) (h3 : ¬ p3 = 0) (hv : av (1 + 2 * a) = n)
    (hs : s = if p3 = -9223372036854775808 then -9223372036854775807 else p3)
    (H : ∀ av' : Nat → Int64, av' 0 = av 0 + sl_z p1 n s * av (2 + 2 * a) → av' (2 + 2 * a) = av (2 + 2 * a) * s → av' (1 + 2 * a) = sl_m (sl_z p1 n s) (sl_z p2 n s) s →
      (∀ k, k ≠ a → av' (1 + 2 * k) = av (1 + 2 * k) ∧ av' (2 + 2 * k) = av (2 + 2 * k)) → post 0 (fb, nI r, av', ac)) :
    wpX_slice post (fb, nI r, av, ac) (nI a) p1 p2 p3 := by
  refine br_f h0 (br_t har (br_f h3 ⟨sg_in1 ha, ?_⟩))
  intro x8 e8
  rw [sg_c1 ha, hv] at e8
  subst e8
  by_cases c : p3 = -9223372036854775808
  · rw [if_pos c] at hs
    refine br_t c ?_
    rw [← hs]
    exact xs_51 (xs_110 (xs_176 (by rw [hs]; decide) (xs_235 ha H)))
  · rw [if_neg c] at hs
    refine br_f c ?_
    rw [← hs]
    exact xs_51 (xs_110 (xs_176 (by rw [hs]; exact h3) (xs_235 ha H)))
end
end
section
/-! slice: both sides -/
def sl_St (x6 x8 x10 x12 : Int64) (lo hi : Nat) (IX : Nat → Nat) : Prop :=
  ∀ (post : Int32 → SY → Prop) (fl fs : Int64) (fq : Int32) (sh ns tb ol : Nat → Int64) (sr ix oi : Nat → Int32) (x1 : Int32) (t : Nat), t < 64 →
    ∀ (J : Int32 → Int32 → Int32 → (Nat → Int64) → (Nat → Int64) → (Nat → Int64) → (Nat → Int64) → (Nat → Int32) → (Nat → Int32) → (Nat → Int32) → (Nat → Int32) → Prop) (x14 fc : Int32) (pk : Nat → Int32),
      (lo ≤ t → t < hi → wY_slice_160 post J x1 x6 x8 x10 x12 x14 (nI t) (lN (IX t)) fl fs fq fc sh ns tb ol pk sr ix oi) →
      (¬ (lo ≤ t ∧ t < hi) → J x14 (nI (t + 1)) fc sh ns tb ol pk sr ix oi) →
      ((x6 ≤ 0 → wY_slice_107 post J x1 x6 x8 x10 x12 x14 (nI t) ((x8 - 1) - (nI t).toInt64) fl fs fq fc sh ns tb ol pk sr ix oi) ∧
       (¬ x6 ≤ 0 → wY_slice_107 post J x1 x6 x8 x10 x12 x14 (nI t) (nI t).toInt64 fl fs fq fc sh ns tb ol pk sr ix oi))
theorem sl_fin {k b r a lo hi M : Nat} {d IX : Nat → Nat} {av ac sh ns tb ol : Nat → Int64} {fc : Int32} {pk sr ix oi : Nat → Int32} {a1 a2 a3 s : Int64}
    (hb : b < 2 ^ 63) (hR : sg_R r d av sh tb) (ha : a < r) (h0 : ¬ nI a < 0) (har : nI a < nI r) (h3 : ¬ a3 = 0) (hM : 0 < M) (hhi : hi ≤ d a)
    (hs : s = if a3 = -9223372036854775808 then -9223372036854775807 else a3)
    (hm : sl_m (sl_z a1 (lN (d a)) s) (sl_z a2 (lN (d a)) s) s = lN (sl_c (hi - lo) M))
    (hV : ∀ j, j < sl_c (hi - lo) M → IX (lo + j * M) < d a ∧ lN (IX (lo + j * M)) = sl_z a1 (lN (d a)) s + lN j * s)
    (hrem : ∀ q, q < 64 → ((nI q).toInt64 - (nI q).toInt64 / a3 * a3 = 0 ↔ q % M = 0)) (hIX : ∀ t, t < hi → IX t < 64)
    (hst : sl_St a3 (lN (d a)) (sl_y a1 (lN (d a))) (sl_y a2 (lN (d a))) lo hi IX) :
    wpX_slice (fun q u' => wpY_slice (fun q' v' => q' = q ∧ i_Rel (k + 12) u' v') (lN b, lN (sg_P d r), nI r, fc, sh, ns, tb, ol, pk, sr, ix, oi) (nI a) a1 a2 a3) (lN b, nI r, av, ac) (nI a) a1 a2 a3 := by
  have ⟨hr, hz, g1, g2, g3⟩ := hR
  have hda : d a ≤ 64 := Nat.le_trans (sg_Z_ge d r a ha) hz
  have hcl := sl_cle (q := hi - lo) hM
  have ca : (nI a).toNatClampNeg = a := nI_clamp (by omega)
  refine xs_wp (by omega) h0 har h3 (g1 a ha) hs (fun av' w0 w2 w1 w3 => ?_)
  refine ys_66 (by omega) h0 har h3 (g2 a ha) ⟨65, ?_⟩
  have e0 : min 0 hi - lo = 0 := by omega
  have K := ys_79 (post := fun r' v' => r' = (0 : Int32) ∧ i_Rel (k + 12) (lN b, nI r, av', ac) v') (x1 := nI a) (fl := lN b) (fs := lN (sg_P d r)) (fq := nI r) (sh := sh) (ns := ns) (tb := tb) (ol := ol) (sr := sr) (ix := ix) (oi := oi)
    hM h3 hrem (by omega) hIX (hst _ _ _ _ _ _ _ _ _ _ _ _) ?_ 64 0 pk (by omega) (by rw [e0, sl_c0 hM]; exact lt_0)
  · rw [e0, sl_c0 hM] at K
    exact K
  · intro pk' sr' ns' hp n1 s1
    refine ⟨vp_in_nI (by omega) (by decide), ?_⟩
    intro ns2 e2
    rw [ca, nI_l (by omega)] at e2
    obtain ⟨nd, hna, hne⟩ : ∃ nd : Nat → Nat, nd a = sl_c (hi - lo) M ∧ ∀ k, k < r → k ≠ a → nd k = d k := ⟨fun k => if k = a then sl_c (hi - lo) M else d k, if_pos rfl, fun k _ e => if_neg e⟩
    have hle : ∀ k, k < r → nd k ≤ d k := by
      intro k hk
      by_cases e : k = a
      · rw [e, hna]
        omega
      · rw [hne k hk e]
        exact Nat.le_refl _
    have hzn : sg_Z nd r ≤ 64 := Nat.le_trans (sg_Z_mono r hle) hz
    refine yr_wp (d := d) (nd := nd) (p := fun k => k) (V := fun k i => if k = a then IX (lo + i * M) else i) ?_ ?_
    · refine ⟨hr, g2, ?_, fun k hk => s1 k (by omega), fun k hk => hk, fun j k _ _ e => e, hzn, hz, ?_⟩
      · intro k hk
        by_cases e : k = a
        · rw [e, hna, e2, pk_uLs]
        · rw [hne k hk e, e2, pk_uLn e, n1 k (by omega), g2 k hk]
      · intro k hk i hi'
        refine ⟨fun z => ?_, fun z => ?_, ?_⟩
        · have e : k = a := (nI_eq (by omega) (by omega)).mp z
          rw [e, hna] at hi'
          show pk' i = nI (if k = a then IX (lo + i * M) else i)
          rw [if_pos e]
          exact hp i hi'
        · exact if_neg (fun e => z (congrArg nI e))
        · show (if k = a then IX (lo + i * M) else i) < d k
          by_cases e : k = a
          · rw [e, hna] at hi'
            rw [if_pos e, e]
            exact (hV i hi').1
          · rw [hne k hk e] at hi'
            rw [if_neg e]
            exact hi'
    · intro sh' tb' ol' ix' oi' t1 t2
      refine ⟨rfl, sg_mk hb (sg_R_ax (V := fun i => IX (lo + i * M)) (c := sl_z a1 (lN (d a)) s) (T := s) hR ha hne hzn ?_ w0 w2 (fun k hk e => (w3 k e).2) ?_ t1 t2)⟩
      · intro k hk
        by_cases e : k = a
        · rw [e, hna, w1, hm]
        · rw [hne k hk e, (w3 k e).1, g1 k hk]
      · intro i hi'
        rw [hna] at hi'
        exact hV i hi'
theorem sl_min : (-9223372036854775808 : Int64).toInt = -9223372036854775808 := by decide
theorem i_vc_slice {k : Nat} {u : SX} {v : SY} (I : i_Rel k u v) (hk : k + 12 ≤ 6146) (v1 : Int32) (a1 : Int64) (a2 : Int64) (a3 : Int64) : wpX_slice (fun r u' => wpY_slice (fun r' v' => r' = r ∧ i_Rel (k + 12) u' v') v v1 a1 a2 a3) u v1 a1 a2 a3 := by
  obtain ⟨b, r, d, av, ac, sh, ns, tb, ol, fc, pk, sr, ix, oi, hb, hR, rfl, rfl⟩ := I
  have ⟨hr, hz, g1, g2, g3⟩ := hR
  rcases sg_axis v1 hr with h0 | ⟨h0, hrr⟩ | ⟨a, ha, rfl, h0, har⟩
  · exact br_t h0 (br_t h0 ⟨rfl, sg_mk hb hR⟩)
  · exact br_f h0 (br_f hrr (br_f h0 (br_f hrr ⟨rfl, sg_mk hb hR⟩)))
  by_cases h3 : a3 = 0
  · exact br_f h0 (br_t har (br_t h3 (br_f h0 (br_t har (br_t h3 ⟨rfl, sg_mk hb hR⟩)))))
  have hn : d a ≤ 64 := Nat.le_trans (sg_Z_ge d r a ha) hz
  obtain ⟨y1, hy1⟩ : ∃ y, (sl_y a1 (lN (d a))).toInt = y := ⟨_, rfl⟩
  obtain ⟨y2, hy2⟩ : ∃ y, (sl_y a2 (lN (d a))).toInt = y := ⟨_, rfl⟩
  have hl := sl_lN hn
  by_cases hpos : a3 < 0
  · have hp' : a3.toInt < 0 := by rw [Int64.lt_iff_toInt_lt, sl_0] at hpos; exact hpos
    have hbd := sl_bd a3
    obtain ⟨B, hB⟩ : ∃ B : Nat, a3.toInt = -(B : Int) := ⟨(-a3.toInt).toNat, by omega⟩
    have hB0 : 0 < B := by omega
    have hB1 : B ≤ 2 ^ 63 := by omega
    have hB2 : a3 = -(lN B) := Int64.toInt_inj.mp (by rw [hB]; exact (Int64.toInt_neg_ofNat_of_le hB1).symm)
    have hMs : ∃ (M : Nat) (s : Int64), 0 < M ∧ M < 2 ^ 63 ∧ s = -(lN M) ∧ (s = if a3 = -9223372036854775808 then -9223372036854775807 else a3) ∧ (∀ q, q < 64 → (q % B = 0 ↔ q % M = 0)) := by
      by_cases c : B = 2 ^ 63
      · have e : a3 = -9223372036854775808 := Int64.toInt_inj.mp (by rw [sl_min, hB, c]; decide)
        refine ⟨9223372036854775807, -9223372036854775807, by decide, by decide, rfl, by rw [if_pos e], ?_⟩
        intro q hq
        rw [Nat.mod_eq_of_lt (by omega), Nat.mod_eq_of_lt (by omega)]
      · have e : ¬ a3 = -9223372036854775808 := fun z => c (by rw [z, sl_min] at hB; omega)
        exact ⟨B, a3, hB0, by omega, hB2, by rw [if_neg e], fun q _ => Iff.rfl⟩
    obtain ⟨M, s, hM0, hM1, hM2, hs, hMq⟩ := hMs
    have hsn : ¬ 0 ≤ s := by
      rw [sl_le0, hM2, Int64.toInt_neg, pk_lT hM1, Int.bmod_eq_of_le (by omega) (by omega)]
      omega
    obtain ⟨lo, hlo⟩ : ∃ lo, lo = ((d a : Int) - 1 - y1).toNat := ⟨_, rfl⟩
    obtain ⟨hi, hhi⟩ : ∃ hi, hi = (min ((d a : Int) - 1 - y2) (d a)).toNat := ⟨_, rfl⟩
    have hh : hi ≤ d a := by omega
    have ⟨n1, n2⟩ := sl_N1 hn hM0 hM1 hM2 (sl_zn hn hsn hy1) (sl_zn hn hsn hy2) hlo hhi
    refine sl_fin (s := s) (lo := lo) (hi := hi) (M := M) (IX := fun t => d a - 1 - t) hb hR ha h0 har h3 hM0 hh hs n1 (sl_N2 hM0 hM2 n2 hh)
      (fun q hq => (sl_rn hq hB0 hB1 hB hB2).trans (hMq q hq)) (fun t ht => by show d a - 1 - t < 64; omega) ?_
    intro post fl fs fq sh ns tb ol sr ix oi x1 t ht J x14 fc pk k1 k2
    have e1 : (nI t).toInt64 = lN t := nI_l (by omega)
    have e2 : (lN t).toInt = t := pk_lT (by omega)
    have e3 : (lN (d a) - 1).toInt = (d a : Int) - 1 := by rw [sl_sub (by rw [hl, sl_1]; omega) (by rw [hl, sl_1]; omega), hl, sl_1]
    have e4 : (lN (d a) - 1 - lN t).toInt = (d a : Int) - 1 - t := by rw [sl_sub (by rw [e3, e2]; omega) (by rw [e3, e2]; omega), e3, e2]
    have c0 : a3 ≤ 0 := by rw [Int64.le_iff_toInt_le, sl_0]; omega
    refine br_t c0 (ys_n (n := d a) (lo := lo) (hi := hi) c0 ?_ ?_ ?_ hh (fun z1 z2 => ?_) k2)
    · rw [e1, Int64.le_iff_toInt_le, hl, e2]
      omega
    · rw [e1, Int64.lt_iff_toInt_lt, hy1, e4]
      omega
    · intro htn
      rw [e1, Int64.le_iff_toInt_le, hy2, e4]
      omega
    · have e5 : lN (d a) - 1 - (nI t).toInt64 = lN (d a - 1 - t) := by
        apply Int64.toInt_inj.mp
        rw [e1, e4, pk_lT (by omega)]
        omega
      rw [e5]
      exact k1 z1 z2
  · obtain ⟨M, hM1, e3⟩ := pk_lOf hpos
    have hM0 : 0 < M := by
      rcases Nat.eq_zero_or_pos M with h | h
      · exact absurd (by rw [e3, h]; rfl) h3
      · exact h
    have e : ¬ a3 = -9223372036854775808 := fun z => hpos (by rw [z]; decide)
    have hsp : 0 ≤ a3 := Int64.not_lt.mp hpos
    obtain ⟨lo, hlo⟩ : ∃ lo, lo = y1.toNat := ⟨_, rfl⟩
    obtain ⟨hi, hhi⟩ : ∃ hi, hi = (min y2 (d a)).toNat := ⟨_, rfl⟩
    have hh : hi ≤ d a := by omega
    have ⟨n1, n2⟩ := sl_P1 hn hM0 hM1 e3 (sl_zp hn hsp hy1) (sl_zp hn hsp hy2) hlo hhi
    refine sl_fin (s := a3) (lo := lo) (hi := hi) (M := M) (IX := fun t => t) hb hR ha h0 har h3 hM0 hh (by rw [if_neg e]) n1 (sl_P2 hM0 e3 n2 hh)
      (fun q hq => by rw [e3]; exact sl_rp hq hM0 hM1) (fun t ht => by show t < 64; omega) ?_
    intro post fl fs fq sh ns tb ol sr ix oi x1 t ht J x14 fc pk k1 k2
    have e1 : (nI t).toInt64 = lN t := nI_l (by omega)
    have e2 : (lN t).toInt = t := pk_lT (by omega)
    have c0 : ¬ a3 ≤ 0 := by rw [Int64.le_iff_toInt_le, sl_0, e3, pk_lT hM1]; omega
    refine br_f c0 (ys_p (n := d a) (lo := lo) (hi := hi) c0 ?_ ?_ ?_ hh (fun z1 z2 => ?_) k2)
    · rw [e1, Int64.le_iff_toInt_le, hl, e2]
      omega
    · rw [e1, Int64.lt_iff_toInt_lt, hy1, e2]
      omega
    · intro htn
      rw [e1, Int64.le_iff_toInt_le, hy2, e2]
      omega
    · rw [e1]
      exact k1 z1 z2
end
section
/-! the rest of what is owed -/
theorem i_up {k : Nat} {u : SX} {v : SY} (h : i_Rel k u v) : i_Rel (k + 12) u v := h
theorem sg_R0 {av : Nat → Int64} (h : av 1 = 0) : sg_R 1 (fun _ => 0) av (fun _ => 0) (fun _ => 0) := by
  refine ⟨by decide, by decide, ?_, fun _ _ => rfl, ?_⟩
  · intro k hk
    have : k = 0 := by omega
    subst this
    exact h
  · intro f hf
    have : f < 1 * 0 := hf
    omega
theorem i_vc0 (k0 : Int64) : wpX_init (fun u => wpY_init (fun v => i_Rel 2 u v) k0) k0 := by
  by_cases h : 0 ≤ k0
  · obtain ⟨b, hb, rfl⟩ := pk_lOf (x := k0) (Int64.not_lt.mpr h)
    refine br_t h ?_
    intro a ea c ec e ee
    subst ea ec ee
    exact br_t h (sg_mk (r := 1) hb (sg_R0 rfl))
  · refine br_f h ?_
    intro a ea c ec e ee
    subst ea ec ee
    exact br_f h (sg_mk (b := 0) (r := 1) (by decide) (sg_R0 rfl))
theorem i_vc_offsetOf {k : Nat} {u : SX} {v : SY} (I : i_Rel k u v) (hk : k + 12 ≤ 6146) (a0 : Int64) : wpX_offsetOf (fun r => wpY_offsetOf (fun r' => r' = r ∧ i_Rel (k + 12) u v) v a0) u a0 := by
  have I' := I
  obtain ⟨b, r, d, av, ac, sh, ns, tb, ol, fc, pk, sr, ix, oi, hb, hR, rfl, rfl⟩ := I
  have ⟨hr, hz, g1, g2, g3⟩ := hR
  have hP := sg_P_le d r
  refine ⟨r + 1, xo_5 hr hz g1 (fun h => ?_) (fun g e hg hl => ?_) (fun g e hl => ?_) r 0 (by omega)⟩
  · exact br_t h ⟨rfl, I'⟩
  · subst e
    exact br_f (fun z => absurd (sz_nn hg) (Int64.not_le.mpr z)) (br_f (fun z => absurd ((pk_lLT hg (by omega)).mp z) (by omega)) ⟨rfl, I'⟩)
  · subst e
    have hg : g < 64 := by omega
    refine br_f (fun z => absurd (sz_nn (n := g) (by omega)) (Int64.not_le.mpr z)) (br_t ((pk_lLT (by omega) (by omega)).mpr hl) ?_)
    have e1 : (lN g).toInt32 &&& 63 = nI g := by rw [lN_i, pk_andN (by omega) 6 (by decide), Nat.mod_eq_of_lt (by omega)]
    rw [e1, nI_clamp (by omega)]
    exact ⟨vp_in_nI hg (by decide), g3 g hl, I'⟩
theorem i_vc_dim {k : Nat} {u : SX} {v : SY} (I : i_Rel k u v) (hk : k + 12 ≤ 6146) (v1 : Int32) : wpX_dim (fun r => wpY_dim (fun r' => r' = r ∧ i_Rel (k + 12) u v) v v1) u v1 := by
  have I' := I
  obtain ⟨b, r, d, av, ac, sh, ns, tb, ol, fc, pk, sr, ix, oi, hb, hR, rfl, rfl⟩ := I
  have ⟨hr, hz, g1, g2, g3⟩ := hR
  rcases sg_axis v1 hr with h0 | ⟨h0, hrr⟩ | ⟨a, ha, rfl, h0, har⟩
  · exact br_t h0 (br_t h0 ⟨rfl, I'⟩)
  · exact br_f h0 (br_f hrr (br_f h0 (br_f hrr ⟨rfl, I'⟩)))
  · have e : sh (nI a).toNatClampNeg = av ((1 : Int32) + 2 * nI a).toNatClampNeg := by
      rw [nI_clamp (by omega), sg_c1 (by omega), g1 a ha, g2 a ha]
    exact br_f h0 (br_t har ⟨sg_in1 (by omega), br_f h0 (br_t har ⟨vp_in_nI (by omega) (by decide), e, I'⟩)⟩)
end

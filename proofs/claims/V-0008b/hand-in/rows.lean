section
/-! pure rows to paste: stores, nI and lN arithmetic, masks, shifts, narrowing, branches by naturals (pk_le, pk_lt, pk_eq), loops (lp1 .. lp16: the measure of the state; rp1 ..: recursion), negatives. Take what you need -/
theorem pk_us {f : Nat → Int32} {k : Nat} {x : Int32} : upd f k x k = x := if_pos rfl
theorem pk_un {f : Nat → Int32} {k j : Nat} {x : Int32} (h : j ≠ k) : upd f k x j = f j := if_neg h
theorem pk_uLs {f : Nat → Int64} {k : Nat} {x : Int64} : vp_updL f k x k = x := if_pos rfl
theorem pk_uLn {f : Nat → Int64} {k j : Nat} {x : Int64} (h : j ≠ k) : vp_updL f k x j = f j := if_neg h
theorem pk_sub {a b : Nat} (h : b ≤ a) : nI a - nI b = nI (a - b) := by
  obtain ⟨c, rfl⟩ : ∃ c, a = c + b := ⟨a - b, by omega⟩
  rw [← nI_add, Int32.add_sub_cancel, Nat.add_sub_cancel]
theorem pk_m1 (n : Nat) : nI (n + 1) + (-1) = nI n := by
  rw [← nI_1, Int32.add_assoc, show (1 : Int32) + (-1) = 0 from rfl, Int32.add_zero]
theorem pk_mul (a b : Nat) : nI a * nI b = nI (a * b) := (Int32.ofNat_mul a b).symm
theorem pk_div {a d : Nat} (ha : a < 2 ^ 31) (h0 : 0 < d) (hd : d < 2 ^ 31) : nI a / nI d = nI (a / d) := by
  apply Int32.toInt_inj.mp
  rw [lg_idiv_nonneg (by rw [nI_toInt ha]; omega) (by rw [nI_toInt hd]; omega), nI_toInt ha, nI_toInt hd, nI_toInt (Nat.lt_of_le_of_lt (Nat.div_le_self a d) ha)]
  first | rfl | exact (Int.natCast_ediv _ _).symm
theorem pk_rem {a d : Nat} (ha : a < 2 ^ 31) (h0 : 0 < d) (hd : d < 2 ^ 31) : nI a - nI a / nI d * nI d = nI (a % d) := by
  rw [pk_div ha h0 hd, pk_mul, pk_sub (Nat.div_mul_le_self a d)]
  exact congrArg nI (by have := Nat.div_add_mod' a d; omega)
theorem pk_sub_toInt {a b : Nat} (ha : a < 2 ^ 30) (hb : b < 2 ^ 30) : (nI a - nI b).toInt = (a : Int) - b := by
  rw [Int32.toInt_sub, nI_toInt (by omega), nI_toInt (by omega)]
  exact Int.bmod_eq_of_le (by omega) (by omega)
theorem pk_sneg {a b : Nat} (hb : b < 2 ^ 30) (h : a < b) : nI a - nI b < 0 := by
  rw [Int32.lt_iff_toInt_lt, pk_sub_toInt (by omega) hb, show (0 : Int32).toInt = 0 from by decide]
  omega
theorem pk_ix (x : Int32) {n : Nat} (hn : n < 2 ^ 31) : x < 0 ∨ nI n ≤ x ∨ ∃ j : Nat, j < n ∧ x = nI j := by
  by_cases h : x < 0
  · exact Or.inl h
  · obtain ⟨j, hj, rfl⟩ := nI_of h
    by_cases h2 : j < n
    · exact Or.inr (Or.inr ⟨j, h2, rfl⟩)
    · exact Or.inr (Or.inl (nI_le (by omega) hj))
theorem pk_le {x y : Int32} {A B : Prop} (a b : Nat) (f : a ≤ b → A) (g : b < a → B) (hx : x = nI a := by rfl) (hy : y = nI b := by rfl) (ha : a < 2 ^ 31 := by omega) (hb : b < 2 ^ 31 := by omega) : (x ≤ y → A) ∧ (¬ x ≤ y → B) := by
  subst hx hy
  rw [nI_leI ha hb]
  exact ⟨f, fun z => g (by omega)⟩
theorem pk_lt {x y : Int32} {A B : Prop} (a b : Nat) (f : a < b → A) (g : b ≤ a → B) (hx : x = nI a := by rfl) (hy : y = nI b := by rfl) (ha : a < 2 ^ 31 := by omega) (hb : b < 2 ^ 31 := by omega) : (x < y → A) ∧ (¬ x < y → B) := by
  subst hx hy
  rw [nI_ltI ha hb]
  exact ⟨f, fun z => g (by omega)⟩
theorem pk_eq {x y : Int32} {A B : Prop} (a b : Nat) (f : a = b → A) (g : a ≠ b → B) (hx : x = nI a := by rfl) (hy : y = nI b := by rfl) (ha : a < 2 ^ 31 := by omega) (hb : b < 2 ^ 31 := by omega) : (x = y → A) ∧ (¬ x = y → B) := by
  subst hx hy
  rw [nI_eq ha hb]
  exact ⟨f, g⟩
theorem pk_in {x : Int32} (n N : Nat) (h : n < N) (hx : x = nI n := by rfl) (hN : N < 2 ^ 31 := by omega) : vp_in x N := by
  subst hx
  exact vp_in_nI h hN
theorem pk_cl {x : Int32} (n : Nat) (hx : x = nI n := by rfl) (h : n < 2 ^ 31 := by omega) : x.toNatClampNeg = n := by
  subst hx
  exact nI_clamp h
theorem pk_tn {n : Nat} (h : n < 2 ^ 32) : (nI n).toBitVec.toNat = n := Nat.mod_eq_of_lt h
theorem pk_and (x : Int32) {m : Int32} (k : Nat) (hm : m.toBitVec.toNat = 2 ^ k - 1) : x &&& m = nI (x.toBitVec.toNat % 2 ^ k) := by
  apply Int32.toBitVec_inj.mp
  apply BitVec.eq_of_toNat_eq
  rw [Int32.toBitVec_and, BitVec.toNat_and, hm, Nat.and_two_pow_sub_one_eq_mod]
  show _ = (BitVec.ofNat 32 _).toNat
  rw [BitVec.toNat_ofNat]
  exact (Nat.mod_eq_of_lt (Nat.lt_of_le_of_lt (Nat.mod_le _ _) x.toBitVec.isLt)).symm
theorem pk_andN {n : Nat} (h : n < 2 ^ 32) {m : Int32} (k : Nat) (hm : m.toBitVec.toNat = 2 ^ k - 1) : nI n &&& m = nI (n % 2 ^ k) := by
  rw [pk_and _ k hm, pk_tn h]
theorem pk_andE (x : Int32) {m : Int32} (k : Nat) (hm : m.toBitVec.toNat = 2 ^ k - 1) : ∃ j : Nat, j < 2 ^ k ∧ x &&& m = nI j := ⟨_, Nat.mod_lt _ (Nat.two_pow_pos k), pk_and x k hm⟩
theorem pk_andIn (x : Int32) {m : Int32} (k : Nat) (hm : m.toBitVec.toNat = 2 ^ k - 1) (hk : k ≤ 30) : vp_in (x &&& m) (2 ^ k) := by
  obtain ⟨j, hj, e⟩ := pk_andE x k hm
  rw [e]
  exact vp_in_nI hj (Nat.lt_of_le_of_lt (Nat.pow_le_pow_right (by decide) hk) (by decide))
theorem pk_shl (a s : Int32) (k : Nat) (hs : (s.toBitVec.smod 32).toNat = k) : (a <<< s).toBitVec.toNat = a.toBitVec.toNat * 2 ^ k % 2 ^ 32 := by
  show (a.toBitVec <<< (s.toBitVec.smod 32).toNat).toNat = _
  rw [hs, BitVec.toNat_shiftLeft, Nat.shiftLeft_eq]
theorem pk_shlN {n : Nat} (s : Int32) (k : Nat) (hs : (s.toBitVec.smod 32).toNat = k) (h : n * 2 ^ k < 2 ^ 32) : nI n <<< s = nI (n * 2 ^ k) := by
  apply Int32.toBitVec_inj.mp
  apply BitVec.eq_of_toNat_eq
  have hn : n < 2 ^ 32 := Nat.lt_of_le_of_lt (Nat.le_mul_of_pos_right n (Nat.two_pow_pos k)) h
  rw [pk_shl _ _ k hs, pk_tn hn, pk_tn h, Nat.mod_eq_of_lt h]
theorem pk_shr (a s : Int32) (k : Nat) (hs : (s.toBitVec.smod 32).toNat = k) : (a >>> s).toInt = a.toInt >>> k := by
  show (a.toBitVec.sshiftRight (s.toBitVec.smod 32).toNat).toInt = _
  rw [hs, BitVec.toInt_sshiftRight]
  rfl
theorem pk_shrN {n : Nat} (h : n < 2 ^ 31) (s : Int32) (k : Nat) (hs : (s.toBitVec.smod 32).toNat = k) : nI n >>> s = nI (n / 2 ^ k) := by
  apply Int32.toInt_inj.mp
  have h2 : n / 2 ^ k ≤ n := Nat.div_le_self _ _
  rw [pk_shr _ _ k hs, nI_toInt h, nI_toInt (by omega), Int.shiftRight_eq_div_pow]
  rfl
theorem pk_ushr (x s : Int32) (k : Nat) (hs : ((s.toUInt32 &&& Int32.toUInt32 31).toBitVec % 32).toNat = k) : (x.toUInt32 >>> (s.toUInt32 &&& Int32.toUInt32 31)).toInt32.toBitVec.toNat = x.toBitVec.toNat / 2 ^ k := by
  have e : (x.toUInt32 >>> (s.toUInt32 &&& Int32.toUInt32 31)).toInt32.toBitVec = x.toBitVec >>> k := by
    rw [← hs]
    exact UInt32.toBitVec_shiftRight _ _
  rw [e, BitVec.toNat_ushiftRight, Nat.shiftRight_eq_div_pow]
theorem pk_ushrN {n : Nat} (hn : n < 2 ^ 32) (s : Int32) (k : Nat) (hs : ((s.toUInt32 &&& Int32.toUInt32 31).toBitVec % 32).toNat = k) : ((nI n).toUInt32 >>> (s.toUInt32 &&& Int32.toUInt32 31)).toInt32 = nI (n / 2 ^ k) := by
  apply Int32.toBitVec_inj.mp
  apply BitVec.eq_of_toNat_eq
  rw [pk_ushr _ s k hs, pk_tn hn, pk_tn (Nat.lt_of_le_of_lt (Nat.div_le_self _ _) hn)]
theorem nx_and (a b : Nat) : nI a &&& nI b = nI (a &&& b) := by
  apply Int32.toBitVec_inj.1
  show BitVec.ofNat 32 a &&& BitVec.ofNat 32 b = BitVec.ofNat 32 (a &&& b)
  apply BitVec.eq_of_getLsbD_eq
  intro i hi
  simp [hi]
theorem nx_xor (a b : Nat) : nI a ^^^ nI b = nI (a ^^^ b) := by
  apply Int32.toBitVec_inj.1
  show BitVec.ofNat 32 a ^^^ BitVec.ofNat 32 b = BitVec.ofNat 32 (a ^^^ b)
  apply BitVec.eq_of_getLsbD_eq
  intro i hi
  simp [hi]
theorem nx_cnt : ∀ j : Fin 32, (UInt32.ofNat j.val &&& Int32.toUInt32 31).toNat % 32 = j.val := by decide +kernel
theorem nx_ush {k j : Nat} (hk : k < 65536) (hj : j < 32) : ((nI k).toUInt32 >>> ((nI j).toUInt32 &&& Int32.toUInt32 31)).toInt32 = nI (k >>> j) := by
  have hs : k >>> j ≤ k := by
    rw [Nat.shiftRight_eq_div_pow]
    exact Nat.div_le_self _ _
  have e2 : UInt32.ofNat k >>> (UInt32.ofNat j &&& Int32.toUInt32 31) = UInt32.ofNat (k >>> j) := by
    apply UInt32.toNat_inj.1
    have h1 : (UInt32.ofNat k).toNat = k := Nat.mod_eq_of_lt (by omega)
    have h2 : (UInt32.ofNat (k >>> j)).toNat = k >>> j := Nat.mod_eq_of_lt (by omega)
    rw [UInt32.toNat_shiftRight, nx_cnt ⟨j, hj⟩, h1, h2]
  show (UInt32.ofNat k >>> (UInt32.ofNat j &&& Int32.toUInt32 31)).toInt32 = _
  rw [e2]
  rfl
theorem nx_mod (k : Nat) : nI k &&& 65535 = nI (k % 65536) := by
  show nI k &&& nI 65535 = _
  rw [nx_and, show (65535 : Nat) = 2 ^ 16 - 1 from rfl, Nat.and_two_pow_sub_one_eq_mod]
theorem nx_m16 {k : Nat} (h : k < 65536) : nI k &&& 65535 = nI k := by rw [nx_mod, Nat.mod_eq_of_lt h]
theorem nx_mask (x : Int32) : ∃ k, k < 65536 ∧ x &&& 65535 = nI k := by
  have e : x = nI x.toBitVec.toNat := by
    apply Int32.toBitVec_inj.1
    show x.toBitVec = BitVec.ofNat 32 x.toBitVec.toNat
    simp
  refine ⟨x.toBitVec.toNat % 65536, Nat.mod_lt _ (by omega), ?_⟩
  rw [← nx_mod, ← e]
theorem wb_of32 (x : Int32) : ∃ n, n < 2 ^ 32 ∧ x = nI n := ⟨x.toBitVec.toNat, x.toBitVec.isLt, Int32.toBitVec_inj.mp (by show _ = BitVec.ofNat 32 _; simp)⟩
end
section
/-! numbers: values below a bound, masks, signs, indices -/
def hv_k (b : Nat) (x : Int32) : Prop := ∃ n : Nat, n < b ∧ x = nI n
theorem hv_kn {b n : Nat} (h : n < b) : hv_k b (nI n) := ⟨n, h, rfl⟩
theorem hv_kup {a b : Nat} {x : Int32} (h : hv_k a x) (hab : a ≤ b) : hv_k b x := h.elim fun n hn => ⟨n, Nat.lt_of_lt_of_le hn.1 hab, hn.2⟩
theorem hv_k0 {b : Nat} (h : 0 < b) : hv_k b 0 := ⟨0, h, rfl⟩
theorem hv_k1 {b : Nat} (h : 1 < b) : hv_k b 1 := ⟨1, h, rfl⟩
theorem hv_kand (x : Int32) {m : Int32} (k : Nat) (hm : m.toBitVec.toNat = 2 ^ k - 1) : hv_k (2 ^ k) (x &&& m) := pk_andE x k hm
theorem hv_k1m (x : Int32) : hv_k 2 (x &&& 1) := hv_kand x 1 (by decide)
theorem hv_k3 (x : Int32) : hv_k 4 (x &&& 3) := hv_kand x 2 (by decide)
theorem hv_k7 (x : Int32) : hv_k 8 (x &&& 7) := hv_kand x 3 (by decide)
theorem hv_k15 (x : Int32) : hv_k 16 (x &&& 15) := hv_kand x 4 (by decide)
theorem hv_k31 (x : Int32) : hv_k 32 (x &&& 31) := hv_kand x 5 (by decide)
theorem hv_k255 (x : Int32) : hv_k 256 (x &&& 255) := hv_kand x 8 (by decide)
theorem hv_k65535 (x : Int32) : hv_k 65536 (x &&& 65535) := hv_kand x 16 (by decide)
theorem hv_kb {k : Nat} (hk : k ≤ 30) {x : Int32} : hv_k (2 ^ k) x ↔ x.toBitVec.toNat < 2 ^ k := by
  have h2 : 2 ^ k ≤ 2 ^ 30 := Nat.pow_le_pow_right (by decide) hk
  constructor
  · rintro ⟨n, hn, rfl⟩
    rw [pk_tn (by omega)]; exact hn
  · intro h
    obtain ⟨n, hn, rfl⟩ := wb_of32 x
    rw [pk_tn hn] at h
    exact ⟨n, h, rfl⟩
theorem hv_kor {k : Nat} (hk : k ≤ 30) {x y : Int32} (hx : hv_k (2 ^ k) x) (hy : hv_k (2 ^ k) y) : hv_k (2 ^ k) (x ||| y) := by
  rw [hv_kb hk] at *
  rw [Int32.toBitVec_or, BitVec.toNat_or]
  exact Nat.or_lt_two_pow hx hy
theorem hv_kanl {k : Nat} (hk : k ≤ 30) {x y : Int32} (hx : hv_k (2 ^ k) x) : hv_k (2 ^ k) (x &&& y) := by
  rw [hv_kb hk] at *
  rw [Int32.toBitVec_and, BitVec.toNat_and]
  exact Nat.lt_of_le_of_lt Nat.and_le_left hx
theorem hv_kxor {k : Nat} (hk : k ≤ 30) {x y : Int32} (hx : hv_k (2 ^ k) x) (hy : hv_k (2 ^ k) y) : hv_k (2 ^ k) (x ^^^ y) := by
  rw [hv_kb hk] at *
  rw [Int32.toBitVec_xor, BitVec.toNat_xor]
  exact Nat.xor_lt_two_pow hx hy
theorem hv_kshr {x y : Int32} (hx : hv_k 65536 x) : hv_k 65536 ((x.toUInt32 >>> ((y &&& 15).toUInt32 &&& Int32.toUInt32 31)).toInt32) := by
  obtain ⟨n, hn, rfl⟩ := hx
  obtain ⟨j, hj, e⟩ := hv_k15 y
  rw [e, nx_ush hn (by omega)]
  refine hv_kn ?_
  rw [Nat.shiftRight_eq_div_pow]
  exact Nat.lt_of_le_of_lt (Nat.div_le_self _ _) hn
theorem hv_k8of {x : Int32} (h : hv_k 8 x) : hv_k 256 x := hv_kup h (by decide)
/-! -1 and -2 -/
theorem hv_m1lt : (-1 : Int32) < 0 := by decide
theorem hv_m1le : ¬ (0 : Int32) ≤ -1 := by decide
theorem hv_m2lt : (-2 : Int32) < 0 := by decide
theorem hv_m2le : ¬ (0 : Int32) ≤ -2 := by decide
theorem hv_nm1 {n : Nat} (h : n < 2 ^ 31) : ¬ nI n = -1 := fun e => nI_pos h (by rw [e]; decide)
theorem hv_nm2 {n : Nat} (h : n < 2 ^ 31) : ¬ nI n = -2 := fun e => nI_pos h (by rw [e]; decide)
theorem hv_kpos {b : Nat} {x : Int32} (h : hv_k b x) (hb : b ≤ 2 ^ 31) : ¬ x < 0 := by
  obtain ⟨n, hn, rfl⟩ := h
  exact nI_pos (by omega)
theorem hv_kpos' {b : Nat} {x : Int32} (h : hv_k b x) (hb : b ≤ 2 ^ 31) : 0 ≤ x := by
  obtain ⟨n, hn, rfl⟩ := h
  exact nI_pos' (by omega)
/-! indices -/
theorem hv_i16 (m c : Nat) : nI m * 16 + nI c = nI (16 * m + c) := by
  have : nI m * nI 16 + nI c = nI (16 * m + c) := by rw [pk_mul, nI_add, Nat.mul_comm]
  exact this
theorem hv_i16' (m c : Nat) : 16 * nI m + nI c = nI (16 * m + c) := by
  have : nI 16 * nI m + nI c = nI (16 * m + c) := by rw [pk_mul, nI_add]
  exact this
theorem hv_i16z (m : Nat) : nI m * 16 = nI (16 * m) := by
  have : nI m * nI 16 = nI (16 * m) := by rw [pk_mul, Nat.mul_comm]
  exact this
theorem hv_i16z' (m : Nat) : 16 * nI m = nI (16 * m) := by
  have : nI 16 * nI m = nI (16 * m) := by rw [pk_mul]
  exact this
theorem hv_i4 (m c : Nat) : nI m * 4 + nI c = nI (4 * m + c) := by
  have : nI m * nI 4 + nI c = nI (4 * m + c) := by rw [pk_mul, nI_add, Nat.mul_comm]
  exact this
theorem hv_i4z (m : Nat) : nI m * 4 = nI (4 * m) := by
  have : nI m * nI 4 = nI (4 * m) := by rw [pk_mul, Nat.mul_comm]
  exact this
theorem hv_i10 (m c : Nat) : nI m * 10 + nI c = nI (10 * m + c) := by
  have : nI m * nI 10 + nI c = nI (10 * m + c) := by rw [pk_mul, nI_add, Nat.mul_comm]
  exact this
theorem hv_i10z (m : Nat) : nI m * 10 = nI (10 * m) := by
  have : nI m * nI 10 = nI (10 * m) := by rw [pk_mul, Nat.mul_comm]
  exact this
theorem hv_i32 (m c : Nat) : nI m * 32 + nI c = nI (32 * m + c) := by
  have : nI m * nI 32 + nI c = nI (32 * m + c) := by rw [pk_mul, nI_add, Nat.mul_comm]
  exact this
theorem hv_i256 (m c : Nat) : nI m * 256 + nI c = nI (256 * m + c) := by
  have : nI m * nI 256 + nI c = nI (256 * m + c) := by rw [pk_mul, nI_add, Nat.mul_comm]
  exact this
theorem hv_i256z (m : Nat) : nI m * 256 = nI (256 * m) := by
  have : nI m * nI 256 = nI (256 * m) := by rw [pk_mul, Nat.mul_comm]
  exact this
theorem hv_p256 (c : Nat) : 256 + nI c = nI (256 + c) := nI_add 256 c
theorem hv_p768 (c : Nat) : 768 + nI c = nI (768 + c) := nI_add 768 c
theorem hv_s1 {c : Nat} (h : c < 2) : 1 - nI c = nI (1 - c) := pk_sub (a := 1) (b := c) (by omega)
theorem hv_sh4 {a : Nat} (h : a < 2 ^ 31) : nI a >>> ((4 : Int32) &&& 31) = nI (a / 16) := pk_shrN h _ 4 (by decide)
theorem hv_sh8 {a : Nat} (h : a < 2 ^ 31) : nI a >>> ((8 : Int32) &&& 31) = nI (a / 256) := pk_shrN h _ 8 (by decide)
theorem hv_sh10 {a : Nat} (h : a < 2 ^ 31) : nI a >>> ((10 : Int32) &&& 31) = nI (a / 1024) := pk_shrN h _ 10 (by decide)
theorem hv_sh12 {a : Nat} (h : a < 2 ^ 31) : nI a >>> ((12 : Int32) &&& 31) = nI (a / 4096) := pk_shrN h _ 12 (by decide)
theorem hv_a15 {a : Nat} (h : a < 2 ^ 32) : nI a &&& 15 = nI (a % 16) := pk_andN h 4 (by decide)
theorem hv_a3 {a : Nat} (h : a < 2 ^ 32) : nI a &&& 3 = nI (a % 4) := pk_andN h 2 (by decide)
theorem hv_a7 {a : Nat} (h : a < 2 ^ 32) : nI a &&& 7 = nI (a % 8) := pk_andN h 3 (by decide)
theorem hv_a255 {a : Nat} (h : a < 2 ^ 32) : nI a &&& 255 = nI (a % 256) := pk_andN h 8 (by decide)
/-! a machine's number as an index -/
theorem hv_im {m : Nat} (h : m < 3) : (nI m).toNatClampNeg = m := nI_clamp (by omega)
theorem hv_iv {m : Nat} (h : m < 3) : vp_in (nI m) 3 := vp_in_nI h (by decide)
theorem hv_ic0 {m : Nat} (h : m < 3) : (nI m * 16 + 0).toNatClampNeg = 16 * m + 0 := by
  have e : nI m * 16 + 0 = nI (16 * m + 0) := hv_i16 m 0
  rw [e]; exact nI_clamp (by omega)
theorem hv_iw0 {m : Nat} (h : m < 3) : vp_in (nI m * 16 + 0) 48 := by
  have e : nI m * 16 + 0 = nI (16 * m + 0) := hv_i16 m 0
  rw [e]; exact vp_in_nI (by omega) (by decide)
theorem hv_ic1 {m : Nat} (h : m < 3) : (nI m * 16 + 1).toNatClampNeg = 16 * m + 1 := by
  have e : nI m * 16 + 1 = nI (16 * m + 1) := hv_i16 m 1
  rw [e]; exact nI_clamp (by omega)
theorem hv_iw1 {m : Nat} (h : m < 3) : vp_in (nI m * 16 + 1) 48 := by
  have e : nI m * 16 + 1 = nI (16 * m + 1) := hv_i16 m 1
  rw [e]; exact vp_in_nI (by omega) (by decide)
theorem hv_ic2 {m : Nat} (h : m < 3) : (nI m * 16 + 2).toNatClampNeg = 16 * m + 2 := by
  have e : nI m * 16 + 2 = nI (16 * m + 2) := hv_i16 m 2
  rw [e]; exact nI_clamp (by omega)
theorem hv_iw2 {m : Nat} (h : m < 3) : vp_in (nI m * 16 + 2) 48 := by
  have e : nI m * 16 + 2 = nI (16 * m + 2) := hv_i16 m 2
  rw [e]; exact vp_in_nI (by omega) (by decide)
theorem hv_ic3 {m : Nat} (h : m < 3) : (nI m * 16 + 3).toNatClampNeg = 16 * m + 3 := by
  have e : nI m * 16 + 3 = nI (16 * m + 3) := hv_i16 m 3
  rw [e]; exact nI_clamp (by omega)
theorem hv_iw3 {m : Nat} (h : m < 3) : vp_in (nI m * 16 + 3) 48 := by
  have e : nI m * 16 + 3 = nI (16 * m + 3) := hv_i16 m 3
  rw [e]; exact vp_in_nI (by omega) (by decide)
theorem hv_ic4 {m : Nat} (h : m < 3) : (nI m * 16 + 4).toNatClampNeg = 16 * m + 4 := by
  have e : nI m * 16 + 4 = nI (16 * m + 4) := hv_i16 m 4
  rw [e]; exact nI_clamp (by omega)
theorem hv_iw4 {m : Nat} (h : m < 3) : vp_in (nI m * 16 + 4) 48 := by
  have e : nI m * 16 + 4 = nI (16 * m + 4) := hv_i16 m 4
  rw [e]; exact vp_in_nI (by omega) (by decide)
theorem hv_ic5 {m : Nat} (h : m < 3) : (nI m * 16 + 5).toNatClampNeg = 16 * m + 5 := by
  have e : nI m * 16 + 5 = nI (16 * m + 5) := hv_i16 m 5
  rw [e]; exact nI_clamp (by omega)
theorem hv_iw5 {m : Nat} (h : m < 3) : vp_in (nI m * 16 + 5) 48 := by
  have e : nI m * 16 + 5 = nI (16 * m + 5) := hv_i16 m 5
  rw [e]; exact vp_in_nI (by omega) (by decide)
theorem hv_ic6 {m : Nat} (h : m < 3) : (nI m * 16 + 6).toNatClampNeg = 16 * m + 6 := by
  have e : nI m * 16 + 6 = nI (16 * m + 6) := hv_i16 m 6
  rw [e]; exact nI_clamp (by omega)
theorem hv_iw6 {m : Nat} (h : m < 3) : vp_in (nI m * 16 + 6) 48 := by
  have e : nI m * 16 + 6 = nI (16 * m + 6) := hv_i16 m 6
  rw [e]; exact vp_in_nI (by omega) (by decide)
theorem hv_ic7 {m : Nat} (h : m < 3) : (nI m * 16 + 7).toNatClampNeg = 16 * m + 7 := by
  have e : nI m * 16 + 7 = nI (16 * m + 7) := hv_i16 m 7
  rw [e]; exact nI_clamp (by omega)
theorem hv_iw7 {m : Nat} (h : m < 3) : vp_in (nI m * 16 + 7) 48 := by
  have e : nI m * 16 + 7 = nI (16 * m + 7) := hv_i16 m 7
  rw [e]; exact vp_in_nI (by omega) (by decide)
theorem hv_ic8 {m : Nat} (h : m < 3) : (nI m * 16 + 8).toNatClampNeg = 16 * m + 8 := by
  have e : nI m * 16 + 8 = nI (16 * m + 8) := hv_i16 m 8
  rw [e]; exact nI_clamp (by omega)
theorem hv_iw8 {m : Nat} (h : m < 3) : vp_in (nI m * 16 + 8) 48 := by
  have e : nI m * 16 + 8 = nI (16 * m + 8) := hv_i16 m 8
  rw [e]; exact vp_in_nI (by omega) (by decide)
theorem hv_ic9 {m : Nat} (h : m < 3) : (nI m * 16 + 9).toNatClampNeg = 16 * m + 9 := by
  have e : nI m * 16 + 9 = nI (16 * m + 9) := hv_i16 m 9
  rw [e]; exact nI_clamp (by omega)
theorem hv_iw9 {m : Nat} (h : m < 3) : vp_in (nI m * 16 + 9) 48 := by
  have e : nI m * 16 + 9 = nI (16 * m + 9) := hv_i16 m 9
  rw [e]; exact vp_in_nI (by omega) (by decide)
theorem hv_ic10 {m : Nat} (h : m < 3) : (nI m * 16 + 10).toNatClampNeg = 16 * m + 10 := by
  have e : nI m * 16 + 10 = nI (16 * m + 10) := hv_i16 m 10
  rw [e]; exact nI_clamp (by omega)
theorem hv_iw10 {m : Nat} (h : m < 3) : vp_in (nI m * 16 + 10) 48 := by
  have e : nI m * 16 + 10 = nI (16 * m + 10) := hv_i16 m 10
  rw [e]; exact vp_in_nI (by omega) (by decide)
theorem hv_ic11 {m : Nat} (h : m < 3) : (nI m * 16 + 11).toNatClampNeg = 16 * m + 11 := by
  have e : nI m * 16 + 11 = nI (16 * m + 11) := hv_i16 m 11
  rw [e]; exact nI_clamp (by omega)
theorem hv_iw11 {m : Nat} (h : m < 3) : vp_in (nI m * 16 + 11) 48 := by
  have e : nI m * 16 + 11 = nI (16 * m + 11) := hv_i16 m 11
  rw [e]; exact vp_in_nI (by omega) (by decide)
theorem hv_ic12 {m : Nat} (h : m < 3) : (nI m * 16 + 12).toNatClampNeg = 16 * m + 12 := by
  have e : nI m * 16 + 12 = nI (16 * m + 12) := hv_i16 m 12
  rw [e]; exact nI_clamp (by omega)
theorem hv_iw12 {m : Nat} (h : m < 3) : vp_in (nI m * 16 + 12) 48 := by
  have e : nI m * 16 + 12 = nI (16 * m + 12) := hv_i16 m 12
  rw [e]; exact vp_in_nI (by omega) (by decide)
theorem hv_ic13 {m : Nat} (h : m < 3) : (nI m * 16 + 13).toNatClampNeg = 16 * m + 13 := by
  have e : nI m * 16 + 13 = nI (16 * m + 13) := hv_i16 m 13
  rw [e]; exact nI_clamp (by omega)
theorem hv_iw13 {m : Nat} (h : m < 3) : vp_in (nI m * 16 + 13) 48 := by
  have e : nI m * 16 + 13 = nI (16 * m + 13) := hv_i16 m 13
  rw [e]; exact vp_in_nI (by omega) (by decide)
theorem hv_ic14 {m : Nat} (h : m < 3) : (nI m * 16 + 14).toNatClampNeg = 16 * m + 14 := by
  have e : nI m * 16 + 14 = nI (16 * m + 14) := hv_i16 m 14
  rw [e]; exact nI_clamp (by omega)
theorem hv_iw14 {m : Nat} (h : m < 3) : vp_in (nI m * 16 + 14) 48 := by
  have e : nI m * 16 + 14 = nI (16 * m + 14) := hv_i16 m 14
  rw [e]; exact vp_in_nI (by omega) (by decide)
theorem hv_ic15 {m : Nat} (h : m < 3) : (nI m * 16 + 15).toNatClampNeg = 16 * m + 15 := by
  have e : nI m * 16 + 15 = nI (16 * m + 15) := hv_i16 m 15
  rw [e]; exact nI_clamp (by omega)
theorem hv_iw15 {m : Nat} (h : m < 3) : vp_in (nI m * 16 + 15) 48 := by
  have e : nI m * 16 + 15 = nI (16 * m + 15) := hv_i16 m 15
  rw [e]; exact vp_in_nI (by omega) (by decide)
theorem hv_icz {m : Nat} (h : m < 3) : (nI m * 16).toNatClampNeg = 16 * m + 0 := by
  rw [hv_i16z]; exact nI_clamp (by omega)
theorem hv_iwz {m : Nat} (h : m < 3) : vp_in (nI m * 16) 48 := by
  rw [hv_i16z]; exact vp_in_nI (by omega) (by decide)
/-! stores by a loop: g's values from src on stand at dst on, n of them -/
def hv_cq (f g : Nat → Int32) (dst src n : Nat) : Nat → Int32 := fun j => if dst ≤ j ∧ j < dst + n then g (src + (j - dst)) else f j
theorem hv_cq0 (f g : Nat → Int32) (dst src : Nat) : hv_cq f g dst src 0 = f := funext fun j => if_neg (by omega)
theorem hv_cqs (f g : Nat → Int32) (dst src i : Nat) : upd (hv_cq f g dst src i) (dst + i) (g (src + i)) = hv_cq f g dst src (i + 1) := by
  funext j
  unfold upd hv_cq
  by_cases e : j = dst + i
  · subst e
    rw [if_pos rfl, if_pos (by omega), Nat.add_sub_cancel_left]
  · rw [if_neg e]
    by_cases h : dst ≤ j ∧ j < dst + i
    · rw [if_pos h, if_pos (by omega)]
    · rw [if_neg h, if_neg (by omega)]
theorem hv_cqin {f g : Nat → Int32} {dst src n j : Nat} (h1 : dst ≤ j) (h2 : j < dst + n) : hv_cq f g dst src n j = g (src + (j - dst)) := if_pos ⟨h1, h2⟩
theorem hv_cqout {f g : Nat → Int32} {dst src n j : Nat} (h : j < dst ∨ dst + n ≤ j) : hv_cq f g dst src n j = f j := if_neg (by omega)
/-- a counting loop whose state at i is known -/
theorem hv_loop {σ : Type} (W : Nat → Int32 → σ → Prop) (e : Nat) (st : Nat → σ) (hx : ∀ n, W (n + 1) (nI e) (st e))
    (hs : ∀ n i, i < e → W n (nI (i + 1)) (st (i + 1)) → W (n + 1) (nI i) (st i)) : ∃ n, W n 0 (st 0) := by
  have key : ∀ d i, i + d = e → W (d + 1) (nI i) (st i) := by
    intro d
    induction d with
    | zero => intro i hi; obtain rfl : i = e := by omega
              exact hx 0
    | succ d ih => intro i hi; exact hs _ i (by omega) (ih (i + 1) (by omega))
  exact ⟨e + 1, key e 0 (by omega)⟩
/-- the same from a start other than 0 -/
theorem hv_loopF {σ : Type} (W : Nat → Int32 → σ → Prop) (b e : Nat) (st : Nat → σ) (hb : b ≤ e) (hx : ∀ n, W (n + 1) (nI e) (st e))
    (hs : ∀ n i, b ≤ i → i < e → W n (nI (i + 1)) (st (i + 1)) → W (n + 1) (nI i) (st i)) : ∃ n, W n (nI b) (st b) := by
  have key : ∀ d i, b ≤ i → i + d = e → W (d + 1) (nI i) (st i) := by
    intro d
    induction d with
    | zero => intro i _ hi; obtain rfl : i = e := by omega
              exact hx 0
    | succ d ih => intro i hb hi; exact hs _ i hb (by omega) (ih (i + 1) (by omega) (by omega))
  exact ⟨e - b + 1, key (e - b) b (by omega) (by omega)⟩
end
section
/-! the memory's relation: X's cells, host frames and shadow entries against Y's memory by position -/
/-- the cell of the word at a: guest g's word is 256 * g + a, the bare machine's 512 + a -/
def hv_lc (rs : Nat → Int32) (a : Nat) : Nat := if a < 512 ∧ ¬ rs (a / 16) < 0 then 16 * (rs (a / 16)).toNatClampNeg + a % 16 else 256 + a
def hv_own (F : Nat) (rs oo wn : Nat → Int32) : Prop := ∀ h, h < 16 → (oo h = -1 ∧ wn h = -2) ∨ (∃ k, k < 32 ∧ h < F ∧ oo h = nI k ∧ wn h = nI k ∧ rs k = nI h)
def hv_res (F : Nat) (rs wn : Nat → Int32) : Prop := ∀ k, k < 32 → rs k = -1 ∨ (∃ h, h < F ∧ rs k = nI h ∧ wn h = nI k)
def hv_shd (sd sh wn : Nat → Int32) : Prop := ∀ i, i < 32 → (sd i = -1 ∧ sh i = -2) ∨ (∃ s f, s < 64 ∧ f < 16 ∧ sd i = nI s ∧ sh i = nI s ∧ wn (s % 16) = nI (16 * (i / 16) + f))
def hv_mem (md rs ce mm : Nat → Int32) : Prop := ∀ a, a < 768 → (a < 512 → ¬ md (a / 256) = 0) → mm a = ce (hv_lc rs a)
def hv_off (md rs ce im : Nat → Int32) : Prop := ∀ g, g < 2 → md g = 0 → (∀ f, f < 16 → rs (16 * g + f) = -1) ∧ (∀ a, a < 256 → ce (256 + 256 * g + a) = im (256 * g + a))
def hv_w (n : Nat) (a : Nat → Int32) : Prop := ∀ i, i < n → hv_k 65536 (a i)
def hv_M (F : Nat) (md im ce sd rs oo mm sh wn : Nat → Int32) : Prop :=
  F ≤ 16 ∧ hv_own F rs oo wn ∧ hv_res F rs wn ∧ hv_shd sd sh wn ∧ hv_mem md rs ce mm ∧ hv_off md rs ce im ∧ hv_w 1024 ce ∧ hv_w 512 im
section
variable {F : Nat} {md im ce sd rs oo mm sh wn : Nat → Int32}
theorem hv_Mf (h : hv_M F md im ce sd rs oo mm sh wn) : F ≤ 16 := h.1
theorem hv_Mo (h : hv_M F md im ce sd rs oo mm sh wn) : hv_own F rs oo wn := h.2.1
theorem hv_Mr (h : hv_M F md im ce sd rs oo mm sh wn) : hv_res F rs wn := h.2.2.1
theorem hv_Ms (h : hv_M F md im ce sd rs oo mm sh wn) : hv_shd sd sh wn := h.2.2.2.1
theorem hv_Mm (h : hv_M F md im ce sd rs oo mm sh wn) : hv_mem md rs ce mm := h.2.2.2.2.1
theorem hv_Mx (h : hv_M F md im ce sd rs oo mm sh wn) : hv_off md rs ce im := h.2.2.2.2.2.1
theorem hv_Mc (h : hv_M F md im ce sd rs oo mm sh wn) : hv_w 1024 ce := h.2.2.2.2.2.2.1
theorem hv_Mi (h : hv_M F md im ce sd rs oo mm sh wn) : hv_w 512 im := h.2.2.2.2.2.2.2
theorem hv_lcn {a : Nat} (h : a < 512 → rs (a / 16) = -1) : hv_lc rs a = 256 + a := if_neg fun z => z.2 (by rw [h z.1]; decide)
theorem hv_lcr {a h : Nat} (ha : a < 512) (hh : h < 2 ^ 31) (e : rs (a / 16) = nI h) : hv_lc rs a = 16 * h + a % 16 := by
  unfold hv_lc
  rw [if_pos ⟨ha, by rw [e]; exact nI_pos hh⟩, e, nI_clamp hh]
theorem hv_lcc (hF : F ≤ 16) (hr : hv_res F rs wn) (a : Nat) : (hv_lc rs a = 256 + a ∧ (a < 512 → rs (a / 16) = -1)) ∨ (a < 512 ∧ ∃ h, h < F ∧ rs (a / 16) = nI h ∧ wn h = nI (a / 16) ∧ hv_lc rs a = 16 * h + a % 16) := by
  by_cases ha : a < 512
  · rcases hr (a / 16) (by omega) with e | ⟨h, hh, e, ew⟩
    · exact Or.inl ⟨hv_lcn fun _ => e, fun _ => e⟩
    · exact Or.inr ⟨ha, h, hh, e, ew, hv_lcr ha (by omega) e⟩
  · exact Or.inl ⟨hv_lcn fun z => absurd z ha, fun z => absurd z ha⟩
theorem hv_lclt (hF : F ≤ 16) (hr : hv_res F rs wn) {a : Nat} (ha : a < 768) : hv_lc rs a < 1024 := by
  rcases hv_lcc hF hr a with ⟨e, _⟩ | ⟨_, h, hh, _, _, e⟩ <;> omega
theorem hv_inj {a b : Nat} (ha : a < 2 ^ 31) (hb : b < 2 ^ 31) (e : nI a = nI b) : a = b := (nI_eq ha hb).mp e
theorem hv_lcinj (hF : F ≤ 16) (hr : hv_res F rs wn) {a b : Nat} (ha : a < 768) (hb : b < 768) (e : hv_lc rs a = hv_lc rs b) : a = b := by
  rcases hv_lcc hF hr a with ⟨ea, _⟩ | ⟨qa, h, hh, ra, wa, ea⟩ <;> rcases hv_lcc hF hr b with ⟨eb, _⟩ | ⟨qb, h', hh', rb, wb, eb⟩
  · omega
  · omega
  · omega
  · have z : h = h' := by omega
    subst z
    have := hv_inj (by omega) (by omega) (wa.symm.trans wb)
    omega
/-! reads -/
theorem hv_ownd (h : hv_own F rs oo wn) {x k : Nat} (hx : x < 16) (hk : k < 32) (e : wn x = nI k) : x < F ∧ oo x = nI k ∧ rs k = nI x := by
  rcases h x hx with ⟨_, z⟩ | ⟨k', hk', hxF, a, b, c⟩
  · exact absurd (e.symm.trans z) (hv_nm2 (by omega))
  · have := hv_inj (by omega) (by omega) (b.symm.trans e)
    subst this
    exact ⟨hxF, a, c⟩
theorem hv_resd (hF : F ≤ 16) (h : hv_res F rs wn) {x k : Nat} (hx : x < 16) (hk : k < 32) (e : rs k = nI x) : x < F ∧ wn x = nI k := by
  rcases h k hk with z | ⟨x', hx', a, b⟩
  · exact absurd (e.symm.trans z) (hv_nm1 (by omega))
  · have := hv_inj (by omega) (by omega) (a.symm.trans e)
    subst this
    exact ⟨hx', b⟩
/-! one entry of the shadow tables falls -/
theorem hv_Mdrop (h : hv_M F md im ce sd rs oo mm sh wn) (i : Nat) : hv_M F md im ce (upd sd i (-1)) rs oo mm (upd sh i (-2)) wn := by
  refine ⟨h.1, h.2.1, h.2.2.1, ?_, h.2.2.2.2⟩
  intro j hj
  by_cases e : j = i
  · subst e
    exact Or.inl ⟨pk_us, pk_us⟩
  · rw [pk_un e, pk_un e]
    exact hv_Ms h j hj
/-! .. or is filled -/
theorem hv_Mfill (h : hv_M F md im ce sd rs oo mm sh wn) {i s f : Nat} (hs : s < 64) (hf : f < 16) (ew : wn (s % 16) = nI (16 * (i / 16) + f)) : hv_M F md im ce (upd sd i (nI s)) rs oo mm (upd sh i (nI s)) wn := by
  refine ⟨h.1, h.2.1, h.2.2.1, ?_, h.2.2.2.2⟩
  intro j hj
  by_cases e : j = i
  · subst e
    exact Or.inr ⟨s, f, hs, hf, pk_us, pk_us, ew⟩
  · rw [pk_un e, pk_un e]
    exact hv_Ms h j hj
theorem hv_wu {n : Nat} {a : Nat → Int32} (h : hv_w n a) {i : Nat} {v : Int32} (hv : hv_k 65536 v) : hv_w n (upd a i v) := by
  intro j hj
  by_cases e : j = i
  · subst e; rw [pk_us]; exact hv
  · rw [pk_un e]; exact h j hj
/-! a store -/
theorem hv_Mst (h : hv_M F md im ce sd rs oo mm sh wn) {a : Nat} {v : Int32} (ha : a < 768) (hon : a < 512 → ¬ md (a / 256) = 0) (hv : hv_k 65536 v) : hv_M F md im (upd ce (hv_lc rs a) v) sd rs oo (upd mm a v) sh wn := by
  refine ⟨h.1, h.2.1, h.2.2.1, h.2.2.2.1, ?_, ?_, hv_wu (hv_Mc h) hv, hv_Mi h⟩
  · intro b hb hbo
    by_cases e : b = a
    · subst e; rw [pk_us, pk_us]
    · rw [pk_un e, pk_un (fun z => e (hv_lcinj h.1 (hv_Mr h) hb ha z))]
      exact hv_Mm h b hb hbo
  · intro g hg hz
    obtain ⟨h1, h2⟩ := hv_Mx h g hg hz
    refine ⟨h1, fun b hb => ?_⟩
    have q : hv_lc rs (256 * g + b) = 256 + (256 * g + b) := hv_lcn fun _ => by
      have : (256 * g + b) / 16 = 16 * g + b / 16 := by omega
      rw [this]; exact h1 _ (by omega)
    have q2 : ¬ 256 + 256 * g + b = hv_lc rs a := fun z => by
      have e := hv_lcinj h.1 (hv_Mr h) (a := 256 * g + b) (b := a) (by omega) ha (by omega)
      have e2 : a / 256 = g := by omega
      exact hon (by omega) (by rw [e2]; exact hz)
    rw [pk_un q2]
    exact h2 b hb
/-! a mode that isn't 0 before or after -/
theorem hv_Mmd (h : hv_M F md im ce sd rs oo mm sh wn) {m : Nat} {v : Int32} (hm : ¬ md m = 0) (hv : ¬ v = 0) : hv_M F (upd md m v) im ce sd rs oo mm sh wn := by
  refine ⟨h.1, h.2.1, h.2.2.1, h.2.2.2.1, ?_, ?_, h.2.2.2.2.2.2⟩
  · intro a ha hon
    refine hv_Mm h a ha fun z => ?_
    by_cases e : a / 256 = m
    · rw [e]; exact hm
    · have := hon z
      rw [pk_un e] at this
      exact this
  · intro g hg hz
    by_cases e : g = m
    · subst e; rw [pk_us] at hz; exact absurd hz hv
    · rw [pk_un e] at hz
      exact hv_Mx h g hg hz
/-! a host frame is written back -/
theorem hv_Mev (h : hv_M F md im ce sd rs oo mm sh wn) {x k : Nat} (hx : x < 16) (hk : k < 32) (e : wn x = nI k) (hn : ∀ i s, i < 32 → i / 16 = k / 16 → s < 64 → sh i = nI s → ¬ s % 16 = x) :
    hv_M F md im (hv_cq ce ce (256 + 16 * k) (16 * x) 16) sd (upd rs k (-1)) (upd oo x (-1)) mm sh (upd wn x (-2)) := by
  have hF := h.1
  obtain ⟨hxF, eo, er⟩ := hv_ownd (hv_Mo h) hx hk e
  refine ⟨hF, ?_, ?_, ?_, ?_, ?_, ?_, hv_Mi h⟩
  · intro y hy
    by_cases q : y = x
    · subst q; exact Or.inl ⟨pk_us, pk_us⟩
    · rw [pk_un q, pk_un q]
      rcases hv_Mo h y hy with z | ⟨k', hk', a, b, c, d⟩
      · exact Or.inl z
      · refine Or.inr ⟨k', hk', a, b, c, ?_⟩
        have : ¬ k' = k := fun z => q (by subst z; exact hv_inj (by omega) (by omega) (d.symm.trans er))
        rw [pk_un this]; exact d
  · intro k' hk'
    by_cases q : k' = k
    · subst q; exact Or.inl pk_us
    · rw [pk_un q]
      rcases hv_Mr h k' hk' with z | ⟨y, hy, a, b⟩
      · exact Or.inl z
      · refine Or.inr ⟨y, hy, a, ?_⟩
        have : ¬ y = x := fun z => q (by subst z; exact hv_inj (by omega) (by omega) (b.symm.trans e))
        rw [pk_un this]; exact b
  · intro i hi
    rcases hv_Ms h i hi with z | ⟨s, f, hs, hf, a, b, c⟩
    · exact Or.inl z
    · refine Or.inr ⟨s, f, hs, hf, a, b, ?_⟩
      by_cases q : s % 16 = x
      · exfalso
        rw [q] at c
        have := hv_inj (by omega) (by omega) (c.symm.trans e)
        exact hn i s hi (by omega) hs b q
      · rw [pk_un q]; exact c
  · intro a ha hon
    rw [hv_Mm h a ha hon]
    rcases hv_lcc hF (hv_Mr h) a with ⟨el, z⟩ | ⟨qa, y, hy, ra, wa, el⟩
    · have q : a < 512 → ¬ a / 16 = k := fun z1 z2 => by
        have := z z1
        rw [z2, er] at this
        exact hv_nm1 (by omega) this
      have el' : hv_lc (upd rs k (-1)) a = 256 + a := hv_lcn fun z1 => by rw [pk_un (q z1)]; exact z z1
      rw [el, el', hv_cqout]
      by_cases z1 : a < 512
      · have := q z1; omega
      · omega
    · by_cases q : a / 16 = k
      · have el' : hv_lc (upd rs k (-1)) a = 256 + a := hv_lcn fun z1 => by rw [q]; exact pk_us
        rw [q, er] at ra
        have z := hv_inj (by omega) (by omega) ra
        rw [el, el', hv_cqin (by omega) (by omega)]
        exact congrArg ce (by omega)
      · have el' : hv_lc (upd rs k (-1)) a = 16 * y + a % 16 := hv_lcr qa (by omega) (by rw [pk_un q]; exact ra)
        rw [el, el', hv_cqout (by omega)]
  · intro g hg hz
    obtain ⟨h1, h2⟩ := hv_Mx h g hg hz
    refine ⟨fun f hf => ?_, fun b hb => ?_⟩
    · by_cases q : 16 * g + f = k
      · rw [q]; exact pk_us
      · rw [pk_un q]; exact h1 f hf
    · have q : ¬ k / 16 = g := fun z => by
        have := h1 (k % 16) (by omega)
        have e2 : 16 * g + k % 16 = k := by omega
        rw [e2, er] at this
        exact hv_nm1 (by omega) this
      rw [hv_cqout (by omega)]
      exact h2 b hb
  · intro i hi
    by_cases q : 256 + 16 * k ≤ i ∧ i < 256 + 16 * k + 16
    · rw [hv_cqin q.1 q.2]; exact hv_Mc h _ (by omega)
    · rw [hv_cqout (by omega)]; exact hv_Mc h i hi
/-! a guest frame comes in -/
theorem hv_Mbr (h : hv_M F md im ce sd rs oo mm sh wn) {x k : Nat} (hx : x < F) (hk : k < 32) (e : wn x = -2) (er : rs k = -1) (hon : ¬ md (k / 16) = 0) :
    hv_M F md im (hv_cq ce ce (16 * x) (256 + 16 * k) 16) sd (upd rs k (nI x)) (upd oo x (nI k)) mm sh (upd wn x (nI k)) := by
  have hF := h.1
  refine ⟨hF, ?_, ?_, ?_, ?_, ?_, ?_, hv_Mi h⟩
  · intro y hy
    by_cases q : y = x
    · subst q; exact Or.inr ⟨k, hk, hx, pk_us, pk_us, pk_us⟩
    · rw [pk_un q, pk_un q]
      rcases hv_Mo h y hy with z | ⟨k', hk', a, b, c, d⟩
      · exact Or.inl z
      · refine Or.inr ⟨k', hk', a, b, c, ?_⟩
        have : ¬ k' = k := fun z => by
          subst z
          exact hv_nm1 (by omega) (d.symm.trans er)
        rw [pk_un this]; exact d
  · intro k' hk'
    by_cases q : k' = k
    · subst q; exact Or.inr ⟨x, hx, pk_us, pk_us⟩
    · rw [pk_un q]
      rcases hv_Mr h k' hk' with z | ⟨y, hy, a, b⟩
      · exact Or.inl z
      · refine Or.inr ⟨y, hy, a, ?_⟩
        have : ¬ y = x := fun z => by
          subst z
          exact hv_nm2 (by omega) (b.symm.trans e)
        rw [pk_un this]; exact b
  · intro i hi
    rcases hv_Ms h i hi with z | ⟨s, f, hs, hf, a, b, c⟩
    · exact Or.inl z
    · refine Or.inr ⟨s, f, hs, hf, a, b, ?_⟩
      have : ¬ s % 16 = x := fun z => by
        rw [z, e] at c
        exact hv_nm2 (by omega) c.symm
      rw [pk_un this]; exact c
  · intro a ha hona
    rw [hv_Mm h a ha hona]
    rcases hv_lcc hF (hv_Mr h) a with ⟨el, z⟩ | ⟨qa, y, hy, ra, wa, el⟩
    · by_cases q : a < 512 ∧ a / 16 = k
      · have el' : hv_lc (upd rs k (nI x)) a = 16 * x + a % 16 := hv_lcr q.1 (by omega) (by rw [q.2]; exact pk_us)
        rw [el, el', hv_cqin (by omega) (by omega)]
        exact congrArg ce (by omega)
      · have el' : hv_lc (upd rs k (nI x)) a = 256 + a := hv_lcn fun z1 => by rw [pk_un (fun z2 => q ⟨z1, z2⟩)]; exact z z1
        rw [el, el', hv_cqout (by omega)]
    · have q : ¬ a / 16 = k := fun z => by
        rw [z, er] at ra
        exact hv_nm1 (by omega) ra.symm
      have q2 : ¬ y = x := fun z => by
        subst z
        exact hv_nm2 (by omega) (wa.symm.trans e)
      have el' : hv_lc (upd rs k (nI x)) a = 16 * y + a % 16 := hv_lcr qa (by omega) (by rw [pk_un q]; exact ra)
      rw [el, el', hv_cqout (by omega)]
  · intro g hg hz
    obtain ⟨h1, h2⟩ := hv_Mx h g hg hz
    have q : ¬ k / 16 = g := fun z => hon (by rw [z]; exact hz)
    refine ⟨fun f hf => ?_, fun b hb => ?_⟩
    · rw [pk_un (by omega)]; exact h1 f hf
    · rw [hv_cqout (by omega)]
      exact h2 b hb
  · intro i hi
    by_cases q : 16 * x ≤ i ∧ i < 16 * x + 16
    · rw [hv_cqin q.1 q.2]; exact hv_Mc h _ (by omega)
    · rw [hv_cqout (by omega)]; exact hv_Mc h i hi
end
/-! the special registers: X's fifteen arrays against Y's one -/
def hv_bd (c : Nat) : Nat := if c = 5 ∨ c = 14 then 65536 else 256
def hv_B (sp : Nat → Int32) : Prop := ∀ i, i < 48 → hv_k (hv_bd (i % 16)) (sp i)
theorem hv_Bu {sp : Nat → Int32} (h : hv_B sp) {m c : Nat} {v : Int32} (hc : c < 16) (hv : hv_k (hv_bd c) v) : hv_B (upd sp (16 * m + c) v) := by
  intro i hi
  by_cases e : i = 16 * m + c
  · subst e
    rw [pk_us, show (16 * m + c) % 16 = c by omega]; exact hv
  · rw [pk_un e]; exact h i hi
theorem hv_B8 {sp : Nat → Int32} (h : hv_B sp) {m c : Nat} (hm : m < 3) (hc : c < 16) (h5 : ¬ (c = 5 ∨ c = 14)) : hv_k 256 (sp (16 * m + c)) := by
  have := h (16 * m + c) (by omega)
  rw [show (16 * m + c) % 16 = c by omega, hv_bd, if_neg h5] at this
  exact this
theorem hv_B16 {sp : Nat → Int32} (h : hv_B sp) {m c : Nat} (hm : m < 3) (hc : c < 16) : hv_k 65536 (sp (16 * m + c)) := by
  have := h (16 * m + c) (by omega)
  refine hv_kup this ?_
  unfold hv_bd
  split <;> omega
theorem hv_us {a sp : Nat → Int32} {j m c : Nat} {v : Int32} (h : a j = sp (16 * j + c)) : upd a m v j = upd sp (16 * m + c) v (16 * j + c) := by
  by_cases e : j = m
  · subst e; rw [pk_us, pk_us]
  · rw [pk_un e, pk_un (by omega)]; exact h
theorem hv_ud {a sp : Nat → Int32} {j m : Nat} {v : Int32} (c c' : Nat) (h : a j = sp (16 * j + c')) (hc : c < 16) (hc' : c' < 16) (hn : ¬ c = c') : a j = upd sp (16 * m + c) v (16 * j + c') := by
  rw [pk_un (by omega)]; exact h
def hv_S (sp pt ve ep ca bv ti zs st pc pu pv pe fs be br : Nat → Int32) : Prop := ∀ j, j < 3 → pt j = sp (16 * j + 0) ∧ ve j = sp (16 * j + 1) ∧ ep j = sp (16 * j + 2) ∧ ca j = sp (16 * j + 3) ∧ bv j = sp (16 * j + 4) ∧ ti j = sp (16 * j + 5) ∧ zs j = sp (16 * j + 6) ∧ st j = sp (16 * j + 7) ∧ pc j = sp (16 * j + 8) ∧ pu j = sp (16 * j + 9) ∧ pv j = sp (16 * j + 10) ∧ pe j = sp (16 * j + 11) ∧ fs j = sp (16 * j + 12) ∧ be j = sp (16 * j + 13) ∧ br j = sp (16 * j + 14)
section
variable {sp pt ve ep ca bv ti zs st pc pu pv pe fs be br : Nat → Int32}
theorem hv_S0 (h : hv_S sp pt ve ep ca bv ti zs st pc pu pv pe fs be br) {j : Nat} (hj : j < 3) : pt j = sp (16 * j + 0) := (h j hj).1
theorem hv_S1 (h : hv_S sp pt ve ep ca bv ti zs st pc pu pv pe fs be br) {j : Nat} (hj : j < 3) : ve j = sp (16 * j + 1) := (h j hj).2.1
theorem hv_S2 (h : hv_S sp pt ve ep ca bv ti zs st pc pu pv pe fs be br) {j : Nat} (hj : j < 3) : ep j = sp (16 * j + 2) := (h j hj).2.2.1
theorem hv_S3 (h : hv_S sp pt ve ep ca bv ti zs st pc pu pv pe fs be br) {j : Nat} (hj : j < 3) : ca j = sp (16 * j + 3) := (h j hj).2.2.2.1
theorem hv_S4 (h : hv_S sp pt ve ep ca bv ti zs st pc pu pv pe fs be br) {j : Nat} (hj : j < 3) : bv j = sp (16 * j + 4) := (h j hj).2.2.2.2.1
theorem hv_S5 (h : hv_S sp pt ve ep ca bv ti zs st pc pu pv pe fs be br) {j : Nat} (hj : j < 3) : ti j = sp (16 * j + 5) := (h j hj).2.2.2.2.2.1
theorem hv_S6 (h : hv_S sp pt ve ep ca bv ti zs st pc pu pv pe fs be br) {j : Nat} (hj : j < 3) : zs j = sp (16 * j + 6) := (h j hj).2.2.2.2.2.2.1
theorem hv_S7 (h : hv_S sp pt ve ep ca bv ti zs st pc pu pv pe fs be br) {j : Nat} (hj : j < 3) : st j = sp (16 * j + 7) := (h j hj).2.2.2.2.2.2.2.1
theorem hv_S8 (h : hv_S sp pt ve ep ca bv ti zs st pc pu pv pe fs be br) {j : Nat} (hj : j < 3) : pc j = sp (16 * j + 8) := (h j hj).2.2.2.2.2.2.2.2.1
theorem hv_S9 (h : hv_S sp pt ve ep ca bv ti zs st pc pu pv pe fs be br) {j : Nat} (hj : j < 3) : pu j = sp (16 * j + 9) := (h j hj).2.2.2.2.2.2.2.2.2.1
theorem hv_S10 (h : hv_S sp pt ve ep ca bv ti zs st pc pu pv pe fs be br) {j : Nat} (hj : j < 3) : pv j = sp (16 * j + 10) := (h j hj).2.2.2.2.2.2.2.2.2.2.1
theorem hv_S11 (h : hv_S sp pt ve ep ca bv ti zs st pc pu pv pe fs be br) {j : Nat} (hj : j < 3) : pe j = sp (16 * j + 11) := (h j hj).2.2.2.2.2.2.2.2.2.2.2.1
theorem hv_S12 (h : hv_S sp pt ve ep ca bv ti zs st pc pu pv pe fs be br) {j : Nat} (hj : j < 3) : fs j = sp (16 * j + 12) := (h j hj).2.2.2.2.2.2.2.2.2.2.2.2.1
theorem hv_S13 (h : hv_S sp pt ve ep ca bv ti zs st pc pu pv pe fs be br) {j : Nat} (hj : j < 3) : be j = sp (16 * j + 13) := (h j hj).2.2.2.2.2.2.2.2.2.2.2.2.2.1
theorem hv_S14 (h : hv_S sp pt ve ep ca bv ti zs st pc pu pv pe fs be br) {j : Nat} (hj : j < 3) : br j = sp (16 * j + 14) := (h j hj).2.2.2.2.2.2.2.2.2.2.2.2.2.2
theorem hv_Su0 (h : hv_S sp pt ve ep ca bv ti zs st pc pu pv pe fs be br) (m : Nat) (v : Int32) : hv_S (upd sp (16 * m + 0) v) (upd pt m v) ve ep ca bv ti zs st pc pu pv pe fs be br := fun j hj => ⟨hv_us (hv_S0 h hj), hv_ud 0 1 (hv_S1 h hj) (by decide) (by decide) (by decide), hv_ud 0 2 (hv_S2 h hj) (by decide) (by decide) (by decide), hv_ud 0 3 (hv_S3 h hj) (by decide) (by decide) (by decide), hv_ud 0 4 (hv_S4 h hj) (by decide) (by decide) (by decide), hv_ud 0 5 (hv_S5 h hj) (by decide) (by decide) (by decide), hv_ud 0 6 (hv_S6 h hj) (by decide) (by decide) (by decide), hv_ud 0 7 (hv_S7 h hj) (by decide) (by decide) (by decide), hv_ud 0 8 (hv_S8 h hj) (by decide) (by decide) (by decide), hv_ud 0 9 (hv_S9 h hj) (by decide) (by decide) (by decide), hv_ud 0 10 (hv_S10 h hj) (by decide) (by decide) (by decide), hv_ud 0 11 (hv_S11 h hj) (by decide) (by decide) (by decide), hv_ud 0 12 (hv_S12 h hj) (by decide) (by decide) (by decide), hv_ud 0 13 (hv_S13 h hj) (by decide) (by decide) (by decide), hv_ud 0 14 (hv_S14 h hj) (by decide) (by decide) (by decide)⟩
theorem hv_Su1 (h : hv_S sp pt ve ep ca bv ti zs st pc pu pv pe fs be br) (m : Nat) (v : Int32) : hv_S (upd sp (16 * m + 1) v) pt (upd ve m v) ep ca bv ti zs st pc pu pv pe fs be br := fun j hj => ⟨hv_ud 1 0 (hv_S0 h hj) (by decide) (by decide) (by decide), hv_us (hv_S1 h hj), hv_ud 1 2 (hv_S2 h hj) (by decide) (by decide) (by decide), hv_ud 1 3 (hv_S3 h hj) (by decide) (by decide) (by decide), hv_ud 1 4 (hv_S4 h hj) (by decide) (by decide) (by decide), hv_ud 1 5 (hv_S5 h hj) (by decide) (by decide) (by decide), hv_ud 1 6 (hv_S6 h hj) (by decide) (by decide) (by decide), hv_ud 1 7 (hv_S7 h hj) (by decide) (by decide) (by decide), hv_ud 1 8 (hv_S8 h hj) (by decide) (by decide) (by decide), hv_ud 1 9 (hv_S9 h hj) (by decide) (by decide) (by decide), hv_ud 1 10 (hv_S10 h hj) (by decide) (by decide) (by decide), hv_ud 1 11 (hv_S11 h hj) (by decide) (by decide) (by decide), hv_ud 1 12 (hv_S12 h hj) (by decide) (by decide) (by decide), hv_ud 1 13 (hv_S13 h hj) (by decide) (by decide) (by decide), hv_ud 1 14 (hv_S14 h hj) (by decide) (by decide) (by decide)⟩
theorem hv_Su2 (h : hv_S sp pt ve ep ca bv ti zs st pc pu pv pe fs be br) (m : Nat) (v : Int32) : hv_S (upd sp (16 * m + 2) v) pt ve (upd ep m v) ca bv ti zs st pc pu pv pe fs be br := fun j hj => ⟨hv_ud 2 0 (hv_S0 h hj) (by decide) (by decide) (by decide), hv_ud 2 1 (hv_S1 h hj) (by decide) (by decide) (by decide), hv_us (hv_S2 h hj), hv_ud 2 3 (hv_S3 h hj) (by decide) (by decide) (by decide), hv_ud 2 4 (hv_S4 h hj) (by decide) (by decide) (by decide), hv_ud 2 5 (hv_S5 h hj) (by decide) (by decide) (by decide), hv_ud 2 6 (hv_S6 h hj) (by decide) (by decide) (by decide), hv_ud 2 7 (hv_S7 h hj) (by decide) (by decide) (by decide), hv_ud 2 8 (hv_S8 h hj) (by decide) (by decide) (by decide), hv_ud 2 9 (hv_S9 h hj) (by decide) (by decide) (by decide), hv_ud 2 10 (hv_S10 h hj) (by decide) (by decide) (by decide), hv_ud 2 11 (hv_S11 h hj) (by decide) (by decide) (by decide), hv_ud 2 12 (hv_S12 h hj) (by decide) (by decide) (by decide), hv_ud 2 13 (hv_S13 h hj) (by decide) (by decide) (by decide), hv_ud 2 14 (hv_S14 h hj) (by decide) (by decide) (by decide)⟩
theorem hv_Su3 (h : hv_S sp pt ve ep ca bv ti zs st pc pu pv pe fs be br) (m : Nat) (v : Int32) : hv_S (upd sp (16 * m + 3) v) pt ve ep (upd ca m v) bv ti zs st pc pu pv pe fs be br := fun j hj => ⟨hv_ud 3 0 (hv_S0 h hj) (by decide) (by decide) (by decide), hv_ud 3 1 (hv_S1 h hj) (by decide) (by decide) (by decide), hv_ud 3 2 (hv_S2 h hj) (by decide) (by decide) (by decide), hv_us (hv_S3 h hj), hv_ud 3 4 (hv_S4 h hj) (by decide) (by decide) (by decide), hv_ud 3 5 (hv_S5 h hj) (by decide) (by decide) (by decide), hv_ud 3 6 (hv_S6 h hj) (by decide) (by decide) (by decide), hv_ud 3 7 (hv_S7 h hj) (by decide) (by decide) (by decide), hv_ud 3 8 (hv_S8 h hj) (by decide) (by decide) (by decide), hv_ud 3 9 (hv_S9 h hj) (by decide) (by decide) (by decide), hv_ud 3 10 (hv_S10 h hj) (by decide) (by decide) (by decide), hv_ud 3 11 (hv_S11 h hj) (by decide) (by decide) (by decide), hv_ud 3 12 (hv_S12 h hj) (by decide) (by decide) (by decide), hv_ud 3 13 (hv_S13 h hj) (by decide) (by decide) (by decide), hv_ud 3 14 (hv_S14 h hj) (by decide) (by decide) (by decide)⟩
theorem hv_Su4 (h : hv_S sp pt ve ep ca bv ti zs st pc pu pv pe fs be br) (m : Nat) (v : Int32) : hv_S (upd sp (16 * m + 4) v) pt ve ep ca (upd bv m v) ti zs st pc pu pv pe fs be br := fun j hj => ⟨hv_ud 4 0 (hv_S0 h hj) (by decide) (by decide) (by decide), hv_ud 4 1 (hv_S1 h hj) (by decide) (by decide) (by decide), hv_ud 4 2 (hv_S2 h hj) (by decide) (by decide) (by decide), hv_ud 4 3 (hv_S3 h hj) (by decide) (by decide) (by decide), hv_us (hv_S4 h hj), hv_ud 4 5 (hv_S5 h hj) (by decide) (by decide) (by decide), hv_ud 4 6 (hv_S6 h hj) (by decide) (by decide) (by decide), hv_ud 4 7 (hv_S7 h hj) (by decide) (by decide) (by decide), hv_ud 4 8 (hv_S8 h hj) (by decide) (by decide) (by decide), hv_ud 4 9 (hv_S9 h hj) (by decide) (by decide) (by decide), hv_ud 4 10 (hv_S10 h hj) (by decide) (by decide) (by decide), hv_ud 4 11 (hv_S11 h hj) (by decide) (by decide) (by decide), hv_ud 4 12 (hv_S12 h hj) (by decide) (by decide) (by decide), hv_ud 4 13 (hv_S13 h hj) (by decide) (by decide) (by decide), hv_ud 4 14 (hv_S14 h hj) (by decide) (by decide) (by decide)⟩
theorem hv_Su5 (h : hv_S sp pt ve ep ca bv ti zs st pc pu pv pe fs be br) (m : Nat) (v : Int32) : hv_S (upd sp (16 * m + 5) v) pt ve ep ca bv (upd ti m v) zs st pc pu pv pe fs be br := fun j hj => ⟨hv_ud 5 0 (hv_S0 h hj) (by decide) (by decide) (by decide), hv_ud 5 1 (hv_S1 h hj) (by decide) (by decide) (by decide), hv_ud 5 2 (hv_S2 h hj) (by decide) (by decide) (by decide), hv_ud 5 3 (hv_S3 h hj) (by decide) (by decide) (by decide), hv_ud 5 4 (hv_S4 h hj) (by decide) (by decide) (by decide), hv_us (hv_S5 h hj), hv_ud 5 6 (hv_S6 h hj) (by decide) (by decide) (by decide), hv_ud 5 7 (hv_S7 h hj) (by decide) (by decide) (by decide), hv_ud 5 8 (hv_S8 h hj) (by decide) (by decide) (by decide), hv_ud 5 9 (hv_S9 h hj) (by decide) (by decide) (by decide), hv_ud 5 10 (hv_S10 h hj) (by decide) (by decide) (by decide), hv_ud 5 11 (hv_S11 h hj) (by decide) (by decide) (by decide), hv_ud 5 12 (hv_S12 h hj) (by decide) (by decide) (by decide), hv_ud 5 13 (hv_S13 h hj) (by decide) (by decide) (by decide), hv_ud 5 14 (hv_S14 h hj) (by decide) (by decide) (by decide)⟩
theorem hv_Su6 (h : hv_S sp pt ve ep ca bv ti zs st pc pu pv pe fs be br) (m : Nat) (v : Int32) : hv_S (upd sp (16 * m + 6) v) pt ve ep ca bv ti (upd zs m v) st pc pu pv pe fs be br := fun j hj => ⟨hv_ud 6 0 (hv_S0 h hj) (by decide) (by decide) (by decide), hv_ud 6 1 (hv_S1 h hj) (by decide) (by decide) (by decide), hv_ud 6 2 (hv_S2 h hj) (by decide) (by decide) (by decide), hv_ud 6 3 (hv_S3 h hj) (by decide) (by decide) (by decide), hv_ud 6 4 (hv_S4 h hj) (by decide) (by decide) (by decide), hv_ud 6 5 (hv_S5 h hj) (by decide) (by decide) (by decide), hv_us (hv_S6 h hj), hv_ud 6 7 (hv_S7 h hj) (by decide) (by decide) (by decide), hv_ud 6 8 (hv_S8 h hj) (by decide) (by decide) (by decide), hv_ud 6 9 (hv_S9 h hj) (by decide) (by decide) (by decide), hv_ud 6 10 (hv_S10 h hj) (by decide) (by decide) (by decide), hv_ud 6 11 (hv_S11 h hj) (by decide) (by decide) (by decide), hv_ud 6 12 (hv_S12 h hj) (by decide) (by decide) (by decide), hv_ud 6 13 (hv_S13 h hj) (by decide) (by decide) (by decide), hv_ud 6 14 (hv_S14 h hj) (by decide) (by decide) (by decide)⟩
theorem hv_Su7 (h : hv_S sp pt ve ep ca bv ti zs st pc pu pv pe fs be br) (m : Nat) (v : Int32) : hv_S (upd sp (16 * m + 7) v) pt ve ep ca bv ti zs (upd st m v) pc pu pv pe fs be br := fun j hj => ⟨hv_ud 7 0 (hv_S0 h hj) (by decide) (by decide) (by decide), hv_ud 7 1 (hv_S1 h hj) (by decide) (by decide) (by decide), hv_ud 7 2 (hv_S2 h hj) (by decide) (by decide) (by decide), hv_ud 7 3 (hv_S3 h hj) (by decide) (by decide) (by decide), hv_ud 7 4 (hv_S4 h hj) (by decide) (by decide) (by decide), hv_ud 7 5 (hv_S5 h hj) (by decide) (by decide) (by decide), hv_ud 7 6 (hv_S6 h hj) (by decide) (by decide) (by decide), hv_us (hv_S7 h hj), hv_ud 7 8 (hv_S8 h hj) (by decide) (by decide) (by decide), hv_ud 7 9 (hv_S9 h hj) (by decide) (by decide) (by decide), hv_ud 7 10 (hv_S10 h hj) (by decide) (by decide) (by decide), hv_ud 7 11 (hv_S11 h hj) (by decide) (by decide) (by decide), hv_ud 7 12 (hv_S12 h hj) (by decide) (by decide) (by decide), hv_ud 7 13 (hv_S13 h hj) (by decide) (by decide) (by decide), hv_ud 7 14 (hv_S14 h hj) (by decide) (by decide) (by decide)⟩
theorem hv_Su8 (h : hv_S sp pt ve ep ca bv ti zs st pc pu pv pe fs be br) (m : Nat) (v : Int32) : hv_S (upd sp (16 * m + 8) v) pt ve ep ca bv ti zs st (upd pc m v) pu pv pe fs be br := fun j hj => ⟨hv_ud 8 0 (hv_S0 h hj) (by decide) (by decide) (by decide), hv_ud 8 1 (hv_S1 h hj) (by decide) (by decide) (by decide), hv_ud 8 2 (hv_S2 h hj) (by decide) (by decide) (by decide), hv_ud 8 3 (hv_S3 h hj) (by decide) (by decide) (by decide), hv_ud 8 4 (hv_S4 h hj) (by decide) (by decide) (by decide), hv_ud 8 5 (hv_S5 h hj) (by decide) (by decide) (by decide), hv_ud 8 6 (hv_S6 h hj) (by decide) (by decide) (by decide), hv_ud 8 7 (hv_S7 h hj) (by decide) (by decide) (by decide), hv_us (hv_S8 h hj), hv_ud 8 9 (hv_S9 h hj) (by decide) (by decide) (by decide), hv_ud 8 10 (hv_S10 h hj) (by decide) (by decide) (by decide), hv_ud 8 11 (hv_S11 h hj) (by decide) (by decide) (by decide), hv_ud 8 12 (hv_S12 h hj) (by decide) (by decide) (by decide), hv_ud 8 13 (hv_S13 h hj) (by decide) (by decide) (by decide), hv_ud 8 14 (hv_S14 h hj) (by decide) (by decide) (by decide)⟩
theorem hv_Su9 (h : hv_S sp pt ve ep ca bv ti zs st pc pu pv pe fs be br) (m : Nat) (v : Int32) : hv_S (upd sp (16 * m + 9) v) pt ve ep ca bv ti zs st pc (upd pu m v) pv pe fs be br := fun j hj => ⟨hv_ud 9 0 (hv_S0 h hj) (by decide) (by decide) (by decide), hv_ud 9 1 (hv_S1 h hj) (by decide) (by decide) (by decide), hv_ud 9 2 (hv_S2 h hj) (by decide) (by decide) (by decide), hv_ud 9 3 (hv_S3 h hj) (by decide) (by decide) (by decide), hv_ud 9 4 (hv_S4 h hj) (by decide) (by decide) (by decide), hv_ud 9 5 (hv_S5 h hj) (by decide) (by decide) (by decide), hv_ud 9 6 (hv_S6 h hj) (by decide) (by decide) (by decide), hv_ud 9 7 (hv_S7 h hj) (by decide) (by decide) (by decide), hv_ud 9 8 (hv_S8 h hj) (by decide) (by decide) (by decide), hv_us (hv_S9 h hj), hv_ud 9 10 (hv_S10 h hj) (by decide) (by decide) (by decide), hv_ud 9 11 (hv_S11 h hj) (by decide) (by decide) (by decide), hv_ud 9 12 (hv_S12 h hj) (by decide) (by decide) (by decide), hv_ud 9 13 (hv_S13 h hj) (by decide) (by decide) (by decide), hv_ud 9 14 (hv_S14 h hj) (by decide) (by decide) (by decide)⟩
theorem hv_Su10 (h : hv_S sp pt ve ep ca bv ti zs st pc pu pv pe fs be br) (m : Nat) (v : Int32) : hv_S (upd sp (16 * m + 10) v) pt ve ep ca bv ti zs st pc pu (upd pv m v) pe fs be br := fun j hj => ⟨hv_ud 10 0 (hv_S0 h hj) (by decide) (by decide) (by decide), hv_ud 10 1 (hv_S1 h hj) (by decide) (by decide) (by decide), hv_ud 10 2 (hv_S2 h hj) (by decide) (by decide) (by decide), hv_ud 10 3 (hv_S3 h hj) (by decide) (by decide) (by decide), hv_ud 10 4 (hv_S4 h hj) (by decide) (by decide) (by decide), hv_ud 10 5 (hv_S5 h hj) (by decide) (by decide) (by decide), hv_ud 10 6 (hv_S6 h hj) (by decide) (by decide) (by decide), hv_ud 10 7 (hv_S7 h hj) (by decide) (by decide) (by decide), hv_ud 10 8 (hv_S8 h hj) (by decide) (by decide) (by decide), hv_ud 10 9 (hv_S9 h hj) (by decide) (by decide) (by decide), hv_us (hv_S10 h hj), hv_ud 10 11 (hv_S11 h hj) (by decide) (by decide) (by decide), hv_ud 10 12 (hv_S12 h hj) (by decide) (by decide) (by decide), hv_ud 10 13 (hv_S13 h hj) (by decide) (by decide) (by decide), hv_ud 10 14 (hv_S14 h hj) (by decide) (by decide) (by decide)⟩
theorem hv_Su11 (h : hv_S sp pt ve ep ca bv ti zs st pc pu pv pe fs be br) (m : Nat) (v : Int32) : hv_S (upd sp (16 * m + 11) v) pt ve ep ca bv ti zs st pc pu pv (upd pe m v) fs be br := fun j hj => ⟨hv_ud 11 0 (hv_S0 h hj) (by decide) (by decide) (by decide), hv_ud 11 1 (hv_S1 h hj) (by decide) (by decide) (by decide), hv_ud 11 2 (hv_S2 h hj) (by decide) (by decide) (by decide), hv_ud 11 3 (hv_S3 h hj) (by decide) (by decide) (by decide), hv_ud 11 4 (hv_S4 h hj) (by decide) (by decide) (by decide), hv_ud 11 5 (hv_S5 h hj) (by decide) (by decide) (by decide), hv_ud 11 6 (hv_S6 h hj) (by decide) (by decide) (by decide), hv_ud 11 7 (hv_S7 h hj) (by decide) (by decide) (by decide), hv_ud 11 8 (hv_S8 h hj) (by decide) (by decide) (by decide), hv_ud 11 9 (hv_S9 h hj) (by decide) (by decide) (by decide), hv_ud 11 10 (hv_S10 h hj) (by decide) (by decide) (by decide), hv_us (hv_S11 h hj), hv_ud 11 12 (hv_S12 h hj) (by decide) (by decide) (by decide), hv_ud 11 13 (hv_S13 h hj) (by decide) (by decide) (by decide), hv_ud 11 14 (hv_S14 h hj) (by decide) (by decide) (by decide)⟩
theorem hv_Su12 (h : hv_S sp pt ve ep ca bv ti zs st pc pu pv pe fs be br) (m : Nat) (v : Int32) : hv_S (upd sp (16 * m + 12) v) pt ve ep ca bv ti zs st pc pu pv pe (upd fs m v) be br := fun j hj => ⟨hv_ud 12 0 (hv_S0 h hj) (by decide) (by decide) (by decide), hv_ud 12 1 (hv_S1 h hj) (by decide) (by decide) (by decide), hv_ud 12 2 (hv_S2 h hj) (by decide) (by decide) (by decide), hv_ud 12 3 (hv_S3 h hj) (by decide) (by decide) (by decide), hv_ud 12 4 (hv_S4 h hj) (by decide) (by decide) (by decide), hv_ud 12 5 (hv_S5 h hj) (by decide) (by decide) (by decide), hv_ud 12 6 (hv_S6 h hj) (by decide) (by decide) (by decide), hv_ud 12 7 (hv_S7 h hj) (by decide) (by decide) (by decide), hv_ud 12 8 (hv_S8 h hj) (by decide) (by decide) (by decide), hv_ud 12 9 (hv_S9 h hj) (by decide) (by decide) (by decide), hv_ud 12 10 (hv_S10 h hj) (by decide) (by decide) (by decide), hv_ud 12 11 (hv_S11 h hj) (by decide) (by decide) (by decide), hv_us (hv_S12 h hj), hv_ud 12 13 (hv_S13 h hj) (by decide) (by decide) (by decide), hv_ud 12 14 (hv_S14 h hj) (by decide) (by decide) (by decide)⟩
theorem hv_Su13 (h : hv_S sp pt ve ep ca bv ti zs st pc pu pv pe fs be br) (m : Nat) (v : Int32) : hv_S (upd sp (16 * m + 13) v) pt ve ep ca bv ti zs st pc pu pv pe fs (upd be m v) br := fun j hj => ⟨hv_ud 13 0 (hv_S0 h hj) (by decide) (by decide) (by decide), hv_ud 13 1 (hv_S1 h hj) (by decide) (by decide) (by decide), hv_ud 13 2 (hv_S2 h hj) (by decide) (by decide) (by decide), hv_ud 13 3 (hv_S3 h hj) (by decide) (by decide) (by decide), hv_ud 13 4 (hv_S4 h hj) (by decide) (by decide) (by decide), hv_ud 13 5 (hv_S5 h hj) (by decide) (by decide) (by decide), hv_ud 13 6 (hv_S6 h hj) (by decide) (by decide) (by decide), hv_ud 13 7 (hv_S7 h hj) (by decide) (by decide) (by decide), hv_ud 13 8 (hv_S8 h hj) (by decide) (by decide) (by decide), hv_ud 13 9 (hv_S9 h hj) (by decide) (by decide) (by decide), hv_ud 13 10 (hv_S10 h hj) (by decide) (by decide) (by decide), hv_ud 13 11 (hv_S11 h hj) (by decide) (by decide) (by decide), hv_ud 13 12 (hv_S12 h hj) (by decide) (by decide) (by decide), hv_us (hv_S13 h hj), hv_ud 13 14 (hv_S14 h hj) (by decide) (by decide) (by decide)⟩
theorem hv_Su14 (h : hv_S sp pt ve ep ca bv ti zs st pc pu pv pe fs be br) (m : Nat) (v : Int32) : hv_S (upd sp (16 * m + 14) v) pt ve ep ca bv ti zs st pc pu pv pe fs be (upd br m v) := fun j hj => ⟨hv_ud 14 0 (hv_S0 h hj) (by decide) (by decide) (by decide), hv_ud 14 1 (hv_S1 h hj) (by decide) (by decide) (by decide), hv_ud 14 2 (hv_S2 h hj) (by decide) (by decide) (by decide), hv_ud 14 3 (hv_S3 h hj) (by decide) (by decide) (by decide), hv_ud 14 4 (hv_S4 h hj) (by decide) (by decide) (by decide), hv_ud 14 5 (hv_S5 h hj) (by decide) (by decide) (by decide), hv_ud 14 6 (hv_S6 h hj) (by decide) (by decide) (by decide), hv_ud 14 7 (hv_S7 h hj) (by decide) (by decide) (by decide), hv_ud 14 8 (hv_S8 h hj) (by decide) (by decide) (by decide), hv_ud 14 9 (hv_S9 h hj) (by decide) (by decide) (by decide), hv_ud 14 10 (hv_S10 h hj) (by decide) (by decide) (by decide), hv_ud 14 11 (hv_S11 h hj) (by decide) (by decide) (by decide), hv_ud 14 12 (hv_S12 h hj) (by decide) (by decide) (by decide), hv_ud 14 13 (hv_S13 h hj) (by decide) (by decide) (by decide), hv_us (hv_S14 h hj)⟩
end
end
section
/-! counters; one shadow entry; a flush -/
def hv_E (c : Nat → Int32) (m : Nat) : Int32 := c (10 * m + 1) + c (10 * m + 2) + c (10 * m + 3) + c (10 * m + 4) + c (10 * m + 5)
def hv_bx (ct : Nat → Int32) (m k : Nat) : Nat → Int32 := if m < 2 then upd ct (10 * m + k) (ct (10 * m + k) + 1) else ct
def hv_ex (ex : Int32) (m : Nat) : Int32 := if m < 2 then ex + 1 else ex
theorem hv_En {ct : Nat → Int32} {g k : Nat} (hk : k < 10) (h : k = 0 ∨ 6 ≤ k) (m : Nat) : hv_E (hv_bx ct g k) m = hv_E ct m := by
  unfold hv_E hv_bx
  split
  · rw [pk_un (by omega), pk_un (by omega), pk_un (by omega), pk_un (by omega), pk_un (by omega)]
  · rfl
theorem hv_Ed {ct : Nat → Int32} {ex : Int32} {k m : Nat} (h1 : 1 ≤ k) (h5 : k ≤ 5) (hm : m < 2) : hv_ex ex m - hv_E (hv_bx ct m k) m = ex - hv_E ct m := by
  unfold hv_E hv_bx hv_ex
  rw [if_pos hm, if_pos hm]
  obtain rfl | rfl | rfl | rfl | rfl : k = 1 ∨ k = 2 ∨ k = 3 ∨ k = 4 ∨ k = 5 := by omega
  · rw [pk_us, pk_un (show 10 * m + 2 ≠ 10 * m + 1 by omega), pk_un (show 10 * m + 3 ≠ 10 * m + 1 by omega), pk_un (show 10 * m + 4 ≠ 10 * m + 1 by omega), pk_un (show 10 * m + 5 ≠ 10 * m + 1 by omega)]; grind
  · rw [pk_un (show 10 * m + 1 ≠ 10 * m + 2 by omega), pk_us, pk_un (show 10 * m + 3 ≠ 10 * m + 2 by omega), pk_un (show 10 * m + 4 ≠ 10 * m + 2 by omega), pk_un (show 10 * m + 5 ≠ 10 * m + 2 by omega)]; grind
  · rw [pk_un (show 10 * m + 1 ≠ 10 * m + 3 by omega), pk_un (show 10 * m + 2 ≠ 10 * m + 3 by omega), pk_us, pk_un (show 10 * m + 4 ≠ 10 * m + 3 by omega), pk_un (show 10 * m + 5 ≠ 10 * m + 3 by omega)]; grind
  · rw [pk_un (show 10 * m + 1 ≠ 10 * m + 4 by omega), pk_un (show 10 * m + 2 ≠ 10 * m + 4 by omega), pk_un (show 10 * m + 3 ≠ 10 * m + 4 by omega), pk_us, pk_un (show 10 * m + 5 ≠ 10 * m + 4 by omega)]; grind
  · rw [pk_un (show 10 * m + 1 ≠ 10 * m + 5 by omega), pk_un (show 10 * m + 2 ≠ 10 * m + 5 by omega), pk_un (show 10 * m + 3 ≠ 10 * m + 5 by omega), pk_un (show 10 * m + 4 ≠ 10 * m + 5 by omega), pk_us]; grind
section
variable {fr qn pr hd cu le ba ex : Int32} {md rg pc pt ve ep ca bv ti zs st pu pv pe fs be br sc rc ou qh ow ce im sd rs oo ct : Nat → Int32} {sp mm sh wn : Nat → Int32}
variable {F : Nat}
theorem hx_bump {m k : Nat} (hm : m < 3) (hk : k < 10) (post : SX → Prop) (h : post (fr, qn, pr, hd, cu, le, ba, ex, md, rg, pc, pt, ve, ep, ca, bv, ti, zs, st, pu, pv, pe, fs, be, br, sc, rc, ou, qh, ow, ce, im, sd, rs, oo, (hv_bx ct m k))) : wpX_bump post (fr, qn, pr, hd, cu, le, ba, ex, md, rg, pc, pt, ve, ep, ca, bv, ti, zs, st, pu, pv, pe, fs, be, br, sc, rc, ou, qh, ow, ce, im, sd, rs, oo, ct) (nI m) (nI k) := by
  unfold hv_bx at h
  by_cases h2 : m < 2
  · rw [if_pos h2] at h
    refine br_f (nI_ge (b := 2) h2 (by decide)) ?_
    rw [hv_i10 m k, nI_clamp (n := 10 * m + k) (by omega)]
    exact ⟨vp_in_nI (by omega) (by decide), vp_in_nI (by omega) (by decide), nm_e h⟩
  · rw [if_neg h2] at h
    exact br_t (nI_le (a := 2) (by omega) (by omega)) h
theorem hx_bumpE {m k : Nat} (hm : m < 3) (hk : k < 10) (post : SX → Prop) (h : post (fr, qn, pr, hd, cu, le, ba, (hv_ex ex m), md, rg, pc, pt, ve, ep, ca, bv, ti, zs, st, pu, pv, pe, fs, be, br, sc, rc, ou, qh, ow, ce, im, sd, rs, oo, (hv_bx ct m k))) : wpX_bumpExit post (fr, qn, pr, hd, cu, le, ba, ex, md, rg, pc, pt, ve, ep, ca, bv, ti, zs, st, pu, pv, pe, fs, be, br, sc, rc, ou, qh, ow, ce, im, sd, rs, oo, ct) (nI m) (nI k) := by
  unfold hv_bx hv_ex at h
  by_cases h2 : m < 2
  · rw [if_pos h2, if_pos h2] at h
    refine br_f (nI_ge (b := 2) h2 (by decide)) ?_
    rw [hv_i10 m k, nI_clamp (n := 10 * m + k) (by omega)]
    exact ⟨vp_in_nI (by omega) (by decide), vp_in_nI (by omega) (by decide), nm_e (nm_e h)⟩
  · rw [if_neg h2, if_neg h2] at h
    exact br_t (nI_le (a := 2) (by omega) (by omega)) h
theorem hy_bump {m k : Nat} (hm : m < 3) (hk : k < 10) (post : SY → Prop) (h : post (fr, qn, pr, hd, cu, le, ba, md, rg, sp, mm, sc, rc, ou, qh, ow, im, sh, (hv_bx ct m k), wn)) : wpY_bump post (fr, qn, pr, hd, cu, le, ba, md, rg, sp, mm, sc, rc, ou, qh, ow, im, sh, ct, wn) (nI m) (nI k) := by
  unfold hv_bx at h
  by_cases h2 : m < 2
  · rw [if_pos h2] at h
    refine br_f (nI_ge (b := 2) h2 (by decide)) ?_
    rw [hv_i10 m k, nI_clamp (n := 10 * m + k) (by omega)]
    exact ⟨vp_in_nI (by omega) (by decide), vp_in_nI (by omega) (by decide), nm_e h⟩
  · rw [if_neg h2] at h
    exact br_t (nI_le (a := 2) (by omega) (by omega)) h
/-! one entry -/
theorem hx_drop1 {g p s : Nat} (hg : g < 2) (hp : p < 16) (hs : s < 64) (e : sd (16 * g + p) = nI s) (post : Int32 → SX → Prop) (h : post 1 (fr, qn, pr, hd, cu, le, ba, ex, md, rg, pc, pt, ve, ep, ca, bv, ti, zs, st, pu, pv, pe, fs, be, br, sc, rc, ou, qh, ow, ce, im, (upd sd (16 * g + p) (-1)), rs, oo, (hv_bx ct g 9))) : wpX_dropEntry post (fr, qn, pr, hd, cu, le, ba, ex, md, rg, pc, pt, ve, ep, ca, bv, ti, zs, st, pu, pv, pe, fs, be, br, sc, rc, ou, qh, ow, ce, im, sd, rs, oo, ct) (nI g) (nI p) := by
  unfold wpX_dropEntry
  try dsimp only
  rw [hv_i16 g p, nI_clamp (n := 16 * g + p) (by omega)]
  refine ⟨vp_in_nI (by omega) (by decide), br_t (by rw [e]; exact nI_pos' (by omega)) ⟨vp_in_nI (by omega) (by decide), nm_e ?_⟩⟩
  exact hx_bump (k := 9) (by omega) (by decide) _ h
theorem hx_drop0 {g p : Nat} (hg : g < 2) (hp : p < 16) (e : sd (16 * g + p) = -1) (post : Int32 → SX → Prop) (h : post 0 (fr, qn, pr, hd, cu, le, ba, ex, md, rg, pc, pt, ve, ep, ca, bv, ti, zs, st, pu, pv, pe, fs, be, br, sc, rc, ou, qh, ow, ce, im, sd, rs, oo, ct)) : wpX_dropEntry post (fr, qn, pr, hd, cu, le, ba, ex, md, rg, pc, pt, ve, ep, ca, bv, ti, zs, st, pu, pv, pe, fs, be, br, sc, rc, ou, qh, ow, ce, im, sd, rs, oo, ct) (nI g) (nI p) := by
  unfold wpX_dropEntry
  try dsimp only
  rw [hv_i16 g p, nI_clamp (n := 16 * g + p) (by omega)]
  exact ⟨vp_in_nI (by omega) (by decide), br_f (by rw [e]; decide) h⟩
theorem hy_drop1 {g p s : Nat} (hg : g < 2) (hp : p < 16) (hs : s < 64) (e : sh (16 * g + p) = nI s) (post : SY → Prop) (h : post (fr, qn, pr, hd, cu, le, ba, md, rg, sp, mm, sc, rc, ou, qh, ow, im, (upd sh (16 * g + p) (-2)), (hv_bx ct g 9), wn)) : wpY_empty post (fr, qn, pr, hd, cu, le, ba, md, rg, sp, mm, sc, rc, ou, qh, ow, im, sh, ct, wn) (nI g) (nI p) := by
  unfold wpY_empty
  try dsimp only
  rw [hv_i16 g p, nI_clamp (n := 16 * g + p) (by omega)]
  refine ⟨vp_in_nI (by omega) (by decide), br_f (by rw [e]; exact hv_nm2 (by omega)) ⟨vp_in_nI (by omega) (by decide), nm_e ?_⟩⟩
  exact hy_bump (k := 9) (by omega) (by decide) _ h
theorem hy_drop0 {g p : Nat} (hg : g < 2) (hp : p < 16) (e : sh (16 * g + p) = -2) (post : SY → Prop) (h : post (fr, qn, pr, hd, cu, le, ba, md, rg, sp, mm, sc, rc, ou, qh, ow, im, sh, ct, wn)) : wpY_empty post (fr, qn, pr, hd, cu, le, ba, md, rg, sp, mm, sc, rc, ou, qh, ow, im, sh, ct, wn) (nI g) (nI p) := by
  unfold wpY_empty
  try dsimp only
  rw [hv_i16 g p, nI_clamp (n := 16 * g + p) (by omega)]
  exact ⟨vp_in_nI (by omega) (by decide), br_t e h⟩
/-! all entries of a guest: X's flush, Y's flush, Y's loop in execute -/
theorem hv_fl {g : Nat} (hg : g < 2) : ∀ (d p : Nat), p + d = 16 → ∀ (sd sh ct : Nat → Int32) (q : Int32), hv_M F md im ce sd rs oo mm sh wn → ∃ sd' sh' ct' q', hv_M F md im ce sd' rs oo mm sh' wn ∧ (∀ m, hv_E ct' m = hv_E ct m) ∧
    (∀ post : Int32 → SX → Prop, post q' (fr, qn, pr, hd, cu, le, ba, ex, md, rg, pc, pt, ve, ep, ca, bv, ti, zs, st, pu, pv, pe, fs, be, br, sc, rc, ou, qh, ow, ce, im, sd', rs, oo, ct') → wX_flushShadow_4 post (nI g) (d + 1) q (nI p) fr qn pr hd cu le ba ex md rg pc pt ve ep ca bv ti zs st pu pv pe fs be br sc rc ou qh ow ce im sd rs oo ct) ∧
    (∀ post : Int32 → SY → Prop, post q' (fr, qn, pr, hd, cu, le, ba, md, rg, sp, mm, sc, rc, ou, qh, ow, im, sh', ct', wn) → wY_flush_26 post (nI g) (d + 1) q (nI p) fr qn pr hd cu le ba md rg sp mm sc rc ou qh ow im sh ct wn) ∧
    (∀ (post : SY → Prop) (x4 x5 x7 x9 x12 : Int32), wY_execute_468 post (nI g) x4 x5 x7 x9 x12 fr qn pr hd cu le ba md rg sp mm sc rc ou qh ow im sh' ct' wn → wY_execute_448 post (nI g) x4 x5 x7 x9 x12 (d + 1) (nI p) fr qn pr hd cu le ba md rg sp mm sc rc ou qh ow im sh ct wn) := by
  intro d
  induction d with
  | zero =>
    intro p hp sd sh ct q h
    have hle : (16 : Int32) ≤ nI p := nI_le (a := 16) (by omega) (by omega)
    exact ⟨sd, sh, ct, q, h, fun _ => rfl, fun post hp => br_t hle hp, fun post hp => br_t hle hp, fun post x4 x5 x7 x9 x12 hp => br_t hle hp⟩
  | succ d ih =>
    intro p hp sd sh ct q h
    have hle : ¬ (16 : Int32) ≤ nI p := nI_ge (b := 16) (by omega) (by decide)
    have hc : (nI g * 16 + nI p).toNatClampNeg = 16 * g + p := by rw [hv_i16]; exact nI_clamp (by omega)
    have hi : vp_in (nI g * 16 + nI p) 32 := by rw [hv_i16]; exact vp_in_nI (by omega) (by decide)
    rcases hv_Ms h (16 * g + p) (by omega) with ⟨e1, e2⟩ | ⟨s, f, hs, hf, e1, e2, _⟩
    · obtain ⟨sd', sh', ct', q', h', hE, hX, hY, hZ⟩ := ih (p + 1) (by omega) sd sh ct q h
      refine ⟨sd', sh', ct', q', h', hE, fun post hp => ?_, fun post hp => ?_, fun post x4 x5 x7 x9 x12 hp => ?_⟩
      · refine br_f hle (hx_drop0 hg (by omega) e1 _ ?_)
        exact nm_r (Int32.add_zero q) (nm_r (nI_1 p) (hX post hp))
      · refine br_f hle ⟨hi, br_t (by rw [hc]; exact e2) ?_⟩
        refine hy_drop0 hg (by omega) e2 _ ?_
        exact nm_r (nI_1 p) (hY post hp)
      · refine br_f hle (hy_drop0 hg (by omega) e2 _ ?_)
        exact nm_r (nI_1 p) (hZ post x4 x5 x7 x9 x12 hp)
    · obtain ⟨sd', sh', ct', q', h', hE, hX, hY, hZ⟩ := ih (p + 1) (by omega) _ _ (hv_bx ct g 9) (q + 1) (hv_Mdrop h (16 * g + p))
      refine ⟨sd', sh', ct', q', h', fun m => (hE m).trans (hv_En (by decide) (Or.inr (by decide)) m), fun post hp => ?_, fun post hp => ?_, fun post x4 x5 x7 x9 x12 hp => ?_⟩
      · refine br_f hle (hx_drop1 hg (by omega) hs e1 _ ?_)
        exact nm_e (nm_r (nI_1 p) (hX post hp))
      · refine br_f hle ⟨hi, br_f (by rw [hc, e2]; exact hv_nm2 (by omega)) (nm_e ?_)⟩
        refine hy_drop1 hg (by omega) hs e2 _ ?_
        exact nm_r (nI_1 p) (hY post hp)
      · refine br_f hle (hy_drop1 hg (by omega) hs e2 _ ?_)
        exact nm_r (nI_1 p) (hZ post x4 x5 x7 x9 x12 hp)
end
end
section
/-! host frames: a frame is written back, a guest frame comes in -/
section
variable {fr qn pr hd cu le ba ex : Int32} {md rg pc pt ve ep ca bv ti zs st pu pv pe fs be br sc rc ou qh ow ce im sd rs oo ct : Nat → Int32} {sp mm sh wn : Nat → Int32}
variable {F : Nat}
theorem hx_ev71 {x k g : Nat} (hx : x < 16) (hk : k < 32) (hg : g < 2) (post : SX → Prop) (h : post (fr, qn, pr, hd, cu, le, ba, ex, md, rg, pc, pt, ve, ep, ca, bv, ti, zs, st, pu, pv, pe, fs, be, br, sc, rc, ou, qh, ow, (hv_cq ce ce (256 + 16 * k) (16 * x) 16), im, sd, (upd rs k (-1)), (upd oo x (-1)), (hv_bx ct g 7))) : ∃ n, wX_evictFrame_71 post (nI x) (nI k) (nI g) fr qn pr hd cu le ba ex n 0 md rg pc pt ve ep ca bv ti zs st pu pv pe fs be br sc rc ou qh ow ce im sd rs oo ct := by
  have hx1 : ∀ n, wX_evictFrame_71 post (nI x) (nI k) (nI g) fr qn pr hd cu le ba ex (n + 1) (nI 16) md rg pc pt ve ep ca bv ti zs st pu pv pe fs be br sc rc ou qh ow (hv_cq ce ce (256 + 16 * k) (16 * x) 16) im sd rs oo ct := by
    intro n
    refine br_t (nI_le (a := 16) (Nat.le_refl _) (by decide)) ?_
    rw [nI_clamp (n := k) (by omega), nI_clamp (n := x) (by omega)]
    refine ⟨vp_in_nI hk (by decide), nm_e ⟨vp_in_nI hx (by decide), nm_e ?_⟩⟩
    exact hx_bump (k := 7) (by omega) (by decide) _ h
  have hs1 : ∀ n i, i < 16 → wX_evictFrame_71 post (nI x) (nI k) (nI g) fr qn pr hd cu le ba ex n (nI (i + 1)) md rg pc pt ve ep ca bv ti zs st pu pv pe fs be br sc rc ou qh ow (hv_cq ce ce (256 + 16 * k) (16 * x) (i + 1)) im sd rs oo ct → wX_evictFrame_71 post (nI x) (nI k) (nI g) fr qn pr hd cu le ba ex (n + 1) (nI i) md rg pc pt ve ep ca bv ti zs st pu pv pe fs be br sc rc ou qh ow (hv_cq ce ce (256 + 16 * k) (16 * x) i) im sd rs oo ct := by
    intro n i hi hw
    refine br_f (nI_ge (b := 16) hi (by decide)) ?_
    have e2 : (256 + nI k * 16) + nI i = nI (256 + 16 * k + i) := by rw [hv_i16z, hv_p256, nI_add]
    rw [hv_i16 x i, e2, nI_clamp (n := 16 * x + i) (by omega), nI_clamp (n := 256 + 16 * k + i) (by omega)]
    refine ⟨vp_in_nI (by omega) (by decide), vp_in_nI (by omega) (by decide), nm_r ?_ (nm_r (nI_1 i) hw)⟩
    rw [hv_cqout (by omega)]
    exact hv_cqs ce ce (256 + 16 * k) (16 * x) i
  have z := hv_loop (fun n i c => wX_evictFrame_71 post (nI x) (nI k) (nI g) fr qn pr hd cu le ba ex n i md rg pc pt ve ep ca bv ti zs st pu pv pe fs be br sc rc ou qh ow c im sd rs oo ct) 16 (fun i => hv_cq ce ce (256 + 16 * k) (16 * x) i) hx1 hs1
  simp only [hv_cq0] at z
  exact z
theorem hv_ev19 {x k g : Nat} (hx : x < 16) (hk : k < 32) (hg : g < 2) : ∀ (d p : Nat), p + d = 16 → ∀ (sd sh ct : Nat → Int32), hv_M F md im ce sd rs oo mm sh wn → ∃ sd' sh' ct', hv_M F md im ce sd' rs oo mm sh' wn ∧ (∀ m, hv_E ct' m = hv_E ct m) ∧
    (∀ j, j < 16 * g + p → sh' j = sh j) ∧ (∀ j s, 16 * g + p ≤ j → j < 16 * g + 16 → s < 64 → sh' j = nI s → ¬ s % 16 = x) ∧
    (∀ post : SX → Prop, (∃ n, wX_evictFrame_71 post (nI x) (nI k) (nI g) fr qn pr hd cu le ba ex n 0 md rg pc pt ve ep ca bv ti zs st pu pv pe fs be br sc rc ou qh ow ce im sd' rs oo ct') → wX_evictFrame_19 post (nI x) (nI k) (nI g) (d + 1) (nI p) fr qn pr hd cu le ba ex md rg pc pt ve ep ca bv ti zs st pu pv pe fs be br sc rc ou qh ow ce im sd rs oo ct) ∧
    (∀ post : SY → Prop, post (fr, qn, pr, hd, cu, le, ba, md, rg, sp, mm, sc, rc, ou, qh, ow, im, sh', (hv_bx ct' g 7), (upd wn x (-2))) → wY_evictFrame_11 post (nI x) (nI g) (d + 1) (nI p) fr qn pr hd cu le ba md rg sp mm sc rc ou qh ow im sh ct wn) := by
  intro d
  induction d with
  | zero =>
    intro p hp sd sh ct h
    have hle : (16 : Int32) ≤ nI p := nI_le (a := 16) (by omega) (by omega)
    refine ⟨sd, sh, ct, h, fun _ => rfl, fun _ _ => rfl, fun j s h1 h2 => by omega, fun post hp => br_t hle hp, fun post hp => ?_⟩
    refine br_t hle ?_
    rw [nI_clamp (n := x) (by omega)]
    exact ⟨vp_in_nI hx (by decide), nm_e (hy_bump (k := 7) (by omega) (by decide) _ hp)⟩
  | succ d ih =>
    intro p hp sd sh ct h
    have hle : ¬ (16 : Int32) ≤ nI p := nI_ge (b := 16) (by omega) (by decide)
    have hc : (nI g * 16 + nI p).toNatClampNeg = 16 * g + p := by rw [hv_i16]; exact nI_clamp (by omega)
    have hi : vp_in (nI g * 16 + nI p) 32 := by rw [hv_i16]; exact vp_in_nI (by omega) (by decide)
    rcases hv_Ms h (16 * g + p) (by omega) with ⟨e1, e2⟩ | ⟨s, f, hs, hf, e1, e2, _⟩
    · obtain ⟨sd', sh', ct', h', hE, hlo, hhi, hX, hY⟩ := ih (p + 1) (by omega) sd sh ct h
      refine ⟨sd', sh', ct', h', hE, fun j hj => hlo j (by omega), fun j s h1 h2 h3 h4 => ?_, fun post hp => ?_, fun post hp => ?_⟩
      · by_cases q : j = 16 * g + p
        · subst q
          rw [hlo _ (by omega), e2] at h4
          exact absurd h4.symm (hv_nm2 (by omega))
        · exact hhi j s (by omega) h2 h3 h4
      · refine br_f hle ⟨hi, nm_r (e' := -1) (by rw [hc]; exact e1) (br_t (by decide) (nm_r (nI_1 p) (hX post hp)))⟩
      · refine br_f hle ⟨hi, nm_r (e' := -2) (by rw [hc]; exact e2) (br_t rfl (nm_r (nI_1 p) (hY post hp)))⟩
    · have ea : nI s &&& 15 = nI (s % 16) := hv_a15 (by omega)
      by_cases hz : s % 16 = x
      · obtain ⟨sd', sh', ct', h', hE, hlo, hhi, hX, hY⟩ := ih (p + 1) (by omega) _ _ (hv_bx ct g 9) (hv_Mdrop h (16 * g + p))
        refine ⟨sd', sh', ct', h', fun m => (hE m).trans (hv_En (by decide) (Or.inr (by decide)) m), fun j hj => ?_, fun j s h1 h2 h3 h4 => ?_, fun post hp => ?_, fun post hp => ?_⟩
        · rw [hlo j (by omega)]; exact pk_un (by omega)
        · by_cases q : j = 16 * g + p
          · subst q
            rw [hlo _ (by omega), pk_us] at h4
            exact absurd h4.symm (hv_nm2 (by omega))
          · exact hhi j s (by omega) h2 h3 h4
        · refine br_f hle ⟨hi, nm_r (e' := nI s) (by rw [hc]; exact e1) (br_f (nI_pos (by omega)) (br_t (by rw [ea, hz]) ?_))⟩
          refine hx_drop1 hg (by omega) hs e1 _ ?_
          exact nm_r (nI_1 p) (hX post hp)
        · refine br_f hle ⟨hi, nm_r (e' := nI s) (by rw [hc]; exact e2) (br_f (hv_nm2 (by omega)) (br_t (by rw [ea, hz]) ?_))⟩
          refine hy_drop1 hg (by omega) hs e2 _ ?_
          exact nm_r (nI_1 p) (hY post hp)
      · obtain ⟨sd', sh', ct', h', hE, hlo, hhi, hX, hY⟩ := ih (p + 1) (by omega) sd sh ct h
        have hne : ¬ (nI s &&& 15) = nI x := by
          rw [ea]
          exact fun z => hz (hv_inj (by omega) (by omega) z)
        refine ⟨sd', sh', ct', h', hE, fun j hj => hlo j (by omega), fun j s' h1 h2 h3 h4 => ?_, fun post hp => ?_, fun post hp => ?_⟩
        · by_cases q : j = 16 * g + p
          · subst q
            rw [hlo _ (by omega), e2] at h4
            have := hv_inj (by omega) (by omega) h4
            subst this
            exact hz
          · exact hhi j s' (by omega) h2 h3 h4
        · exact br_f hle ⟨hi, nm_r (e' := nI s) (by rw [hc]; exact e1) (br_f (nI_pos (by omega)) (br_f hne (nm_r (nI_1 p) (hX post hp))))⟩
        · exact br_f hle ⟨hi, nm_r (e' := nI s) (by rw [hc]; exact e2) (br_f (hv_nm2 (by omega)) (br_f hne (nm_r (nI_1 p) (hY post hp))))⟩
/-! evictFrame, both sides -/
theorem hv_ev {x k : Nat} (hx : x < 16) (hk : k < 32) (e : wn x = nI k) (h : hv_M F md im ce sd rs oo mm sh wn) : ∃ sd' sh' ct', hv_M F md im (hv_cq ce ce (256 + 16 * k) (16 * x) 16) sd' (upd rs k (-1)) (upd oo x (-1)) mm sh' (upd wn x (-2)) ∧ (∀ m, hv_E ct' m = hv_E ct m) ∧
    (∀ post : SX → Prop, post (fr, qn, pr, hd, cu, le, ba, ex, md, rg, pc, pt, ve, ep, ca, bv, ti, zs, st, pu, pv, pe, fs, be, br, sc, rc, ou, qh, ow, (hv_cq ce ce (256 + 16 * k) (16 * x) 16), im, sd', (upd rs k (-1)), (upd oo x (-1)), ct') → wpX_evictFrame post (fr, qn, pr, hd, cu, le, ba, ex, md, rg, pc, pt, ve, ep, ca, bv, ti, zs, st, pu, pv, pe, fs, be, br, sc, rc, ou, qh, ow, ce, im, sd, rs, oo, ct) (nI x)) ∧
    (∀ post : SY → Prop, post (fr, qn, pr, hd, cu, le, ba, md, rg, sp, mm, sc, rc, ou, qh, ow, im, sh', ct', (upd wn x (-2))) → wpY_evictFrame post (fr, qn, pr, hd, cu, le, ba, md, rg, sp, mm, sc, rc, ou, qh, ow, im, sh, ct, wn) (nI x)) := by
  obtain ⟨hxF, eo, er⟩ := hv_ownd (hv_Mo h) hx hk e
  have hg : k / 16 < 2 := by omega
  obtain ⟨sd', sh', ct', h', hE, hlo, hhi, hX, hY⟩ := hv_ev19 (fr := fr) (qn := qn) (pr := pr) (hd := hd) (cu := cu) (le := le) (ba := ba) (ex := ex) (md := md) (rg := rg) (pc := pc) (pt := pt) (ve := ve) (ep := ep) (ca := ca) (bv := bv) (ti := ti) (zs := zs) (st := st) (pu := pu) (pv := pv) (pe := pe) (fs := fs) (be := be) (br := br) (sc := sc) (rc := rc) (ou := ou) (qh := qh) (ow := ow) (ce := ce) (im := im) (rs := rs) (oo := oo) (sp := sp) (mm := mm) (wn := wn) hx hk hg 16 0 rfl sd sh ct h
  have hM := hv_Mev h' hx hk e (fun i s hi hik hs es => hhi i s (by omega) (by omega) hs es)
  refine ⟨sd', sh', hv_bx ct' (k / 16) 7, hM, fun m => (hv_En (by decide) (Or.inr (by decide)) m).trans (hE m), fun post hp => ?_, fun post hp => ?_⟩
  · unfold wpX_evictFrame
    try dsimp only
    rw [nI_clamp (n := x) (by omega)]
    refine ⟨vp_in_nI hx (by decide), nm_r eo (br_t (nI_pos' (by omega)) (nm_r (hv_sh4 (by omega)) ⟨17, hX post ?_⟩))⟩
    exact hx_ev71 hx hk hg post hp
  · unfold wpY_evictFrame
    try dsimp only
    rw [nI_clamp (n := x) (by omega)]
    refine ⟨vp_in_nI hx (by decide), nm_r (e' := nI (k / 16)) (by rw [e]; exact hv_sh4 (by omega)) ⟨17, hY post ?_⟩⟩
    exact hp
/-! a frame comes into x -/
theorem hx_br75 {x f g : Nat} (hx : x < 16) (hf : f < 16) (hg : g < 2) (post : Int32 → SX → Prop) (h : post (nI x) (fr, qn, pr, hd, cu, le, ba, ex, md, rg, pc, pt, ve, ep, ca, bv, ti, zs, st, pu, pv, pe, fs, be, br, sc, rc, ou, qh, ow, (hv_cq ce ce (16 * x) (256 + 16 * (16 * g + f)) 16), im, sd, (upd rs (16 * g + f) (nI x)), (upd oo x (nI (16 * g + f))), (hv_bx ct g 6))) : ∃ n, wX_bringIn_75 post (nI g) (nI (16 * g + f)) (nI x) fr qn pr hd cu le ba ex n 0 md rg pc pt ve ep ca bv ti zs st pu pv pe fs be br sc rc ou qh ow ce im sd rs oo ct := by
  generalize hk : 16 * g + f = k at *
  have hx1 : ∀ n, wX_bringIn_75 post (nI g) (nI k) (nI x) fr qn pr hd cu le ba ex (n + 1) (nI 16) md rg pc pt ve ep ca bv ti zs st pu pv pe fs be br sc rc ou qh ow (hv_cq ce ce (16 * x) (256 + 16 * k) 16) im sd rs oo ct := by
    intro n
    refine br_t (nI_le (a := 16) (Nat.le_refl _) (by decide)) ?_
    rw [nI_clamp (n := k) (by omega), nI_clamp (n := x) (by omega)]
    refine ⟨vp_in_nI hx (by decide), nm_e ⟨vp_in_nI (by omega) (by decide), nm_e ?_⟩⟩
    exact hx_bump (k := 6) (by omega) (by decide) _ h
  have hs1 : ∀ n i, i < 16 → wX_bringIn_75 post (nI g) (nI k) (nI x) fr qn pr hd cu le ba ex n (nI (i + 1)) md rg pc pt ve ep ca bv ti zs st pu pv pe fs be br sc rc ou qh ow (hv_cq ce ce (16 * x) (256 + 16 * k) (i + 1)) im sd rs oo ct → wX_bringIn_75 post (nI g) (nI k) (nI x) fr qn pr hd cu le ba ex (n + 1) (nI i) md rg pc pt ve ep ca bv ti zs st pu pv pe fs be br sc rc ou qh ow (hv_cq ce ce (16 * x) (256 + 16 * k) i) im sd rs oo ct := by
    intro n i hi hw
    refine br_f (nI_ge (b := 16) hi (by decide)) ?_
    have e2 : (256 + nI k * 16) + nI i = nI (256 + 16 * k + i) := by rw [hv_i16z, hv_p256, nI_add]
    rw [hv_i16 x i, e2, nI_clamp (n := 16 * x + i) (by omega), nI_clamp (n := 256 + 16 * k + i) (by omega)]
    refine ⟨vp_in_nI (by omega) (by decide), vp_in_nI (by omega) (by decide), nm_r ?_ (nm_r (nI_1 i) hw)⟩
    rw [hv_cqout (by omega)]
    exact hv_cqs ce ce (16 * x) (256 + 16 * k) i
  have z := hv_loop (fun n i c => wX_bringIn_75 post (nI g) (nI k) (nI x) fr qn pr hd cu le ba ex n i md rg pc pt ve ep ca bv ti zs st pu pv pe fs be br sc rc ou qh ow c im sd rs oo ct) 16 (fun i => hv_cq ce ce (16 * x) (256 + 16 * k) i) hx1 hs1
  simp only [hv_cq0] at z
  exact z
theorem hy_br92 {x f g : Nat} (hx : x < 16) (hg : g < 2) (post : Int32 → SY → Prop) (h : post (nI x) (fr, qn, pr, hd, cu, le, ba, md, rg, sp, mm, sc, rc, ou, qh, ow, im, sh, (hv_bx ct g 6), (upd wn x (nI (16 * g + f))))) : wY_bringIn_92 post (nI g) (nI f) (nI x) fr qn pr hd cu le ba md rg sp mm sc rc ou qh ow im sh ct wn := by
  unfold wY_bringIn_92
  rw [nI_clamp (n := x) (by omega), hv_i16' g f]
  exact ⟨vp_in_nI hx (by decide), nm_e (hy_bump (k := 6) (by omega) (by decide) _ h)⟩
/-! searches -/
theorem hx_lf {post : Int32 → Prop} {j : Nat} (hF : F ≤ 16) (hfr : fr = nI F) (hj : j ≤ F) (hn : ∀ y, y < j → ¬ oo y < 0) (hE : ∀ n, wX_lowestFree_2 post fr qn pr hd cu le ba ex md rg pc pt ve ep ca bv ti zs st pu pv pe fs be br sc rc ou qh ow ce im sd rs oo ct (n + 1) (nI j)) : wpX_lowestFree post (fr, qn, pr, hd, cu, le, ba, ex, md, rg, pc, pt, ve, ep, ca, bv, ti, zs, st, pu, pv, pe, fs, be, br, sc, rc, ou, qh, ow, ce, im, sd, rs, oo, ct) := by
  have key : ∀ d i, i + d = j → wX_lowestFree_2 post fr qn pr hd cu le ba ex md rg pc pt ve ep ca bv ti zs st pu pv pe fs be br sc rc ou qh ow ce im sd rs oo ct (d + 1) (nI i) := by
    intro d
    induction d with
    | zero => intro i hi; obtain rfl : i = j := by omega
              exact hE 0
    | succ d ih =>
      intro i hi
      refine br_f (by rw [hfr]; exact nI_ge (by omega) (by omega)) ?_
      rw [nI_clamp (n := i) (by omega)]
      refine ⟨vp_in_nI (by omega) (by decide), br_t (Int32.not_lt.mp (hn i (by omega))) (nm_r (nI_1 i) (ih (i + 1) (by omega)))⟩
  exact ⟨j + 1, key j 0 (by omega)⟩
theorem hy_sc0 {post : Int32 → SY → Prop} {a b x3 : Int32} : ∀ (j : Nat), j ≤ 16 → (∀ y, y < j → ¬ wn y = -2) → (∀ n, wY_bringIn_23 post a b fr qn pr hd cu le ba md rg sp mm sc rc ou qh ow im sh ct wn (n + 1) x3 (-1)) → wY_bringIn_23 post a b fr qn pr hd cu le ba md rg sp mm sc rc ou qh ow im sh ct wn (j + 1) x3 (nI j + (-1)) := by
  intro j
  induction j with
  | zero => intro _ _ hE; exact hE 0
  | succ j ih =>
    intro hj hn hE
    rw [pk_m1]
    refine br_f (nI_pos (by omega)) ?_
    rw [nI_clamp (n := j) (by omega)]
    exact ⟨vp_in_nI (by omega) (by decide), br_f (hn j (by omega)) (nm_e (ih (by omega) (fun y hy => hn y (by omega)) hE))⟩
theorem hy_sc1 {post : Int32 → SY → Prop} {a b : Int32} {x : Nat} (hx : wn x = -2) (hl : ∀ y, y < x → ¬ wn y = -2) (hE : ∀ n, wY_bringIn_23 post a b fr qn pr hd cu le ba md rg sp mm sc rc ou qh ow im sh ct wn (n + 1) (nI x) (-1)) : ∀ (j : Nat), x < j → j ≤ 16 → ∀ x3, wY_bringIn_23 post a b fr qn pr hd cu le ba md rg sp mm sc rc ou qh ow im sh ct wn (j + 1) x3 (nI j + (-1)) := by
  intro j
  induction j with
  | zero => intro h; omega
  | succ j ih =>
    intro hxj hj x3
    rw [pk_m1]
    refine br_f (nI_pos (by omega)) ?_
    rw [nI_clamp (n := j) (by omega)]
    refine ⟨vp_in_nI (by omega) (by decide), ?_⟩
    by_cases q : x = j
    · subst q
      exact br_t hx (nm_e (hy_sc0 x (by omega) hl hE))
    · exact br_c (fun _ => nm_e (ih (by omega) (by omega) (nI j))) (fun _ => nm_e (ih (by omega) (by omega) x3))
theorem hy_in1 {post : Int32 → Prop} (a b : Nat) (hab : a ≤ b) (hb : b < 2 ^ 31) (h : post 1) : wpY_in post (fr, qn, pr, hd, cu, le, ba, md, rg, sp, mm, sc, rc, ou, qh, ow, im, sh, ct, wn) (nI a) (nI b) := by
  exact br_f (nI_pos (by omega)) (br_f (nI_nlt hab hb) h)
theorem hy_fo1 {post : Int32 → Prop} {g f x : Nat} (hg : g < 2) (hf : f < 16) (hx : x < 16) (e : wn x = nI (16 * g + f)) (hl : ∀ y, y < x → ¬ wn y = nI (16 * g + f)) (h : post (nI x)) : wpY_frameOf post (fr, qn, pr, hd, cu, le, ba, md, rg, sp, mm, sc, rc, ou, qh, ow, im, sh, ct, wn) (nI g) (nI f) := by
  unfold wpY_frameOf
  try dsimp only
  refine hy_in1 g 1 (by omega) (by decide) (br_f (by decide) (hy_in1 f 15 (by omega) (by decide) (br_f (by decide) ⟨x + 1, ?_⟩)))
  have key : ∀ d i, i + d = x → wY_frameOf_23 post (nI g) (nI f) fr qn pr hd cu le ba md rg sp mm sc rc ou qh ow im sh ct wn (d + 1) (nI i) := by
    intro d
    induction d with
    | zero =>
      intro i hi
      obtain rfl : i = x := by omega
      refine br_f (nI_ge (b := 16) hx (by decide)) ?_
      rw [nI_clamp (n := i) (by omega), hv_i16' g f]
      exact ⟨vp_in_nI hx (by decide), br_t e h⟩
    | succ d ih =>
      intro i hi
      refine br_f (nI_ge (b := 16) (by omega) (by decide)) ?_
      rw [nI_clamp (n := i) (by omega), hv_i16' g f]
      exact ⟨vp_in_nI (by omega) (by decide), br_f (hl i (by omega)) (nm_r (nI_1 i) (ih (i + 1) (by omega)))⟩
  exact key x 0 (by omega)
theorem hy_fo0 {post : Int32 → Prop} {g f : Nat} (hg : g < 2) (hf : f < 16) (hl : ∀ y, y < 16 → ¬ wn y = nI (16 * g + f)) (h : post (-2)) : wpY_frameOf post (fr, qn, pr, hd, cu, le, ba, md, rg, sp, mm, sc, rc, ou, qh, ow, im, sh, ct, wn) (nI g) (nI f) := by
  unfold wpY_frameOf
  try dsimp only
  refine hy_in1 g 1 (by omega) (by decide) (br_f (by decide) (hy_in1 f 15 (by omega) (by decide) (br_f (by decide) ⟨17, ?_⟩)))
  have key : ∀ d i, i + d = 16 → wY_frameOf_23 post (nI g) (nI f) fr qn pr hd cu le ba md rg sp mm sc rc ou qh ow im sh ct wn (d + 1) (nI i) := by
    intro d
    induction d with
    | zero =>
      intro i hi
      exact br_t (nI_le (a := 16) (by omega) (by omega)) h
    | succ d ih =>
      intro i hi
      refine br_f (nI_ge (b := 16) (by omega) (by decide)) ?_
      rw [nI_clamp (n := i) (by omega), hv_i16' g f]
      exact ⟨vp_in_nI (by omega) (by decide), br_f (hl i (by omega)) (nm_r (nI_1 i) (ih (i + 1) (by omega)))⟩
  exact key 16 0 (by omega)
end
theorem hv_least (P : Nat → Prop) (h : ∃ k, P k) : ∃ k, P k ∧ ∀ j, j < k → ¬ P j := by
  obtain ⟨k, hk⟩ := h
  induction k using Nat.strongRecOn with
  | ind k ih =>
    by_cases q : ∃ j, j < k ∧ P j
    · obtain ⟨j, hj, pj⟩ := q
      exact ih j hj pj
    · exact ⟨k, hk, fun j hj pj => q ⟨j, hj, pj⟩⟩
section
variable {fr qn pr hd cu le ba ex : Int32} {md rg pc pt ve ep ca bv ti zs st pu pv pe fs be br sc rc ou qh ow ce im sd rs oo ct : Nat → Int32} {sp mm sh wn : Nat → Int32}
variable {F : Nat}
/-! bringIn, both sides -/
theorem hv_bi {g f : Nat} (hg : g < 2) (hf : f < 16) (h : hv_M F md im ce sd rs oo mm sh wn) (hfr : fr = nI F) (h2 : 2 ≤ F) (hh : hv_k F hd) (hon : ¬ md g = 0) :
    ∃ hd' ce' sd' rs' oo' ct' sh' wn' x, x < F ∧ hv_k F hd' ∧ hv_M F md im ce' sd' rs' oo' mm sh' wn' ∧ wn' x = nI (16 * g + f) ∧ (∀ m, hv_E ct' m = hv_E ct m) ∧
    (∀ post : Int32 → SX → Prop, post (nI x) (fr, qn, pr, hd', cu, le, ba, ex, md, rg, pc, pt, ve, ep, ca, bv, ti, zs, st, pu, pv, pe, fs, be, br, sc, rc, ou, qh, ow, ce', im, sd', rs', oo', ct') → wpX_bringIn post (fr, qn, pr, hd, cu, le, ba, ex, md, rg, pc, pt, ve, ep, ca, bv, ti, zs, st, pu, pv, pe, fs, be, br, sc, rc, ou, qh, ow, ce, im, sd, rs, oo, ct) (nI g) (nI f)) ∧
    (∀ post : Int32 → SY → Prop, post (nI x) (fr, qn, pr, hd', cu, le, ba, md, rg, sp, mm, sc, rc, ou, qh, ow, im, sh', ct', wn') → wpY_bringIn post (fr, qn, pr, hd, cu, le, ba, md, rg, sp, mm, sc, rc, ou, qh, ow, im, sh, ct, wn) (nI g) (nI f)) := by
  subst hfr
  have hF := h.1
  have hko := hv_Mo h
  have hkr := hv_Mr h
  rcases hkr (16 * g + f) (by omega) with er | ⟨x, hx, er, ew⟩
  · have hno : ∀ y, y < 16 → ¬ wn y = nI (16 * g + f) := fun y hy z => by
      have := (hv_ownd hko hy (by omega) z).2.2
      rw [er] at this
      exact hv_nm1 (by omega) this.symm
    have hrlt : rs (16 * g + f) < 0 := by rw [er]; decide
    have hsp : nI F - 1 = nI F + (-1) := by
      have : nI (F - 1 + 1) - 1 = nI (F - 1 + 1) + (-1) := by rw [pk_m1, nI_pred]
      rw [show F - 1 + 1 = F by omega] at this
      exact this
    by_cases hfree : ∃ x, x < F ∧ wn x = -2
    · obtain ⟨x, ⟨hx, ex2⟩, hl⟩ := hv_least _ hfree
      have hl' : ∀ y, y < x → ¬ wn y = -2 := fun y hy z => hl y hy ⟨by omega, z⟩
      have hoo : ∀ y, y < x → ¬ oo y < 0 := fun y hy => by
        rcases hko y (by omega) with z | ⟨k, hk, _, a, _, _⟩
        · exact absurd z.2 (hl' y hy)
        · rw [a]; exact nI_pos (by omega)
      have hox : oo x = -1 := by
        rcases hko x (by omega) with z | ⟨k, hk, _, _, b, _⟩
        · exact z.1
        · exact absurd (b.symm.trans ex2) (hv_nm2 (by omega))
      refine ⟨hd, _, sd, _, _, hv_bx ct g 6, sh, _, x, hx, hh, hv_Mbr h hx (k := 16 * g + f) (by omega) ex2 er (by rw [show (16 * g + f) / 16 = g by omega]; exact hon), pk_us, hv_En (by decide) (Or.inr (by decide)), fun post hp => ?_, fun post hp => ?_⟩
      · unfold wpX_bringIn
        try dsimp only
        refine nm_r (hv_i16 g f) ?_
        rw [nI_clamp (n := 16 * g + f) (by omega)]
        refine ⟨vp_in_nI (by omega) (by decide), br_t hrlt ?_⟩
        refine hx_lf hF rfl (j := x) (by omega) hoo ?_
        intro n
        refine br_f (nI_ge hx (by omega)) ?_
        rw [nI_clamp (n := x) (by omega)]
        refine ⟨vp_in_nI (by omega) (by decide), br_f (by rw [hox]; decide) (br_t (nI_pos' (by omega)) ?_)⟩
        exact hx_br75 (by omega) hf hg post hp
      · unfold wpY_bringIn
        try dsimp only
        refine hy_fo0 hg hf hno (br_t rfl (nm_r (e' := nI F + (-1)) hsp ⟨F + 1, ?_⟩))
        refine hy_sc1 ex2 hl' ?_ F hx (by omega) _
        intro n
        exact br_t (by decide) (br_f (hv_nm2 (by omega)) (hy_br92 (by omega) hg post hp))
    · have hnf : ∀ y, y < F → ¬ wn y = -2 := fun y hy z => hfree ⟨y, hy, z⟩
      have hoo : ∀ y, y < F → ¬ oo y < 0 := fun y hy => by
        rcases hko y (by omega) with z | ⟨k, hk, _, a, _, _⟩
        · exact absurd z.2 (hnf y hy)
        · rw [a]; exact nI_pos (by omega)
      obtain ⟨x, hx, rfl⟩ := hh
      obtain ⟨k, hk, ewx⟩ : ∃ k, k < 32 ∧ wn x = nI k := by
        rcases hko x (by omega) with z | ⟨k, hk, _, _, b, _⟩
        · exact absurd z.2 (hnf x hx)
        · exact ⟨k, hk, b⟩
      obtain ⟨hd', hd1, hd2, hd3⟩ : ∃ hd' : Int32, hv_k F hd' ∧ (∀ A B : Prop, (hd' = nI (x + 1) → A) → (hd' = 0 → B) → ((nI (x + 1) < nI F → A) ∧ (¬ nI (x + 1) < nI F → B))) ∧ True := by
        by_cases q : x + 1 < F
        · exact ⟨nI (x + 1), hv_kn q, fun A B a b => br_t (nI_lt q (by omega)) (a rfl), trivial⟩
        · exact ⟨0, hv_k0 (by omega), fun A B a b => br_f (nI_nlt (by omega) (by omega)) (b rfl), trivial⟩
      obtain ⟨sd', sh', ct', h', hE, hX, hY⟩ := hv_ev (fr := nI F) (qn := qn) (pr := pr) (hd := hd') (cu := cu) (le := le) (ba := ba) (ex := ex) (md := md) (rg := rg) (pc := pc) (pt := pt) (ve := ve) (ep := ep) (ca := ca) (bv := bv) (ti := ti) (zs := zs) (st := st) (pu := pu) (pv := pv) (pe := pe) (fs := fs) (be := be) (br := br) (sc := sc) (rc := rc) (ou := ou) (qh := qh) (ow := ow) (ce := ce) (im := im) (sd := sd) (rs := rs) (oo := oo) (ct := ct) (sp := sp) (mm := mm) (sh := sh) (wn := wn) (x := x) (k := k) (by omega) hk ewx h
      have er' : upd rs k (-1) (16 * g + f) = -1 := by
        by_cases q : 16 * g + f = k
        · rw [q]; exact pk_us
        · rw [pk_un q]; exact er
      refine ⟨hd', _, sd', _, _, hv_bx ct' g 6, sh', _, x, hx, hd1, hv_Mbr h' hx (k := 16 * g + f) (by omega) pk_us er' (by rw [show (16 * g + f) / 16 = g by omega]; exact hon), pk_us, fun m => (hv_En (by decide) (Or.inr (by decide)) m).trans (hE m), fun post hp => ?_, fun post hp => ?_⟩
      · unfold wpX_bringIn
        try dsimp only
        refine nm_r (hv_i16 g f) ?_
        rw [nI_clamp (n := 16 * g + f) (by omega)]
        refine ⟨vp_in_nI (by omega) (by decide), br_t hrlt ?_⟩
        refine hx_lf hF rfl (j := F) (by omega) hoo ?_
        intro n
        refine br_t (nI_le (Nat.le_refl _) (by omega)) (br_f (by decide) (nm_r (nI_1 x) ?_))
        refine hd2 _ _ (fun q => ?_) (fun q => ?_)
        · rw [← q]
          refine hX _ ?_
          exact hx_br75 (by omega) hf hg post hp
        · rw [← q]
          refine hX _ ?_
          exact hx_br75 (by omega) hf hg post hp
      · unfold wpY_bringIn
        try dsimp only
        refine hy_fo0 hg hf hno (br_t rfl (nm_r (e' := nI F + (-1)) hsp ⟨F + 1, ?_⟩))
        refine hy_sc0 F (by omega) hnf ?_
        intro n
        refine br_t (by decide) (br_t rfl ?_)
        rw [nI_1 x]
        refine hd2 _ _ (fun q => ?_) (fun q => ?_)
        · rw [← q]
          refine hY _ ?_
          exact hy_br92 (by omega) hg post hp
        · rw [← q]
          refine hY _ ?_
          exact hy_br92 (by omega) hg post hp
  · refine ⟨hd, ce, sd, rs, oo, ct, sh, wn, x, hx, hh, h, ew, fun _ => rfl, fun post hp => ?_, fun post hp => ?_⟩
    · unfold wpX_bringIn
      try dsimp only
      refine nm_r (hv_i16 g f) ?_
      rw [nI_clamp (n := 16 * g + f) (by omega), er]
      exact ⟨vp_in_nI (by omega) (by decide), br_f (nI_pos (by omega)) ⟨vp_in_nI (by omega) (by decide), hp⟩⟩
    · unfold wpY_bringIn
      try dsimp only
      refine hy_fo1 hg hf (x := x) (by omega) ew (fun y hy z => ?_) (br_f (hv_nm2 (by omega)) hp)
      have h1 := (hv_ownd hko (x := y) (by omega) (by omega) z).2.2
      have := hv_inj (by omega) (by omega) (h1.symm.trans er)
      omega
end
end
section
/-! memory: the cell of a word, the page table's entry, the translation, one access -/
theorem hv_uu {f : Nat → Int32} {k : Nat} {x y : Int32} : upd (upd f k x) k y = upd f k y := by
  funext j
  by_cases e : j = k
  · subst e; rw [pk_us, pk_us]
  · rw [pk_un e, pk_un e, pk_un e]
theorem hv_ea (m t va : Nat) (ht : t < 2 ^ 31) (hva : va < 2 ^ 31) : nI m * 256 + 16 * (nI t &&& 15) + (nI va >>> ((4 : Int32) &&& 31)) = nI (256 * m + (16 * (t % 16) + va / 16)) := by
  rw [hv_a15 (by omega), hv_i16z', hv_sh4 hva, hv_i256, nI_add, Nat.add_assoc]
def hv_mk (w kd : Nat) : Int32 := if kd = 5 then (nI w ||| 128) ||| 256 else nI w ||| 128
theorem hv_mkk {w : Nat} (hw : w < 65536) (kd : Nat) : hv_k 65536 (hv_mk w kd) := by
  have h1 : hv_k (2 ^ 16) (nI w ||| 128) := hv_kor (by decide) (hv_kn hw) ⟨128, by decide, rfl⟩
  unfold hv_mk
  split
  · exact hv_kor (k := 16) (by decide) h1 ⟨256, by decide, rfl⟩
  · exact h1
theorem hv_oa (x : Int32) {c : Int32} (hc : ∀ i, i < 32 → (c.toBitVec.getLsbD i && (15 : Int32).toBitVec.getLsbD i) = false) : (x ||| c) &&& 15 = x &&& 15 := by
  apply Int32.toBitVec_inj.1
  rw [Int32.toBitVec_and, Int32.toBitVec_or, Int32.toBitVec_and]
  apply BitVec.eq_of_getLsbD_eq
  intro i hi
  have := hc i hi
  rw [BitVec.getLsbD_and, BitVec.getLsbD_or, BitVec.getLsbD_and]
  revert this
  cases x.toBitVec.getLsbD i <;> cases c.toBitVec.getLsbD i <;> cases (15 : Int32).toBitVec.getLsbD i <;> decide
theorem hv_mka {w : Nat} (hw : w < 65536) (kd : Nat) : hv_mk w kd &&& 15 = nI (w % 16) := by
  unfold hv_mk
  split
  · rw [hv_oa _ (by decide), hv_oa _ (by decide), hv_a15 (by omega)]
  · rw [hv_oa _ (by decide), hv_a15 (by omega)]
section
variable {fr qn pr hd cu le ba ex : Int32} {md rg pc pt ve ep ca bv ti zs st pu pv pe fs be br sc rc ou qh ow ce im sd rs oo ct : Nat → Int32} {sp mm sh wn : Nat → Int32}
variable {F m : Nat} {d : Int32}
theorem hx_loc {a : Nat} (hm : m < 3) (ha : a < 256) (hF : F ≤ 16) (hr : hv_res F rs wn) (post : Int32 → Prop) (h : post (nI (hv_lc rs (256 * m + a)))) : wpX_locate post (fr, qn, pr, hd, cu, le, ba, ex, md, rg, pc, pt, ve, ep, ca, bv, ti, zs, st, pu, pv, pe, fs, be, br, sc, rc, ou, qh, ow, ce, im, sd, rs, oo, ct) (nI m) (nI a) := by
  by_cases q : m = 2
  · subst q
    refine br_t rfl ?_
    rw [hv_p768]
    have e : hv_lc rs (256 * 2 + a) = 768 + a := by rw [hv_lcn (fun z => by omega)]; omega
    rw [e] at h
    exact h
  · refine br_f (fun z => q (hv_inj (b := 2) (by omega) (by decide) z)) ?_
    rw [hv_sh4 (a := a) (by omega), hv_i16 m (a / 16), nI_clamp (n := 16 * m + a / 16) (by omega)]
    refine ⟨vp_in_nI (by omega) (by decide), ?_⟩
    have ei : (256 * m + a) / 16 = 16 * m + a / 16 := by omega
    rcases hr (16 * m + a / 16) (by omega) with e | ⟨x, hx, e, ew⟩
    · refine nm_r e (br_t (by decide) ?_)
      have el : hv_lc rs (256 * m + a) = 256 + 256 * m + a := by rw [hv_lcn (fun _ => by rw [ei]; exact e)]; omega
      rw [el] at h
      rw [hv_i256z, hv_p256, nI_add]
      exact h
    · refine nm_r e (br_f (nI_pos (by omega)) ?_)
      have el : hv_lc rs (256 * m + a) = 16 * x + a % 16 := by
        rw [hv_lcr (h := x) (by omega) (by omega) (by rw [ei]; exact e)]; omega
      rw [el] at h
      rw [hv_a15 (by omega), hv_i16]
      exact h
theorem hx_es {va t : Nat} (hm : m < 3) (hva : va < 256) (ht : t < 256) (et : pt m = nI t) (hF : F ≤ 16) (hr : hv_res F rs wn) (post : Int32 → Prop) (h : post (nI (hv_lc rs (256 * m + (16 * (t % 16) + va / 16))))) : wpX_entrySlot post (fr, qn, pr, hd, cu, le, ba, ex, md, rg, pc, pt, ve, ep, ca, bv, ti, zs, st, pu, pv, pe, fs, be, br, sc, rc, ou, qh, ow, ce, im, sd, rs, oo, ct) (nI m) (nI va) := by
  unfold wpX_entrySlot
  try dsimp only
  rw [hv_im hm, et]
  refine ⟨hv_iv hm, nm_r (e' := nI (16 * (t % 16) + va / 16)) ?_ ?_⟩
  · rw [hv_a15 (by omega), hv_sh4 (by omega), hv_i16]
  · exact hx_loc hm (by omega) hF hr _ h
/-! the translation -/
theorem hv_tr64 {va kd w : Nat} (hva : va < 256) (hkd : kd < 16) (hw : w < 65536) : ∃ r, (r = -2 ∨ r = nI (16 * (w % 16) + va % 16)) ∧
    (∀ post : Int32 → Prop, post r → wX_translate_64 post (nI va) (nI kd) (nI w) fr qn pr hd cu le ba ex md rg pc pt ve ep ca bv ti zs st pu pv pe fs be br sc rc ou qh ow ce im sd rs oo ct) ∧
    (∀ post : Int32 → Prop, post r → wY_probe_117 post (nI va) (nI kd) (nI w) fr qn pr hd cu le ba md rg sp mm sc rc ou qh ow im sh ct wn) := by
  have eX : ((nI w &&& 15) * 16) + (nI va &&& 15) = nI (16 * (w % 16) + va % 16) := by
    rw [hv_a15 (by omega), hv_a15 (by omega), hv_i16]
  have eY : (16 * (nI w &&& 15)) + (nI va &&& 15) = nI (16 * (w % 16) + va % 16) := by
    rw [hv_a15 (by omega), hv_a15 (by omega), hv_i16']
  have tX : ∀ post : Int32 → Prop, post (nI (16 * (w % 16) + va % 16)) → wX_translate_80 post (nI va) (nI w) fr qn pr hd cu le ba ex md rg pc pt ve ep ca bv ti zs st pu pv pe fs be br sc rc ou qh ow ce im sd rs oo ct := fun post hp => by
    unfold wX_translate_80; rw [eX]; exact hp
  have tY : ∀ post : Int32 → Prop, post (nI (16 * (w % 16) + va % 16)) → wY_probe_133 post (nI va) (nI w) fr qn pr hd cu le ba md rg sp mm sc rc ou qh ow im sh ct wn := fun post hp => by
    unfold wY_probe_133; rw [eY]; exact hp
  by_cases q : nI kd = 5
  · by_cases q2 : (nI w &&& 32) = 0
    · exact ⟨-2, Or.inl rfl, fun post hp => br_t q (br_t q2 hp), fun post hp => br_t q (br_t q2 hp)⟩
    · exact ⟨_, Or.inr rfl, fun post hp => br_t q (br_f q2 (tX post hp)), fun post hp => br_t q (br_f q2 (tY post hp))⟩
  · exact ⟨_, Or.inr rfl, fun post hp => br_f q (tX post hp), fun post hp => br_f q (tY post hp)⟩
theorem hy_pr {va kd : Nat} (hm : m < 3) (hva : va < 256) (hk3 : 3 ≤ kd) (hk5 : kd ≤ 5) (post : Int32 → Prop)
    (h : ((sp (16 * m + 0) &&& 16) = 0 → post (nI va)) ∧ (¬ (sp (16 * m + 0) &&& 16) = 0 → ∃ t w, t < 256 ∧ sp (16 * m + 0) = nI t ∧ mm (256 * m + (16 * (t % 16) + va / 16)) = nI w ∧
      (((nI w &&& 16) = 0 → post (-2)) ∧ (¬ (nI w &&& 16) = 0 → ((sp (16 * m + 7) &&& 1) = 0 → wY_probe_117 post (nI va) (nI kd) (nI w) fr qn pr hd cu le ba md rg sp mm sc rc ou qh ow im sh ct wn) ∧ (¬ (sp (16 * m + 7) &&& 1) = 0 → ((nI w &&& 64) = 0 → post (-2)) ∧ (¬ (nI w &&& 64) = 0 → wY_probe_117 post (nI va) (nI kd) (nI w) fr qn pr hd cu le ba md rg sp mm sc rc ou qh ow im sh ct wn)))))) : wpY_probe post (fr, qn, pr, hd, cu, le, ba, md, rg, sp, mm, sc, rc, ou, qh, ow, im, sh, ct, wn) (nI m) (nI va) (nI kd) := by
  unfold wpY_probe
  try dsimp only
  refine hy_in1 m 2 (by omega) (by decide) (br_f (by decide) (hy_in1 va 255 (by omega) (by decide) (br_f (by decide) (br_f (nI_nlt (b := 3) hk3 (by omega)) (br_t (nI_le (b := 5) hk5 (by decide)) ?_)))))
  rw [hv_icz hm]
  refine ⟨hv_iwz hm, nm_e (br_c h.1 fun q => ?_)⟩
  obtain ⟨t, w, ht, et, ew, h⟩ := h.2 q
  rw [et, hv_ea m t va (by omega) (by omega), nI_clamp (n := 256 * m + (16 * (t % 16) + va / 16)) (by omega), hv_ic7 hm]
  refine ⟨vp_in_nI (by omega) (by decide), nm_r ew (br_c h.1 fun q => ⟨hv_iw7 hm, h.2 q⟩)⟩
theorem hv_tr {va kd t : Nat} (hm : m < 3) (hva : va < 256) (hk3 : 3 ≤ kd) (hk5 : kd ≤ 5) (h : hv_M F md im ce sd rs oo mm sh wn) (hS : hv_S sp pt ve ep ca bv ti zs st pc pu pv pe fs be br) (ht : t < 256) (et : sp (16 * m + 0) = nI t) (hon : m < 2 → ¬ md m = 0) (hpg : ¬ (sp (16 * m + 0) &&& 16) = 0) :
    ∃ w r, w < 65536 ∧ mm (256 * m + (16 * (t % 16) + va / 16)) = nI w ∧ (r = -2 ∨ r = nI (16 * (w % 16) + va % 16)) ∧
    (∀ post : Int32 → Prop, post r → wpX_translate post (fr, qn, pr, hd, cu, le, ba, ex, md, rg, pc, pt, ve, ep, ca, bv, ti, zs, st, pu, pv, pe, fs, be, br, sc, rc, ou, qh, ow, ce, im, sd, rs, oo, ct) (nI m) (nI va) (nI kd)) ∧
    (∀ post : Int32 → Prop, post r → wpY_probe post (fr, qn, pr, hd, cu, le, ba, md, rg, sp, mm, sc, rc, ou, qh, ow, im, sh, ct, wn) (nI m) (nI va) (nI kd)) := by
  have ha : 256 * m + (16 * (t % 16) + va / 16) < 768 := by omega
  have hlt := hv_lclt h.1 (hv_Mr h) ha
  obtain ⟨w, hw, ew⟩ := hv_Mc h _ hlt
  have em : mm (256 * m + (16 * (t % 16) + va / 16)) = nI w := (hv_Mm h _ ha fun z => by
    rw [show (256 * m + (16 * (t % 16) + va / 16)) / 256 = m by omega]; exact hon (by omega)).trans ew
  have ept : pt m = nI t := (hv_S0 hS hm).trans et
  have hpgX : ¬ (pt m &&& 16) = 0 := by rw [ept, ← et]; exact hpg
  have est : st m = sp (16 * m + 7) := hv_S7 hS hm
  obtain ⟨r, hr, rX, rY⟩ := hv_tr64 (fr := fr) (qn := qn) (pr := pr) (hd := hd) (cu := cu) (le := le) (ba := ba) (ex := ex) (md := md) (rg := rg) (pc := pc) (pt := pt) (ve := ve) (ep := ep) (ca := ca) (bv := bv) (ti := ti) (zs := zs) (st := st) (pu := pu) (pv := pv) (pe := pe) (fs := fs) (be := be) (br := br) (sc := sc) (rc := rc) (ou := ou) (qh := qh) (ow := ow) (ce := ce) (im := im) (sd := sd) (rs := rs) (oo := oo) (ct := ct) (sp := sp) (mm := mm) (sh := sh) (wn := wn) hva (kd := kd) (by omega) hw
  have xX : ∀ (post : Int32 → Prop), (((nI w &&& 16) = 0 → post (-2)) ∧ (¬ (nI w &&& 16) = 0 → ((sp (16 * m + 7) &&& 1) = 0 → wX_translate_64 post (nI va) (nI kd) (nI w) fr qn pr hd cu le ba ex md rg pc pt ve ep ca bv ti zs st pu pv pe fs be br sc rc ou qh ow ce im sd rs oo ct) ∧ (¬ (sp (16 * m + 7) &&& 1) = 0 → ((nI w &&& 64) = 0 → post (-2)) ∧ (¬ (nI w &&& 64) = 0 → wX_translate_64 post (nI va) (nI kd) (nI w) fr qn pr hd cu le ba ex md rg pc pt ve ep ca bv ti zs st pu pv pe fs be br sc rc ou qh ow ce im sd rs oo ct)))) → wpX_translate post (fr, qn, pr, hd, cu, le, ba, ex, md, rg, pc, pt, ve, ep, ca, bv, ti, zs, st, pu, pv, pe, fs, be, br, sc, rc, ou, qh, ow, ce, im, sd, rs, oo, ct) (nI m) (nI va) (nI kd) := by
    intro post hp
    unfold wpX_translate
    try dsimp only
    rw [hv_im hm, est]
    refine ⟨hv_iv hm, br_f hpgX (hx_es hm hva ht ept h.1 (hv_Mr h) _ ?_)⟩
    try dsimp only
    rw [nI_clamp (by omega)]
    exact ⟨vp_in_nI hlt (by decide), nm_r ew (br_c hp.1 fun q => ⟨hv_iv hm, hp.2 q⟩)⟩
  by_cases q1 : (nI w &&& 16) = 0
  · refine ⟨w, -2, hw, em, Or.inl rfl, fun post hp => xX post (br_t q1 hp), fun post hp => hy_pr hm hva hk3 hk5 post (br_f hpg ⟨t, w, ht, et, em, br_t q1 hp⟩)⟩
  by_cases q2 : (sp (16 * m + 7) &&& 1) = 0
  · refine ⟨w, r, hw, em, hr, fun post hp => xX post (br_f q1 (br_t q2 (rX post hp))), fun post hp => hy_pr hm hva hk3 hk5 post (br_f hpg ⟨t, w, ht, et, em, br_f q1 (br_t q2 (rY post hp))⟩)⟩
  by_cases q3 : (nI w &&& 64) = 0
  · refine ⟨w, -2, hw, em, Or.inl rfl, fun post hp => xX post (br_f q1 (br_f q2 (br_t q3 hp))), fun post hp => hy_pr hm hva hk3 hk5 post (br_f hpg ⟨t, w, ht, et, em, br_f q1 (br_f q2 (br_t q3 hp))⟩)⟩
  · refine ⟨w, r, hw, em, hr, fun post hp => xX post (br_f q1 (br_f q2 (br_f q3 (rX post hp)))), fun post hp => hy_pr hm hva hk3 hk5 post (br_f hpg ⟨t, w, ht, et, em, br_f q1 (br_f q2 (br_f q3 (rY post hp)))⟩)⟩
/-! paging off -/
theorem hx_tr0 {va kd : Nat} (hm : m < 3) (e : (pt m &&& 16) = 0) (post : Int32 → Prop) (h : post (nI va)) : wpX_translate post (fr, qn, pr, hd, cu, le, ba, ex, md, rg, pc, pt, ve, ep, ca, bv, ti, zs, st, pu, pv, pe, fs, be, br, sc, rc, ou, qh, ow, ce, im, sd, rs, oo, ct) (nI m) (nI va) (nI kd) := by
  unfold wpX_translate
  try dsimp only
  rw [hv_im hm]
  exact ⟨hv_iv hm, br_t e h⟩
theorem hx_mk0 {va kd : Nat} (hm : m < 3) (e : (pt m &&& 16) = 0) (post : Int32 → SX → Prop) (h : post 0 (fr, qn, pr, hd, cu, le, ba, ex, md, rg, pc, pt, ve, ep, ca, bv, ti, zs, st, pu, pv, pe, fs, be, br, sc, rc, ou, qh, ow, ce, im, sd, rs, oo, ct)) : wpX_markEntry post (fr, qn, pr, hd, cu, le, ba, ex, md, rg, pc, pt, ve, ep, ca, bv, ti, zs, st, pu, pv, pe, fs, be, br, sc, rc, ou, qh, ow, ce, im, sd, rs, oo, ct) (nI m) (nI va) (nI kd) := by
  unfold wpX_markEntry
  try dsimp only
  rw [hv_im hm]
  exact ⟨hv_iv hm, br_t e h⟩
theorem hx_mk {va kd t w : Nat} (hm : m < 3) (hva : va < 256) (hkd : kd < 16) (h : hv_M F md im ce sd rs oo mm sh wn) (ht : t < 256) (et : pt m = nI t) (hpg : ¬ (pt m &&& 16) = 0) (ew : ce (hv_lc rs (256 * m + (16 * (t % 16) + va / 16))) = nI w)
    (post : Int32 → SX → Prop) (hp : post (hv_mk w kd) (fr, qn, pr, hd, cu, le, ba, ex, md, rg, pc, pt, ve, ep, ca, bv, ti, zs, st, pu, pv, pe, fs, be, br, sc, rc, ou, qh, ow, (upd ce (hv_lc rs (256 * m + (16 * (t % 16) + va / 16))) (hv_mk w kd)), im, sd, rs, oo, ct)) : wpX_markEntry post (fr, qn, pr, hd, cu, le, ba, ex, md, rg, pc, pt, ve, ep, ca, bv, ti, zs, st, pu, pv, pe, fs, be, br, sc, rc, ou, qh, ow, ce, im, sd, rs, oo, ct) (nI m) (nI va) (nI kd) := by
  have ha : 256 * m + (16 * (t % 16) + va / 16) < 768 := by omega
  have hlt := hv_lclt h.1 (hv_Mr h) ha
  unfold wpX_markEntry
  try dsimp only
  rw [hv_im hm]
  refine ⟨hv_iv hm, br_f hpg (hx_es hm hva ht et h.1 (hv_Mr h) _ ?_)⟩
  try dsimp only
  rw [nI_clamp (by omega), ew]
  have hi : vp_in (nI (hv_lc rs (256 * m + (16 * (t % 16) + va / 16)))) 1024 := vp_in_nI hlt (by decide)
  unfold hv_mk at hp
  by_cases q : kd = 5
  · rw [if_pos q] at hp
    exact ⟨hi, nm_e (br_t (by rw [q]; rfl) (nm_e ⟨hi, nm_e hp⟩))⟩
  · rw [if_neg q] at hp
    exact ⟨hi, nm_e (br_f (fun z => q (hv_inj (b := 5) (by omega) (by decide) z)) ⟨hi, nm_e hp⟩)⟩
/-! Y's translate, by its probe -/
theorem hy_trn {va kd : Nat} {r : Int32} (hm : m < 3) (hr : r < 0) (hY : ∀ post : Int32 → Prop, post r → wpY_probe post (fr, qn, pr, hd, cu, le, ba, md, rg, sp, mm, sc, rc, ou, qh, ow, im, sh, ct, wn) (nI m) (nI va) (nI kd)) (post : Int32 → SY → Prop) (hp : post r (fr, qn, pr, hd, cu, le, ba, md, rg, sp, mm, sc, rc, ou, qh, ow, im, sh, ct, wn)) : wpY_translate post (fr, qn, pr, hd, cu, le, ba, md, rg, sp, mm, sc, rc, ou, qh, ow, im, sh, ct, wn) (nI m) (nI va) (nI kd) := by
  unfold wpY_translate
  try dsimp only
  refine hY _ ?_
  try dsimp only
  rw [hv_icz hm]
  exact ⟨hv_iwz hm, nm_e (br_t hr hp)⟩
theorem hy_tr0 {va kd : Nat} {r : Int32} (hm : m < 3) (hr : ¬ r < 0) (e : (sp (16 * m + 0) &&& 16) = 0) (hY : ∀ post : Int32 → Prop, post r → wpY_probe post (fr, qn, pr, hd, cu, le, ba, md, rg, sp, mm, sc, rc, ou, qh, ow, im, sh, ct, wn) (nI m) (nI va) (nI kd)) (post : Int32 → SY → Prop) (hp : post r (fr, qn, pr, hd, cu, le, ba, md, rg, sp, mm, sc, rc, ou, qh, ow, im, sh, ct, wn)) : wpY_translate post (fr, qn, pr, hd, cu, le, ba, md, rg, sp, mm, sc, rc, ou, qh, ow, im, sh, ct, wn) (nI m) (nI va) (nI kd) := by
  unfold wpY_translate
  try dsimp only
  refine hY _ ?_
  try dsimp only
  rw [hv_icz hm]
  exact ⟨hv_iwz hm, nm_e (br_f hr (br_t e hp))⟩
theorem hy_tr1 {va kd t w : Nat} {r : Int32} (hm : m < 3) (hva : va < 256) (hkd : kd < 16) (ht : t < 256) (et : sp (16 * m + 0) = nI t) (hr : ¬ r < 0) (hpg : ¬ (sp (16 * m + 0) &&& 16) = 0) (ew : mm (256 * m + (16 * (t % 16) + va / 16)) = nI w)
    (hY : ∀ post : Int32 → Prop, post r → wpY_probe post (fr, qn, pr, hd, cu, le, ba, md, rg, sp, mm, sc, rc, ou, qh, ow, im, sh, ct, wn) (nI m) (nI va) (nI kd)) (post : Int32 → SY → Prop) (hp : post r (fr, qn, pr, hd, cu, le, ba, md, rg, sp, (upd mm (256 * m + (16 * (t % 16) + va / 16)) (hv_mk w kd)), sc, rc, ou, qh, ow, im, sh, ct, wn)) : wpY_translate post (fr, qn, pr, hd, cu, le, ba, md, rg, sp, mm, sc, rc, ou, qh, ow, im, sh, ct, wn) (nI m) (nI va) (nI kd) := by
  unfold wpY_translate
  try dsimp only
  refine hY _ ?_
  try dsimp only
  rw [hv_icz hm]
  refine ⟨hv_iwz hm, nm_e (br_f hr (br_f hpg (nm_r (e' := nI (256 * m + (16 * (t % 16) + va / 16))) (by rw [et]; exact hv_ea m t va (by omega) (by omega)) ?_)))⟩
  rw [nI_clamp (n := 256 * m + (16 * (t % 16) + va / 16)) (by omega), ew]
  have hi : vp_in (nI (256 * m + (16 * (t % 16) + va / 16))) 768 := vp_in_nI (by omega) (by decide)
  unfold hv_mk at hp
  by_cases q : kd = 5
  · rw [if_pos q] at hp
    refine ⟨hi, hi, nm_e (br_t (by rw [q]; rfl) ⟨hi, hi, nm_r ?_ hp⟩)⟩
    rw [pk_us, hv_uu]
  · rw [if_neg q] at hp
    exact ⟨hi, hi, nm_e (br_f (fun z => q (hv_inj (b := 5) (by omega) (by decide) z)) hp)⟩
end
end
section
/-! one access, both sides -/
def hv_hit (s stt : Int32) (kd : Nat) : Prop := ((stt &&& 1) = 0 ∨ ¬ (s &&& 32) = 0) ∧ (kd = 5 → ¬ (s &&& 16) = 0)
theorem hv_n5 {kd : Nat} (h : kd < 16) (q : ¬ kd = 5) : ¬ nI kd = 5 := fun z => q (hv_inj (b := 5) (by omega) (by decide) z)
theorem hv_y5 {kd : Nat} (q : kd = 5) : nI kd = 5 := by rw [q]; rfl
/-- the outcome of an access by machine m: a fault, or a word's place; d is what exits less the counters' sum is -/
def hv_A (F m : Nat) (d : Int32) (fr qn pr cu le ba : Int32) (md rg pc pt ve ep ca bv ti zs st pu pv pe fs be br sc rc ou qh ow im sp : Nat → Int32) (WX : (Int32 → SX → Prop) → Prop) (WY : (Int32 → SY → Prop) → Prop) : Prop :=
  ∃ (hd ex : Int32) (ce sd rs oo ct mm sh wn : Nat → Int32), hv_M F md im ce sd rs oo mm sh wn ∧ hv_k F hd ∧ (m < 2 → ex - hv_E ct m = d) ∧
    (((∀ post, post (-1) (fr, qn, pr, hd, cu, le, ba, ex, md, rg, pc, pt, ve, ep, ca, bv, ti, zs, st, pu, pv, pe, fs, be, br, sc, rc, ou, qh, ow, ce, im, sd, rs, oo, ct) → WX post) ∧ (∀ post, post (-2) (fr, qn, pr, hd, cu, le, ba, md, rg, sp, mm, sc, rc, ou, qh, ow, im, sh, ct, wn) → WY post)) ∨
     (∃ a, a < 256 ∧ (∀ post, post (nI (hv_lc rs (256 * m + a))) (fr, qn, pr, hd, cu, le, ba, ex, md, rg, pc, pt, ve, ep, ca, bv, ti, zs, st, pu, pv, pe, fs, be, br, sc, rc, ou, qh, ow, ce, im, sd, rs, oo, ct) → WX post) ∧ (∀ post, post (nI a) (fr, qn, pr, hd, cu, le, ba, md, rg, sp, mm, sc, rc, ou, qh, ow, im, sh, ct, wn) → WY post)))
section
variable {fr qn pr hd cu le ba ex : Int32} {md rg pc pt ve ep ca bv ti zs st pu pv pe fs be br sc rc ou qh ow ce im sd rs oo ct : Nat → Int32} {sp mm sh wn : Nat → Int32}
variable {F m : Nat} {d : Int32} {hd' ex' : Int32} {ce' sd' rs' oo' ct' mm' sh' wn' : Nat → Int32}
theorem hx_hit1 {s : Int32} {kd : Nat} (hm : m < 3) (hs : 0 ≤ s) (hkd : kd < 16) (h : hv_hit s (st m) kd) (post : Int32 → Prop) (hp : post 1) : wpX_isHit post (fr, qn, pr, hd, cu, le, ba, ex, md, rg, pc, pt, ve, ep, ca, bv, ti, zs, st, pu, pv, pe, fs, be, br, sc, rc, ou, qh, ow, ce, im, sd, rs, oo, ct) (nI m) s (nI kd) := by
  unfold wpX_isHit
  try dsimp only
  rw [hv_im hm]
  have h26 : wX_isHit_26 post s (nI kd) fr qn pr hd cu le ba ex md rg pc pt ve ep ca bv ti zs st pu pv pe fs be br sc rc ou qh ow ce im sd rs oo ct := by
    by_cases q : kd = 5
    · exact br_t (hv_y5 q) (br_f (h.2 q) hp)
    · exact br_f (hv_n5 hkd q) hp
  refine br_t hs ⟨hv_iv hm, ?_⟩
  by_cases q : (st m &&& 1) = 0
  · exact br_t q h26
  · exact br_f q (br_f (h.1.resolve_left q) h26)
theorem hx_hit0 {s : Int32} {kd : Nat} (hm : m < 3) (hkd : kd < 16) (h : ¬ 0 ≤ s ∨ ¬ hv_hit s (st m) kd) (post : Int32 → Prop) (hp : post 0) : wpX_isHit post (fr, qn, pr, hd, cu, le, ba, ex, md, rg, pc, pt, ve, ep, ca, bv, ti, zs, st, pu, pv, pe, fs, be, br, sc, rc, ou, qh, ow, ce, im, sd, rs, oo, ct) (nI m) s (nI kd) := by
  unfold wpX_isHit
  try dsimp only
  rw [hv_im hm]
  rcases h with h | h
  · exact br_f h hp
  have h26 : (¬ (kd = 5 → ¬ (s &&& 16) = 0)) → wX_isHit_26 post s (nI kd) fr qn pr hd cu le ba ex md rg pc pt ve ep ca bv ti zs st pu pv pe fs be br sc rc ou qh ow ce im sd rs oo ct := fun z => by
    by_cases q : kd = 5
    · by_cases q2 : (s &&& 16) = 0
      · exact br_t (hv_y5 q) (br_t q2 hp)
      · exact absurd (fun _ => q2) z
    · exact absurd (fun z => absurd z q) z
  refine br_c (fun _ => ⟨hv_iv hm, ?_⟩) (fun _ => hp)
  by_cases q : (st m &&& 1) = 0
  · exact br_t q (h26 fun z => h ⟨Or.inl q, z⟩)
  · by_cases q2 : (s &&& 32) = 0
    · exact br_f q (br_t q2 hp)
    · exact br_f q (br_f q2 (h26 fun z => h ⟨Or.inr q2, z⟩))
theorem hv_g2 (hm : m < 2) : ¬ nI m = 2 := fun z => by have := hv_inj (b := 2) (by omega) (by decide) z; omega
theorem hy_acc1 {s : Int32} {va kd : Nat} (hm : m < 2) (hva : va < 256) (hkd : kd < 16) (es : sh (16 * m + va / 16) = s) (hs : ¬ s = -2) (h : hv_hit s (sp (16 * m + 7)) kd) (post : Int32 → SY → Prop)
    (hp : wY_access_95 post (nI m) (nI (va % 16)) s fr qn pr hd cu le ba md rg sp mm sc rc ou qh ow im sh ct wn) : wpY_access post (fr, qn, pr, hd, cu, le, ba, md, rg, sp, mm, sc, rc, ou, qh, ow, im, sh, ct, wn) (nI m) (nI va) (nI kd) := by
  unfold wpY_access
  try dsimp only
  refine br_f (hv_g2 hm) (nm_r (hv_sh4 (by omega)) (nm_r (hv_a15 (by omega)) ?_))
  rw [hv_i16 m (va / 16), nI_clamp (n := 16 * m + va / 16) (by omega), hv_ic7 (m := m) (by omega)]
  refine ⟨vp_in_nI (by omega) (by decide), nm_r es ⟨hv_iw7 (by omega), ?_⟩⟩
  have h82 : wY_access_82 post (nI m) (nI va) (nI kd) (nI (va / 16)) (nI (va % 16)) s fr qn pr hd cu le ba md rg sp mm sc rc ou qh ow im sh ct wn := by
    by_cases q : kd = 5
    · exact br_t (hv_y5 q) (br_f (h.2 q) hp)
    · exact br_f (hv_n5 hkd q) hp
  by_cases q : (sp (16 * m + 7) &&& 1) = 0
  · exact br_t q (br_f hs (br_t rfl h82))
  · exact br_f q (br_f hs (br_f (by decide) (br_f (h.1.resolve_left q) h82)))
theorem hy_acc0 {s : Int32} {va kd : Nat} (hm : m < 2) (hva : va < 256) (hkd : kd < 16) (es : sh (16 * m + va / 16) = s) (h : s = -2 ∨ ¬ hv_hit s (sp (16 * m + 7)) kd) (post : Int32 → SY → Prop)
    (hp : wY_access_121 post (nI m) (nI va) (nI kd) (nI (va / 16)) (nI (va % 16)) fr qn pr hd cu le ba md rg sp mm sc rc ou qh ow im sh ct wn) : wpY_access post (fr, qn, pr, hd, cu, le, ba, md, rg, sp, mm, sc, rc, ou, qh, ow, im, sh, ct, wn) (nI m) (nI va) (nI kd) := by
  unfold wpY_access
  try dsimp only
  refine br_f (hv_g2 hm) (nm_r (hv_sh4 (by omega)) (nm_r (hv_a15 (by omega)) ?_))
  rw [hv_i16 m (va / 16), nI_clamp (n := 16 * m + va / 16) (by omega), hv_ic7 (m := m) (by omega)]
  refine ⟨vp_in_nI (by omega) (by decide), nm_r es ⟨hv_iw7 (by omega), ?_⟩⟩
  rcases h with h | h
  · by_cases q : (sp (16 * m + 7) &&& 1) = 0
    · exact br_t q (br_t h hp)
    · exact br_f q (br_t h hp)
  have h82 : (¬ (kd = 5 → ¬ (s &&& 16) = 0)) → wY_access_82 post (nI m) (nI va) (nI kd) (nI (va / 16)) (nI (va % 16)) s fr qn pr hd cu le ba md rg sp mm sc rc ou qh ow im sh ct wn := fun z => by
    by_cases q : kd = 5
    · by_cases q2 : (s &&& 16) = 0
      · exact br_t (hv_y5 q) (br_t q2 hp)
      · exact absurd (fun _ => q2) z
    · exact absurd (fun z => absurd z q) z
  by_cases q : (sp (16 * m + 7) &&& 1) = 0
  · exact br_t q (br_c (fun _ => hp) (fun _ => br_t rfl (h82 fun z => h ⟨Or.inl q, z⟩)))
  · by_cases q2 : (s &&& 32) = 0
    · exact br_f q (br_c (fun _ => hp) (fun _ => br_f (by decide) (br_t q2 hp)))
    · exact br_f q (br_c (fun _ => hp) (fun _ => br_f (by decide) (br_f q2 (h82 fun z => h ⟨Or.inr q2, z⟩))))
/-! X's fill -/
theorem hx_fill {va f x R : Nat} (hm : m < 2) (hva : va < 256) (hx : x < 16) (hR : R < 64)
    (hX : ∀ post : Int32 → SX → Prop, post (nI x) (fr, qn, pr, hd', cu, le, ba, ex, md, rg, pc, pt, ve, ep, ca, bv, ti, zs, st, pu, pv, pe, fs, be, br, sc, rc, ou, qh, ow, ce', im, sd', rs', oo', ct') → wpX_bringIn post (fr, qn, pr, hd, cu, le, ba, ex, md, rg, pc, pt, ve, ep, ca, bv, ti, zs, st, pu, pv, pe, fs, be, br, sc, rc, ou, qh, ow, ce, im, sd, rs, oo, ct) (nI m) (nI f)) (post : Int32 → SX → Prop)
    (hp : post (nI (16 * x + va % 16)) (fr, qn, pr, hd', cu, le, ba, (hv_ex ex m), md, rg, pc, pt, ve, ep, ca, bv, ti, zs, st, pu, pv, pe, fs, be, br, sc, rc, ou, qh, ow, ce', im, (upd sd' (16 * m + va / 16) (nI (x + R))), rs', oo', (hv_bx ct' m 1))) : wpX_fill post (fr, qn, pr, hd, cu, le, ba, ex, md, rg, pc, pt, ve, ep, ca, bv, ti, zs, st, pu, pv, pe, fs, be, br, sc, rc, ou, qh, ow, ce, im, sd, rs, oo, ct) (nI m) (nI va) (nI f) (nI R) := by
  unfold wpX_fill
  try dsimp only
  refine hX _ ?_
  try dsimp only
  rw [hv_sh4 (a := va) (by omega), hv_i16 m (va / 16), nI_clamp (n := 16 * m + va / 16) (by omega), nI_add x R, hv_a15 (a := va) (by omega), hv_i16 x (va % 16)]
  refine ⟨vp_in_nI (by omega) (by decide), nm_e ?_⟩
  exact hx_bumpE (k := 1) (by omega) (by decide) _ hp
/-! X's way through a miss -/
theorem hx_gaOff {va kd : Nat} {r : Int32} (hm : m < 2) (hva : va < 256) (hz : ∀ post' : Int32 → Prop, post' 0 → wpX_isHit post' (fr, qn, pr, hd, cu, le, ba, ex, md, rg, pc, pt, ve, ep, ca, bv, ti, zs, st, pu, pv, pe, fs, be, br, sc, rc, ou, qh, ow, ce, im, sd, rs, oo, ct) (nI m) (sd (16 * m + va / 16)) (nI kd)) (e : (pt m &&& 16) = 0)
    (hf : ∀ post' : Int32 → SX → Prop, post' r (fr, qn, pr, hd', cu, le, ba, ex', md, rg, pc, pt, ve, ep, ca, bv, ti, zs, st, pu, pv, pe, fs, be, br, sc, rc, ou, qh, ow, ce', im, sd', rs', oo', ct') → wpX_fill post' (fr, qn, pr, hd, cu, le, ba, ex, md, rg, pc, pt, ve, ep, ca, bv, ti, zs, st, pu, pv, pe, fs, be, br, sc, rc, ou, qh, ow, ce, im, sd, rs, oo, ct) (nI m) (nI va) (nI (va / 16)) (nI 48)) (post : Int32 → SX → Prop)
    (hp : post r (fr, qn, pr, hd', cu, le, ba, ex', md, rg, pc, pt, ve, ep, ca, bv, ti, zs, st, pu, pv, pe, fs, be, br, sc, rc, ou, qh, ow, ce', im, sd', rs', oo', ct')) : wpX_guestAccess post (fr, qn, pr, hd, cu, le, ba, ex, md, rg, pc, pt, ve, ep, ca, bv, ti, zs, st, pu, pv, pe, fs, be, br, sc, rc, ou, qh, ow, ce, im, sd, rs, oo, ct) (nI m) (nI va) (nI kd) := by
  unfold wpX_guestAccess
  try dsimp only
  refine nm_r (hv_sh4 (by omega)) (nm_r (hv_a15 (by omega)) ?_)
  rw [hv_i16 m (va / 16), nI_clamp (n := 16 * m + va / 16) (by omega), hv_im (m := m) (by omega)]
  refine ⟨vp_in_nI (by omega) (by decide), nm_e (hz _ (br_t rfl ⟨hv_iv (by omega), br_t e ?_⟩))⟩
  exact hf _ hp
theorem hx_gaFault {va kd : Nat} (hm : m < 2) (hva : va < 256) (hz : ∀ post' : Int32 → Prop, post' 0 → wpX_isHit post' (fr, qn, pr, hd, cu, le, ba, ex, md, rg, pc, pt, ve, ep, ca, bv, ti, zs, st, pu, pv, pe, fs, be, br, sc, rc, ou, qh, ow, ce, im, sd, rs, oo, ct) (nI m) (sd (16 * m + va / 16)) (nI kd)) (e : ¬ (pt m &&& 16) = 0)
    (hT : ∀ post' : Int32 → Prop, post' (-2) → wpX_translate post' (fr, qn, pr, hd, cu, le, ba, ex, md, rg, pc, pt, ve, ep, ca, bv, ti, zs, st, pu, pv, pe, fs, be, br, sc, rc, ou, qh, ow, ce, im, sd, rs, oo, ct) (nI m) (nI va) (nI kd)) (post : Int32 → SX → Prop)
    (hp : post (-1) (fr, qn, pr, hd, cu, le, ba, ex, md, rg, pc, pt, ve, ep, ca, bv, ti, zs, st, pu, pv, pe, fs, be, br, sc, rc, ou, qh, ow, ce, im, sd, rs, oo, ct)) : wpX_guestAccess post (fr, qn, pr, hd, cu, le, ba, ex, md, rg, pc, pt, ve, ep, ca, bv, ti, zs, st, pu, pv, pe, fs, be, br, sc, rc, ou, qh, ow, ce, im, sd, rs, oo, ct) (nI m) (nI va) (nI kd) := by
  unfold wpX_guestAccess
  try dsimp only
  refine nm_r (hv_sh4 (by omega)) (nm_r (hv_a15 (by omega)) ?_)
  rw [hv_i16 m (va / 16), nI_clamp (n := 16 * m + va / 16) (by omega), hv_im (m := m) (by omega)]
  refine ⟨vp_in_nI (by omega) (by decide), nm_e (hz _ (br_t rfl ⟨hv_iv (by omega), br_f e ?_⟩))⟩
  exact hT _ (br_f (by decide) hp)
theorem hx_gaFill {va kd pa f t : Nat} {e' : Int32} (hm : m < 2) (hva : va < 256) (hkd : kd < 16) (hpa : pa < 256) (hz : ∀ post' : Int32 → Prop, post' 0 → wpX_isHit post' (fr, qn, pr, hd, cu, le, ba, ex, md, rg, pc, pt, ve, ep, ca, bv, ti, zs, st, pu, pv, pe, fs, be, br, sc, rc, ou, qh, ow, ce, im, sd, rs, oo, ct) (nI m) (sd (16 * m + va / 16)) (nI kd)) (e : ¬ (pt m &&& 16) = 0)
    (hT : ∀ post' : Int32 → Prop, post' (nI pa) → wpX_translate post' (fr, qn, pr, hd, cu, le, ba, ex, md, rg, pc, pt, ve, ep, ca, bv, ti, zs, st, pu, pv, pe, fs, be, br, sc, rc, ou, qh, ow, ce, im, sd, rs, oo, ct) (nI m) (nI va) (nI kd))
    (hMk : ∀ post' : Int32 → SX → Prop, post' e' (fr, qn, pr, hd, cu, le, ba, ex, md, rg, pc, pt, ve, ep, ca, bv, ti, zs, st, pu, pv, pe, fs, be, br, sc, rc, ou, qh, ow, ce', im, sd, rs, oo, ct) → wpX_markEntry post' (fr, qn, pr, hd, cu, le, ba, ex, md, rg, pc, pt, ve, ep, ca, bv, ti, zs, st, pu, pv, pe, fs, be, br, sc, rc, ou, qh, ow, ce, im, sd, rs, oo, ct) (nI m) (nI va) (nI kd)) (ef : e' &&& 15 = nI f) (et : pt m &&& 15 = nI t) (hn : ¬ (kd = 5 ∧ f = t)) (hf : f < 16) (ht : t < 16) (post : Int32 → SX → Prop)
    (hp : wX_guestAccess_154 post (nI m) (nI va) e' (nI f) (nI t) fr qn pr hd cu le ba ex md rg pc pt ve ep ca bv ti zs st pu pv pe fs be br sc rc ou qh ow ce' im sd rs oo ct) : wpX_guestAccess post (fr, qn, pr, hd, cu, le, ba, ex, md, rg, pc, pt, ve, ep, ca, bv, ti, zs, st, pu, pv, pe, fs, be, br, sc, rc, ou, qh, ow, ce, im, sd, rs, oo, ct) (nI m) (nI va) (nI kd) := by
  unfold wpX_guestAccess
  try dsimp only
  refine nm_r (hv_sh4 (by omega)) (nm_r (hv_a15 (by omega)) ?_)
  rw [hv_i16 m (va / 16), nI_clamp (n := 16 * m + va / 16) (by omega), hv_im (m := m) (by omega)]
  refine ⟨vp_in_nI (by omega) (by decide), nm_e (hz _ (br_t rfl ⟨hv_iv (by omega), br_f e ?_⟩))⟩
  refine hT _ (br_t (nI_pos' (by omega)) ?_)
  refine hMk _ (nm_r ef ⟨hv_iv (by omega), nm_r et ?_⟩)
  by_cases q : kd = 5
  · exact br_t (hv_y5 q) (br_f (fun z => hn ⟨q, hv_inj (by omega) (by omega) z⟩) hp)
  · exact br_f (hv_n5 hkd q) hp
theorem hx_gaTab {va pa f : Nat} {e' q0 : Int32} (hm : m < 2) (hva : va < 256) (hpa : pa < 256) (hF : F ≤ 16) (hr : hv_res F rs wn) (hz : ∀ post' : Int32 → Prop, post' 0 → wpX_isHit post' (fr, qn, pr, hd, cu, le, ba, ex, md, rg, pc, pt, ve, ep, ca, bv, ti, zs, st, pu, pv, pe, fs, be, br, sc, rc, ou, qh, ow, ce, im, sd, rs, oo, ct) (nI m) (sd (16 * m + va / 16)) (nI 5)) (e : ¬ (pt m &&& 16) = 0)
    (hT : ∀ post' : Int32 → Prop, post' (nI pa) → wpX_translate post' (fr, qn, pr, hd, cu, le, ba, ex, md, rg, pc, pt, ve, ep, ca, bv, ti, zs, st, pu, pv, pe, fs, be, br, sc, rc, ou, qh, ow, ce, im, sd, rs, oo, ct) (nI m) (nI va) (nI 5))
    (hMk : ∀ post' : Int32 → SX → Prop, post' e' (fr, qn, pr, hd, cu, le, ba, ex, md, rg, pc, pt, ve, ep, ca, bv, ti, zs, st, pu, pv, pe, fs, be, br, sc, rc, ou, qh, ow, ce', im, sd, rs, oo, ct) → wpX_markEntry post' (fr, qn, pr, hd, cu, le, ba, ex, md, rg, pc, pt, ve, ep, ca, bv, ti, zs, st, pu, pv, pe, fs, be, br, sc, rc, ou, qh, ow, ce, im, sd, rs, oo, ct) (nI m) (nI va) (nI 5)) (ef : e' &&& 15 = nI f) (et : pt m &&& 15 = nI f)
    (hdr : ∀ post' : Int32 → SX → Prop, post' q0 (fr, qn, pr, hd, cu, le, ba, ex, md, rg, pc, pt, ve, ep, ca, bv, ti, zs, st, pu, pv, pe, fs, be, br, sc, rc, ou, qh, ow, ce', im, sd', rs, oo, ct') → wpX_dropEntry post' (fr, qn, pr, hd, cu, le, ba, ex, md, rg, pc, pt, ve, ep, ca, bv, ti, zs, st, pu, pv, pe, fs, be, br, sc, rc, ou, qh, ow, ce', im, sd, rs, oo, ct) (nI m) (nI (va % 16))) (post : Int32 → SX → Prop)
    (hp : post (nI (hv_lc rs (256 * m + pa))) (fr, qn, pr, hd, cu, le, ba, (hv_ex ex m), md, rg, pc, pt, ve, ep, ca, bv, ti, zs, st, pu, pv, pe, fs, be, br, sc, rc, ou, qh, ow, ce', im, sd', rs, oo, (hv_bx ct' m 2))) : wpX_guestAccess post (fr, qn, pr, hd, cu, le, ba, ex, md, rg, pc, pt, ve, ep, ca, bv, ti, zs, st, pu, pv, pe, fs, be, br, sc, rc, ou, qh, ow, ce, im, sd, rs, oo, ct) (nI m) (nI va) (nI 5) := by
  unfold wpX_guestAccess
  try dsimp only
  refine nm_r (hv_sh4 (by omega)) (nm_r (hv_a15 (by omega)) ?_)
  rw [hv_i16 m (va / 16), nI_clamp (n := 16 * m + va / 16) (by omega), hv_im (m := m) (by omega)]
  refine ⟨vp_in_nI (by omega) (by decide), nm_e (hz _ (br_t rfl ⟨hv_iv (by omega), br_f e ?_⟩))⟩
  refine hT _ (br_t (nI_pos' (by omega)) ?_)
  refine hMk _ (nm_r ef ⟨hv_iv (by omega), nm_r et (br_t rfl (br_t rfl ?_))⟩)
  refine hdr _ ?_
  refine hx_bumpE (k := 2) (by omega) (by decide) _ ?_
  exact hx_loc (by omega) hpa hF hr _ hp
/-! the rights of a filled entry -/
theorem hv_rights (e' : Int32) {va f t : Nat} (hf : f < 16) (ht : t < 16) : ∃ U W, (U = 0 ∨ U = 32) ∧ (W = 0 ∨ W = 16) ∧
    (∀ (post : Int32 → SX → Prop), wX_guestAccess_200 post (nI m) (nI va) (nI f) (nI (U + W)) fr qn pr hd cu le ba ex md rg pc pt ve ep ca bv ti zs st pu pv pe fs be br sc rc ou qh ow ce im sd rs oo ct → wX_guestAccess_154 post (nI m) (nI va) e' (nI f) (nI t) fr qn pr hd cu le ba ex md rg pc pt ve ep ca bv ti zs st pu pv pe fs be br sc rc ou qh ow ce im sd rs oo ct) ∧
    (∀ (hd : Int32) (mm sh ct wn : Nat → Int32) (post : Int32 → SY → Prop) (x4 x9 x13 : Int32), wY_access_313 post (nI m) x4 x9 x13 (nI W) (nI U) fr qn pr hd cu le ba md rg sp mm sc rc ou qh ow im sh ct wn →
      (((e' &&& 32) = 0 → wY_access_296 post (nI m) x4 x9 e' x13 fr qn pr hd cu le ba md rg sp mm sc rc ou qh ow im sh ct wn) ∧ (¬ (e' &&& 32) = 0 → (((e' &&& 256) = 0 → wY_access_296 post (nI m) x4 x9 e' x13 fr qn pr hd cu le ba md rg sp mm sc rc ou qh ow im sh ct wn) ∧ (¬ (e' &&& 256) = 0 → ((nI f = nI t → wY_access_296 post (nI m) x4 x9 e' x13 fr qn pr hd cu le ba md rg sp mm sc rc ou qh ow im sh ct wn) ∧ (¬ nI f = nI t → wY_access_297 post (nI m) x4 x9 e' x13 16 fr qn pr hd cu le ba md rg sp mm sc rc ou qh ow im sh ct wn))))))) := by
  have e16 : nI 0 + 16 = nI 16 := rfl
  have e48 : nI 32 + 16 = nI 48 := rfl
  by_cases u : (e' &&& 64) = 0
  · by_cases a : (e' &&& 32) = 0
    · exact ⟨0, 0, Or.inl rfl, Or.inl rfl, fun post h => br_t u (br_t a h), fun hd mm sh ct wn post x4 x9 x13 h => br_t a (br_t u h)⟩
    by_cases b : (e' &&& 256) = 0
    · exact ⟨0, 0, Or.inl rfl, Or.inl rfl, fun post h => br_t u (br_f a (br_t b h)), fun hd mm sh ct wn post x4 x9 x13 h => br_f a (br_t b (br_t u h))⟩
    by_cases c : nI f = nI t
    · exact ⟨0, 0, Or.inl rfl, Or.inl rfl, fun post h => br_t u (br_f a (br_f b (br_t c h))), fun hd mm sh ct wn post x4 x9 x13 h => br_f a (br_f b (br_t c (br_t u h)))⟩
    · exact ⟨0, 16, Or.inl rfl, Or.inr rfl, fun post h => br_t u (br_f a (br_f b (br_f c (nm_r e16 h)))), fun hd mm sh ct wn post x4 x9 x13 h => br_f a (br_f b (br_f c (br_t u h)))⟩
  · by_cases a : (e' &&& 32) = 0
    · exact ⟨32, 0, Or.inr rfl, Or.inl rfl, fun post h => br_f u (br_t a h), fun hd mm sh ct wn post x4 x9 x13 h => br_t a (br_f u h)⟩
    by_cases b : (e' &&& 256) = 0
    · exact ⟨32, 0, Or.inr rfl, Or.inl rfl, fun post h => br_f u (br_f a (br_t b h)), fun hd mm sh ct wn post x4 x9 x13 h => br_f a (br_t b (br_f u h))⟩
    by_cases c : nI f = nI t
    · exact ⟨32, 0, Or.inr rfl, Or.inl rfl, fun post h => br_f u (br_f a (br_f b (br_t c h))), fun hd mm sh ct wn post x4 x9 x13 h => br_f a (br_f b (br_t c (br_f u h)))⟩
    · exact ⟨32, 16, Or.inr rfl, Or.inr rfl, fun post h => br_f u (br_f a (br_f b (br_f c (nm_r e48 h)))), fun hd mm sh ct wn post x4 x9 x13 h => br_f a (br_f b (br_f c (br_f u h)))⟩
end
end
section
section
variable {fr qn pr hd cu le ba ex : Int32} {md rg pc pt ve ep ca bv ti zs st pu pv pe fs be br sc rc ou qh ow ce im sd rs oo ct : Nat → Int32} {sp mm sh wn : Nat → Int32}
variable {F m : Nat} {d : Int32}
theorem hy_a121f {va kd : Nat} {post : Int32 → SY → Prop} (hm : m < 3) (hpg : ¬ (sp (16 * m + 0) &&& 16) = 0) {x4 x5 : Int32} (tY : ∀ post : Int32 → Prop, post (-2) → wpY_probe post (fr, qn, pr, hd, cu, le, ba, md, rg, sp, mm, sc, rc, ou, qh, ow, im, sh, ct, wn) (nI m) (nI va) (nI kd)) (hp : post (-2) (fr, qn, pr, hd, cu, le, ba, md, rg, sp, mm, sc, rc, ou, qh, ow, im, sh, ct, wn)) : wY_access_121 post (nI m) (nI va) (nI kd) x4 x5 fr qn pr hd cu le ba md rg sp mm sc rc ou qh ow im sh ct wn := by
  unfold wY_access_121
  rw [hv_icz hm]
  refine ⟨hv_iwz hm, nm_e (br_f hpg ?_)⟩
  refine hy_trn hm (by decide) tY _ ?_
  exact br_t rfl hp
theorem hv_missOff {va kd : Nat} (hm : m < 2) (hva : va < 256) (h : hv_M F md im ce sd rs oo mm sh wn) (hS : hv_S sp pt ve ep ca bv ti zs st pc pu pv pe fs be br) (hfr : fr = nI F) (h2 : 2 ≤ F) (hh : hv_k F hd) (hon : ¬ md m = 0) (hd0 : ex - hv_E ct m = d)
    (hz : ∀ post' : Int32 → Prop, post' 0 → wpX_isHit post' (fr, qn, pr, hd, cu, le, ba, ex, md, rg, pc, pt, ve, ep, ca, bv, ti, zs, st, pu, pv, pe, fs, be, br, sc, rc, ou, qh, ow, ce, im, sd, rs, oo, ct) (nI m) (sd (16 * m + va / 16)) (nI kd)) (hpg : (sp (16 * m + 0) &&& 16) = 0) :
    hv_A F m d fr qn pr cu le ba md rg pc pt ve ep ca bv ti zs st pu pv pe fs be br sc rc ou qh ow im sp (fun post => wpX_guestAccess post (fr, qn, pr, hd, cu, le, ba, ex, md, rg, pc, pt, ve, ep, ca, bv, ti, zs, st, pu, pv, pe, fs, be, br, sc, rc, ou, qh, ow, ce, im, sd, rs, oo, ct) (nI m) (nI va) (nI kd)) (fun post => wY_access_121 post (nI m) (nI va) (nI kd) (nI (va / 16)) (nI (va % 16)) fr qn pr hd cu le ba md rg sp mm sc rc ou qh ow im sh ct wn) := by
  have hm3 : m < 3 := by omega
  have hpgX : (pt m &&& 16) = 0 := by rw [hv_S0 hS hm3]; exact hpg
  obtain ⟨hd', ce', sd', rs', oo', ct', sh', wn', x, hx, hh', h', ew, hE, hX, hY⟩ := hv_bi (f := va / 16) (fr := fr) (qn := qn) (pr := pr) (hd := hd) (cu := cu) (le := le) (ba := ba) (ex := ex) (md := md) (rg := rg) (pc := pc) (pt := pt) (ve := ve) (ep := ep) (ca := ca) (bv := bv) (ti := ti) (zs := zs) (st := st) (pu := pu) (pv := pv) (pe := pe) (fs := fs) (be := be) (br := br) (sc := sc) (rc := rc) (ou := ou) (qh := qh) (ow := ow) (ce := ce) (im := im) (sd := sd) (rs := rs) (oo := oo) (ct := ct) (sp := sp) (mm := mm) (sh := sh) (wn := wn) hm (by omega) h hfr h2 hh hon
  have hF := h.1
  have hfl := hv_Mfill h' (i := 16 * m + va / 16) (s := x + 48) (f := va / 16) (by omega) (by omega) (by rw [show (x + 48) % 16 = x by omega, show (16 * m + va / 16) / 16 = m by omega]; exact ew)
  have er := (hv_ownd (hv_Mo h') (x := x) (by omega) (by omega) ew).2.2
  have hlc : hv_lc rs' (256 * m + va) = 16 * x + va % 16 := by
    rw [hv_lcr (a := 256 * m + va) (h := x) (by omega) (by omega) (by rw [show (256 * m + va) / 16 = 16 * m + va / 16 by omega]; exact er)]
    omega
  refine ⟨hd', hv_ex ex m, ce', _, rs', oo', hv_bx ct' m 1, mm, _, wn', hfl, hh', fun _ => ?_, Or.inr ⟨va, hva, fun post hp => ?_, fun post hp => ?_⟩⟩
  · rw [hv_Ed (by decide) (by decide) hm, hE]; exact hd0
  · rw [hlc] at hp
    exact hx_gaOff hm hva hz hpgX (fun post' hp' => hx_fill hm hva (by omega) (by decide) hX post' hp') post hp
  · unfold wY_access_121
    rw [hv_icz hm3]
    refine ⟨hv_iwz hm3, nm_e (br_t hpg ?_)⟩
    refine hY _ ?_
    try dsimp only
    have e48 : (nI x + 16) + 32 = nI (x + 48) := by
      have : (nI x + nI 16) + nI 32 = nI (x + 48) := by rw [nI_add, nI_add]
      exact this
    rw [hv_i16 m (va / 16), nI_clamp (n := 16 * m + va / 16) (by omega), e48]
    exact ⟨vp_in_nI (by omega) (by decide), nm_e (hy_bump (k := 1) hm3 (by decide) _ hp)⟩
theorem hv_missTab {va w t : Nat} (hm : m < 2) (hva : va < 256) (h : hv_M F md im ce sd rs oo mm sh wn) (hS : hv_S sp pt ve ep ca bv ti zs st pc pu pv pe fs be br) (hh : hv_k F hd) (hon : ¬ md m = 0) (hd0 : ex - hv_E ct m = d)
    (hz : ∀ post' : Int32 → Prop, post' 0 → wpX_isHit post' (fr, qn, pr, hd, cu, le, ba, ex, md, rg, pc, pt, ve, ep, ca, bv, ti, zs, st, pu, pv, pe, fs, be, br, sc, rc, ou, qh, ow, ce, im, sd, rs, oo, ct) (nI m) (sd (16 * m + va / 16)) (nI 5)) (hpg : ¬ (sp (16 * m + 0) &&& 16) = 0) (ht : t < 256) (et : sp (16 * m + 0) = nI t)
    (hw : w < 65536) (em : mm (256 * m + (16 * (t % 16) + va / 16)) = nI w) (q : w % 16 = t % 16)
    (tX : ∀ post : Int32 → Prop, post (nI (16 * (w % 16) + va % 16)) → wpX_translate post (fr, qn, pr, hd, cu, le, ba, ex, md, rg, pc, pt, ve, ep, ca, bv, ti, zs, st, pu, pv, pe, fs, be, br, sc, rc, ou, qh, ow, ce, im, sd, rs, oo, ct) (nI m) (nI va) (nI 5))
    (tY : ∀ post : Int32 → Prop, post (nI (16 * (w % 16) + va % 16)) → wpY_probe post (fr, qn, pr, hd, cu, le, ba, md, rg, sp, mm, sc, rc, ou, qh, ow, im, sh, ct, wn) (nI m) (nI va) (nI 5)) :
    hv_A F m d fr qn pr cu le ba md rg pc pt ve ep ca bv ti zs st pu pv pe fs be br sc rc ou qh ow im sp (fun post => wpX_guestAccess post (fr, qn, pr, hd, cu, le, ba, ex, md, rg, pc, pt, ve, ep, ca, bv, ti, zs, st, pu, pv, pe, fs, be, br, sc, rc, ou, qh, ow, ce, im, sd, rs, oo, ct) (nI m) (nI va) (nI 5)) (fun post => wY_access_121 post (nI m) (nI va) (nI 5) (nI (va / 16)) (nI (va % 16)) fr qn pr hd cu le ba md rg sp mm sc rc ou qh ow im sh ct wn) := by
  have hm3 : m < 3 := by omega
  have hF := h.1
  have ept : pt m = nI t := (hv_S0 hS hm3).trans et
  have hpgX : ¬ (pt m &&& 16) = 0 := by rw [ept, ← et]; exact hpg
  have ha2 : 256 * m + (16 * (t % 16) + va / 16) < 768 := by omega
  have hona : 256 * m + (16 * (t % 16) + va / 16) < 512 → ¬ md ((256 * m + (16 * (t % 16) + va / 16)) / 256) = 0 := fun _ => by
    rw [show (256 * m + (16 * (t % 16) + va / 16)) / 256 = m by omega]; exact hon
  have ew : ce (hv_lc rs (256 * m + (16 * (t % 16) + va / 16))) = nI w := (hv_Mm h _ ha2 hona).symm.trans em
  have h1 := hv_Mst h ha2 hona (hv_mkk hw 5)
  have e15 : pt m &&& 15 = nI (w % 16) := by rw [ept, hv_a15 (by omega), q]
  obtain ⟨sd', sh', ct', q0, h', hE, hX, hY⟩ : ∃ (sd' sh' ct' : Nat → Int32) (q0 : Int32), hv_M F md im (upd ce (hv_lc rs (256 * m + (16 * (t % 16) + va / 16))) (hv_mk w 5)) sd' rs oo (upd mm (256 * m + (16 * (t % 16) + va / 16)) (hv_mk w 5)) sh' wn ∧ (hv_E ct' m = hv_E ct m) ∧
      (∀ post' : Int32 → SX → Prop, post' q0 (fr, qn, pr, hd, cu, le, ba, ex, md, rg, pc, pt, ve, ep, ca, bv, ti, zs, st, pu, pv, pe, fs, be, br, sc, rc, ou, qh, ow, (upd ce (hv_lc rs (256 * m + (16 * (t % 16) + va / 16))) (hv_mk w 5)), im, sd', rs, oo, ct') → wpX_dropEntry post' (fr, qn, pr, hd, cu, le, ba, ex, md, rg, pc, pt, ve, ep, ca, bv, ti, zs, st, pu, pv, pe, fs, be, br, sc, rc, ou, qh, ow, (upd ce (hv_lc rs (256 * m + (16 * (t % 16) + va / 16))) (hv_mk w 5)), im, sd, rs, oo, ct) (nI m) (nI (va % 16))) ∧
      (∀ post' : SY → Prop, post' (fr, qn, pr, hd, cu, le, ba, md, rg, sp, (upd mm (256 * m + (16 * (t % 16) + va / 16)) (hv_mk w 5)), sc, rc, ou, qh, ow, im, sh', ct', wn) → wpY_empty post' (fr, qn, pr, hd, cu, le, ba, md, rg, sp, (upd mm (256 * m + (16 * (t % 16) + va / 16)) (hv_mk w 5)), sc, rc, ou, qh, ow, im, sh, ct, wn) (nI m) (nI (va % 16))) := by
    rcases hv_Ms h1 (16 * m + va % 16) (by omega) with ⟨e1, e2⟩ | ⟨s, f, hs, hf, e1, e2, _⟩
    · exact ⟨sd, sh, ct, 0, h1, rfl, fun post' hp => hx_drop0 hm (by omega) e1 post' hp, fun post' hp => hy_drop0 hm (by omega) e2 post' hp⟩
    · exact ⟨_, _, hv_bx ct m 9, 1, hv_Mdrop h1 (16 * m + va % 16), hv_En (by decide) (Or.inr (by decide)) m, fun post' hp => hx_drop1 hm (by omega) hs e1 post' hp, fun post' hp => hy_drop1 hm (by omega) hs e2 post' hp⟩
  refine ⟨hd, hv_ex ex m, _, sd', rs, oo, hv_bx ct' m 2, _, sh', wn, h', hh, fun _ => ?_, Or.inr ⟨16 * (w % 16) + va % 16, by omega, fun post hp => ?_, fun post hp => ?_⟩⟩
  · rw [hv_Ed (by decide) (by decide) hm, hE]; exact hd0
  · exact hx_gaTab hm hva (by omega) hF (hv_Mr h) hz hpgX tX (fun post' hp' => hx_mk hm3 hva (by decide) h ht ept hpgX ew post' hp') (hv_mka hw 5) e15 hX post hp
  · unfold wY_access_121
    rw [hv_icz hm3]
    refine ⟨hv_iwz hm3, nm_e (br_f hpg ?_)⟩
    refine hy_tr1 hm3 hva (by decide) ht et (nI_pos (by omega)) hpg em tY _ ?_
    refine br_f (hv_nm2 (by omega)) (nm_r (e' := nI (w % 16)) (by rw [hv_sh4 (by omega)]; exact congrArg nI (by omega)) (nm_r (e' := nI (w % 16)) (by rw [et, hv_a15 (by omega), q]) (br_t rfl (br_t rfl ?_))))
    refine hY _ ?_
    exact hy_bump (k := 2) hm3 (by decide) _ hp
theorem hv_missFill {va kd w t : Nat} (hm : m < 2) (hva : va < 256) (hkd : kd < 16) (h : hv_M F md im ce sd rs oo mm sh wn) (hS : hv_S sp pt ve ep ca bv ti zs st pc pu pv pe fs be br) (hfr : fr = nI F) (h2 : 2 ≤ F) (hh : hv_k F hd) (hon : ¬ md m = 0) (hd0 : ex - hv_E ct m = d)
    (hz : ∀ post' : Int32 → Prop, post' 0 → wpX_isHit post' (fr, qn, pr, hd, cu, le, ba, ex, md, rg, pc, pt, ve, ep, ca, bv, ti, zs, st, pu, pv, pe, fs, be, br, sc, rc, ou, qh, ow, ce, im, sd, rs, oo, ct) (nI m) (sd (16 * m + va / 16)) (nI kd)) (hpg : ¬ (sp (16 * m + 0) &&& 16) = 0) (ht : t < 256) (et : sp (16 * m + 0) = nI t)
    (hw : w < 65536) (em : mm (256 * m + (16 * (t % 16) + va / 16)) = nI w) (hn : ¬ (kd = 5 ∧ w % 16 = t % 16))
    (tX : ∀ post : Int32 → Prop, post (nI (16 * (w % 16) + va % 16)) → wpX_translate post (fr, qn, pr, hd, cu, le, ba, ex, md, rg, pc, pt, ve, ep, ca, bv, ti, zs, st, pu, pv, pe, fs, be, br, sc, rc, ou, qh, ow, ce, im, sd, rs, oo, ct) (nI m) (nI va) (nI kd))
    (tY : ∀ post : Int32 → Prop, post (nI (16 * (w % 16) + va % 16)) → wpY_probe post (fr, qn, pr, hd, cu, le, ba, md, rg, sp, mm, sc, rc, ou, qh, ow, im, sh, ct, wn) (nI m) (nI va) (nI kd)) :
    hv_A F m d fr qn pr cu le ba md rg pc pt ve ep ca bv ti zs st pu pv pe fs be br sc rc ou qh ow im sp (fun post => wpX_guestAccess post (fr, qn, pr, hd, cu, le, ba, ex, md, rg, pc, pt, ve, ep, ca, bv, ti, zs, st, pu, pv, pe, fs, be, br, sc, rc, ou, qh, ow, ce, im, sd, rs, oo, ct) (nI m) (nI va) (nI kd)) (fun post => wY_access_121 post (nI m) (nI va) (nI kd) (nI (va / 16)) (nI (va % 16)) fr qn pr hd cu le ba md rg sp mm sc rc ou qh ow im sh ct wn) := by
  have hm3 : m < 3 := by omega
  have hF := h.1
  have ept : pt m = nI t := (hv_S0 hS hm3).trans et
  have hpgX : ¬ (pt m &&& 16) = 0 := by rw [ept, ← et]; exact hpg
  have ha2 : 256 * m + (16 * (t % 16) + va / 16) < 768 := by omega
  have hona : 256 * m + (16 * (t % 16) + va / 16) < 512 → ¬ md ((256 * m + (16 * (t % 16) + va / 16)) / 256) = 0 := fun _ => by
    rw [show (256 * m + (16 * (t % 16) + va / 16)) / 256 = m by omega]; exact hon
  have ew : ce (hv_lc rs (256 * m + (16 * (t % 16) + va / 16))) = nI w := (hv_Mm h _ ha2 hona).symm.trans em
  have h1 := hv_Mst h ha2 hona (hv_mkk hw kd)
  have e15 : pt m &&& 15 = nI (t % 16) := by rw [ept, hv_a15 (by omega)]
  obtain ⟨hd', ce', sd', rs', oo', ct', sh', wn', x, hx, hh', h', ewx, hE, hX, hY⟩ := hv_bi (f := w % 16) (fr := fr) (qn := qn) (pr := pr) (hd := hd) (cu := cu) (le := le) (ba := ba) (ex := ex) (md := md) (rg := rg) (pc := pc) (pt := pt) (ve := ve) (ep := ep) (ca := ca) (bv := bv) (ti := ti) (zs := zs) (st := st) (pu := pu) (pv := pv) (pe := pe) (fs := fs) (be := be) (br := br) (sc := sc) (rc := rc) (ou := ou) (qh := qh) (ow := ow) (ce := upd ce (hv_lc rs (256 * m + (16 * (t % 16) + va / 16))) (hv_mk w kd)) (im := im) (sd := sd) (rs := rs) (oo := oo) (ct := ct) (sp := sp) (mm := upd mm (256 * m + (16 * (t % 16) + va / 16)) (hv_mk w kd)) (sh := sh) (wn := wn) hm (by omega) h1 hfr h2 hh hon
  obtain ⟨U, W, hU, hW, rX, rY⟩ := hv_rights (fr := fr) (qn := qn) (pr := pr) (hd := hd) (cu := cu) (le := le) (ba := ba) (ex := ex) (md := md) (rg := rg) (pc := pc) (pt := pt) (ve := ve) (ep := ep) (ca := ca) (bv := bv) (ti := ti) (zs := zs) (st := st) (pu := pu) (pv := pv) (pe := pe) (fs := fs) (be := be) (br := br) (sc := sc) (rc := rc) (ou := ou) (qh := qh) (ow := ow) (ce := upd ce (hv_lc rs (256 * m + (16 * (t % 16) + va / 16))) (hv_mk w kd)) (im := im) (sd := sd) (rs := rs) (oo := oo) (ct := ct) (sp := sp) (m := m) (hv_mk w kd) (va := va) (f := w % 16) (t := t % 16) (by omega) (by omega)
  have hfl := hv_Mfill h' (i := 16 * m + va / 16) (s := x + (U + W)) (f := w % 16) (by omega) (by omega) (by rw [show (x + (U + W)) % 16 = x by omega, show (16 * m + va / 16) / 16 = m by omega]; exact ewx)
  have er := (hv_ownd (hv_Mo h') (x := x) (by omega) (by omega) ewx).2.2
  have hlc : hv_lc rs' (256 * m + (16 * (w % 16) + va % 16)) = 16 * x + va % 16 := by
    rw [hv_lcr (a := 256 * m + (16 * (w % 16) + va % 16)) (h := x) (by omega) (by omega) (by rw [show (256 * m + (16 * (w % 16) + va % 16)) / 16 = 16 * m + w % 16 by omega]; exact er)]
    omega
  refine ⟨hd', hv_ex ex m, ce', _, rs', oo', hv_bx ct' m 1, _, _, wn', hfl, hh', fun _ => ?_, Or.inr ⟨16 * (w % 16) + va % 16, by omega, fun post hp => ?_, fun post hp => ?_⟩⟩
  · rw [hv_Ed (by decide) (by decide) hm, hE]; exact hd0
  · rw [hlc] at hp
    refine hx_gaFill hm hva hkd (by omega) hz hpgX tX (fun post' hp' => hx_mk hm3 hva hkd h ht ept hpgX ew post' hp') (hv_mka hw kd) e15 hn (by omega) (by omega) post (rX post ?_)
    exact hx_fill hm hva (by omega) (by omega) hX _ hp
  · unfold wY_access_121
    rw [hv_icz hm3]
    refine ⟨hv_iwz hm3, nm_e (br_f hpg ?_)⟩
    refine hy_tr1 hm3 hva hkd ht et (nI_pos (by omega)) hpg em tY _ ?_
    have K : wY_access_237 post (nI m) (nI (va / 16)) (nI (16 * (w % 16) + va % 16)) (nI (w % 16)) (nI (t % 16)) fr qn pr hd cu le ba md rg sp (upd mm (256 * m + (16 * (t % 16) + va / 16)) (hv_mk w kd)) sc rc ou qh ow im sh ct wn := by
      unfold wY_access_237
      have ei : nI m * 256 + 16 * nI (t % 16) + nI (va / 16) = nI (256 * m + (16 * (t % 16) + va / 16)) := by
        rw [hv_i16z', hv_i256, nI_add, Nat.add_assoc]
      rw [ei, nI_clamp (n := 256 * m + (16 * (t % 16) + va / 16)) (by omega)]
      refine ⟨vp_in_nI ha2 (by decide), nm_r pk_us ?_⟩
      refine hY _ ?_
      refine rY _ _ _ _ _ post _ _ _ ?_
      unfold wY_access_313
      have es : (nI x + nI W) + nI U = nI (x + (U + W)) := by rw [nI_add, nI_add]; exact congrArg nI (by omega)
      rw [hv_i16 m (va / 16), nI_clamp (n := 16 * m + va / 16) (by omega), es]
      exact ⟨vp_in_nI (by omega) (by decide), nm_e (hy_bump (k := 1) hm3 (by decide) _ hp)⟩
    refine br_f (hv_nm2 (by omega)) (nm_r (e' := nI (w % 16)) (by rw [hv_sh4 (by omega)]; exact congrArg nI (by omega)) (nm_r (e' := nI (t % 16)) (by rw [et, hv_a15 (by omega)]) ?_))
    by_cases q5 : kd = 5
    · exact br_t (hv_y5 q5) (br_f (fun z => hn ⟨q5, hv_inj (by omega) (by omega) z⟩) K)
    · exact br_f (hv_n5 hkd q5) K
theorem hv_miss {va kd : Nat} (hm : m < 2) (hva : va < 256) (hk3 : 3 ≤ kd) (hk5 : kd ≤ 5) (h : hv_M F md im ce sd rs oo mm sh wn) (hS : hv_S sp pt ve ep ca bv ti zs st pc pu pv pe fs be br) (hB : hv_B sp) (hfr : fr = nI F) (h2 : 2 ≤ F) (hh : hv_k F hd) (hon : ¬ md m = 0) (hd0 : ex - hv_E ct m = d)
    (hz : ∀ post' : Int32 → Prop, post' 0 → wpX_isHit post' (fr, qn, pr, hd, cu, le, ba, ex, md, rg, pc, pt, ve, ep, ca, bv, ti, zs, st, pu, pv, pe, fs, be, br, sc, rc, ou, qh, ow, ce, im, sd, rs, oo, ct) (nI m) (sd (16 * m + va / 16)) (nI kd)) :
    hv_A F m d fr qn pr cu le ba md rg pc pt ve ep ca bv ti zs st pu pv pe fs be br sc rc ou qh ow im sp (fun post => wpX_guestAccess post (fr, qn, pr, hd, cu, le, ba, ex, md, rg, pc, pt, ve, ep, ca, bv, ti, zs, st, pu, pv, pe, fs, be, br, sc, rc, ou, qh, ow, ce, im, sd, rs, oo, ct) (nI m) (nI va) (nI kd)) (fun post => wY_access_121 post (nI m) (nI va) (nI kd) (nI (va / 16)) (nI (va % 16)) fr qn pr hd cu le ba md rg sp mm sc rc ou qh ow im sh ct wn) := by
  have hm3 : m < 3 := by omega
  obtain ⟨t, ht, et⟩ := hv_B8 hB (m := m) (c := 0) hm3 (by decide) (by decide)
  by_cases hpg : (sp (16 * m + 0) &&& 16) = 0
  · exact hv_missOff hm hva h hS hfr h2 hh hon hd0 hz hpg
  · obtain ⟨w, r, hw, em, hr, tX, tY⟩ := hv_tr (fr := fr) (qn := qn) (pr := pr) (hd := hd) (cu := cu) (le := le) (ba := ba) (ex := ex) (md := md) (rg := rg) (pc := pc) (pt := pt) (ve := ve) (ep := ep) (ca := ca) (bv := bv) (ti := ti) (zs := zs) (st := st) (pu := pu) (pv := pv) (pe := pe) (fs := fs) (be := be) (br := br) (sc := sc) (rc := rc) (ou := ou) (qh := qh) (ow := ow) (ce := ce) (im := im) (sd := sd) (rs := rs) (oo := oo) (ct := ct) (sp := sp) (mm := mm) (sh := sh) (wn := wn) hm3 hva hk3 hk5 h hS ht et (fun _ => hon) hpg
    rcases hr with rfl | rfl
    · have ept : pt m = nI t := (hv_S0 hS hm3).trans et
      have hpgX : ¬ (pt m &&& 16) = 0 := by rw [ept, ← et]; exact hpg
      exact ⟨hd, ex, ce, sd, rs, oo, ct, mm, sh, wn, h, hh, fun _ => hd0, Or.inl ⟨fun post hp => hx_gaFault hm hva hz hpgX tX post hp, fun post hp => hy_a121f hm3 hpg tY hp⟩⟩
    · by_cases q : kd = 5 ∧ w % 16 = t % 16
      · obtain ⟨rfl, q⟩ := q
        exact hv_missTab hm hva h hS hh hon hd0 hz hpg ht et hw em q tX tY
      · exact hv_missFill hm hva (by omega) h hS hfr h2 hh hon hd0 hz hpg ht et hw em q tX tY
/-! a guest's access -/
theorem hx_acg {va kd : Nat} {r : Int32} {hd' ex' : Int32} {ce' sd' rs' oo' ct' : Nat → Int32} (hm : m < 2)
    (hX : ∀ post' : Int32 → SX → Prop, post' r (fr, qn, pr, hd', cu, le, ba, ex', md, rg, pc, pt, ve, ep, ca, bv, ti, zs, st, pu, pv, pe, fs, be, br, sc, rc, ou, qh, ow, ce', im, sd', rs', oo', ct') → wpX_guestAccess post' (fr, qn, pr, hd, cu, le, ba, ex, md, rg, pc, pt, ve, ep, ca, bv, ti, zs, st, pu, pv, pe, fs, be, br, sc, rc, ou, qh, ow, ce, im, sd, rs, oo, ct) (nI m) (nI va) (nI kd)) (post : Int32 → SX → Prop)
    (hp : post r (fr, qn, pr, hd', cu, le, ba, ex', md, rg, pc, pt, ve, ep, ca, bv, ti, zs, st, pu, pv, pe, fs, be, br, sc, rc, ou, qh, ow, ce', im, sd', rs', oo', ct')) : wpX_access post (fr, qn, pr, hd, cu, le, ba, ex, md, rg, pc, pt, ve, ep, ca, bv, ti, zs, st, pu, pv, pe, fs, be, br, sc, rc, ou, qh, ow, ce, im, sd, rs, oo, ct) (nI m) (nI va) (nI kd) := by
  unfold wpX_access
  try dsimp only
  exact br_f (hv_g2 hm) (hX _ hp)
theorem hv_accg {va kd : Nat} (hm : m < 2) (hva : va < 256) (hk3 : 3 ≤ kd) (hk5 : kd ≤ 5) (h : hv_M F md im ce sd rs oo mm sh wn) (hS : hv_S sp pt ve ep ca bv ti zs st pc pu pv pe fs be br) (hB : hv_B sp) (hfr : fr = nI F) (h2 : 2 ≤ F) (hh : hv_k F hd) (hon : ¬ md m = 0) (hd0 : ex - hv_E ct m = d) :
    hv_A F m d fr qn pr cu le ba md rg pc pt ve ep ca bv ti zs st pu pv pe fs be br sc rc ou qh ow im sp (fun post => wpX_access post (fr, qn, pr, hd, cu, le, ba, ex, md, rg, pc, pt, ve, ep, ca, bv, ti, zs, st, pu, pv, pe, fs, be, br, sc, rc, ou, qh, ow, ce, im, sd, rs, oo, ct) (nI m) (nI va) (nI kd)) (fun post => wpY_access post (fr, qn, pr, hd, cu, le, ba, md, rg, sp, mm, sc, rc, ou, qh, ow, im, sh, ct, wn) (nI m) (nI va) (nI kd)) := by
  have hm3 : m < 3 := by omega
  have hkd : kd < 16 := by omega
  have hF := h.1
  have est : st m = sp (16 * m + 7) := hv_S7 hS hm3
  have miss : (∀ post' : Int32 → Prop, post' 0 → wpX_isHit post' (fr, qn, pr, hd, cu, le, ba, ex, md, rg, pc, pt, ve, ep, ca, bv, ti, zs, st, pu, pv, pe, fs, be, br, sc, rc, ou, qh, ow, ce, im, sd, rs, oo, ct) (nI m) (sd (16 * m + va / 16)) (nI kd)) → (sh (16 * m + va / 16) = -2 ∨ ¬ hv_hit (sh (16 * m + va / 16)) (sp (16 * m + 7)) kd) →
      hv_A F m d fr qn pr cu le ba md rg pc pt ve ep ca bv ti zs st pu pv pe fs be br sc rc ou qh ow im sp (fun post => wpX_access post (fr, qn, pr, hd, cu, le, ba, ex, md, rg, pc, pt, ve, ep, ca, bv, ti, zs, st, pu, pv, pe, fs, be, br, sc, rc, ou, qh, ow, ce, im, sd, rs, oo, ct) (nI m) (nI va) (nI kd)) (fun post => wpY_access post (fr, qn, pr, hd, cu, le, ba, md, rg, sp, mm, sc, rc, ou, qh, ow, im, sh, ct, wn) (nI m) (nI va) (nI kd)) := fun hz hy => by
    obtain ⟨hd', ex', ce', sd', rs', oo', ct', mm', sh', wn', h', hh', hD, ho⟩ := hv_miss hm hva hk3 hk5 h hS hB hfr h2 hh hon hd0 hz
    refine ⟨hd', ex', ce', sd', rs', oo', ct', mm', sh', wn', h', hh', hD, ?_⟩
    rcases ho with ⟨hX, hY⟩ | ⟨a, ha2, hX, hY⟩
    · exact Or.inl ⟨fun post hp => hx_acg hm hX post hp, fun post hp => hy_acc0 hm hva hkd rfl hy post (hY post hp)⟩
    · exact Or.inr ⟨a, ha2, fun post hp => hx_acg hm hX post hp, fun post hp => hy_acc0 hm hva hkd rfl hy post (hY post hp)⟩
  rcases hv_Ms h (16 * m + va / 16) (by omega) with ⟨e1, e2⟩ | ⟨s, f, hs, hf, e1, e2, ew⟩
  · exact miss (fun post' hp => hx_hit0 hm3 hkd (Or.inl (by rw [e1]; decide)) post' hp) (Or.inl e2)
  · by_cases hhit : hv_hit (nI s) (sp (16 * m + 7)) kd
    · rw [show (16 * m + va / 16) / 16 = m by omega] at ew
      have er := hv_ownd (hv_Mo h) (x := s % 16) (by omega) (by omega) ew
      have hlc : hv_lc rs (256 * m + (16 * f + va % 16)) = 16 * (s % 16) + va % 16 := by
        rw [hv_lcr (a := 256 * m + (16 * f + va % 16)) (h := s % 16) (by omega) (by omega) (by rw [show (256 * m + (16 * f + va % 16)) / 16 = 16 * m + f by omega]; exact er.2.2)]
        omega
      refine ⟨hd, ex, ce, sd, rs, oo, hv_bx ct m 0, mm, sh, wn, h, hh, fun _ => ?_, Or.inr ⟨16 * f + va % 16, by omega, fun post hp => ?_, fun post hp => ?_⟩⟩
      · rw [hv_En (by decide) (Or.inl rfl)]; exact hd0
      · refine hx_acg hm (r := nI (hv_lc rs (256 * m + (16 * f + va % 16)))) (fun post' hp' => ?_) post hp
        rw [hlc] at hp'
        unfold wpX_guestAccess
        try dsimp only
        refine nm_r (hv_sh4 (by omega)) (nm_r (hv_a15 (by omega)) ?_)
        rw [hv_i16 m (va / 16), nI_clamp (n := 16 * m + va / 16) (by omega)]
        refine ⟨vp_in_nI (by omega) (by decide), nm_r e1 (hx_hit1 hm3 (nI_pos' (by omega)) hkd (by rw [est]; exact hhit) _ (br_f (by decide) ?_))⟩
        refine hx_bump (k := 0) hm3 (by decide) _ ?_
        try dsimp only
        rw [hv_a15 (a := s) (by omega), hv_i16 (s % 16) (va % 16)]
        exact hp'
      · refine hy_acc1 hm hva hkd e2 (hv_nm2 (by omega)) hhit post ?_
        unfold wY_access_95
        refine hy_bump (k := 0) hm3 (by decide) _ ?_
        try dsimp only
        rw [hv_a15 (a := s) (by omega), nI_clamp (n := s % 16) (by omega), ew, hv_a15 (a := 16 * m + f) (by omega), show (16 * m + f) % 16 = f by omega, hv_i16 f (va % 16)]
        exact ⟨vp_in_nI (by omega) (by decide), hp⟩
    · exact miss (fun post' hp => hx_hit0 hm3 hkd (Or.inr (by rw [e1, est]; exact hhit)) post' hp) (Or.inr (by rw [e2]; exact hhit))
end
end
section
/-! the bare machine's access; any machine's -/
section
variable {fr qn pr hd cu le ba ex : Int32} {md rg pc pt ve ep ca bv ti zs st pu pv pe fs be br sc rc ou qh ow ce im sd rs oo ct : Nat → Int32} {sp mm sh wn : Nat → Int32}
variable {F m : Nat} {d : Int32}
theorem hv_accb {va kd : Nat} (hva : va < 256) (hk3 : 3 ≤ kd) (hk5 : kd ≤ 5) (h : hv_M F md im ce sd rs oo mm sh wn) (hS : hv_S sp pt ve ep ca bv ti zs st pc pu pv pe fs be br) (hB : hv_B sp) (hh : hv_k F hd) :
    hv_A F 2 d fr qn pr cu le ba md rg pc pt ve ep ca bv ti zs st pu pv pe fs be br sc rc ou qh ow im sp (fun post => wpX_access post (fr, qn, pr, hd, cu, le, ba, ex, md, rg, pc, pt, ve, ep, ca, bv, ti, zs, st, pu, pv, pe, fs, be, br, sc, rc, ou, qh, ow, ce, im, sd, rs, oo, ct) (nI 2) (nI va) (nI kd)) (fun post => wpY_access post (fr, qn, pr, hd, cu, le, ba, md, rg, sp, mm, sc, rc, ou, qh, ow, im, sh, ct, wn) (nI 2) (nI va) (nI kd)) := by
  have hF := h.1
  have hm3 : 2 < 3 := by decide
  obtain ⟨t, ht, et⟩ := hv_B8 hB (m := 2) (c := 0) hm3 (by decide) (by decide)
  have ept : pt 2 = nI t := (hv_S0 hS hm3).trans et
  by_cases hpg : (sp (16 * 2 + 0) &&& 16) = 0
  · have hpgX : (pt 2 &&& 16) = 0 := by rw [ept, ← et]; exact hpg
    refine ⟨hd, ex, ce, sd, rs, oo, ct, mm, sh, wn, h, hh, fun z => absurd z (by decide), Or.inr ⟨va, hva, fun post hp => ?_, fun post hp => ?_⟩⟩
    · unfold wpX_access
      try dsimp only
      refine br_t rfl ?_
      unfold wpX_bareAccess
      try dsimp only
      refine hx_tr0 hm3 hpgX _ (br_t (nI_pos' (by omega)) ?_)
      refine hx_mk0 hm3 hpgX _ ?_
      exact hx_loc hm3 hva hF (hv_Mr h) _ hp
    · unfold wpY_access
      try dsimp only
      refine br_t rfl ?_
      refine hy_tr0 hm3 (nI_pos (n := va) (by omega)) hpg (fun post' hp' => hy_pr hm3 hva hk3 hk5 post' (br_t hpg hp')) _ ?_
      exact hp
  · have hpgX : ¬ (pt 2 &&& 16) = 0 := by rw [ept, ← et]; exact hpg
    obtain ⟨w, r, hw, em, hr, tX, tY⟩ := hv_tr (fr := fr) (qn := qn) (pr := pr) (hd := hd) (cu := cu) (le := le) (ba := ba) (ex := ex) (md := md) (rg := rg) (pc := pc) (pt := pt) (ve := ve) (ep := ep) (ca := ca) (bv := bv) (ti := ti) (zs := zs) (st := st) (pu := pu) (pv := pv) (pe := pe) (fs := fs) (be := be) (br := br) (sc := sc) (rc := rc) (ou := ou) (qh := qh) (ow := ow) (ce := ce) (im := im) (sd := sd) (rs := rs) (oo := oo) (ct := ct) (sp := sp) (mm := mm) (sh := sh) (wn := wn) hm3 hva hk3 hk5 h hS ht et (fun z => absurd z (by decide)) hpg
    rcases hr with rfl | rfl
    · refine ⟨hd, ex, ce, sd, rs, oo, ct, mm, sh, wn, h, hh, fun z => absurd z (by decide), Or.inl ⟨fun post hp => ?_, fun post hp => ?_⟩⟩
      · unfold wpX_access
        try dsimp only
        refine br_t rfl ?_
        unfold wpX_bareAccess
        try dsimp only
        exact tX _ (br_f (by decide) hp)
      · unfold wpY_access
        try dsimp only
        refine br_t rfl ?_
        exact hy_trn hm3 (by decide) tY _ hp
    · have ha2 : 256 * 2 + (16 * (t % 16) + va / 16) < 768 := by omega
      have hona : 256 * 2 + (16 * (t % 16) + va / 16) < 512 → ¬ md ((256 * 2 + (16 * (t % 16) + va / 16)) / 256) = 0 := fun z => by omega
      have ew : ce (hv_lc rs (256 * 2 + (16 * (t % 16) + va / 16))) = nI w := (hv_Mm h _ ha2 hona).symm.trans em
      have h1 := hv_Mst h ha2 hona (hv_mkk hw kd)
      refine ⟨hd, ex, _, sd, rs, oo, ct, _, sh, wn, h1, hh, fun z => absurd z (by decide), Or.inr ⟨16 * (w % 16) + va % 16, by omega, fun post hp => ?_, fun post hp => ?_⟩⟩
      · unfold wpX_access
        try dsimp only
        refine br_t rfl ?_
        unfold wpX_bareAccess
        try dsimp only
        refine tX _ (br_t (nI_pos' (by omega)) ?_)
        refine hx_mk hm3 hva (by omega) h ht ept hpgX ew _ ?_
        exact hx_loc hm3 (by omega) hF (hv_Mr h) _ hp
      · unfold wpY_access
        try dsimp only
        refine br_t rfl ?_
        refine hy_tr1 hm3 hva (by omega) ht et (nI_pos (by omega)) hpg em tY _ ?_
        exact hp
theorem hv_acc {va kd : Nat} (hm : m < 3) (hva : va < 256) (hk3 : 3 ≤ kd) (hk5 : kd ≤ 5) (h : hv_M F md im ce sd rs oo mm sh wn) (hS : hv_S sp pt ve ep ca bv ti zs st pc pu pv pe fs be br) (hB : hv_B sp) (hfr : fr = nI F) (h2 : 2 ≤ F) (hh : hv_k F hd) (hon : ¬ md m = 0) (hd0 : m < 2 → ex - hv_E ct m = d) :
    hv_A F m d fr qn pr cu le ba md rg pc pt ve ep ca bv ti zs st pu pv pe fs be br sc rc ou qh ow im sp (fun post => wpX_access post (fr, qn, pr, hd, cu, le, ba, ex, md, rg, pc, pt, ve, ep, ca, bv, ti, zs, st, pu, pv, pe, fs, be, br, sc, rc, ou, qh, ow, ce, im, sd, rs, oo, ct) (nI m) (nI va) (nI kd)) (fun post => wpY_access post (fr, qn, pr, hd, cu, le, ba, md, rg, sp, mm, sc, rc, ou, qh, ow, im, sh, ct, wn) (nI m) (nI va) (nI kd)) := by
  by_cases q : m = 2
  · subst q
    exact hv_accb hva hk3 hk5 h hS hB hh
  · exact hv_accg (by omega) hva hk3 hk5 h hS hB hfr h2 hh hon (hd0 (by omega))
end
end
section
/-! the whole relation; a fault is raised, an exception delivered -/
def hv_Z (md sp : Nat → Int32) : Prop := ∀ g, g < 2 → md g = 0 → sp (16 * g + 0) = 0
def hv_R (F : Nat) (fr hd cu : Int32) (md rg im ce sd rs oo mm sh wn sp pt ve ep ca bv ti zs st pc pu pv pe fs be br : Nat → Int32) : Prop := 2 ≤ F ∧ fr = nI F ∧ hv_k F hd ∧ hv_k 2 cu ∧ hv_w 12 rg ∧ hv_B sp ∧ hv_S sp pt ve ep ca bv ti zs st pc pu pv pe fs be br ∧ hv_Z md sp ∧ hv_M F md im ce sd rs oo mm sh wn
def hv_O (F m : Nat) (d : Int32) (fr qn pr cu le ba : Int32) (im : Nat → Int32) (WX : (SX → Prop) → Prop) (WY : (SY → Prop) → Prop) : Prop :=
  ∃ (hd ex : Int32) (md rg pc pt ve ep ca bv ti zs st pu pv pe fs be br sc rc ou qh ow ce sd rs oo ct sp mm sh wn : Nat → Int32), hv_R F fr hd cu md rg im ce sd rs oo mm sh wn sp pt ve ep ca bv ti zs st pc pu pv pe fs be br ∧ (m < 2 → ex - hv_E ct m = d) ∧ (∀ post, post (fr, qn, pr, hd, cu, le, ba, ex, md, rg, pc, pt, ve, ep, ca, bv, ti, zs, st, pu, pv, pe, fs, be, br, sc, rc, ou, qh, ow, ce, im, sd, rs, oo, ct) → WX post) ∧ (∀ post, post (fr, qn, pr, hd, cu, le, ba, md, rg, sp, mm, sc, rc, ou, qh, ow, im, sh, ct, wn) → WY post)
theorem hv_Zs {md sp : Nat → Int32} (h : hv_Z md sp) {m c : Nat} {v : Int32} (hc : 0 < c) (hc2 : c < 16) : hv_Z md (upd sp (16 * m + c) v) := fun g hg hz => by
  rw [pk_un (by omega)]; exact h g hg hz
theorem hv_Zm {md sp : Nat → Int32} (h : hv_Z md sp) {m : Nat} {v : Int32} (hv : ¬ v = 0) : hv_Z (upd md m v) sp := fun g hg hz => by
  by_cases e : g = m
  · subst e; rw [pk_us] at hz; exact absurd hz hv
  · rw [pk_un e] at hz; exact h g hg hz
theorem hv_bd8 {c : Nat} {v : Int32} (h : hv_k 256 v) : hv_k (hv_bd c) v := hv_kup h (by unfold hv_bd; split <;> omega)
theorem hv_k8b {v : Int32} {b : Nat} (h : hv_k b v) (hb : b ≤ 256) : hv_k 256 v := hv_kup h hb
section
variable {fr qn pr hd cu le ba ex : Int32} {md rg pc pt ve ep ca bv ti zs st pu pv pe fs be br sc rc ou qh ow ce im sd rs oo ct : Nat → Int32} {sp mm sh wn : Nat → Int32}
variable {F m : Nat} {d : Int32}
theorem hv_Rk (h : hv_R F fr hd cu md rg im ce sd rs oo mm sh wn sp pt ve ep ca bv ti zs st pc pu pv pe fs be br) : 2 ≤ F ∧ fr = nI F ∧ hv_k F hd ∧ hv_k 2 cu ∧ hv_w 12 rg ∧ hv_B sp ∧ hv_S sp pt ve ep ca bv ti zs st pc pu pv pe fs be br ∧ hv_Z md sp ∧ hv_M F md im ce sd rs oo mm sh wn := h
theorem hv_Rg (h : hv_R F fr hd cu md rg im ce sd rs oo mm sh wn sp pt ve ep ca bv ti zs st pc pu pv pe fs be br) : hv_w 12 rg := h.2.2.2.2.1
theorem hv_Rb (h : hv_R F fr hd cu md rg im ce sd rs oo mm sh wn sp pt ve ep ca bv ti zs st pc pu pv pe fs be br) : hv_B sp := h.2.2.2.2.2.1
theorem hv_Rs (h : hv_R F fr hd cu md rg im ce sd rs oo mm sh wn sp pt ve ep ca bv ti zs st pc pu pv pe fs be br) : hv_S sp pt ve ep ca bv ti zs st pc pu pv pe fs be br := h.2.2.2.2.2.2.1
theorem hv_Rm (h : hv_R F fr hd cu md rg im ce sd rs oo mm sh wn sp pt ve ep ca bv ti zs st pc pu pv pe fs be br) : hv_M F md im ce sd rs oo mm sh wn := h.2.2.2.2.2.2.2.2
theorem hv_raise {c v e : Int32} (hR : hv_R F fr hd cu md rg im ce sd rs oo mm sh wn sp pt ve ep ca bv ti zs st pc pu pv pe fs be br) (hm : m < 3) (hon : ¬ md m = 0) (hc : hv_k 256 c) (hv : hv_k 256 v) (he : hv_k 256 e) (hd0 : m < 2 → ex - hv_E ct m = d) :
    hv_O F m d fr qn pr cu le ba im (fun post => wpX_raise post (fr, qn, pr, hd, cu, le, ba, ex, md, rg, pc, pt, ve, ep, ca, bv, ti, zs, st, pu, pv, pe, fs, be, br, sc, rc, ou, qh, ow, ce, im, sd, rs, oo, ct) (nI m) c v e) (fun post => wpY_raise post (fr, qn, pr, hd, cu, le, ba, md, rg, sp, mm, sc, rc, ou, qh, ow, im, sh, ct, wn) (nI m) c v e) := by
  obtain ⟨h2, hfr, hh, hcu, hg, hB, hS, hZ, h⟩ := hR
  have hS' := hv_Su11 (hv_Su10 (hv_Su9 hS m c) m v) m e
  have hB' := hv_Bu (hv_Bu (hv_Bu hB (m := m) (c := 9) (by decide) (hv_bd8 hc)) (m := m) (c := 10) (by decide) (hv_bd8 hv)) (m := m) (c := 11) (by decide) (hv_bd8 he)
  have hZ' := hv_Zs (hv_Zs (hv_Zs hZ (m := m) (c := 9) (v := c) (by decide) (by decide)) (m := m) (c := 10) (v := v) (by decide) (by decide)) (m := m) (c := 11) (v := e) (by decide) (by decide)
  have ef : upd (upd (upd sp (16 * m + 9) c) (16 * m + 10) v) (16 * m + 11) e (16 * m + 12) = fs m := by
    rw [pk_un (by omega), pk_un (by omega), pk_un (by omega)]; exact (hv_S12 hS hm).symm
  have hD : m < 2 → hv_ex ex m - hv_E (hv_bx ct m 4) m = d := fun z => (hv_Ed (by decide) (by decide) z).trans (hd0 z)
  by_cases q : fs m = 1
  · refine ⟨hd, hv_ex ex m, upd md m 3, rg, pc, pt, ve, ep, ca, bv, ti, zs, st, _, _, _, fs, be, br, sc, rc, ou, qh, ow, ce, sd, rs, oo, hv_bx ct m 4, _, mm, sh, wn, ⟨h2, hfr, hh, hcu, hg, hB', hS', hv_Zm hZ' (by decide), hv_Mmd h hon (by decide)⟩, hD, fun post hp => ?_, fun post hp => ?_⟩
    · unfold wpX_raise
      try dsimp only
      rw [hv_im hm]
      refine ⟨hv_iv hm, nm_e ⟨hv_iv hm, nm_e ⟨hv_iv hm, nm_e ⟨hv_iv hm, br_t q ⟨hv_iv hm, nm_e ?_⟩⟩⟩⟩⟩
      exact hx_bumpE (k := 4) hm (by decide) _ hp
    · unfold wpY_raise
      try dsimp only
      rw [hv_ic9 hm, hv_ic10 hm, hv_ic11 hm, hv_ic12 hm, hv_im hm]
      refine ⟨hv_iw9 hm, nm_e ⟨hv_iw10 hm, nm_e ⟨hv_iw11 hm, nm_e ⟨hv_iw12 hm, br_t (ef.trans q) ⟨hv_iv hm, nm_e ?_⟩⟩⟩⟩⟩
      exact hy_bump (k := 4) hm (by decide) _ hp
  · refine ⟨hd, hv_ex ex m, md, rg, pc, pt, ve, ep, ca, bv, ti, zs, st, _, _, _, fs, be, br, sc, rc, ou, qh, ow, ce, sd, rs, oo, hv_bx ct m 4, _, mm, sh, wn, ⟨h2, hfr, hh, hcu, hg, hB', hS', hZ', h⟩, hD, fun post hp => ?_, fun post hp => ?_⟩
    · unfold wpX_raise
      try dsimp only
      rw [hv_im hm]
      refine ⟨hv_iv hm, nm_e ⟨hv_iv hm, nm_e ⟨hv_iv hm, nm_e ⟨hv_iv hm, br_f q ?_⟩⟩⟩⟩
      exact hx_bumpE (k := 4) hm (by decide) _ hp
    · unfold wpY_raise
      try dsimp only
      rw [hv_ic9 hm, hv_ic10 hm, hv_ic11 hm, hv_ic12 hm, hv_im hm]
      refine ⟨hv_iw9 hm, nm_e ⟨hv_iw10 hm, nm_e ⟨hv_iw11 hm, nm_e ⟨hv_iw12 hm, br_f (fun z => q (ef.symm.trans z)) ?_⟩⟩⟩⟩
      exact hy_bump (k := 4) hm (by decide) _ hp
end
end
section
/-! the end of an instruction -/
section
variable {fr qn pr hd cu le ba ex : Int32} {md rg pc pt ve ep ca bv ti zs st pu pv pe fs be br sc rc ou qh ow ce im sd rs oo ct : Nat → Int32} {sp mm sh wn : Nat → Int32}
variable {F m : Nat} {d : Int32}
theorem hv_tick (hR : hv_R F fr hd cu md rg im ce sd rs oo mm sh wn sp pt ve ep ca bv ti zs st pc pu pv pe fs be br) (hm : m < 3) (hd0 : m < 2 → ex - hv_E ct m = d) :
    hv_O F m d fr qn pr cu le ba im (fun post => wX_complete_66 post (nI m) 0 fr qn pr hd cu le ba ex md rg pc pt ve ep ca bv ti zs st pu pv pe fs be br sc rc ou qh ow ce im sd rs oo ct) (fun post => wY_execute_663 post (nI m * 16) fr qn pr hd cu le ba md rg sp mm sc rc ou qh ow im sh ct wn) := by
  obtain ⟨h2, hfr, hh, hcu, hg, hB, hS, hZ, h⟩ := id hR
  have e5 := hv_S5 hS hm
  have e7 := hv_S7 hS hm
  obtain ⟨n, hn, en⟩ := hv_B16 hB hm (c := 5) (by decide)
  have h7 := hv_B8 hB hm (c := 7) (by decide) (by decide)
  by_cases q : n = 0
  · subst q
    refine ⟨hd, ex, md, rg, pc, pt, ve, ep, ca, bv, ti, zs, st, pu, pv, pe, fs, be, br, sc, rc, ou, qh, ow, ce, sd, rs, oo, ct, sp, mm, sh, wn, hR, hd0, fun post hp => ?_, fun post hp => ?_⟩
    · unfold wX_complete_66
      rw [hv_im hm]
      exact br_t rfl ⟨hv_iv hm, br_t (by rw [e5, en]; rfl) hp⟩
    · unfold wY_execute_663
      rw [hv_ic5 hm, hv_ic7 hm]
      exact ⟨hv_iw5 hm, br_t (by rw [en]; rfl) hp⟩
  have e1 : nI n - 1 = nI (n - 1) := pk_sub (a := n) (b := 1) (by omega)
  have hne : ¬ nI n = 0 := nI_ne0 (by omega) (by omega)
  have hS1 := hv_Su5 hS m (nI (n - 1))
  have hB1 := hv_Bu hB (m := m) (c := 5) (v := nI (n - 1)) (by decide) (hv_kn (show n - 1 < 65536 by omega))
  have hZ1 := hv_Zs hZ (m := m) (c := 5) (v := nI (n - 1)) (by decide) (by decide)
  by_cases q2 : n - 1 = 0
  · have hS2 := hv_Su7 hS1 m (sp (16 * m + 7) ||| 4)
    have hB2 := hv_Bu hB1 (m := m) (c := 7) (v := sp (16 * m + 7) ||| 4) (by decide) (hv_bd8 (hv_kor (k := 8) (by decide) h7 ⟨4, by decide, rfl⟩))
    have hZ2 := hv_Zs hZ1 (m := m) (c := 7) (v := sp (16 * m + 7) ||| 4) (by decide) (by decide)
    refine ⟨hd, ex, md, rg, pc, pt, ve, ep, ca, bv, _, zs, _, pu, pv, pe, fs, be, br, sc, rc, ou, qh, ow, ce, sd, rs, oo, ct, _, mm, sh, wn, ⟨h2, hfr, hh, hcu, hg, hB2, hS2, hZ2, h⟩, hd0, fun post hp => ?_, fun post hp => ?_⟩
    · unfold wX_complete_66
      rw [hv_im hm, e5, e7, en, e1]
      exact br_t rfl ⟨hv_iv hm, br_f hne ⟨hv_iv hm, hv_iv hm, nm_e ⟨hv_iv hm, br_t (pk_us.trans (by rw [q2]; rfl)) ⟨hv_iv hm, hv_iv hm, nm_e hp⟩⟩⟩⟩
    · unfold wY_execute_663
      rw [hv_ic5 hm, hv_ic7 hm, en, e1]
      refine ⟨hv_iw5 hm, br_f hne ⟨hv_iw5 hm, hv_iw5 hm, nm_e ⟨hv_iw5 hm, br_t (pk_us.trans (by rw [q2]; rfl)) ⟨hv_iw7 hm, hv_iw7 hm, nm_r ?_ hp⟩⟩⟩⟩
      rw [pk_un (show 16 * m + 7 ≠ 16 * m + 5 by omega)]
  · refine ⟨hd, ex, md, rg, pc, pt, ve, ep, ca, bv, _, zs, st, pu, pv, pe, fs, be, br, sc, rc, ou, qh, ow, ce, sd, rs, oo, ct, _, mm, sh, wn, ⟨h2, hfr, hh, hcu, hg, hB1, hS1, hZ1, h⟩, hd0, fun post hp => ?_, fun post hp => ?_⟩
    · unfold wX_complete_66
      rw [hv_im hm, e5, en, e1]
      exact br_t rfl ⟨hv_iv hm, br_f hne ⟨hv_iv hm, hv_iv hm, nm_e ⟨hv_iv hm, br_f (fun z => nI_ne0 (by omega) (by omega) (pk_us.symm.trans z)) hp⟩⟩⟩
    · unfold wY_execute_663
      rw [hv_ic5 hm, hv_ic7 hm, en, e1]
      exact ⟨hv_iw5 hm, br_f hne ⟨hv_iw5 hm, hv_iw5 hm, nm_e ⟨hv_iw5 hm, br_f (fun z => nI_ne0 (by omega) (by omega) (pk_us.symm.trans z)) hp⟩⟩⟩
/-! .. with or without the tick -/
theorem hv_c46 {w : Nat} (hw : w < 65536) (hR : hv_R F fr hd cu md rg im ce sd rs oo mm sh wn sp pt ve ep ca bv ti zs st pc pu pv pe fs be br) (hm : m < 3) (hd0 : m < 2 → ex - hv_E ct m = d) :
    hv_O F m d fr qn pr cu le ba im (fun post => wX_complete_46 post (nI m) (nI w) (nI (w / 4096)) fr qn pr hd cu le ba ex md rg pc pt ve ep ca bv ti zs st pu pv pe fs be br sc rc ou qh ow ce im sd rs oo ct) (fun post => (nI (w / 4096) = 12 → ((nI (w % 8) = 5 → post (fr, qn, pr, hd, cu, le, ba, md, rg, sp, mm, sc, rc, ou, qh, ow, im, sh, ct, wn)) ∧ (¬ nI (w % 8) = 5 → wY_execute_663 post (nI m * 16) fr qn pr hd cu le ba md rg sp mm sc rc ou qh ow im sh ct wn))) ∧ (¬ nI (w / 4096) = 12 → wY_execute_663 post (nI m * 16) fr qn pr hd cu le ba md rg sp mm sc rc ou qh ow im sh ct wn)) := by
  have e7 : nI w &&& 7 = nI (w % 8) := hv_a7 (by omega)
  by_cases q : nI (w / 4096) = 12 ∧ nI (w % 8) = 5
  · refine ⟨hd, ex, md, rg, pc, pt, ve, ep, ca, bv, ti, zs, st, pu, pv, pe, fs, be, br, sc, rc, ou, qh, ow, ce, sd, rs, oo, ct, sp, mm, sh, wn, hR, hd0, fun post hp => ?_, fun post hp => br_t q.1 (br_t q.2 hp)⟩
    refine br_t q.1 (br_t (by rw [e7]; exact q.2) ?_)
    exact br_f (by decide) hp
  · obtain ⟨hd', ex', md', rg', pc', pt', ve', ep', ca', bv', ti', zs', st', pu', pv', pe', fs', be', br', sc', rc', ou', qh', ow', ce', sd', rs', oo', ct', sp', mm', sh', wn', hR', hD', hX', hY'⟩ := hv_tick hR hm hd0
    refine ⟨hd', ex', md', rg', pc', pt', ve', ep', ca', bv', ti', zs', st', pu', pv', pe', fs', be', br', sc', rc', ou', qh', ow', ce', sd', rs', oo', ct', sp', mm', sh', wn', hR', hD', fun post hp => ?_, fun post hp => ?_⟩
    · by_cases q1 : nI (w / 4096) = 12
      · exact br_t q1 (br_f (by rw [e7]; exact fun z => q ⟨q1, z⟩) (hX' post hp))
      · exact br_f q1 (hX' post hp)
    · by_cases q1 : nI (w / 4096) = 12
      · exact br_t q1 (br_f (fun z => q ⟨q1, z⟩) (hY' post hp))
      · exact br_f q1 (hY' post hp)
theorem hv_comp {w nx : Nat} (hw : w < 65536) (hnx : nx < 256) (hR : hv_R F fr hd cu md rg im ce sd rs oo mm sh wn sp pt ve ep ca bv ti zs st pc pu pv pe fs be br) (hm : m < 3) (hd0 : m < 2 → ex - hv_E ct m = d) :
    hv_O F m d fr qn pr cu le ba im (fun post => wX_execute_135 post (nI m) (nI w) (nI nx) fr qn pr hd cu le ba ex md rg pc pt ve ep ca bv ti zs st pu pv pe fs be br sc rc ou qh ow ce im sd rs oo ct) (fun post => wY_execute_604 post (nI m) (nI m * 16) (nI (w / 4096)) (nI (w % 8)) (nI nx) fr qn pr hd cu le ba md rg sp mm sc rc ou qh ow im sh ct wn) := by
  obtain ⟨h2, hfr, hh, hcu, hg, hB, hS, hZ, h⟩ := id hR
  have eop : (nI w >>> ((12 : Int32) &&& 31)) &&& 15 = nI (w / 4096) := by
    rw [hv_sh12 (by omega), hv_a15 (by omega)]; exact congrArg nI (by omega)
  have hS1 := hv_Su12 (hv_Su8 hS m (nI nx)) m 0
  have hB1 := hv_Bu (hv_Bu hB (m := m) (c := 8) (v := nI nx) (by decide) (hv_bd8 (hv_kn hnx))) (m := m) (c := 12) (v := 0) (by decide) (hv_bd8 (hv_k0 (by decide)))
  have hZ1 := hv_Zs (hv_Zs hZ (m := m) (c := 8) (v := nI nx) (by decide) (by decide)) (m := m) (c := 12) (v := 0) (by decide) (by decide)
  have hR1 : hv_R F fr hd cu md rg im ce sd rs oo mm sh wn (upd (upd sp (16 * m + 8) (nI nx)) (16 * m + 12) (0)) pt ve ep ca bv ti zs st (upd pc m (nI nx)) pu pv pe (upd fs m 0) be br := ⟨h2, hfr, hh, hcu, hg, hB1, hS1, hZ1, h⟩
  by_cases q : nI (w / 4096) < 11
  · obtain ⟨hd', ex', md', rg', pc', pt', ve', ep', ca', bv', ti', zs', st', pu', pv', pe', fs', be', br', sc', rc', ou', qh', ow', ce', sd', rs', oo', ct', sp', mm', sh', wn', hR', hD', hX', hY'⟩ := hv_c46 (rc := upd rc m (rc m + 1)) (qn := qn) (pr := pr) (le := le) (ba := ba) (sc := sc) (ou := ou) (qh := qh) (ow := ow) hw hR1 hm hd0
    refine ⟨hd', ex', md', rg', pc', pt', ve', ep', ca', bv', ti', zs', st', pu', pv', pe', fs', be', br', sc', rc', ou', qh', ow', ce', sd', rs', oo', ct', sp', mm', sh', wn', hR', hD', fun post hp => ?_, fun post hp => ?_⟩
    · refine br_f (nI_pos (by omega)) ?_
      unfold wpX_complete
      try dsimp only
      rw [hv_im hm]
      refine nm_r eop ⟨hv_iv hm, nm_e ⟨hv_iv hm, nm_e ⟨hv_iv hm, hv_iv hm, nm_e (br_t q ?_)⟩⟩⟩
      exact hX' _ hp
    · refine br_t q ?_
      unfold wY_execute_617
      rw [hv_ic8 hm, hv_ic12 hm, hv_im hm]
      refine ⟨hv_iw8 hm, nm_e ⟨hv_iw12 hm, nm_e ⟨hv_iv hm, hv_iv hm, nm_e ?_⟩⟩⟩
      exact hY' _ hp
  · have hD1 : m < 2 → hv_ex ex m - hv_E (hv_bx ct m 3) m = d := fun z => (hv_Ed (by decide) (by decide) z).trans (hd0 z)
    obtain ⟨hd', ex', md', rg', pc', pt', ve', ep', ca', bv', ti', zs', st', pu', pv', pe', fs', be', br', sc', rc', ou', qh', ow', ce', sd', rs', oo', ct', sp', mm', sh', wn', hR', hD', hX', hY'⟩ := hv_c46 (rc := upd rc m (rc m + 1)) (ct := hv_bx ct m 3) (ex := hv_ex ex m) (qn := qn) (pr := pr) (le := le) (ba := ba) (sc := sc) (ou := ou) (qh := qh) (ow := ow) hw hR1 hm hD1
    refine ⟨hd', ex', md', rg', pc', pt', ve', ep', ca', bv', ti', zs', st', pu', pv', pe', fs', be', br', sc', rc', ou', qh', ow', ce', sd', rs', oo', ct', sp', mm', sh', wn', hR', hD', fun post hp => ?_, fun post hp => ?_⟩
    · refine br_f (nI_pos (by omega)) ?_
      unfold wpX_complete
      try dsimp only
      rw [hv_im hm]
      refine nm_r eop ⟨hv_iv hm, nm_e ⟨hv_iv hm, nm_e ⟨hv_iv hm, hv_iv hm, nm_e (br_f q ?_)⟩⟩⟩
      refine hx_bumpE (k := 3) hm (by decide) _ ?_
      exact hX' _ hp
    · refine br_f q ?_
      refine hy_bump (k := 3) hm (by decide) _ ?_
      try dsimp only
      unfold wY_execute_617
      rw [hv_ic8 hm, hv_ic12 hm, hv_im hm]
      refine ⟨hv_iw8 hm, nm_e ⟨hv_iw12 hm, nm_e ⟨hv_iv hm, hv_iv hm, nm_e ?_⟩⟩⟩
      exact hY' _ hp
end
end
section
/-! ops 1, 2, 3, 6, 7, 8, 9 -/
section
variable {fr qn pr hd cu le ba ex : Int32} {md rg pc pt ve ep ca bv ti zs st pu pv pe fs be br sc rc ou qh ow ce im sd rs oo ct : Nat → Int32} {sp mm sh wn : Nat → Int32}
variable {F m : Nat} {d : Int32}
theorem hv_alu {f : Nat} {x y : Int32} (hf : f < 8) (hx : hv_k 65536 x) (hy : hv_k 65536 y) : ∃ r, hv_k 65536 r ∧ (∀ post : Int32 → Prop, post r → wpX_alu post (fr, qn, pr, hd, cu, le, ba, ex, md, rg, pc, pt, ve, ep, ca, bv, ti, zs, st, pu, pv, pe, fs, be, br, sc, rc, ou, qh, ow, ce, im, sd, rs, oo, ct) (nI f) x y) ∧ (∀ post : Int32 → Prop, post r → wpY_alu post (fr, qn, pr, hd, cu, le, ba, md, rg, sp, mm, sc, rc, ou, qh, ow, im, sh, ct, wn) (nI f) x y) := by
  obtain rfl | rfl | rfl | rfl | rfl | rfl | rfl | rfl : f = 0 ∨ f = 1 ∨ f = 2 ∨ f = 3 ∨ f = 4 ∨ f = 5 ∨ f = 6 ∨ f = 7 := by omega
  · exact ⟨_, hv_k65535 _, fun post hp => br_f (by decide) (br_f (by decide) (br_t rfl hp)), fun post hp => br_t rfl hp⟩
  · exact ⟨_, hv_k65535 _, fun post hp => br_f (by decide) (br_f (by decide) (br_f (by decide) (br_t rfl hp))), fun post hp => br_f (by decide) (br_t rfl hp)⟩
  · exact ⟨_, hv_kanl (k := 16) (by decide) hx, fun post hp => br_f (by decide) (br_f (by decide) (br_f (by decide) (br_f (by decide) (br_t rfl hp)))), fun post hp => br_f (by decide) (br_f (by decide) (br_t rfl hp))⟩
  · exact ⟨_, hv_kor (k := 16) (by decide) hx hy, fun post hp => br_f (by decide) (br_f (by decide) (br_f (by decide) (br_f (by decide) (br_f (by decide) (br_t rfl hp))))), fun post hp => br_f (by decide) (br_f (by decide) (br_f (by decide) (br_t rfl hp)))⟩
  · exact ⟨_, hv_kxor (k := 16) (by decide) hx hy, fun post hp => br_f (by decide) (br_f (by decide) (br_f (by decide) (br_f (by decide) (br_f (by decide) (br_f (by decide) (br_t rfl hp)))))), fun post hp => br_f (by decide) (br_f (by decide) (br_f (by decide) (br_f (by decide) (br_t rfl hp))))⟩
  · exact ⟨_, hv_k65535 _, fun post hp => br_f (by decide) (br_f (by decide) (br_f (by decide) (br_f (by decide) (br_f (by decide) (br_f (by decide) (br_f (by decide) (br_t rfl hp))))))), fun post hp => br_f (by decide) (br_f (by decide) (br_f (by decide) (br_f (by decide) (br_f (by decide) (br_t rfl hp)))))⟩
  · exact ⟨_, hv_kshr hx, fun post hp => br_f (by decide) (br_f (by decide) (br_f (by decide) (br_f (by decide) (br_f (by decide) (br_f (by decide) (br_f (by decide) (br_f (by decide) (br_t rfl hp)))))))), fun post hp => br_f (by decide) (br_f (by decide) (br_f (by decide) (br_f (by decide) (br_f (by decide) (br_f (by decide) (br_t rfl hp))))))⟩
  · by_cases q : y ≤ x
    · exact ⟨0, hv_k0 (by decide), fun post hp => br_f (by decide) (br_t (by decide) (br_t q hp)), fun post hp => br_f (by decide) (br_f (by decide) (br_f (by decide) (br_f (by decide) (br_f (by decide) (br_f (by decide) (br_f (by decide) (br_t q hp)))))))⟩
    · exact ⟨1, hv_k1 (by decide), fun post hp => br_f (by decide) (br_t (by decide) (br_f q hp)), fun post hp => br_f (by decide) (br_f (by decide) (br_f (by decide) (br_f (by decide) (br_f (by decide) (br_f (by decide) (br_f (by decide) (br_f q hp)))))))⟩
theorem hx_pl {w o n : Nat} (hm : m < 3) (hw : w < 65536) (ho : w / 4096 = o) (post : Int32 → SX → Prop)
    (h : (128 ≤ nI (w % 256) → wX_plain_46 post (nI m) (nI w) (nI o) (nI (4 * m + w / 1024 % 4)) (nI (w % 256)) (nI (w % 256) - 256) fr qn pr hd cu le ba ex md rg pc pt ve ep ca bv ti zs st pu pv pe fs be br sc rc ou qh ow ce im sd rs oo ct) ∧ (¬ 128 ≤ nI (w % 256) → wX_plain_46 post (nI m) (nI w) (nI o) (nI (4 * m + w / 1024 % 4)) (nI (w % 256)) (nI (w % 256)) fr qn pr hd cu le ba ex md rg pc pt ve ep ca bv ti zs st pu pv pe fs be br sc rc ou qh ow ce im sd rs oo ct)) : wpX_plain post (fr, qn, pr, hd, cu, le, ba, ex, md, rg, pc, pt, ve, ep, ca, bv, ti, zs, st, pu, pv, pe, fs, be, br, sc, rc, ou, qh, ow, ce, im, sd, rs, oo, ct) (nI m) (nI w) := by
  unfold wpX_plain
  try dsimp only
  refine nm_r (e' := nI o) ?_ (nm_r (e' := nI (4 * m + w / 1024 % 4)) ?_ (nm_r (e' := nI (w % 256)) ?_ h))
  · rw [hv_sh12 (by omega), hv_a15 (by omega)]; exact congrArg nI (by omega)
  · rw [hv_sh10 (by omega), hv_a3 (by omega), hv_i4]
  · exact hv_a255 (by omega)
theorem hv_pl1 {w n : Nat} (hm : m < 3) (hw : w < 65536) (ho : w / 4096 = 1) (hg : hv_w 12 rg) (hn : n < 256) (epc : pc m = nI n) : ∃ (rg' : Nat → Int32) (nx : Nat), hv_w 12 rg' ∧ nx < 256 ∧
    (∀ post : Int32 → SX → Prop, post (nI nx) (fr, qn, pr, hd, cu, le, ba, ex, md, rg', pc, pt, ve, ep, ca, bv, ti, zs, st, pu, pv, pe, fs, be, br, sc, rc, ou, qh, ow, ce, im, sd, rs, oo, ct) → wpX_plain post (fr, qn, pr, hd, cu, le, ba, ex, md, rg, pc, pt, ve, ep, ca, bv, ti, zs, st, pu, pv, pe, fs, be, br, sc, rc, ou, qh, ow, ce, im, sd, rs, oo, ct) (nI m) (nI w)) ∧
    (∀ post : SY → Prop, wY_execute_604 post (nI m) (nI m * 16) (nI 1) (nI (w % 8)) (nI nx) fr qn pr hd cu le ba md rg' sp mm sc rc ou qh ow im sh ct wn → wY_execute_239 post (nI m) (nI m * 16) (nI 1) (nI (w % 256)) (nI (w % 8)) (nI (4 * m + w / 1024 % 4)) (rg (4 * m + w / 1024 % 4)) (rg (4 * m + w / 256 % 4)) (nI ((n + 1) % 256)) (nI ((n + 1) % 256)) fr qn pr hd cu le ba md rg sp mm sc rc ou qh ow im sh ct wn) := by
  have ia : vp_in (nI (4 * m + w / 1024 % 4)) 12 := vp_in_nI (by omega) (by decide)
  have hrg : ∀ j : Nat, j < 4 → hv_k 65536 (rg (4 * m + j)) := fun j hj => hg _ (by omega)
  refine ⟨upd rg (4 * m + w / 1024 % 4) (nI (w % 256)), (n + 1) % 256, hv_wu hg (hv_kn (by omega)), by omega, fun post hp => hx_pl (n := n) hm hw ho post (br_c (fun _ => ?_) (fun _ => ?_)), fun post hp => ?_⟩
  · unfold wX_plain_46
    rw [hv_sh8 (a := w) (by omega), hv_a3 (a := w / 256) (by omega), hv_i4 m (w / 256 % 4), nI_clamp (n := 4 * m + w / 256 % 4) (by omega), nI_clamp (n := 4 * m + w / 1024 % 4) (by omega), hv_im hm, epc, nI_1 n, hv_a255 (a := n + 1) (by omega)]
    refine ⟨vp_in_nI (by omega) (by decide), nm_e ⟨hv_iv hm, nm_e ?_⟩⟩
    exact br_f (by decide) (br_f (by decide) (br_t rfl (⟨ia, nm_e hp⟩)))
  · unfold wX_plain_46
    rw [hv_sh8 (a := w) (by omega), hv_a3 (a := w / 256) (by omega), hv_i4 m (w / 256 % 4), nI_clamp (n := 4 * m + w / 256 % 4) (by omega), nI_clamp (n := 4 * m + w / 1024 % 4) (by omega), hv_im hm, epc, nI_1 n, hv_a255 (a := n + 1) (by omega)]
    refine ⟨vp_in_nI (by omega) (by decide), nm_e ⟨hv_iv hm, nm_e ?_⟩⟩
    exact br_f (by decide) (br_f (by decide) (br_t rfl (⟨ia, nm_e hp⟩)))
  · refine br_t rfl ?_
    rw [nI_clamp (n := 4 * m + w / 1024 % 4) (by omega)]
    exact ⟨ia, nm_e (br_f (by decide) (br_f (by decide) (br_f (by decide) (br_f (by decide) (br_f (by decide) (br_f (by decide) (br_f (by decide) (br_f (by decide) (br_f (by decide) (br_f (by decide) (br_f (by decide) (hp))))))))))))⟩
theorem hv_pl2 {w n : Nat} (hm : m < 3) (hw : w < 65536) (ho : w / 4096 = 2) (hg : hv_w 12 rg) (hn : n < 256) (epc : pc m = nI n) : ∃ (rg' : Nat → Int32) (nx : Nat), hv_w 12 rg' ∧ nx < 256 ∧
    (∀ post : Int32 → SX → Prop, post (nI nx) (fr, qn, pr, hd, cu, le, ba, ex, md, rg', pc, pt, ve, ep, ca, bv, ti, zs, st, pu, pv, pe, fs, be, br, sc, rc, ou, qh, ow, ce, im, sd, rs, oo, ct) → wpX_plain post (fr, qn, pr, hd, cu, le, ba, ex, md, rg, pc, pt, ve, ep, ca, bv, ti, zs, st, pu, pv, pe, fs, be, br, sc, rc, ou, qh, ow, ce, im, sd, rs, oo, ct) (nI m) (nI w)) ∧
    (∀ post : SY → Prop, wY_execute_604 post (nI m) (nI m * 16) (nI 2) (nI (w % 8)) (nI nx) fr qn pr hd cu le ba md rg' sp mm sc rc ou qh ow im sh ct wn → wY_execute_239 post (nI m) (nI m * 16) (nI 2) (nI (w % 256)) (nI (w % 8)) (nI (4 * m + w / 1024 % 4)) (rg (4 * m + w / 1024 % 4)) (rg (4 * m + w / 256 % 4)) (nI ((n + 1) % 256)) (nI ((n + 1) % 256)) fr qn pr hd cu le ba md rg sp mm sc rc ou qh ow im sh ct wn) := by
  have ia : vp_in (nI (4 * m + w / 1024 % 4)) 12 := vp_in_nI (by omega) (by decide)
  have hrg : ∀ j : Nat, j < 4 → hv_k 65536 (rg (4 * m + j)) := fun j hj => hg _ (by omega)
  by_cases q : (128 : Int32) ≤ nI (w % 256)
  · refine ⟨upd rg (4 * m + w / 1024 % 4) ((rg (4 * m + w / 256 % 4) + (nI (w % 256) - 256)) &&& 65535), (n + 1) % 256, hv_wu hg (hv_k65535 _), by omega, fun post hp => hx_pl (n := n) hm hw ho post (br_t q ?_), fun post hp => ?_⟩
    · unfold wX_plain_46
      rw [hv_sh8 (a := w) (by omega), hv_a3 (a := w / 256) (by omega), hv_i4 m (w / 256 % 4), nI_clamp (n := 4 * m + w / 256 % 4) (by omega), nI_clamp (n := 4 * m + w / 1024 % 4) (by omega), hv_im hm, epc, nI_1 n, hv_a255 (a := n + 1) (by omega)]
      refine ⟨vp_in_nI (by omega) (by decide), nm_e ⟨hv_iv hm, nm_e ?_⟩⟩
      exact br_f (by decide) (br_f (by decide) (br_f (by decide) (br_t rfl (⟨ia, nm_e hp⟩))))
    · refine br_f (by decide) (br_t rfl (br_t q ?_))
      unfold wY_execute_287
      rw [nI_clamp (n := 4 * m + w / 1024 % 4) (by omega)]
      exact ⟨ia, nm_e (br_f (by decide) (br_f (by decide) (br_f (by decide) (br_f (by decide) (br_f (by decide) (br_f (by decide) (br_f (by decide) (br_f (by decide) (br_f (by decide) (br_f (by decide) (hp)))))))))))⟩
  · refine ⟨upd rg (4 * m + w / 1024 % 4) ((rg (4 * m + w / 256 % 4) + nI (w % 256)) &&& 65535), (n + 1) % 256, hv_wu hg (hv_k65535 _), by omega, fun post hp => hx_pl (n := n) hm hw ho post (br_f q ?_), fun post hp => ?_⟩
    · unfold wX_plain_46
      rw [hv_sh8 (a := w) (by omega), hv_a3 (a := w / 256) (by omega), hv_i4 m (w / 256 % 4), nI_clamp (n := 4 * m + w / 256 % 4) (by omega), nI_clamp (n := 4 * m + w / 1024 % 4) (by omega), hv_im hm, epc, nI_1 n, hv_a255 (a := n + 1) (by omega)]
      refine ⟨vp_in_nI (by omega) (by decide), nm_e ⟨hv_iv hm, nm_e ?_⟩⟩
      exact br_f (by decide) (br_f (by decide) (br_f (by decide) (br_t rfl (⟨ia, nm_e hp⟩))))
    · refine br_f (by decide) (br_t rfl (br_f q ?_))
      unfold wY_execute_287
      rw [nI_clamp (n := 4 * m + w / 1024 % 4) (by omega)]
      exact ⟨ia, nm_e (br_f (by decide) (br_f (by decide) (br_f (by decide) (br_f (by decide) (br_f (by decide) (br_f (by decide) (br_f (by decide) (br_f (by decide) (br_f (by decide) (br_f (by decide) (hp)))))))))))⟩
theorem hv_pl3 {w n : Nat} (hm : m < 3) (hw : w < 65536) (ho : w / 4096 = 3) (hg : hv_w 12 rg) (hn : n < 256) (epc : pc m = nI n) : ∃ (rg' : Nat → Int32) (nx : Nat), hv_w 12 rg' ∧ nx < 256 ∧
    (∀ post : Int32 → SX → Prop, post (nI nx) (fr, qn, pr, hd, cu, le, ba, ex, md, rg', pc, pt, ve, ep, ca, bv, ti, zs, st, pu, pv, pe, fs, be, br, sc, rc, ou, qh, ow, ce, im, sd, rs, oo, ct) → wpX_plain post (fr, qn, pr, hd, cu, le, ba, ex, md, rg, pc, pt, ve, ep, ca, bv, ti, zs, st, pu, pv, pe, fs, be, br, sc, rc, ou, qh, ow, ce, im, sd, rs, oo, ct) (nI m) (nI w)) ∧
    (∀ post : SY → Prop, wY_execute_604 post (nI m) (nI m * 16) (nI 3) (nI (w % 8)) (nI nx) fr qn pr hd cu le ba md rg' sp mm sc rc ou qh ow im sh ct wn → wY_execute_239 post (nI m) (nI m * 16) (nI 3) (nI (w % 256)) (nI (w % 8)) (nI (4 * m + w / 1024 % 4)) (rg (4 * m + w / 1024 % 4)) (rg (4 * m + w / 256 % 4)) (nI ((n + 1) % 256)) (nI ((n + 1) % 256)) fr qn pr hd cu le ba md rg sp mm sc rc ou qh ow im sh ct wn) := by
  have ia : vp_in (nI (4 * m + w / 1024 % 4)) 12 := vp_in_nI (by omega) (by decide)
  have hrg : ∀ j : Nat, j < 4 → hv_k 65536 (rg (4 * m + j)) := fun j hj => hg _ (by omega)
  obtain ⟨r, hr, aX, aY⟩ := hv_alu (fr := fr) (qn := qn) (pr := pr) (hd := hd) (cu := cu) (le := le) (ba := ba) (ex := ex) (md := md) (rg := rg) (pc := pc) (pt := pt) (ve := ve) (ep := ep) (ca := ca) (bv := bv) (ti := ti) (zs := zs) (st := st) (pu := pu) (pv := pv) (pe := pe) (fs := fs) (be := be) (br := br) (sc := sc) (rc := rc) (ou := ou) (qh := qh) (ow := ow) (ce := ce) (im := im) (sd := sd) (rs := rs) (oo := oo) (ct := ct) (sp := sp) (mm := mm) (sh := sh) (wn := wn) (f := w % 8) (by omega) (hrg (w / 1024 % 4) (by omega)) (hrg (w / 256 % 4) (by omega))
  have e7 : nI (w % 256) &&& 7 = nI (w % 8) := by rw [hv_a7 (by omega)]; exact congrArg nI (by omega)
  refine ⟨upd rg (4 * m + w / 1024 % 4) r, (n + 1) % 256, hv_wu hg hr, by omega, fun post hp => hx_pl (n := n) hm hw ho post (br_c (fun _ => ?_) (fun _ => ?_)), fun post hp => ?_⟩
  · unfold wX_plain_46
    rw [hv_sh8 (a := w) (by omega), hv_a3 (a := w / 256) (by omega), hv_i4 m (w / 256 % 4), nI_clamp (n := 4 * m + w / 256 % 4) (by omega), nI_clamp (n := 4 * m + w / 1024 % 4) (by omega), hv_im hm, epc, nI_1 n, hv_a255 (a := n + 1) (by omega)]
    refine ⟨vp_in_nI (by omega) (by decide), nm_e ⟨hv_iv hm, nm_e ?_⟩⟩
    rw [e7]
    exact br_f (by decide) (br_f (by decide) (br_f (by decide) (br_f (by decide) (br_t rfl (⟨ia, aX _ ⟨ia, nm_e hp⟩⟩)))))
  · unfold wX_plain_46
    rw [hv_sh8 (a := w) (by omega), hv_a3 (a := w / 256) (by omega), hv_i4 m (w / 256 % 4), nI_clamp (n := 4 * m + w / 256 % 4) (by omega), nI_clamp (n := 4 * m + w / 1024 % 4) (by omega), hv_im hm, epc, nI_1 n, hv_a255 (a := n + 1) (by omega)]
    refine ⟨vp_in_nI (by omega) (by decide), nm_e ⟨hv_iv hm, nm_e ?_⟩⟩
    rw [e7]
    exact br_f (by decide) (br_f (by decide) (br_f (by decide) (br_f (by decide) (br_t rfl (⟨ia, aX _ ⟨ia, nm_e hp⟩⟩)))))
  · refine br_f (by decide) (br_f (by decide) (br_t rfl (aY _ ?_)))
    try dsimp only
    rw [nI_clamp (n := 4 * m + w / 1024 % 4) (by omega)]
    exact ⟨ia, nm_e (br_f (by decide) (br_f (by decide) (br_f (by decide) (br_f (by decide) (br_f (by decide) (br_f (by decide) (br_f (by decide) (br_f (by decide) (br_f (by decide) (hp))))))))))⟩
theorem hv_pl6 {w n : Nat} (hm : m < 3) (hw : w < 65536) (ho : w / 4096 = 6) (hg : hv_w 12 rg) (hn : n < 256) (epc : pc m = nI n) : ∃ (rg' : Nat → Int32) (nx : Nat), hv_w 12 rg' ∧ nx < 256 ∧
    (∀ post : Int32 → SX → Prop, post (nI nx) (fr, qn, pr, hd, cu, le, ba, ex, md, rg', pc, pt, ve, ep, ca, bv, ti, zs, st, pu, pv, pe, fs, be, br, sc, rc, ou, qh, ow, ce, im, sd, rs, oo, ct) → wpX_plain post (fr, qn, pr, hd, cu, le, ba, ex, md, rg, pc, pt, ve, ep, ca, bv, ti, zs, st, pu, pv, pe, fs, be, br, sc, rc, ou, qh, ow, ce, im, sd, rs, oo, ct) (nI m) (nI w)) ∧
    (∀ post : SY → Prop, wY_execute_604 post (nI m) (nI m * 16) (nI 6) (nI (w % 8)) (nI nx) fr qn pr hd cu le ba md rg' sp mm sc rc ou qh ow im sh ct wn → wY_execute_239 post (nI m) (nI m * 16) (nI 6) (nI (w % 256)) (nI (w % 8)) (nI (4 * m + w / 1024 % 4)) (rg (4 * m + w / 1024 % 4)) (rg (4 * m + w / 256 % 4)) (nI ((n + 1) % 256)) (nI ((n + 1) % 256)) fr qn pr hd cu le ba md rg sp mm sc rc ou qh ow im sh ct wn) := by
  have ia : vp_in (nI (4 * m + w / 1024 % 4)) 12 := vp_in_nI (by omega) (by decide)
  have hrg : ∀ j : Nat, j < 4 → hv_k 65536 (rg (4 * m + j)) := fun j hj => hg _ (by omega)
  by_cases q : rg (4 * m + w / 1024 % 4) = 0
  · refine ⟨rg, w % 256, hg, by omega, fun post hp => hx_pl (n := n) hm hw ho post (br_c (fun _ => ?_) (fun _ => ?_)), fun post hp => ?_⟩
    · unfold wX_plain_46
      rw [hv_sh8 (a := w) (by omega), hv_a3 (a := w / 256) (by omega), hv_i4 m (w / 256 % 4), nI_clamp (n := 4 * m + w / 256 % 4) (by omega), nI_clamp (n := 4 * m + w / 1024 % 4) (by omega), hv_im hm, epc, nI_1 n, hv_a255 (a := n + 1) (by omega)]
      refine ⟨vp_in_nI (by omega) (by decide), nm_e ⟨hv_iv hm, nm_e ?_⟩⟩
      exact br_f (by decide) (br_f (by decide) (br_f (by decide) (br_f (by decide) (br_f (by decide) (br_f (by decide) (br_f (by decide) (br_t rfl (⟨ia, br_t q hp⟩))))))))
    · unfold wX_plain_46
      rw [hv_sh8 (a := w) (by omega), hv_a3 (a := w / 256) (by omega), hv_i4 m (w / 256 % 4), nI_clamp (n := 4 * m + w / 256 % 4) (by omega), nI_clamp (n := 4 * m + w / 1024 % 4) (by omega), hv_im hm, epc, nI_1 n, hv_a255 (a := n + 1) (by omega)]
      refine ⟨vp_in_nI (by omega) (by decide), nm_e ⟨hv_iv hm, nm_e ?_⟩⟩
      exact br_f (by decide) (br_f (by decide) (br_f (by decide) (br_f (by decide) (br_f (by decide) (br_f (by decide) (br_f (by decide) (br_t rfl (⟨ia, br_t q hp⟩))))))))
    · exact br_f (by decide) (br_f (by decide) (br_f (by decide) (br_t rfl (br_t q (br_f (by decide) (br_f (by decide) (br_f (by decide) (br_f (by decide) (br_f (by decide) (br_f (by decide) (br_f (by decide) (br_f (by decide) (hp)))))))))))))
  · refine ⟨rg, (n + 1) % 256, hg, by omega, fun post hp => hx_pl (n := n) hm hw ho post (br_c (fun _ => ?_) (fun _ => ?_)), fun post hp => ?_⟩
    · unfold wX_plain_46
      rw [hv_sh8 (a := w) (by omega), hv_a3 (a := w / 256) (by omega), hv_i4 m (w / 256 % 4), nI_clamp (n := 4 * m + w / 256 % 4) (by omega), nI_clamp (n := 4 * m + w / 1024 % 4) (by omega), hv_im hm, epc, nI_1 n, hv_a255 (a := n + 1) (by omega)]
      refine ⟨vp_in_nI (by omega) (by decide), nm_e ⟨hv_iv hm, nm_e ?_⟩⟩
      exact br_f (by decide) (br_f (by decide) (br_f (by decide) (br_f (by decide) (br_f (by decide) (br_f (by decide) (br_f (by decide) (br_t rfl (⟨ia, br_f q hp⟩))))))))
    · unfold wX_plain_46
      rw [hv_sh8 (a := w) (by omega), hv_a3 (a := w / 256) (by omega), hv_i4 m (w / 256 % 4), nI_clamp (n := 4 * m + w / 256 % 4) (by omega), nI_clamp (n := 4 * m + w / 1024 % 4) (by omega), hv_im hm, epc, nI_1 n, hv_a255 (a := n + 1) (by omega)]
      refine ⟨vp_in_nI (by omega) (by decide), nm_e ⟨hv_iv hm, nm_e ?_⟩⟩
      exact br_f (by decide) (br_f (by decide) (br_f (by decide) (br_f (by decide) (br_f (by decide) (br_f (by decide) (br_f (by decide) (br_t rfl (⟨ia, br_f q hp⟩))))))))
    · exact br_f (by decide) (br_f (by decide) (br_f (by decide) (br_t rfl (br_f q (br_f (by decide) (br_f (by decide) (br_f (by decide) (br_f (by decide) (br_f (by decide) (br_f (by decide) (br_f (by decide) (br_f (by decide) (hp)))))))))))))
theorem hv_pl7 {w n : Nat} (hm : m < 3) (hw : w < 65536) (ho : w / 4096 = 7) (hg : hv_w 12 rg) (hn : n < 256) (epc : pc m = nI n) : ∃ (rg' : Nat → Int32) (nx : Nat), hv_w 12 rg' ∧ nx < 256 ∧
    (∀ post : Int32 → SX → Prop, post (nI nx) (fr, qn, pr, hd, cu, le, ba, ex, md, rg', pc, pt, ve, ep, ca, bv, ti, zs, st, pu, pv, pe, fs, be, br, sc, rc, ou, qh, ow, ce, im, sd, rs, oo, ct) → wpX_plain post (fr, qn, pr, hd, cu, le, ba, ex, md, rg, pc, pt, ve, ep, ca, bv, ti, zs, st, pu, pv, pe, fs, be, br, sc, rc, ou, qh, ow, ce, im, sd, rs, oo, ct) (nI m) (nI w)) ∧
    (∀ post : SY → Prop, wY_execute_604 post (nI m) (nI m * 16) (nI 7) (nI (w % 8)) (nI nx) fr qn pr hd cu le ba md rg' sp mm sc rc ou qh ow im sh ct wn → wY_execute_239 post (nI m) (nI m * 16) (nI 7) (nI (w % 256)) (nI (w % 8)) (nI (4 * m + w / 1024 % 4)) (rg (4 * m + w / 1024 % 4)) (rg (4 * m + w / 256 % 4)) (nI ((n + 1) % 256)) (nI ((n + 1) % 256)) fr qn pr hd cu le ba md rg sp mm sc rc ou qh ow im sh ct wn) := by
  have ia : vp_in (nI (4 * m + w / 1024 % 4)) 12 := vp_in_nI (by omega) (by decide)
  have hrg : ∀ j : Nat, j < 4 → hv_k 65536 (rg (4 * m + j)) := fun j hj => hg _ (by omega)
  by_cases q : rg (4 * m + w / 1024 % 4) = 0
  · refine ⟨rg, (n + 1) % 256, hg, by omega, fun post hp => hx_pl (n := n) hm hw ho post (br_c (fun _ => ?_) (fun _ => ?_)), fun post hp => ?_⟩
    · unfold wX_plain_46
      rw [hv_sh8 (a := w) (by omega), hv_a3 (a := w / 256) (by omega), hv_i4 m (w / 256 % 4), nI_clamp (n := 4 * m + w / 256 % 4) (by omega), nI_clamp (n := 4 * m + w / 1024 % 4) (by omega), hv_im hm, epc, nI_1 n, hv_a255 (a := n + 1) (by omega)]
      refine ⟨vp_in_nI (by omega) (by decide), nm_e ⟨hv_iv hm, nm_e ?_⟩⟩
      exact br_f (by decide) (br_f (by decide) (br_f (by decide) (br_f (by decide) (br_f (by decide) (br_f (by decide) (br_f (by decide) (br_f (by decide) (br_t rfl (⟨ia, br_t q hp⟩)))))))))
    · unfold wX_plain_46
      rw [hv_sh8 (a := w) (by omega), hv_a3 (a := w / 256) (by omega), hv_i4 m (w / 256 % 4), nI_clamp (n := 4 * m + w / 256 % 4) (by omega), nI_clamp (n := 4 * m + w / 1024 % 4) (by omega), hv_im hm, epc, nI_1 n, hv_a255 (a := n + 1) (by omega)]
      refine ⟨vp_in_nI (by omega) (by decide), nm_e ⟨hv_iv hm, nm_e ?_⟩⟩
      exact br_f (by decide) (br_f (by decide) (br_f (by decide) (br_f (by decide) (br_f (by decide) (br_f (by decide) (br_f (by decide) (br_f (by decide) (br_t rfl (⟨ia, br_t q hp⟩)))))))))
    · exact br_f (by decide) (br_f (by decide) (br_f (by decide) (br_f (by decide) (br_t rfl (br_t q (br_f (by decide) (br_f (by decide) (br_f (by decide) (br_f (by decide) (br_f (by decide) (br_f (by decide) (br_f (by decide) (hp)))))))))))))
  · refine ⟨rg, w % 256, hg, by omega, fun post hp => hx_pl (n := n) hm hw ho post (br_c (fun _ => ?_) (fun _ => ?_)), fun post hp => ?_⟩
    · unfold wX_plain_46
      rw [hv_sh8 (a := w) (by omega), hv_a3 (a := w / 256) (by omega), hv_i4 m (w / 256 % 4), nI_clamp (n := 4 * m + w / 256 % 4) (by omega), nI_clamp (n := 4 * m + w / 1024 % 4) (by omega), hv_im hm, epc, nI_1 n, hv_a255 (a := n + 1) (by omega)]
      refine ⟨vp_in_nI (by omega) (by decide), nm_e ⟨hv_iv hm, nm_e ?_⟩⟩
      exact br_f (by decide) (br_f (by decide) (br_f (by decide) (br_f (by decide) (br_f (by decide) (br_f (by decide) (br_f (by decide) (br_f (by decide) (br_t rfl (⟨ia, br_f q hp⟩)))))))))
    · unfold wX_plain_46
      rw [hv_sh8 (a := w) (by omega), hv_a3 (a := w / 256) (by omega), hv_i4 m (w / 256 % 4), nI_clamp (n := 4 * m + w / 256 % 4) (by omega), nI_clamp (n := 4 * m + w / 1024 % 4) (by omega), hv_im hm, epc, nI_1 n, hv_a255 (a := n + 1) (by omega)]
      refine ⟨vp_in_nI (by omega) (by decide), nm_e ⟨hv_iv hm, nm_e ?_⟩⟩
      exact br_f (by decide) (br_f (by decide) (br_f (by decide) (br_f (by decide) (br_f (by decide) (br_f (by decide) (br_f (by decide) (br_f (by decide) (br_t rfl (⟨ia, br_f q hp⟩)))))))))
    · exact br_f (by decide) (br_f (by decide) (br_f (by decide) (br_f (by decide) (br_t rfl (br_f q (br_f (by decide) (br_f (by decide) (br_f (by decide) (br_f (by decide) (br_f (by decide) (br_f (by decide) (br_f (by decide) (hp)))))))))))))
theorem hv_pl8 {w n : Nat} (hm : m < 3) (hw : w < 65536) (ho : w / 4096 = 8) (hg : hv_w 12 rg) (hn : n < 256) (epc : pc m = nI n) : ∃ (rg' : Nat → Int32) (nx : Nat), hv_w 12 rg' ∧ nx < 256 ∧
    (∀ post : Int32 → SX → Prop, post (nI nx) (fr, qn, pr, hd, cu, le, ba, ex, md, rg', pc, pt, ve, ep, ca, bv, ti, zs, st, pu, pv, pe, fs, be, br, sc, rc, ou, qh, ow, ce, im, sd, rs, oo, ct) → wpX_plain post (fr, qn, pr, hd, cu, le, ba, ex, md, rg, pc, pt, ve, ep, ca, bv, ti, zs, st, pu, pv, pe, fs, be, br, sc, rc, ou, qh, ow, ce, im, sd, rs, oo, ct) (nI m) (nI w)) ∧
    (∀ post : SY → Prop, wY_execute_604 post (nI m) (nI m * 16) (nI 8) (nI (w % 8)) (nI nx) fr qn pr hd cu le ba md rg' sp mm sc rc ou qh ow im sh ct wn → wY_execute_239 post (nI m) (nI m * 16) (nI 8) (nI (w % 256)) (nI (w % 8)) (nI (4 * m + w / 1024 % 4)) (rg (4 * m + w / 1024 % 4)) (rg (4 * m + w / 256 % 4)) (nI ((n + 1) % 256)) (nI ((n + 1) % 256)) fr qn pr hd cu le ba md rg sp mm sc rc ou qh ow im sh ct wn) := by
  have ia : vp_in (nI (4 * m + w / 1024 % 4)) 12 := vp_in_nI (by omega) (by decide)
  have hrg : ∀ j : Nat, j < 4 → hv_k 65536 (rg (4 * m + j)) := fun j hj => hg _ (by omega)
  refine ⟨upd rg (4 * m + w / 1024 % 4) (nI ((n + 1) % 256)), w % 256, hv_wu hg (hv_kn (by omega)), by omega, fun post hp => hx_pl (n := n) hm hw ho post (br_c (fun _ => ?_) (fun _ => ?_)), fun post hp => ?_⟩
  · unfold wX_plain_46
    rw [hv_sh8 (a := w) (by omega), hv_a3 (a := w / 256) (by omega), hv_i4 m (w / 256 % 4), nI_clamp (n := 4 * m + w / 256 % 4) (by omega), nI_clamp (n := 4 * m + w / 1024 % 4) (by omega), hv_im hm, epc, nI_1 n, hv_a255 (a := n + 1) (by omega)]
    refine ⟨vp_in_nI (by omega) (by decide), nm_e ⟨hv_iv hm, nm_e ?_⟩⟩
    exact br_f (by decide) (br_f (by decide) (br_f (by decide) (br_f (by decide) (br_f (by decide) (br_f (by decide) (br_f (by decide) (br_f (by decide) (br_f (by decide) (br_t rfl (⟨ia, nm_e hp⟩))))))))))
  · unfold wX_plain_46
    rw [hv_sh8 (a := w) (by omega), hv_a3 (a := w / 256) (by omega), hv_i4 m (w / 256 % 4), nI_clamp (n := 4 * m + w / 256 % 4) (by omega), nI_clamp (n := 4 * m + w / 1024 % 4) (by omega), hv_im hm, epc, nI_1 n, hv_a255 (a := n + 1) (by omega)]
    refine ⟨vp_in_nI (by omega) (by decide), nm_e ⟨hv_iv hm, nm_e ?_⟩⟩
    exact br_f (by decide) (br_f (by decide) (br_f (by decide) (br_f (by decide) (br_f (by decide) (br_f (by decide) (br_f (by decide) (br_f (by decide) (br_f (by decide) (br_t rfl (⟨ia, nm_e hp⟩))))))))))
  · refine br_f (by decide) (br_f (by decide) (br_f (by decide) (br_f (by decide) (br_f (by decide) (br_t rfl ?_)))))
    rw [nI_clamp (n := 4 * m + w / 1024 % 4) (by omega)]
    exact ⟨ia, nm_e (br_f (by decide) (br_f (by decide) (br_f (by decide) (br_f (by decide) (br_f (by decide) (br_f (by decide) (hp)))))))⟩
theorem hv_pl9 {w n : Nat} (hm : m < 3) (hw : w < 65536) (ho : w / 4096 = 9) (hg : hv_w 12 rg) (hn : n < 256) (epc : pc m = nI n) : ∃ (rg' : Nat → Int32) (nx : Nat), hv_w 12 rg' ∧ nx < 256 ∧
    (∀ post : Int32 → SX → Prop, post (nI nx) (fr, qn, pr, hd, cu, le, ba, ex, md, rg', pc, pt, ve, ep, ca, bv, ti, zs, st, pu, pv, pe, fs, be, br, sc, rc, ou, qh, ow, ce, im, sd, rs, oo, ct) → wpX_plain post (fr, qn, pr, hd, cu, le, ba, ex, md, rg, pc, pt, ve, ep, ca, bv, ti, zs, st, pu, pv, pe, fs, be, br, sc, rc, ou, qh, ow, ce, im, sd, rs, oo, ct) (nI m) (nI w)) ∧
    (∀ post : SY → Prop, wY_execute_604 post (nI m) (nI m * 16) (nI 9) (nI (w % 8)) (nI nx) fr qn pr hd cu le ba md rg' sp mm sc rc ou qh ow im sh ct wn → wY_execute_239 post (nI m) (nI m * 16) (nI 9) (nI (w % 256)) (nI (w % 8)) (nI (4 * m + w / 1024 % 4)) (rg (4 * m + w / 1024 % 4)) (rg (4 * m + w / 256 % 4)) (nI ((n + 1) % 256)) (nI ((n + 1) % 256)) fr qn pr hd cu le ba md rg sp mm sc rc ou qh ow im sh ct wn) := by
  have ia : vp_in (nI (4 * m + w / 1024 % 4)) 12 := vp_in_nI (by omega) (by decide)
  have hrg : ∀ j : Nat, j < 4 → hv_k 65536 (rg (4 * m + j)) := fun j hj => hg _ (by omega)
  obtain ⟨j, hj, ej⟩ := hv_k255 (rg (4 * m + w / 256 % 4) + nI (w % 256))
  refine ⟨rg, j, hg, hj, fun post hp => hx_pl (n := n) hm hw ho post (br_c (fun _ => ?_) (fun _ => ?_)), fun post hp => ?_⟩
  · unfold wX_plain_46
    rw [hv_sh8 (a := w) (by omega), hv_a3 (a := w / 256) (by omega), hv_i4 m (w / 256 % 4), nI_clamp (n := 4 * m + w / 256 % 4) (by omega), nI_clamp (n := 4 * m + w / 1024 % 4) (by omega), hv_im hm, epc, nI_1 n, hv_a255 (a := n + 1) (by omega)]
    refine ⟨vp_in_nI (by omega) (by decide), nm_e ⟨hv_iv hm, nm_e ?_⟩⟩
    exact br_f (by decide) (br_f (by decide) (br_f (by decide) (br_f (by decide) (br_f (by decide) (br_f (by decide) (br_f (by decide) (br_f (by decide) (br_f (by decide) (br_f (by decide) (br_t rfl (nm_r ej hp)))))))))))
  · unfold wX_plain_46
    rw [hv_sh8 (a := w) (by omega), hv_a3 (a := w / 256) (by omega), hv_i4 m (w / 256 % 4), nI_clamp (n := 4 * m + w / 256 % 4) (by omega), nI_clamp (n := 4 * m + w / 1024 % 4) (by omega), hv_im hm, epc, nI_1 n, hv_a255 (a := n + 1) (by omega)]
    refine ⟨vp_in_nI (by omega) (by decide), nm_e ⟨hv_iv hm, nm_e ?_⟩⟩
    exact br_f (by decide) (br_f (by decide) (br_f (by decide) (br_f (by decide) (br_f (by decide) (br_f (by decide) (br_f (by decide) (br_f (by decide) (br_f (by decide) (br_f (by decide) (br_t rfl (nm_r ej hp)))))))))))
  · exact br_f (by decide) (br_f (by decide) (br_f (by decide) (br_f (by decide) (br_f (by decide) (br_f (by decide) (br_t rfl (nm_r ej (br_f (by decide) (br_f (by decide) (br_f (by decide) (br_f (by decide) (br_f (by decide) (hp)))))))))))))
end
end
section
/-! ops 11 to 15 -/
def hv_Q (F m w : Nat) (d : Int32) (fr qn pr cu le ba : Int32) (im : Nat → Int32) (VX : (Int32 → SX → Prop) → Prop) (VY : (SY → Prop) → Prop) : Prop :=
  ∃ (hd ex : Int32) (md rg pc pt ve ep ca bv ti zs st pu pv pe fs be br sc rc ou qh ow ce sd rs oo ct sp mm sh wn : Nat → Int32) (nx : Nat), nx < 256 ∧ hv_R F fr hd cu md rg im ce sd rs oo mm sh wn sp pt ve ep ca bv ti zs st pc pu pv pe fs be br ∧ (m < 2 → ex - hv_E ct m = d) ∧ (∀ post, post (nI nx) (fr, qn, pr, hd, cu, le, ba, ex, md, rg, pc, pt, ve, ep, ca, bv, ti, zs, st, pu, pv, pe, fs, be, br, sc, rc, ou, qh, ow, ce, im, sd, rs, oo, ct) → VX post) ∧ (∀ post, wY_execute_604 post (nI m) (nI m * 16) (nI (w / 4096)) (nI (w % 8)) (nI nx) fr qn pr hd cu le ba md rg sp mm sc rc ou qh ow im sh ct wn → VY post)
section
variable {fr qn pr hd cu le ba ex : Int32} {md rg pc pt ve ep ca bv ti zs st pu pv pe fs be br sc rc ou qh ow ce im sd rs oo ct : Nat → Int32} {sp mm sh wn : Nat → Int32}
variable {F m w : Nat} {d : Int32}
theorem hx_rs {s : Nat} (hm : m < 3) (hs : s < 15) (hS : hv_S sp pt ve ep ca bv ti zs st pc pu pv pe fs be br) (post : Int32 → Prop) (hp : post (sp (16 * m + s))) : wpX_readSpecial post (fr, qn, pr, hd, cu, le, ba, ex, md, rg, pc, pt, ve, ep, ca, bv, ti, zs, st, pu, pv, pe, fs, be, br, sc, rc, ou, qh, ow, ce, im, sd, rs, oo, ct) (nI m) (nI s) := by
  unfold wpX_readSpecial
  try dsimp only
  rw [hv_im hm]
  obtain rfl | rfl | rfl | rfl | rfl | rfl | rfl | rfl | rfl | rfl | rfl | rfl | rfl | rfl | rfl : s = 0 ∨ s = 1 ∨ s = 2 ∨ s = 3 ∨ s = 4 ∨ s = 5 ∨ s = 6 ∨ s = 7 ∨ s = 8 ∨ s = 9 ∨ s = 10 ∨ s = 11 ∨ s = 12 ∨ s = 13 ∨ s = 14 := by omega
  · rw [← hv_S0 hS hm] at hp
    exact br_f (by decide) (br_f (by decide) (br_t rfl ⟨hv_iv hm, hp⟩))
  · rw [← hv_S1 hS hm] at hp
    exact br_f (by decide) (br_f (by decide) (br_f (by decide) (br_t rfl ⟨hv_iv hm, hp⟩)))
  · rw [← hv_S2 hS hm] at hp
    exact br_f (by decide) (br_f (by decide) (br_f (by decide) (br_f (by decide) (br_t rfl ⟨hv_iv hm, hp⟩))))
  · rw [← hv_S3 hS hm] at hp
    exact br_f (by decide) (br_f (by decide) (br_f (by decide) (br_f (by decide) (br_f (by decide) (br_t rfl ⟨hv_iv hm, hp⟩)))))
  · rw [← hv_S4 hS hm] at hp
    exact br_f (by decide) (br_f (by decide) (br_f (by decide) (br_f (by decide) (br_f (by decide) (br_f (by decide) (br_t rfl ⟨hv_iv hm, hp⟩))))))
  · rw [← hv_S5 hS hm] at hp
    exact br_f (by decide) (br_f (by decide) (br_f (by decide) (br_f (by decide) (br_f (by decide) (br_f (by decide) (br_f (by decide) (br_t rfl ⟨hv_iv hm, hp⟩)))))))
  · rw [← hv_S6 hS hm] at hp
    exact br_f (by decide) (br_f (by decide) (br_f (by decide) (br_f (by decide) (br_f (by decide) (br_f (by decide) (br_f (by decide) (br_f (by decide) (br_t rfl ⟨hv_iv hm, hp⟩))))))))
  · rw [← hv_S7 hS hm] at hp
    exact br_f (by decide) (br_f (by decide) (br_f (by decide) (br_f (by decide) (br_f (by decide) (br_f (by decide) (br_f (by decide) (br_f (by decide) (br_f (by decide) (br_t rfl ⟨hv_iv hm, hp⟩)))))))))
  · rw [← hv_S8 hS hm] at hp
    exact br_f (by decide) (br_f (by decide) (br_f (by decide) (br_f (by decide) (br_f (by decide) (br_f (by decide) (br_f (by decide) (br_f (by decide) (br_f (by decide) (br_f (by decide) (br_t rfl ⟨hv_iv hm, hp⟩))))))))))
  · rw [← hv_S9 hS hm] at hp
    exact br_f (by decide) (br_f (by decide) (br_f (by decide) (br_f (by decide) (br_f (by decide) (br_f (by decide) (br_f (by decide) (br_f (by decide) (br_f (by decide) (br_f (by decide) (br_f (by decide) (br_t rfl ⟨hv_iv hm, hp⟩)))))))))))
  · rw [← hv_S10 hS hm] at hp
    exact br_f (by decide) (br_f (by decide) (br_f (by decide) (br_f (by decide) (br_f (by decide) (br_f (by decide) (br_f (by decide) (br_f (by decide) (br_f (by decide) (br_f (by decide) (br_f (by decide) (br_f (by decide) (br_t rfl ⟨hv_iv hm, hp⟩))))))))))))
  · rw [← hv_S11 hS hm] at hp
    exact br_f (by decide) (br_f (by decide) (br_f (by decide) (br_f (by decide) (br_f (by decide) (br_f (by decide) (br_f (by decide) (br_f (by decide) (br_f (by decide) (br_f (by decide) (br_f (by decide) (br_f (by decide) (br_f (by decide) (br_t rfl ⟨hv_iv hm, hp⟩)))))))))))))
  · rw [← hv_S12 hS hm] at hp
    exact br_f (by decide) (br_f (by decide) (br_f (by decide) (br_f (by decide) (br_f (by decide) (br_f (by decide) (br_f (by decide) (br_f (by decide) (br_f (by decide) (br_f (by decide) (br_f (by decide) (br_f (by decide) (br_f (by decide) (br_f (by decide) (br_t rfl ⟨hv_iv hm, hp⟩))))))))))))))
  · rw [← hv_S13 hS hm] at hp
    exact br_f (by decide) (br_f (by decide) (br_f (by decide) (br_f (by decide) (br_f (by decide) (br_f (by decide) (br_f (by decide) (br_f (by decide) (br_f (by decide) (br_f (by decide) (br_f (by decide) (br_f (by decide) (br_f (by decide) (br_f (by decide) (br_f (by decide) (br_t rfl ⟨hv_iv hm, hp⟩)))))))))))))))
  · rw [← hv_S14 hS hm] at hp
    exact br_f (by decide) (br_t (by decide) ⟨hv_iv hm, hp⟩)
/-! Y's way from 239 on -/
theorem hv_pr11 {n : Nat} (hw : w < 65536) (hR : hv_R F fr hd cu md rg im ce sd rs oo mm sh wn sp pt ve ep ca bv ti zs st pc pu pv pe fs be br) (hm : m < 3) (hon : ¬ md m = 0) (hd0 : m < 2 → ex - hv_E ct m = d) (hn : n < 256) (epc : pc m = nI n) (ho : w / 4096 = 11) : hv_Q F m w d fr qn pr cu le ba im (fun post => wpX_privileged post (fr, qn, pr, hd, cu, le, ba, ex, md, rg, pc, pt, ve, ep, ca, bv, ti, zs, st, pu, pv, pe, fs, be, br, sc, rc, ou, qh, ow, ce, im, sd, rs, oo, ct) (nI m) (nI w)) (fun post => wY_execute_239 post (nI m) (nI m * 16) (nI (w / 4096)) (nI (w % 256)) (nI (w % 8)) (nI (4 * m + w / 1024 % 4)) (rg (4 * m + w / 1024 % 4)) (rg (4 * m + w / 256 % 4)) (nI ((n + 1) % 256)) (nI ((n + 1) % 256)) fr qn pr hd cu le ba md rg sp mm sc rc ou qh ow im sh ct wn) := by
  obtain ⟨h2, hfr, hh, hcu, hg, hB, hS, hZ, h⟩ := id hR
  have ia : vp_in (nI (4 * m + w / 1024 % 4)) 12 := vp_in_nI (by omega) (by decide)
  unfold hv_Q
  rw [ho]
  refine ⟨hd, ex, md, upd rg (4 * m + w / 1024 % 4) (sp (16 * m + w % 8)), pc, pt, ve, ep, ca, bv, ti, zs, st, pu, pv, pe, fs, be, br, sc, rc, ou, qh, ow, ce, sd, rs, oo, ct, sp, mm, sh, wn, (n + 1) % 256, by omega, ⟨h2, hfr, hh, hcu, hv_wu hg (hv_B16 hB hm (by omega)), hB, hS, hZ, h⟩, hd0, fun post hp => ?_, fun post hp => ?_⟩
  · unfold wpX_privileged
    try dsimp only
    rw [hv_im hm, epc, nI_1 n, hv_a255 (a := n + 1) (by omega)]
    refine nm_r (e' := nI 11) (by rw [hv_sh12 (by omega), hv_a15 (by omega)]; exact congrArg nI (by omega)) (nm_r (e' := nI (4 * m + w / 1024 % 4)) (by rw [hv_sh10 (by omega), hv_a3 (by omega), hv_i4]) (nm_r (e' := nI (w % 8)) (hv_a7 (by omega)) ⟨hv_iv hm, nm_e ?_⟩))
    refine br_f (by decide) (br_f (by decide) (br_t rfl ?_))
    refine hx_rs hm (by omega) hS _ ?_
    try dsimp only
    rw [nI_clamp (n := 4 * m + w / 1024 % 4) (by omega)]
    exact ⟨ia, nm_e hp⟩
  · have ec : (nI m * 16 + nI (w % 8)).toNatClampNeg = 16 * m + w % 8 := by rw [hv_i16]; exact nI_clamp (by omega)
    have iw : vp_in (nI m * 16 + nI (w % 8)) 48 := by rw [hv_i16]; exact vp_in_nI (by omega) (by decide)
    refine br_f (by decide) (br_f (by decide) (br_f (by decide) (br_f (by decide) (br_f (by decide) (br_f (by decide) (br_f (by decide) (br_t rfl ?_)))))))
    rw [nI_clamp (n := 4 * m + w / 1024 % 4) (by omega), ec]
    exact ⟨iw, ia, nm_e (br_f (by decide) (br_f (by decide) (br_f (by decide) (br_f (by decide) (hp)))))⟩
theorem hv_pr13 {n : Nat} (hw : w < 65536) (hR : hv_R F fr hd cu md rg im ce sd rs oo mm sh wn sp pt ve ep ca bv ti zs st pc pu pv pe fs be br) (hm : m < 3) (hon : ¬ md m = 0) (hd0 : m < 2 → ex - hv_E ct m = d) (hn : n < 256) (epc : pc m = nI n) (ho : w / 4096 = 13) : hv_Q F m w d fr qn pr cu le ba im (fun post => wpX_privileged post (fr, qn, pr, hd, cu, le, ba, ex, md, rg, pc, pt, ve, ep, ca, bv, ti, zs, st, pu, pv, pe, fs, be, br, sc, rc, ou, qh, ow, ce, im, sd, rs, oo, ct) (nI m) (nI w)) (fun post => wY_execute_239 post (nI m) (nI m * 16) (nI (w / 4096)) (nI (w % 256)) (nI (w % 8)) (nI (4 * m + w / 1024 % 4)) (rg (4 * m + w / 1024 % 4)) (rg (4 * m + w / 256 % 4)) (nI ((n + 1) % 256)) (nI ((n + 1) % 256)) fr qn pr hd cu le ba md rg sp mm sc rc ou qh ow im sh ct wn) := by
  obtain ⟨h2, hfr, hh, hcu, hg, hB, hS, hZ, h⟩ := id hR
  have ia : vp_in (nI (4 * m + w / 1024 % 4)) 12 := vp_in_nI (by omega) (by decide)
  unfold hv_Q
  rw [ho]
  obtain ⟨j, hj, ej⟩ := hv_B8 hB hm (c := 2) (by decide) (by decide)
  have hv : hv_k 256 ((sp (16 * m + 7) &&& 4) ||| sp (16 * m + 6)) := hv_kor (k := 8) (by decide) (hv_kanl (k := 8) (by decide) (hv_B8 hB hm (c := 7) (by decide) (by decide))) (hv_B8 hB hm (c := 6) (by decide) (by decide))
  refine ⟨hd, ex, md, rg, pc, pt, ve, ep, ca, bv, ti, zs, _, pu, pv, pe, fs, be, br, sc, rc, ou, qh, ow, ce, sd, rs, oo, ct, _, mm, sh, wn, j, hj, ⟨h2, hfr, hh, hcu, hg, hv_Bu hB (m := m) (c := 7) (by decide) (hv_bd8 hv), hv_Su7 hS m _, hv_Zs hZ (by decide) (by decide), h⟩, hd0, fun post hp => ?_, fun post hp => ?_⟩
  · unfold wpX_privileged
    try dsimp only
    rw [hv_im hm, epc, nI_1 n, hv_a255 (a := n + 1) (by omega)]
    refine nm_r (e' := nI 13) (by rw [hv_sh12 (by omega), hv_a15 (by omega)]; exact congrArg nI (by omega)) (nm_r (e' := nI (4 * m + w / 1024 % 4)) (by rw [hv_sh10 (by omega), hv_a3 (by omega), hv_i4]) (nm_r (e' := nI (w % 8)) (hv_a7 (by omega)) ⟨hv_iv hm, nm_e ?_⟩))
    rw [hv_S7 hS hm, hv_S6 hS hm, hv_S2 hS hm]
    exact br_f (by decide) (br_f (by decide) (br_f (by decide) (br_f (by decide) (br_t rfl ⟨hv_iv hm, hv_iv hm, hv_iv hm, nm_e ⟨hv_iv hm, nm_r ej hp⟩⟩))))
  · refine br_f (by decide) (br_f (by decide) (br_f (by decide) (br_f (by decide) (br_f (by decide) (br_f (by decide) (br_f (by decide) (br_f (by decide) (br_f (by decide) (br_t rfl ?_)))))))))
    rw [hv_ic7 hm, hv_ic6 hm, hv_ic2 hm]
    exact ⟨hv_iw7 hm, hv_iw6 hm, hv_iw7 hm, nm_e ⟨hv_iw2 hm, nm_r ((pk_un (by omega)).trans ej) (br_f (by decide) (br_f (by decide) (hp)))⟩⟩
theorem hv_pr15 {n : Nat} (hw : w < 65536) (hR : hv_R F fr hd cu md rg im ce sd rs oo mm sh wn sp pt ve ep ca bv ti zs st pc pu pv pe fs be br) (hm : m < 3) (hon : ¬ md m = 0) (hd0 : m < 2 → ex - hv_E ct m = d) (hn : n < 256) (epc : pc m = nI n) (ho : w / 4096 = 15) : hv_Q F m w d fr qn pr cu le ba im (fun post => wpX_privileged post (fr, qn, pr, hd, cu, le, ba, ex, md, rg, pc, pt, ve, ep, ca, bv, ti, zs, st, pu, pv, pe, fs, be, br, sc, rc, ou, qh, ow, ce, im, sd, rs, oo, ct) (nI m) (nI w)) (fun post => wY_execute_239 post (nI m) (nI m * 16) (nI (w / 4096)) (nI (w % 256)) (nI (w % 8)) (nI (4 * m + w / 1024 % 4)) (rg (4 * m + w / 1024 % 4)) (rg (4 * m + w / 256 % 4)) (nI ((n + 1) % 256)) (nI ((n + 1) % 256)) fr qn pr hd cu le ba md rg sp mm sc rc ou qh ow im sh ct wn) := by
  obtain ⟨h2, hfr, hh, hcu, hg, hB, hS, hZ, h⟩ := id hR
  have ia : vp_in (nI (4 * m + w / 1024 % 4)) 12 := vp_in_nI (by omega) (by decide)
  unfold hv_Q
  rw [ho]
  refine ⟨hd, ex, upd md m 2, rg, pc, pt, ve, ep, ca, bv, ti, zs, st, pu, pv, pe, fs, be, br, sc, rc, ou, qh, ow, ce, sd, rs, oo, ct, sp, mm, sh, wn, (n + 1) % 256, by omega, ⟨h2, hfr, hh, hcu, hg, hB, hS, hv_Zm hZ (by decide), hv_Mmd h hon (by decide)⟩, hd0, fun post hp => ?_, fun post hp => ?_⟩
  · unfold wpX_privileged
    try dsimp only
    rw [hv_im hm, epc, nI_1 n, hv_a255 (a := n + 1) (by omega)]
    refine nm_r (e' := nI 15) (by rw [hv_sh12 (by omega), hv_a15 (by omega)]; exact congrArg nI (by omega)) (nm_r (e' := nI (4 * m + w / 1024 % 4)) (by rw [hv_sh10 (by omega), hv_a3 (by omega), hv_i4]) (nm_r (e' := nI (w % 8)) (hv_a7 (by omega)) ⟨hv_iv hm, nm_e ?_⟩))
    exact br_f (by decide) (br_t (by decide) ⟨hv_iv hm, nm_e hp⟩)
  · refine br_f (by decide) (br_f (by decide) (br_f (by decide) (br_f (by decide) (br_f (by decide) (br_f (by decide) (br_f (by decide) (br_f (by decide) (br_f (by decide) (br_f (by decide) (br_f (by decide) (br_t rfl ?_)))))))))))
    rw [hv_im hm]
    exact ⟨hv_iv hm, nm_e hp⟩
theorem hv_pr14 {n : Nat} (hw : w < 65536) (hR : hv_R F fr hd cu md rg im ce sd rs oo mm sh wn sp pt ve ep ca bv ti zs st pc pu pv pe fs be br) (hm : m < 3) (hon : ¬ md m = 0) (hd0 : m < 2 → ex - hv_E ct m = d) (hn : n < 256) (epc : pc m = nI n) (ho : w / 4096 = 14) : hv_Q F m w d fr qn pr cu le ba im (fun post => wpX_privileged post (fr, qn, pr, hd, cu, le, ba, ex, md, rg, pc, pt, ve, ep, ca, bv, ti, zs, st, pu, pv, pe, fs, be, br, sc, rc, ou, qh, ow, ce, im, sd, rs, oo, ct) (nI m) (nI w)) (fun post => wY_execute_239 post (nI m) (nI m * 16) (nI (w / 4096)) (nI (w % 256)) (nI (w % 8)) (nI (4 * m + w / 1024 % 4)) (rg (4 * m + w / 1024 % 4)) (rg (4 * m + w / 256 % 4)) (nI ((n + 1) % 256)) (nI ((n + 1) % 256)) fr qn pr hd cu le ba md rg sp mm sc rc ou qh ow im sh ct wn) := by
  obtain ⟨h2, hfr, hh, hcu, hg, hB, hS, hZ, h⟩ := id hR
  have ia : vp_in (nI (4 * m + w / 1024 % 4)) 12 := vp_in_nI (by omega) (by decide)
  unfold hv_Q
  rw [ho]
  have eR : (nI (4 * m + w / 1024 % 4)).toNatClampNeg = 4 * m + w / 1024 % 4 := nI_clamp (by omega)
  have x29 : ∀ (ow : Nat → Int32) (post : SX → Prop), post (fr, qn, pr, hd, cu, le, ba, ex, md, rg, pc, pt, ve, ep, ca, bv, ti, zs, st, pu, pv, pe, fs, be, br, sc, rc, (upd ou m (ou m + 1)), (upd qh m (((qh m * 31) + rg (4 * m + w / 1024 % 4)) &&& 2147483647)), ow, ce, im, sd, rs, oo, ct) → wX_putOut_29 post (nI m) (rg (4 * m + w / 1024 % 4)) (ou m) fr qn pr hd cu le ba ex md rg pc pt ve ep ca bv ti zs st pu pv pe fs be br sc rc ou qh ow ce im sd rs oo ct := fun ow post hp => by
    unfold wX_putOut_29
    rw [hv_im hm]
    refine ⟨hv_iv hm, ?_⟩
    exact ⟨hv_iv hm, nm_e ⟨hv_iv hm, nm_e hp⟩⟩
  have y559 : ∀ (ow : Nat → Int32) (post : SY → Prop), wY_execute_604 post (nI m) (nI m * 16) (nI 14) (nI (w % 8)) (nI ((n + 1) % 256)) fr qn pr hd cu le ba md rg sp mm sc rc (upd ou m (ou m + 1)) (upd qh m (((qh m * 31) + rg (4 * m + w / 1024 % 4)) &&& 2147483647)) ow im sh ct wn → wY_execute_559 post (nI m) (nI m * 16) (nI 14) (nI (w % 8)) (rg (4 * m + w / 1024 % 4)) (nI ((n + 1) % 256)) fr qn pr hd cu le ba md rg sp mm sc rc ou qh ow im sh ct wn := fun ow post hp => by
    unfold wY_execute_559
    rw [hv_im hm]
    exact ⟨hv_iv hm, hv_iv hm, nm_e ⟨hv_iv hm, hv_iv hm, nm_e (br_f (by decide) hp)⟩⟩
  by_cases qa : ∃ j, j < 32 ∧ ou m = nI j
  · obtain ⟨j, hj, ej⟩ := qa
    have e32 : nI m * 32 + nI j = nI (32 * m + j) := hv_i32 m j
    refine ⟨hd, ex, md, rg, pc, pt, ve, ep, ca, bv, ti, zs, st, pu, pv, pe, fs, be, br, sc, rc, upd ou m (ou m + 1), upd qh m (((qh m * 31) + rg (4 * m + w / 1024 % 4)) &&& 2147483647), upd ow (32 * m + j) (rg (4 * m + w / 1024 % 4)), ce, sd, rs, oo, ct, sp, mm, sh, wn, (n + 1) % 256, by omega, hR, hd0, fun post hp => ?_, fun post hp => ?_⟩
    · unfold wpX_privileged
      try dsimp only
      rw [hv_im hm, epc, nI_1 n, hv_a255 (a := n + 1) (by omega)]
      refine nm_r (e' := nI 14) (by rw [hv_sh12 (by omega), hv_a15 (by omega)]; exact congrArg nI (by omega)) (nm_r (e' := nI (4 * m + w / 1024 % 4)) (by rw [hv_sh10 (by omega), hv_a3 (by omega), hv_i4]) (nm_r (e' := nI (w % 8)) (hv_a7 (by omega)) ⟨hv_iv hm, nm_e ?_⟩))
      refine br_f (by decide) (br_f (by decide) (br_f (by decide) (br_f (by decide) (br_f (by decide) (br_t rfl ?_)))))
      rw [eR]
      refine ⟨ia, ?_⟩
      unfold wpX_putOut
      try dsimp only
      rw [hv_im hm]
      refine ⟨hv_iv hm, nm_e ?_⟩
      refine br_f (by rw [ej]; exact nI_pos (by omega)) (br_f (by rw [ej]; exact nI_ge (b := 32) hj (by decide)) ?_)
      have e32' : (nI m * 32 + ou m) = nI (32 * m + j) := by rw [ej]; exact e32
      rw [e32', nI_clamp (n := 32 * m + j) (by omega)]
      refine ⟨vp_in_nI (by omega) (by decide), nm_e ?_⟩
      exact x29 _ _ hp
    · refine br_f (by decide) (br_f (by decide) (br_f (by decide) (br_f (by decide) (br_f (by decide) (br_f (by decide) (br_f (by decide) (br_f (by decide) (br_f (by decide) (br_f (by decide) (br_t rfl ?_))))))))))
      rw [hv_im hm]
      refine ⟨hv_iv hm, br_f (by rw [ej]; exact nI_pos (by omega)) (br_f (by rw [ej]; exact nI_nlt (a := 31) (by omega) (by decide)) (br_f (by decide) ?_))⟩
      have e32' : (nI m * 32 + ou m) = nI (32 * m + j) := by rw [ej]; exact e32
      rw [e32', nI_clamp (n := 32 * m + j) (by omega)]
      exact ⟨hv_iv hm, vp_in_nI (by omega) (by decide), nm_e (y559 _ post hp)⟩
  · refine ⟨hd, ex, md, rg, pc, pt, ve, ep, ca, bv, ti, zs, st, pu, pv, pe, fs, be, br, sc, rc, upd ou m (ou m + 1), upd qh m (((qh m * 31) + rg (4 * m + w / 1024 % 4)) &&& 2147483647), ow, ce, sd, rs, oo, ct, sp, mm, sh, wn, (n + 1) % 256, by omega, hR, hd0, fun post hp => ?_, fun post hp => ?_⟩
    · unfold wpX_privileged
      try dsimp only
      rw [hv_im hm, epc, nI_1 n, hv_a255 (a := n + 1) (by omega)]
      refine nm_r (e' := nI 14) (by rw [hv_sh12 (by omega), hv_a15 (by omega)]; exact congrArg nI (by omega)) (nm_r (e' := nI (4 * m + w / 1024 % 4)) (by rw [hv_sh10 (by omega), hv_a3 (by omega), hv_i4]) (nm_r (e' := nI (w % 8)) (hv_a7 (by omega)) ⟨hv_iv hm, nm_e ?_⟩))
      refine br_f (by decide) (br_f (by decide) (br_f (by decide) (br_f (by decide) (br_f (by decide) (br_t rfl ?_)))))
      rw [eR]
      refine ⟨ia, ?_⟩
      unfold wpX_putOut
      try dsimp only
      rw [hv_im hm]
      refine ⟨hv_iv hm, nm_e (br_c (fun _ => x29 _ _ hp) (fun q1 => br_t ?_ (x29 _ _ hp)))⟩
      obtain ⟨j, hj, ej⟩ := nI_of q1
      rw [ej]
      exact nI_le (a := 32) (Nat.le_of_not_lt fun z => qa ⟨j, z, ej⟩) hj
    · refine br_f (by decide) (br_f (by decide) (br_f (by decide) (br_f (by decide) (br_f (by decide) (br_f (by decide) (br_f (by decide) (br_f (by decide) (br_f (by decide) (br_f (by decide) (br_t rfl ?_))))))))))
      rw [hv_im hm]
      refine ⟨hv_iv hm, br_c (fun _ => br_t rfl (y559 _ post hp)) (fun q1 => br_t ?_ (br_t rfl (y559 _ post hp)))⟩
      obtain ⟨j, hj, ej⟩ := nI_of q1
      rw [ej]
      exact nI_lt (a := 31) (Nat.lt_of_not_le fun z => qa ⟨j, by omega, ej⟩) hj
end
end
section
/-! op 12: a special register is written -/
section
variable {fr qn pr hd cu le ba ex : Int32} {md rg pc pt ve ep ca bv ti zs st pu pv pe fs be br sc rc ou qh ow ce im sd rs oo ct : Nat → Int32} {sp mm sh wn : Nat → Int32}
variable {F m w : Nat} {d : Int32}
theorem hv_ws0 {n : Nat} (hw : w < 65536) (hR : hv_R F fr hd cu md rg im ce sd rs oo mm sh wn sp pt ve ep ca bv ti zs st pc pu pv pe fs be br) (hm : m < 3) (hd0 : m < 2 → ex - hv_E ct m = d) (hn : n < 256) (epc : pc m = nI n) (hon : ¬ md m = 0) (ho : w / 4096 = 12) (hs : w % 8 = 0) : hv_Q F m w d fr qn pr cu le ba im (fun post => wpX_privileged post (fr, qn, pr, hd, cu, le, ba, ex, md, rg, pc, pt, ve, ep, ca, bv, ti, zs, st, pu, pv, pe, fs, be, br, sc, rc, ou, qh, ow, ce, im, sd, rs, oo, ct) (nI m) (nI w)) (fun post => wY_execute_239 post (nI m) (nI m * 16) (nI (w / 4096)) (nI (w % 256)) (nI (w % 8)) (nI (4 * m + w / 1024 % 4)) (rg (4 * m + w / 1024 % 4)) (rg (4 * m + w / 256 % 4)) (nI ((n + 1) % 256)) (nI ((n + 1) % 256)) fr qn pr hd cu le ba md rg sp mm sc rc ou qh ow im sh ct wn) := by
  obtain ⟨h2, hfr, hh, hcu, hg, hB, hS, hZ, h⟩ := id hR
  have ia : vp_in (nI (4 * m + w / 1024 % 4)) 12 := vp_in_nI (by omega) (by decide)
  unfold hv_Q
  rw [ho, hs]
  have hS' := hv_Su0 hS m (rg (4 * m + w / 1024 % 4) &&& 31)
  have hB' := hv_Bu hB (m := m) (c := 0) (v := rg (4 * m + w / 1024 % 4) &&& 31) (by decide) (hv_bd8 (hv_k8b (hv_k31 _) (by decide)))
  have hZ' : ¬ md m = 0 ∨ 2 ≤ m → hv_Z md (upd sp (16 * m + 0) (rg (4 * m + w / 1024 % 4) &&& 31)) := fun hon g hgg hz => by
    by_cases e : g = m
    · subst e; exact absurd hz (hon.resolve_right (by omega))
    · rw [pk_un (by omega)]; exact hZ g hgg hz
  have ec : (nI m * 16 + nI 0).toNatClampNeg = 16 * m + 0 := hv_ic0 hm
  by_cases q : m < 2
  · obtain ⟨sd', sh', ct', q', h', hE, hX, _, hY⟩ := hv_fl (fr := fr) (qn := qn) (pr := pr) (hd := hd) (cu := cu) (le := le) (ba := ba) (ex := ex) (md := md) (rg := rg) (pc := pc) (pt := upd pt m (rg (4 * m + w / 1024 % 4) &&& 31)) (ve := ve) (ep := ep) (ca := ca) (bv := bv) (ti := ti) (zs := zs) (st := st) (pu := pu) (pv := pv) (pe := pe) (fs := fs) (be := be) (br := br) (sc := sc) (rc := rc) (ou := ou) (qh := qh) (ow := ow) (ce := ce) (im := im) (rs := rs) (oo := oo) (sp := upd sp (16 * m + 0) (rg (4 * m + w / 1024 % 4) &&& 31)) (mm := mm) (wn := wn) q 16 0 rfl sd sh ct 0 h
    refine ⟨hd, ex, md, rg, pc, upd pt m (rg (4 * m + w / 1024 % 4) &&& 31), ve, ep, ca, bv, ti, zs, st, pu, pv, pe, fs, be, br, sc, rc, ou, qh, ow, ce, sd', rs, oo, ct', upd sp (16 * m + 0) (rg (4 * m + w / 1024 % 4) &&& 31), mm, sh', wn, (n + 1) % 256, by omega, ⟨h2, hfr, hh, hcu, hg, hB', hS', hZ' (Or.inl (hon)), h'⟩, fun z => by rw [hE]; exact hd0 z, fun post hp => ?_, fun post hp => ?_⟩
    · unfold wpX_privileged
      try dsimp only
      rw [hv_im hm, epc, nI_1 n, hv_a255 (a := n + 1) (by omega)]
      refine nm_r (e' := nI 12) (by rw [hv_sh12 (by omega), hv_a15 (by omega)]; exact congrArg nI (by omega)) (nm_r (e' := nI (4 * m + w / 1024 % 4)) (by rw [hv_sh10 (by omega), hv_a3 (by omega), hv_i4]) (nm_r (e' := nI 0) (by rw [hv_a7 (by omega), hs]) ⟨hv_iv hm, nm_e ?_⟩))
      refine br_f (by decide) (br_f (by decide) (br_f (by decide) (br_t rfl ?_)))
      rw [nI_clamp (n := 4 * m + w / 1024 % 4) (by omega)]
      refine ⟨ia, ?_⟩
      unfold wpX_writeSpecial
      try dsimp only
      rw [hv_im hm]
      refine br_f (by decide) (br_f (by decide) (br_t rfl ⟨hv_iv hm, nm_e (br_f (nI_ge (b := 2) q (by decide)) ?_)⟩))
      exact ⟨17, hX _ hp⟩
    · refine br_f (by decide) (br_f (by decide) (br_f (by decide) (br_f (by decide) (br_f (by decide) (br_f (by decide) (br_f (by decide) (br_f (by decide) (br_t rfl ?_))))))))
      refine br_t rfl ?_
      show vp_in (nI m * 16 + 0) 48 ∧ _
      rw [ec]
      refine ⟨hv_iw0 hm, nm_e (br_t rfl (br_f (nI_ge (b := 2) q (by decide)) ⟨17, hY _ _ _ _ _ _ ?_⟩))⟩
      exact br_f (by decide) (br_f (by decide) (br_f (by decide) (hp)))
  · refine ⟨hd, ex, md, rg, pc, upd pt m (rg (4 * m + w / 1024 % 4) &&& 31), ve, ep, ca, bv, ti, zs, st, pu, pv, pe, fs, be, br, sc, rc, ou, qh, ow, ce, sd, rs, oo, ct, upd sp (16 * m + 0) (rg (4 * m + w / 1024 % 4) &&& 31), mm, sh, wn, (n + 1) % 256, by omega, ⟨h2, hfr, hh, hcu, hg, hB', hS', hZ' (Or.inr (by omega)), h⟩, hd0, fun post hp => ?_, fun post hp => ?_⟩
    · unfold wpX_privileged
      try dsimp only
      rw [hv_im hm, epc, nI_1 n, hv_a255 (a := n + 1) (by omega)]
      refine nm_r (e' := nI 12) (by rw [hv_sh12 (by omega), hv_a15 (by omega)]; exact congrArg nI (by omega)) (nm_r (e' := nI (4 * m + w / 1024 % 4)) (by rw [hv_sh10 (by omega), hv_a3 (by omega), hv_i4]) (nm_r (e' := nI 0) (by rw [hv_a7 (by omega), hs]) ⟨hv_iv hm, nm_e ?_⟩))
      refine br_f (by decide) (br_f (by decide) (br_f (by decide) (br_t rfl ?_)))
      rw [nI_clamp (n := 4 * m + w / 1024 % 4) (by omega)]
      refine ⟨ia, ?_⟩
      unfold wpX_writeSpecial
      try dsimp only
      rw [hv_im hm]
      exact br_f (by decide) (br_f (by decide) (br_t rfl ⟨hv_iv hm, nm_e (br_t (nI_le (a := 2) (by omega) (by omega)) hp)⟩))
    · refine br_f (by decide) (br_f (by decide) (br_f (by decide) (br_f (by decide) (br_f (by decide) (br_f (by decide) (br_f (by decide) (br_f (by decide) (br_t rfl ?_))))))))
      refine br_t rfl ?_
      show vp_in (nI m * 16 + 0) 48 ∧ _
      rw [ec]
      refine ⟨hv_iw0 hm, nm_e (br_t rfl (br_t (nI_le (a := 2) (by omega) (by omega)) ?_))⟩
      exact br_f (by decide) (br_f (by decide) (br_f (by decide) (hp)))
theorem hv_ws1 {n : Nat} (hw : w < 65536) (hR : hv_R F fr hd cu md rg im ce sd rs oo mm sh wn sp pt ve ep ca bv ti zs st pc pu pv pe fs be br) (hm : m < 3) (hd0 : m < 2 → ex - hv_E ct m = d) (hn : n < 256) (epc : pc m = nI n) (ho : w / 4096 = 12) (hs : w % 8 = 1) : hv_Q F m w d fr qn pr cu le ba im (fun post => wpX_privileged post (fr, qn, pr, hd, cu, le, ba, ex, md, rg, pc, pt, ve, ep, ca, bv, ti, zs, st, pu, pv, pe, fs, be, br, sc, rc, ou, qh, ow, ce, im, sd, rs, oo, ct) (nI m) (nI w)) (fun post => wY_execute_239 post (nI m) (nI m * 16) (nI (w / 4096)) (nI (w % 256)) (nI (w % 8)) (nI (4 * m + w / 1024 % 4)) (rg (4 * m + w / 1024 % 4)) (rg (4 * m + w / 256 % 4)) (nI ((n + 1) % 256)) (nI ((n + 1) % 256)) fr qn pr hd cu le ba md rg sp mm sc rc ou qh ow im sh ct wn) := by
  obtain ⟨h2, hfr, hh, hcu, hg, hB, hS, hZ, h⟩ := id hR
  have ia : vp_in (nI (4 * m + w / 1024 % 4)) 12 := vp_in_nI (by omega) (by decide)
  unfold hv_Q
  rw [ho, hs]
  have hS' := hv_Su1 hS m (rg (4 * m + w / 1024 % 4) &&& 255)
  have hB' := hv_Bu hB (m := m) (c := 1) (v := rg (4 * m + w / 1024 % 4) &&& 255) (by decide) (hv_bd8 (hv_k8b (hv_k255 _) (by decide)))
  refine ⟨hd, ex, md, rg, pc, pt, upd ve m (rg (4 * m + w / 1024 % 4) &&& 255), ep, ca, bv, ti, zs, st, pu, pv, pe, fs, be, br, sc, rc, ou, qh, ow, ce, sd, rs, oo, ct, upd sp (16 * m + 1) (rg (4 * m + w / 1024 % 4) &&& 255), mm, sh, wn, (n + 1) % 256, by omega, ⟨h2, hfr, hh, hcu, hg, hB', hS', hv_Zs hZ (by decide) (by decide), h⟩, hd0, fun post hp => ?_, fun post hp => ?_⟩
  · unfold wpX_privileged
    try dsimp only
    rw [hv_im hm, epc, nI_1 n, hv_a255 (a := n + 1) (by omega)]
    refine nm_r (e' := nI 12) (by rw [hv_sh12 (by omega), hv_a15 (by omega)]; exact congrArg nI (by omega)) (nm_r (e' := nI (4 * m + w / 1024 % 4)) (by rw [hv_sh10 (by omega), hv_a3 (by omega), hv_i4]) (nm_r (e' := nI 1) (by rw [hv_a7 (by omega), hs]) ⟨hv_iv hm, nm_e ?_⟩))
    refine br_f (by decide) (br_f (by decide) (br_f (by decide) (br_t rfl ?_)))
    rw [nI_clamp (n := 4 * m + w / 1024 % 4) (by omega)]
    refine ⟨ia, ?_⟩
    unfold wpX_writeSpecial
    try dsimp only
    rw [hv_im hm]
    exact br_f (by decide) (br_f (by decide) (br_f (by decide) (br_t rfl ⟨hv_iv hm, nm_e hp⟩)))
  · refine br_f (by decide) (br_f (by decide) (br_f (by decide) (br_f (by decide) (br_f (by decide) (br_f (by decide) (br_f (by decide) (br_f (by decide) (br_t rfl ?_))))))))
    refine br_f (by decide) (br_t rfl (?_))
    show vp_in (nI m * 16 + 1) 48 ∧ _
    have ec : (nI m * 16 + nI 1).toNatClampNeg = 16 * m + 1 := hv_ic1 hm
    rw [ec]
    exact ⟨hv_iw1 hm, nm_e (br_f (by decide) (br_f (by decide) (br_f (by decide) (br_f (by decide) (hp)))))⟩
theorem hv_ws2 {n : Nat} (hw : w < 65536) (hR : hv_R F fr hd cu md rg im ce sd rs oo mm sh wn sp pt ve ep ca bv ti zs st pc pu pv pe fs be br) (hm : m < 3) (hd0 : m < 2 → ex - hv_E ct m = d) (hn : n < 256) (epc : pc m = nI n) (ho : w / 4096 = 12) (hs : w % 8 = 2) : hv_Q F m w d fr qn pr cu le ba im (fun post => wpX_privileged post (fr, qn, pr, hd, cu, le, ba, ex, md, rg, pc, pt, ve, ep, ca, bv, ti, zs, st, pu, pv, pe, fs, be, br, sc, rc, ou, qh, ow, ce, im, sd, rs, oo, ct) (nI m) (nI w)) (fun post => wY_execute_239 post (nI m) (nI m * 16) (nI (w / 4096)) (nI (w % 256)) (nI (w % 8)) (nI (4 * m + w / 1024 % 4)) (rg (4 * m + w / 1024 % 4)) (rg (4 * m + w / 256 % 4)) (nI ((n + 1) % 256)) (nI ((n + 1) % 256)) fr qn pr hd cu le ba md rg sp mm sc rc ou qh ow im sh ct wn) := by
  obtain ⟨h2, hfr, hh, hcu, hg, hB, hS, hZ, h⟩ := id hR
  have ia : vp_in (nI (4 * m + w / 1024 % 4)) 12 := vp_in_nI (by omega) (by decide)
  unfold hv_Q
  rw [ho, hs]
  have hS' := hv_Su2 hS m (rg (4 * m + w / 1024 % 4) &&& 255)
  have hB' := hv_Bu hB (m := m) (c := 2) (v := rg (4 * m + w / 1024 % 4) &&& 255) (by decide) (hv_bd8 (hv_k8b (hv_k255 _) (by decide)))
  refine ⟨hd, ex, md, rg, pc, pt, ve, upd ep m (rg (4 * m + w / 1024 % 4) &&& 255), ca, bv, ti, zs, st, pu, pv, pe, fs, be, br, sc, rc, ou, qh, ow, ce, sd, rs, oo, ct, upd sp (16 * m + 2) (rg (4 * m + w / 1024 % 4) &&& 255), mm, sh, wn, (n + 1) % 256, by omega, ⟨h2, hfr, hh, hcu, hg, hB', hS', hv_Zs hZ (by decide) (by decide), h⟩, hd0, fun post hp => ?_, fun post hp => ?_⟩
  · unfold wpX_privileged
    try dsimp only
    rw [hv_im hm, epc, nI_1 n, hv_a255 (a := n + 1) (by omega)]
    refine nm_r (e' := nI 12) (by rw [hv_sh12 (by omega), hv_a15 (by omega)]; exact congrArg nI (by omega)) (nm_r (e' := nI (4 * m + w / 1024 % 4)) (by rw [hv_sh10 (by omega), hv_a3 (by omega), hv_i4]) (nm_r (e' := nI 2) (by rw [hv_a7 (by omega), hs]) ⟨hv_iv hm, nm_e ?_⟩))
    refine br_f (by decide) (br_f (by decide) (br_f (by decide) (br_t rfl ?_)))
    rw [nI_clamp (n := 4 * m + w / 1024 % 4) (by omega)]
    refine ⟨ia, ?_⟩
    unfold wpX_writeSpecial
    try dsimp only
    rw [hv_im hm]
    exact br_f (by decide) (br_f (by decide) (br_f (by decide) (br_f (by decide) (br_t rfl ⟨hv_iv hm, nm_e hp⟩))))
  · refine br_f (by decide) (br_f (by decide) (br_f (by decide) (br_f (by decide) (br_f (by decide) (br_f (by decide) (br_f (by decide) (br_f (by decide) (br_t rfl ?_))))))))
    refine br_f (by decide) (br_f (by decide) (br_t rfl (?_)))
    show vp_in (nI m * 16 + 2) 48 ∧ _
    have ec : (nI m * 16 + nI 2).toNatClampNeg = 16 * m + 2 := hv_ic2 hm
    rw [ec]
    exact ⟨hv_iw2 hm, nm_e (br_f (by decide) (br_f (by decide) (br_f (by decide) (br_f (by decide) (hp)))))⟩
theorem hv_ws3 {n : Nat} (hw : w < 65536) (hR : hv_R F fr hd cu md rg im ce sd rs oo mm sh wn sp pt ve ep ca bv ti zs st pc pu pv pe fs be br) (hm : m < 3) (hd0 : m < 2 → ex - hv_E ct m = d) (hn : n < 256) (epc : pc m = nI n) (ho : w / 4096 = 12) (hs : w % 8 = 3) : hv_Q F m w d fr qn pr cu le ba im (fun post => wpX_privileged post (fr, qn, pr, hd, cu, le, ba, ex, md, rg, pc, pt, ve, ep, ca, bv, ti, zs, st, pu, pv, pe, fs, be, br, sc, rc, ou, qh, ow, ce, im, sd, rs, oo, ct) (nI m) (nI w)) (fun post => wY_execute_239 post (nI m) (nI m * 16) (nI (w / 4096)) (nI (w % 256)) (nI (w % 8)) (nI (4 * m + w / 1024 % 4)) (rg (4 * m + w / 1024 % 4)) (rg (4 * m + w / 256 % 4)) (nI ((n + 1) % 256)) (nI ((n + 1) % 256)) fr qn pr hd cu le ba md rg sp mm sc rc ou qh ow im sh ct wn) := by
  obtain ⟨h2, hfr, hh, hcu, hg, hB, hS, hZ, h⟩ := id hR
  have ia : vp_in (nI (4 * m + w / 1024 % 4)) 12 := vp_in_nI (by omega) (by decide)
  unfold hv_Q
  rw [ho, hs]
  have hS' := hv_Su3 hS m (rg (4 * m + w / 1024 % 4) &&& 7)
  have hB' := hv_Bu hB (m := m) (c := 3) (v := rg (4 * m + w / 1024 % 4) &&& 7) (by decide) (hv_bd8 (hv_k8b (hv_k7 _) (by decide)))
  refine ⟨hd, ex, md, rg, pc, pt, ve, ep, upd ca m (rg (4 * m + w / 1024 % 4) &&& 7), bv, ti, zs, st, pu, pv, pe, fs, be, br, sc, rc, ou, qh, ow, ce, sd, rs, oo, ct, upd sp (16 * m + 3) (rg (4 * m + w / 1024 % 4) &&& 7), mm, sh, wn, (n + 1) % 256, by omega, ⟨h2, hfr, hh, hcu, hg, hB', hS', hv_Zs hZ (by decide) (by decide), h⟩, hd0, fun post hp => ?_, fun post hp => ?_⟩
  · unfold wpX_privileged
    try dsimp only
    rw [hv_im hm, epc, nI_1 n, hv_a255 (a := n + 1) (by omega)]
    refine nm_r (e' := nI 12) (by rw [hv_sh12 (by omega), hv_a15 (by omega)]; exact congrArg nI (by omega)) (nm_r (e' := nI (4 * m + w / 1024 % 4)) (by rw [hv_sh10 (by omega), hv_a3 (by omega), hv_i4]) (nm_r (e' := nI 3) (by rw [hv_a7 (by omega), hs]) ⟨hv_iv hm, nm_e ?_⟩))
    refine br_f (by decide) (br_f (by decide) (br_f (by decide) (br_t rfl ?_)))
    rw [nI_clamp (n := 4 * m + w / 1024 % 4) (by omega)]
    refine ⟨ia, ?_⟩
    unfold wpX_writeSpecial
    try dsimp only
    rw [hv_im hm]
    exact br_f (by decide) (br_f (by decide) (br_f (by decide) (br_f (by decide) (br_f (by decide) (br_t rfl ⟨hv_iv hm, nm_e hp⟩)))))
  · refine br_f (by decide) (br_f (by decide) (br_f (by decide) (br_f (by decide) (br_f (by decide) (br_f (by decide) (br_f (by decide) (br_f (by decide) (br_t rfl ?_))))))))
    refine br_f (by decide) (br_f (by decide) (br_f (by decide) (br_f (by decide) (br_f (by decide) (br_f (by decide) (?_))))))
    show vp_in (nI m * 16 + 3) 48 ∧ _
    have ec : (nI m * 16 + nI 3).toNatClampNeg = 16 * m + 3 := hv_ic3 hm
    rw [ec]
    exact ⟨hv_iw3 hm, nm_e (br_f (by decide) (br_f (by decide) (br_f (by decide) (br_f (by decide) (hp)))))⟩
theorem hv_ws4 {n : Nat} (hw : w < 65536) (hR : hv_R F fr hd cu md rg im ce sd rs oo mm sh wn sp pt ve ep ca bv ti zs st pc pu pv pe fs be br) (hm : m < 3) (hd0 : m < 2 → ex - hv_E ct m = d) (hn : n < 256) (epc : pc m = nI n) (ho : w / 4096 = 12) (hs : w % 8 = 4) : hv_Q F m w d fr qn pr cu le ba im (fun post => wpX_privileged post (fr, qn, pr, hd, cu, le, ba, ex, md, rg, pc, pt, ve, ep, ca, bv, ti, zs, st, pu, pv, pe, fs, be, br, sc, rc, ou, qh, ow, ce, im, sd, rs, oo, ct) (nI m) (nI w)) (fun post => wY_execute_239 post (nI m) (nI m * 16) (nI (w / 4096)) (nI (w % 256)) (nI (w % 8)) (nI (4 * m + w / 1024 % 4)) (rg (4 * m + w / 1024 % 4)) (rg (4 * m + w / 256 % 4)) (nI ((n + 1) % 256)) (nI ((n + 1) % 256)) fr qn pr hd cu le ba md rg sp mm sc rc ou qh ow im sh ct wn) := by
  obtain ⟨h2, hfr, hh, hcu, hg, hB, hS, hZ, h⟩ := id hR
  have ia : vp_in (nI (4 * m + w / 1024 % 4)) 12 := vp_in_nI (by omega) (by decide)
  unfold hv_Q
  rw [ho, hs]
  have hS' := hv_Su4 hS m (rg (4 * m + w / 1024 % 4) &&& 255)
  have hB' := hv_Bu hB (m := m) (c := 4) (v := rg (4 * m + w / 1024 % 4) &&& 255) (by decide) (hv_bd8 (hv_k8b (hv_k255 _) (by decide)))
  refine ⟨hd, ex, md, rg, pc, pt, ve, ep, ca, upd bv m (rg (4 * m + w / 1024 % 4) &&& 255), ti, zs, st, pu, pv, pe, fs, be, br, sc, rc, ou, qh, ow, ce, sd, rs, oo, ct, upd sp (16 * m + 4) (rg (4 * m + w / 1024 % 4) &&& 255), mm, sh, wn, (n + 1) % 256, by omega, ⟨h2, hfr, hh, hcu, hg, hB', hS', hv_Zs hZ (by decide) (by decide), h⟩, hd0, fun post hp => ?_, fun post hp => ?_⟩
  · unfold wpX_privileged
    try dsimp only
    rw [hv_im hm, epc, nI_1 n, hv_a255 (a := n + 1) (by omega)]
    refine nm_r (e' := nI 12) (by rw [hv_sh12 (by omega), hv_a15 (by omega)]; exact congrArg nI (by omega)) (nm_r (e' := nI (4 * m + w / 1024 % 4)) (by rw [hv_sh10 (by omega), hv_a3 (by omega), hv_i4]) (nm_r (e' := nI 4) (by rw [hv_a7 (by omega), hs]) ⟨hv_iv hm, nm_e ?_⟩))
    refine br_f (by decide) (br_f (by decide) (br_f (by decide) (br_t rfl ?_)))
    rw [nI_clamp (n := 4 * m + w / 1024 % 4) (by omega)]
    refine ⟨ia, ?_⟩
    unfold wpX_writeSpecial
    try dsimp only
    rw [hv_im hm]
    exact br_f (by decide) (br_f (by decide) (br_f (by decide) (br_f (by decide) (br_f (by decide) (br_f (by decide) (br_t rfl ⟨hv_iv hm, nm_e hp⟩))))))
  · refine br_f (by decide) (br_f (by decide) (br_f (by decide) (br_f (by decide) (br_f (by decide) (br_f (by decide) (br_f (by decide) (br_f (by decide) (br_t rfl ?_))))))))
    refine br_f (by decide) (br_f (by decide) (br_f (by decide) (br_t rfl (?_))))
    show vp_in (nI m * 16 + 4) 48 ∧ _
    have ec : (nI m * 16 + nI 4).toNatClampNeg = 16 * m + 4 := hv_ic4 hm
    rw [ec]
    exact ⟨hv_iw4 hm, nm_e (br_f (by decide) (br_f (by decide) (br_f (by decide) (br_f (by decide) (hp)))))⟩
theorem hv_ws5 {n : Nat} (hw : w < 65536) (hR : hv_R F fr hd cu md rg im ce sd rs oo mm sh wn sp pt ve ep ca bv ti zs st pc pu pv pe fs be br) (hm : m < 3) (hd0 : m < 2 → ex - hv_E ct m = d) (hn : n < 256) (epc : pc m = nI n) (ho : w / 4096 = 12) (hs : w % 8 = 5) : hv_Q F m w d fr qn pr cu le ba im (fun post => wpX_privileged post (fr, qn, pr, hd, cu, le, ba, ex, md, rg, pc, pt, ve, ep, ca, bv, ti, zs, st, pu, pv, pe, fs, be, br, sc, rc, ou, qh, ow, ce, im, sd, rs, oo, ct) (nI m) (nI w)) (fun post => wY_execute_239 post (nI m) (nI m * 16) (nI (w / 4096)) (nI (w % 256)) (nI (w % 8)) (nI (4 * m + w / 1024 % 4)) (rg (4 * m + w / 1024 % 4)) (rg (4 * m + w / 256 % 4)) (nI ((n + 1) % 256)) (nI ((n + 1) % 256)) fr qn pr hd cu le ba md rg sp mm sc rc ou qh ow im sh ct wn) := by
  obtain ⟨h2, hfr, hh, hcu, hg, hB, hS, hZ, h⟩ := id hR
  have ia : vp_in (nI (4 * m + w / 1024 % 4)) 12 := vp_in_nI (by omega) (by decide)
  unfold hv_Q
  rw [ho, hs]
  have hS' := hv_Su5 hS m (rg (4 * m + w / 1024 % 4) &&& 65535)
  have hB' := hv_Bu hB (m := m) (c := 5) (v := rg (4 * m + w / 1024 % 4) &&& 65535) (by decide) (hv_k65535 _)
  refine ⟨hd, ex, md, rg, pc, pt, ve, ep, ca, bv, upd ti m (rg (4 * m + w / 1024 % 4) &&& 65535), zs, st, pu, pv, pe, fs, be, br, sc, rc, ou, qh, ow, ce, sd, rs, oo, ct, upd sp (16 * m + 5) (rg (4 * m + w / 1024 % 4) &&& 65535), mm, sh, wn, (n + 1) % 256, by omega, ⟨h2, hfr, hh, hcu, hg, hB', hS', hv_Zs hZ (by decide) (by decide), h⟩, hd0, fun post hp => ?_, fun post hp => ?_⟩
  · unfold wpX_privileged
    try dsimp only
    rw [hv_im hm, epc, nI_1 n, hv_a255 (a := n + 1) (by omega)]
    refine nm_r (e' := nI 12) (by rw [hv_sh12 (by omega), hv_a15 (by omega)]; exact congrArg nI (by omega)) (nm_r (e' := nI (4 * m + w / 1024 % 4)) (by rw [hv_sh10 (by omega), hv_a3 (by omega), hv_i4]) (nm_r (e' := nI 5) (by rw [hv_a7 (by omega), hs]) ⟨hv_iv hm, nm_e ?_⟩))
    refine br_f (by decide) (br_f (by decide) (br_f (by decide) (br_t rfl ?_)))
    rw [nI_clamp (n := 4 * m + w / 1024 % 4) (by omega)]
    refine ⟨ia, ?_⟩
    unfold wpX_writeSpecial
    try dsimp only
    rw [hv_im hm]
    exact br_f (by decide) (br_f (by decide) (br_f (by decide) (br_f (by decide) (br_f (by decide) (br_f (by decide) (br_f (by decide) (br_t rfl ⟨hv_iv hm, nm_e hp⟩)))))))
  · refine br_f (by decide) (br_f (by decide) (br_f (by decide) (br_f (by decide) (br_f (by decide) (br_f (by decide) (br_f (by decide) (br_f (by decide) (br_t rfl ?_))))))))
    refine br_f (by decide) (br_f (by decide) (br_f (by decide) (br_f (by decide) (br_t rfl (?_)))))
    show vp_in (nI m * 16 + 5) 48 ∧ _
    have ec : (nI m * 16 + nI 5).toNatClampNeg = 16 * m + 5 := hv_ic5 hm
    rw [ec]
    exact ⟨hv_iw5 hm, nm_e (br_f (by decide) (br_f (by decide) (br_f (by decide) (br_f (by decide) (hp)))))⟩
theorem hv_ws6 {n : Nat} (hw : w < 65536) (hR : hv_R F fr hd cu md rg im ce sd rs oo mm sh wn sp pt ve ep ca bv ti zs st pc pu pv pe fs be br) (hm : m < 3) (hd0 : m < 2 → ex - hv_E ct m = d) (hn : n < 256) (epc : pc m = nI n) (ho : w / 4096 = 12) (hs : w % 8 = 6) : hv_Q F m w d fr qn pr cu le ba im (fun post => wpX_privileged post (fr, qn, pr, hd, cu, le, ba, ex, md, rg, pc, pt, ve, ep, ca, bv, ti, zs, st, pu, pv, pe, fs, be, br, sc, rc, ou, qh, ow, ce, im, sd, rs, oo, ct) (nI m) (nI w)) (fun post => wY_execute_239 post (nI m) (nI m * 16) (nI (w / 4096)) (nI (w % 256)) (nI (w % 8)) (nI (4 * m + w / 1024 % 4)) (rg (4 * m + w / 1024 % 4)) (rg (4 * m + w / 256 % 4)) (nI ((n + 1) % 256)) (nI ((n + 1) % 256)) fr qn pr hd cu le ba md rg sp mm sc rc ou qh ow im sh ct wn) := by
  obtain ⟨h2, hfr, hh, hcu, hg, hB, hS, hZ, h⟩ := id hR
  have ia : vp_in (nI (4 * m + w / 1024 % 4)) 12 := vp_in_nI (by omega) (by decide)
  unfold hv_Q
  rw [ho, hs]
  have hS' := hv_Su6 hS m (rg (4 * m + w / 1024 % 4) &&& 3)
  have hB' := hv_Bu hB (m := m) (c := 6) (v := rg (4 * m + w / 1024 % 4) &&& 3) (by decide) (hv_bd8 (hv_k8b (hv_k3 _) (by decide)))
  refine ⟨hd, ex, md, rg, pc, pt, ve, ep, ca, bv, ti, upd zs m (rg (4 * m + w / 1024 % 4) &&& 3), st, pu, pv, pe, fs, be, br, sc, rc, ou, qh, ow, ce, sd, rs, oo, ct, upd sp (16 * m + 6) (rg (4 * m + w / 1024 % 4) &&& 3), mm, sh, wn, (n + 1) % 256, by omega, ⟨h2, hfr, hh, hcu, hg, hB', hS', hv_Zs hZ (by decide) (by decide), h⟩, hd0, fun post hp => ?_, fun post hp => ?_⟩
  · unfold wpX_privileged
    try dsimp only
    rw [hv_im hm, epc, nI_1 n, hv_a255 (a := n + 1) (by omega)]
    refine nm_r (e' := nI 12) (by rw [hv_sh12 (by omega), hv_a15 (by omega)]; exact congrArg nI (by omega)) (nm_r (e' := nI (4 * m + w / 1024 % 4)) (by rw [hv_sh10 (by omega), hv_a3 (by omega), hv_i4]) (nm_r (e' := nI 6) (by rw [hv_a7 (by omega), hs]) ⟨hv_iv hm, nm_e ?_⟩))
    refine br_f (by decide) (br_f (by decide) (br_f (by decide) (br_t rfl ?_)))
    rw [nI_clamp (n := 4 * m + w / 1024 % 4) (by omega)]
    refine ⟨ia, ?_⟩
    unfold wpX_writeSpecial
    try dsimp only
    rw [hv_im hm]
    exact br_f (by decide) (br_f (by decide) (br_f (by decide) (br_f (by decide) (br_f (by decide) (br_f (by decide) (br_f (by decide) (br_f (by decide) (br_t rfl ⟨hv_iv hm, nm_e hp⟩))))))))
  · refine br_f (by decide) (br_f (by decide) (br_f (by decide) (br_f (by decide) (br_f (by decide) (br_f (by decide) (br_f (by decide) (br_f (by decide) (br_t rfl ?_))))))))
    refine br_f (by decide) (br_f (by decide) (br_f (by decide) (br_f (by decide) (br_f (by decide) (br_t rfl (?_))))))
    show vp_in (nI m * 16 + 6) 48 ∧ _
    have ec : (nI m * 16 + nI 6).toNatClampNeg = 16 * m + 6 := hv_ic6 hm
    rw [ec]
    exact ⟨hv_iw6 hm, nm_e (br_f (by decide) (br_f (by decide) (br_f (by decide) (br_f (by decide) (hp)))))⟩
theorem hv_ws7 {n : Nat} (hw : w < 65536) (hR : hv_R F fr hd cu md rg im ce sd rs oo mm sh wn sp pt ve ep ca bv ti zs st pc pu pv pe fs be br) (hm : m < 3) (hd0 : m < 2 → ex - hv_E ct m = d) (hn : n < 256) (epc : pc m = nI n) (ho : w / 4096 = 12) (hs : w % 8 = 7) : hv_Q F m w d fr qn pr cu le ba im (fun post => wpX_privileged post (fr, qn, pr, hd, cu, le, ba, ex, md, rg, pc, pt, ve, ep, ca, bv, ti, zs, st, pu, pv, pe, fs, be, br, sc, rc, ou, qh, ow, ce, im, sd, rs, oo, ct) (nI m) (nI w)) (fun post => wY_execute_239 post (nI m) (nI m * 16) (nI (w / 4096)) (nI (w % 256)) (nI (w % 8)) (nI (4 * m + w / 1024 % 4)) (rg (4 * m + w / 1024 % 4)) (rg (4 * m + w / 256 % 4)) (nI ((n + 1) % 256)) (nI ((n + 1) % 256)) fr qn pr hd cu le ba md rg sp mm sc rc ou qh ow im sh ct wn) := by
  obtain ⟨h2, hfr, hh, hcu, hg, hB, hS, hZ, h⟩ := id hR
  have ia : vp_in (nI (4 * m + w / 1024 % 4)) 12 := vp_in_nI (by omega) (by decide)
  unfold hv_Q
  rw [ho, hs]
  have hS' := hv_Su7 hS m (rg (4 * m + w / 1024 % 4) &&& 7)
  have hB' := hv_Bu hB (m := m) (c := 7) (v := rg (4 * m + w / 1024 % 4) &&& 7) (by decide) (hv_bd8 (hv_k8b (hv_k7 _) (by decide)))
  refine ⟨hd, ex, md, rg, pc, pt, ve, ep, ca, bv, ti, zs, upd st m (rg (4 * m + w / 1024 % 4) &&& 7), pu, pv, pe, fs, be, br, sc, rc, ou, qh, ow, ce, sd, rs, oo, ct, upd sp (16 * m + 7) (rg (4 * m + w / 1024 % 4) &&& 7), mm, sh, wn, (n + 1) % 256, by omega, ⟨h2, hfr, hh, hcu, hg, hB', hS', hv_Zs hZ (by decide) (by decide), h⟩, hd0, fun post hp => ?_, fun post hp => ?_⟩
  · unfold wpX_privileged
    try dsimp only
    rw [hv_im hm, epc, nI_1 n, hv_a255 (a := n + 1) (by omega)]
    refine nm_r (e' := nI 12) (by rw [hv_sh12 (by omega), hv_a15 (by omega)]; exact congrArg nI (by omega)) (nm_r (e' := nI (4 * m + w / 1024 % 4)) (by rw [hv_sh10 (by omega), hv_a3 (by omega), hv_i4]) (nm_r (e' := nI 7) (by rw [hv_a7 (by omega), hs]) ⟨hv_iv hm, nm_e ?_⟩))
    refine br_f (by decide) (br_f (by decide) (br_f (by decide) (br_t rfl ?_)))
    rw [nI_clamp (n := 4 * m + w / 1024 % 4) (by omega)]
    refine ⟨ia, ?_⟩
    unfold wpX_writeSpecial
    try dsimp only
    rw [hv_im hm]
    exact br_f (by decide) (br_t (by decide) ⟨hv_iv hm, nm_e hp⟩)
  · refine br_f (by decide) (br_f (by decide) (br_f (by decide) (br_f (by decide) (br_f (by decide) (br_f (by decide) (br_f (by decide) (br_f (by decide) (br_t rfl ?_))))))))
    refine br_f (by decide) (br_f (by decide) (br_f (by decide) (br_f (by decide) (br_f (by decide) (br_f (by decide) (?_))))))
    show vp_in (nI m * 16 + 7) 48 ∧ _
    have ec : (nI m * 16 + nI 7).toNatClampNeg = 16 * m + 7 := hv_ic7 hm
    rw [ec]
    exact ⟨hv_iw7 hm, nm_e (br_f (by decide) (br_f (by decide) (br_f (by decide) (br_f (by decide) (hp)))))⟩
theorem hv_pr12 {n : Nat} (hw : w < 65536) (hR : hv_R F fr hd cu md rg im ce sd rs oo mm sh wn sp pt ve ep ca bv ti zs st pc pu pv pe fs be br) (hm : m < 3) (hd0 : m < 2 → ex - hv_E ct m = d) (hn : n < 256) (epc : pc m = nI n) (hon : ¬ md m = 0) (ho : w / 4096 = 12) : hv_Q F m w d fr qn pr cu le ba im (fun post => wpX_privileged post (fr, qn, pr, hd, cu, le, ba, ex, md, rg, pc, pt, ve, ep, ca, bv, ti, zs, st, pu, pv, pe, fs, be, br, sc, rc, ou, qh, ow, ce, im, sd, rs, oo, ct) (nI m) (nI w)) (fun post => wY_execute_239 post (nI m) (nI m * 16) (nI (w / 4096)) (nI (w % 256)) (nI (w % 8)) (nI (4 * m + w / 1024 % 4)) (rg (4 * m + w / 1024 % 4)) (rg (4 * m + w / 256 % 4)) (nI ((n + 1) % 256)) (nI ((n + 1) % 256)) fr qn pr hd cu le ba md rg sp mm sc rc ou qh ow im sh ct wn) := by
  obtain q | q | q | q | q | q | q | q : w % 8 = 0 ∨ w % 8 = 1 ∨ w % 8 = 2 ∨ w % 8 = 3 ∨ w % 8 = 4 ∨ w % 8 = 5 ∨ w % 8 = 6 ∨ w % 8 = 7 := by omega
  · exact hv_ws0 hw hR hm hd0 hn epc hon ho q
  · exact hv_ws1 hw hR hm hd0 hn epc ho q
  · exact hv_ws2 hw hR hm hd0 hn epc ho q
  · exact hv_ws3 hw hR hm hd0 hn epc ho q
  · exact hv_ws4 hw hR hm hd0 hn epc ho q
  · exact hv_ws5 hw hR hm hd0 hn epc ho q
  · exact hv_ws6 hw hR hm hd0 hn epc ho q
  · exact hv_ws7 hw hR hm hd0 hn epc ho q
end
end
section
/-! loads and stores; one instruction -/
section
variable {fr qn pr hd cu le ba ex : Int32} {md rg pc pt ve ep ca bv ti zs st pu pv pe fs be br sc rc ou qh ow ce im sd rs oo ct : Nat → Int32} {sp mm sh wn : Nat → Int32}
variable {F m w : Nat} {d : Int32}
theorem hv_ls4 {n : Nat} (hw : w < 65536) (hR : hv_R F fr hd cu md rg im ce sd rs oo mm sh wn sp pt ve ep ca bv ti zs st pc pu pv pe fs be br) (hm : m < 3) (hon : ¬ md m = 0) (hd0 : m < 2 → ex - hv_E ct m = d) (hn : n < 256) (epc : pc m = nI n) (ho : w / 4096 = 4) : hv_O F m d fr qn pr cu le ba im (fun post => wX_execute_116 post (nI m) (nI w) fr qn pr hd cu le ba ex md rg pc pt ve ep ca bv ti zs st pu pv pe fs be br sc rc ou qh ow ce im sd rs oo ct) (fun post => wY_execute_155 post (nI m) (nI n) (nI m * 16) (nI 4) (nI (w % 256)) (nI (w % 8)) (nI (4 * m + w / 1024 % 4)) (rg (4 * m + w / 1024 % 4)) (rg (4 * m + w / 256 % 4)) (nI ((n + 1) % 256)) (nI ((n + 1) % 256)) fr qn pr hd cu le ba md rg sp mm sc rc ou qh ow im sh ct wn) := by
  obtain ⟨h2, hfr, hh, hcu, hg, hB, hS, hZ, h⟩ := id hR
  have ia : vp_in (nI (4 * m + w / 1024 % 4)) 12 := vp_in_nI (by omega) (by decide)
  have ean : (nI n + 1) &&& 255 = nI ((n + 1) % 256) := by rw [nI_1]; exact hv_a255 (by omega)
  obtain ⟨va, hva, ev⟩ := hv_k255 (rg (4 * m + w / 256 % 4) + nI (w % 256))
  obtain ⟨hd1, ex1, ce1, sd1, rs1, oo1, ct1, mm1, sh1, wn1, h1, hh1, hD1, hout⟩ := hv_acc (kd := 4) (fr := fr) (qn := qn) (pr := pr) (hd := hd) (cu := cu) (le := le) (ba := ba) (ex := ex) (md := md) (rg := rg) (pc := pc) (pt := pt) (ve := ve) (ep := ep) (ca := ca) (bv := bv) (ti := ti) (zs := zs) (st := st) (pu := pu) (pv := pv) (pe := pe) (fs := fs) (be := be) (br := br) (sc := sc) (rc := rc) (ou := ou) (qh := qh) (ow := ow) (ce := ce) (im := im) (sd := sd) (rs := rs) (oo := oo) (ct := ct) (sp := sp) (mm := mm) (sh := sh) (wn := wn) hm hva (by decide) (by decide) h hS hB hfr h2 hh hon hd0
  rcases hout with ⟨aX, aY⟩ | ⟨a, ha2, aX, aY⟩
  · have hR1 : hv_R F fr hd1 cu md rg im ce1 sd1 rs1 oo1 mm1 sh1 wn1 sp pt ve ep ca bv ti zs st pc pu pv pe fs be br := ⟨h2, hfr, hh1, hcu, hg, hB, hS, hZ, h1⟩
    obtain ⟨hd', ex', md', rg', pc', pt', ve', ep', ca', bv', ti', zs', st', pu', pv', pe', fs', be', br', sc', rc', ou', qh', ow', ce', sd', rs', oo', ct', sp', mm', sh', wn', hR', hD', rX, rY⟩ := hv_raise (c := nI 4) (v := nI va) (e := nI n) (fr := fr) (qn := qn) (pr := pr) (hd := hd1) (cu := cu) (le := le) (ba := ba) (ex := ex1) (md := md) (rg := rg) (pc := pc) (pt := pt) (ve := ve) (ep := ep) (ca := ca) (bv := bv) (ti := ti) (zs := zs) (st := st) (pu := pu) (pv := pv) (pe := pe) (fs := fs) (be := be) (br := br) (sc := sc) (rc := rc) (ou := ou) (qh := qh) (ow := ow) (ce := ce1) (im := im) (sd := sd1) (rs := rs1) (oo := oo1) (ct := ct1) (sp := sp) (mm := mm1) (sh := sh1) (wn := wn1) hR1 hm hon (hv_kn (by decide)) (hv_kn hva) (hv_kn hn) hD1
    refine ⟨hd', ex', md', rg', pc', pt', ve', ep', ca', bv', ti', zs', st', pu', pv', pe', fs', be', br', sc', rc', ou', qh', ow', ce', sd', rs', oo', ct', sp', mm', sh', wn', hR', hD', fun post hp => ?_, fun post hp => ?_⟩
    · unfold wX_execute_116 wpX_loadOrStore
      try dsimp only
      refine nm_r (e' := nI 4) (by rw [hv_sh12 (by omega), hv_a15 (by omega)]; exact congrArg nI (by omega)) (nm_r (e' := nI (4 * m + w / 1024 % 4)) (by rw [hv_sh10 (by omega), hv_a3 (by omega), hv_i4]) ?_)
      rw [hv_sh8 (a := w) (by omega), hv_a3 (a := w / 256) (by omega), hv_i4 m (w / 256 % 4), nI_clamp (n := 4 * m + w / 256 % 4) (by omega), hv_a255 (a := w) (by omega), hv_im hm]
      refine ⟨vp_in_nI (by omega) (by decide), nm_e (nm_r ev (aX _ (br_f (by decide) ?_)))⟩
      try dsimp only
      rw [epc]
      refine ⟨hv_iv hm, rX _ ?_⟩
      exact br_t (by decide) hp
    · unfold wY_execute_155
      exact nm_r ev (aY _ (br_t rfl (rY _ hp)))
  · have em : mm1 (256 * m + a) = ce1 (hv_lc rs1 (256 * m + a)) := hv_Mm h1 _ (by omega) (fun _ => by rw [show (256 * m + a) / 256 = m by omega]; exact hon)
    have hrg : hv_k 65536 (mm1 (256 * m + a)) := by rw [em]; exact hv_Mc h1 _ (hv_lclt h1.1 (hv_Mr h1) (by omega))
    have hR1 : hv_R F fr hd1 cu md (upd rg (4 * m + w / 1024 % 4) (mm1 (256 * m + a))) im ce1 sd1 rs1 oo1 mm1 sh1 wn1 sp pt ve ep ca bv ti zs st pc pu pv pe fs be br := ⟨h2, hfr, hh1, hcu, hv_wu hg hrg, hB, hS, hZ, h1⟩
    have hlt := hv_lclt h1.1 (hv_Mr h1) (a := 256 * m + a) (by omega)
    have il : vp_in (nI (hv_lc rs1 (256 * m + a))) 1024 := vp_in_nI hlt (by decide)
    have ei : nI m * 256 + nI a = nI (256 * m + a) := hv_i256 m a
    obtain ⟨hd', ex', md', rg', pc', pt', ve', ep', ca', bv', ti', zs', st', pu', pv', pe', fs', be', br', sc', rc', ou', qh', ow', ce', sd', rs', oo', ct', sp', mm', sh', wn', hR', hD', cX, cY⟩ := hv_comp (w := w) (nx := (n + 1) % 256) (fr := fr) (qn := qn) (pr := pr) (hd := hd1) (cu := cu) (le := le) (ba := ba) (ex := ex1) (md := md) (rg := upd rg (4 * m + w / 1024 % 4) (mm1 (256 * m + a))) (pc := pc) (pt := pt) (ve := ve) (ep := ep) (ca := ca) (bv := bv) (ti := ti) (zs := zs) (st := st) (pu := pu) (pv := pv) (pe := pe) (fs := fs) (be := be) (br := br) (sc := sc) (rc := rc) (ou := ou) (qh := qh) (ow := ow) (ce := ce1) (im := im) (sd := sd1) (rs := rs1) (oo := oo1) (ct := ct1) (sp := sp) (mm := mm1) (sh := sh1) (wn := wn1) hw (by omega) hR1 hm hD1
    refine ⟨hd', ex', md', rg', pc', pt', ve', ep', ca', bv', ti', zs', st', pu', pv', pe', fs', be', br', sc', rc', ou', qh', ow', ce', sd', rs', oo', ct', sp', mm', sh', wn', hR', hD', fun post hp => ?_, fun post hp => ?_⟩
    · unfold wX_execute_116 wpX_loadOrStore
      try dsimp only
      refine nm_r (e' := nI 4) (by rw [hv_sh12 (by omega), hv_a15 (by omega)]; exact congrArg nI (by omega)) (nm_r (e' := nI (4 * m + w / 1024 % 4)) (by rw [hv_sh10 (by omega), hv_a3 (by omega), hv_i4]) ?_)
      rw [hv_sh8 (a := w) (by omega), hv_a3 (a := w / 256) (by omega), hv_i4 m (w / 256 % 4), nI_clamp (n := 4 * m + w / 256 % 4) (by omega), hv_a255 (a := w) (by omega), hv_im hm]
      refine ⟨vp_in_nI (by omega) (by decide), nm_e (nm_r ev (aX _ (br_t (nI_pos' (by omega)) ?_)))⟩
      try dsimp only
      rw [nI_clamp (n := 4 * m + w / 1024 % 4) (by omega), nI_clamp (n := hv_lc rs1 (256 * m + a)) (by omega)]
      refine br_f (by decide) ⟨il, ia, nm_r (e := upd rg (4 * m + w / 1024 % 4) (ce1 (hv_lc rs1 (256 * m + a)))) (e' := upd rg (4 * m + w / 1024 % 4) (mm1 (256 * m + a))) (by rw [em]) ?_⟩
      unfold wX_loadOrStore_118
      rw [hv_im hm, epc, ean]
      exact ⟨hv_iv hm, cX _ hp⟩
    · unfold wY_execute_155
      refine nm_r ev (aY _ (br_f (hv_nm2 (by omega)) ?_))
      try dsimp only
      rw [ei, nI_clamp (n := 256 * m + a) (by omega), nI_clamp (n := 4 * m + w / 1024 % 4) (by omega)]
      have cY' := cY post hp
      rw [ho] at cY'
      exact br_t rfl ⟨vp_in_nI (by omega) (by decide), ia, nm_e (br_f (by decide) (br_f (by decide) (br_f (by decide) (br_f (by decide) (br_f (by decide) (br_f (by decide) (br_f (by decide) (br_f (by decide) (br_f (by decide) (br_f (by decide) (br_f (by decide) (br_f (by decide) (cY')))))))))))))⟩
theorem hv_ls5 {n : Nat} (hw : w < 65536) (hR : hv_R F fr hd cu md rg im ce sd rs oo mm sh wn sp pt ve ep ca bv ti zs st pc pu pv pe fs be br) (hm : m < 3) (hon : ¬ md m = 0) (hd0 : m < 2 → ex - hv_E ct m = d) (hn : n < 256) (epc : pc m = nI n) (ho : w / 4096 = 5) : hv_O F m d fr qn pr cu le ba im (fun post => wX_execute_116 post (nI m) (nI w) fr qn pr hd cu le ba ex md rg pc pt ve ep ca bv ti zs st pu pv pe fs be br sc rc ou qh ow ce im sd rs oo ct) (fun post => wY_execute_155 post (nI m) (nI n) (nI m * 16) (nI 5) (nI (w % 256)) (nI (w % 8)) (nI (4 * m + w / 1024 % 4)) (rg (4 * m + w / 1024 % 4)) (rg (4 * m + w / 256 % 4)) (nI ((n + 1) % 256)) (nI ((n + 1) % 256)) fr qn pr hd cu le ba md rg sp mm sc rc ou qh ow im sh ct wn) := by
  obtain ⟨h2, hfr, hh, hcu, hg, hB, hS, hZ, h⟩ := id hR
  have ia : vp_in (nI (4 * m + w / 1024 % 4)) 12 := vp_in_nI (by omega) (by decide)
  have ean : (nI n + 1) &&& 255 = nI ((n + 1) % 256) := by rw [nI_1]; exact hv_a255 (by omega)
  obtain ⟨va, hva, ev⟩ := hv_k255 (rg (4 * m + w / 256 % 4) + nI (w % 256))
  obtain ⟨hd1, ex1, ce1, sd1, rs1, oo1, ct1, mm1, sh1, wn1, h1, hh1, hD1, hout⟩ := hv_acc (kd := 5) (fr := fr) (qn := qn) (pr := pr) (hd := hd) (cu := cu) (le := le) (ba := ba) (ex := ex) (md := md) (rg := rg) (pc := pc) (pt := pt) (ve := ve) (ep := ep) (ca := ca) (bv := bv) (ti := ti) (zs := zs) (st := st) (pu := pu) (pv := pv) (pe := pe) (fs := fs) (be := be) (br := br) (sc := sc) (rc := rc) (ou := ou) (qh := qh) (ow := ow) (ce := ce) (im := im) (sd := sd) (rs := rs) (oo := oo) (ct := ct) (sp := sp) (mm := mm) (sh := sh) (wn := wn) hm hva (by decide) (by decide) h hS hB hfr h2 hh hon hd0
  rcases hout with ⟨aX, aY⟩ | ⟨a, ha2, aX, aY⟩
  · have hR1 : hv_R F fr hd1 cu md rg im ce1 sd1 rs1 oo1 mm1 sh1 wn1 sp pt ve ep ca bv ti zs st pc pu pv pe fs be br := ⟨h2, hfr, hh1, hcu, hg, hB, hS, hZ, h1⟩
    obtain ⟨hd', ex', md', rg', pc', pt', ve', ep', ca', bv', ti', zs', st', pu', pv', pe', fs', be', br', sc', rc', ou', qh', ow', ce', sd', rs', oo', ct', sp', mm', sh', wn', hR', hD', rX, rY⟩ := hv_raise (c := nI 5) (v := nI va) (e := nI n) (fr := fr) (qn := qn) (pr := pr) (hd := hd1) (cu := cu) (le := le) (ba := ba) (ex := ex1) (md := md) (rg := rg) (pc := pc) (pt := pt) (ve := ve) (ep := ep) (ca := ca) (bv := bv) (ti := ti) (zs := zs) (st := st) (pu := pu) (pv := pv) (pe := pe) (fs := fs) (be := be) (br := br) (sc := sc) (rc := rc) (ou := ou) (qh := qh) (ow := ow) (ce := ce1) (im := im) (sd := sd1) (rs := rs1) (oo := oo1) (ct := ct1) (sp := sp) (mm := mm1) (sh := sh1) (wn := wn1) hR1 hm hon (hv_kn (by decide)) (hv_kn hva) (hv_kn hn) hD1
    refine ⟨hd', ex', md', rg', pc', pt', ve', ep', ca', bv', ti', zs', st', pu', pv', pe', fs', be', br', sc', rc', ou', qh', ow', ce', sd', rs', oo', ct', sp', mm', sh', wn', hR', hD', fun post hp => ?_, fun post hp => ?_⟩
    · unfold wX_execute_116 wpX_loadOrStore
      try dsimp only
      refine nm_r (e' := nI 5) (by rw [hv_sh12 (by omega), hv_a15 (by omega)]; exact congrArg nI (by omega)) (nm_r (e' := nI (4 * m + w / 1024 % 4)) (by rw [hv_sh10 (by omega), hv_a3 (by omega), hv_i4]) ?_)
      rw [hv_sh8 (a := w) (by omega), hv_a3 (a := w / 256) (by omega), hv_i4 m (w / 256 % 4), nI_clamp (n := 4 * m + w / 256 % 4) (by omega), hv_a255 (a := w) (by omega), hv_im hm]
      refine ⟨vp_in_nI (by omega) (by decide), nm_e (nm_r ev (aX _ (br_f (by decide) ?_)))⟩
      try dsimp only
      rw [epc]
      refine ⟨hv_iv hm, rX _ ?_⟩
      exact br_t (by decide) hp
    · unfold wY_execute_155
      exact nm_r ev (aY _ (br_t rfl (rY _ hp)))
  · have hrg := hg (4 * m + w / 1024 % 4) (by omega)
    have h3 := hv_Mst h1 (a := 256 * m + a) (by omega) (fun _ => by rw [show (256 * m + a) / 256 = m by omega]; exact hon) hrg
    have hR1 : hv_R F fr hd1 cu md rg im (upd ce1 (hv_lc rs1 (256 * m + a)) (rg (4 * m + w / 1024 % 4))) sd1 rs1 oo1 (upd mm1 (256 * m + a) (rg (4 * m + w / 1024 % 4))) sh1 wn1 sp pt ve ep ca bv ti zs st pc pu pv pe fs be br := ⟨h2, hfr, hh1, hcu, hg, hB, hS, hZ, h3⟩
    have hlt := hv_lclt h1.1 (hv_Mr h1) (a := 256 * m + a) (by omega)
    have il : vp_in (nI (hv_lc rs1 (256 * m + a))) 1024 := vp_in_nI hlt (by decide)
    have ei : nI m * 256 + nI a = nI (256 * m + a) := hv_i256 m a
    obtain ⟨hd', ex', md', rg', pc', pt', ve', ep', ca', bv', ti', zs', st', pu', pv', pe', fs', be', br', sc', rc', ou', qh', ow', ce', sd', rs', oo', ct', sp', mm', sh', wn', hR', hD', cX, cY⟩ := hv_comp (w := w) (nx := (n + 1) % 256) (fr := fr) (qn := qn) (pr := pr) (hd := hd1) (cu := cu) (le := le) (ba := ba) (ex := ex1) (md := md) (rg := rg) (pc := pc) (pt := pt) (ve := ve) (ep := ep) (ca := ca) (bv := bv) (ti := ti) (zs := zs) (st := st) (pu := pu) (pv := pv) (pe := pe) (fs := fs) (be := be) (br := br) (sc := sc) (rc := rc) (ou := ou) (qh := qh) (ow := ow) (ce := upd ce1 (hv_lc rs1 (256 * m + a)) (rg (4 * m + w / 1024 % 4))) (im := im) (sd := sd1) (rs := rs1) (oo := oo1) (ct := ct1) (sp := sp) (mm := upd mm1 (256 * m + a) (rg (4 * m + w / 1024 % 4))) (sh := sh1) (wn := wn1) hw (by omega) hR1 hm hD1
    refine ⟨hd', ex', md', rg', pc', pt', ve', ep', ca', bv', ti', zs', st', pu', pv', pe', fs', be', br', sc', rc', ou', qh', ow', ce', sd', rs', oo', ct', sp', mm', sh', wn', hR', hD', fun post hp => ?_, fun post hp => ?_⟩
    · unfold wX_execute_116 wpX_loadOrStore
      try dsimp only
      refine nm_r (e' := nI 5) (by rw [hv_sh12 (by omega), hv_a15 (by omega)]; exact congrArg nI (by omega)) (nm_r (e' := nI (4 * m + w / 1024 % 4)) (by rw [hv_sh10 (by omega), hv_a3 (by omega), hv_i4]) ?_)
      rw [hv_sh8 (a := w) (by omega), hv_a3 (a := w / 256) (by omega), hv_i4 m (w / 256 % 4), nI_clamp (n := 4 * m + w / 256 % 4) (by omega), hv_a255 (a := w) (by omega), hv_im hm]
      refine ⟨vp_in_nI (by omega) (by decide), nm_e (nm_r ev (aX _ (br_t (nI_pos' (by omega)) ?_)))⟩
      try dsimp only
      rw [nI_clamp (n := 4 * m + w / 1024 % 4) (by omega), nI_clamp (n := hv_lc rs1 (256 * m + a)) (by omega)]
      refine br_t rfl ⟨ia, il, nm_e ?_⟩
      unfold wX_loadOrStore_118
      rw [hv_im hm, epc, ean]
      exact ⟨hv_iv hm, cX _ hp⟩
    · unfold wY_execute_155
      refine nm_r ev (aY _ (br_f (hv_nm2 (by omega)) ?_))
      try dsimp only
      rw [ei, nI_clamp (n := 256 * m + a) (by omega)]
      have cY' := cY post hp
      rw [ho] at cY'
      exact br_f (by decide) ⟨vp_in_nI (by omega) (by decide), nm_e (br_f (by decide) (br_f (by decide) (br_f (by decide) (br_f (by decide) (br_f (by decide) (br_f (by decide) (br_f (by decide) (br_f (by decide) (br_f (by decide) (br_f (by decide) (br_f (by decide) (br_f (by decide) (cY')))))))))))))⟩
end
end
section
/-! one instruction; one step -/
section
variable {fr qn pr hd cu le ba ex : Int32} {md rg pc pt ve ep ca bv ti zs st pu pv pe fs be br sc rc ou qh ow ce im sd rs oo ct : Nat → Int32} {sp mm sh wn : Nat → Int32}
variable {F m w : Nat} {d : Int32}
theorem hv_e1 {n : Nat} (hw : w < 65536) (hR : hv_R F fr hd cu md rg im ce sd rs oo mm sh wn sp pt ve ep ca bv ti zs st pc pu pv pe fs be br) (hm : m < 3) (hon : ¬ md m = 0) (hd0 : m < 2 → ex - hv_E ct m = d) (hn : n < 256) (epc : pc m = nI n) (ho : w / 4096 = 1) : hv_O F m d fr qn pr cu le ba im (fun post => wX_execute_65 post (nI m) (nI w) (nI (w / 4096)) (nI (w % 256)) (nI n) fr qn pr hd cu le ba ex md rg pc pt ve ep ca bv ti zs st pu pv pe fs be br sc rc ou qh ow ce im sd rs oo ct) (fun post => wY_execute_124 post (nI m) (nI n) (nI m * 16) (nI (w / 4096)) (nI (w % 256)) (nI (w % 8)) (nI (4 * m + w / 1024 % 4)) (rg (4 * m + w / 1024 % 4)) (rg (4 * m + w / 256 % 4)) (nI ((n + 1) % 256)) (nI ((n + 1) % 256)) fr qn pr hd cu le ba md rg sp mm sc rc ou qh ow im sh ct wn) := by
  obtain ⟨h2, hfr, hh, hcu, hg, hB, hS, hZ, h⟩ := id hR
  obtain ⟨rg', nx, hg', hnx, pX, pY⟩ := hv_pl1 (fr := fr) (qn := qn) (pr := pr) (hd := hd) (cu := cu) (le := le) (ba := ba) (ex := ex) (md := md) (rg := rg) (pc := pc) (pt := pt) (ve := ve) (ep := ep) (ca := ca) (bv := bv) (ti := ti) (zs := zs) (st := st) (pu := pu) (pv := pv) (pe := pe) (fs := fs) (be := be) (br := br) (sc := sc) (rc := rc) (ou := ou) (qh := qh) (ow := ow) (ce := ce) (im := im) (sd := sd) (rs := rs) (oo := oo) (ct := ct) (sp := sp) (mm := mm) (sh := sh) (wn := wn) hm hw ho hg hn epc
  have hR' : hv_R F fr hd cu md rg' im ce sd rs oo mm sh wn sp pt ve ep ca bv ti zs st pc pu pv pe fs be br := ⟨h2, hfr, hh, hcu, hg', hB, hS, hZ, h⟩
  obtain ⟨hd2, ex2, md2, rg2, pc2, pt2, ve2, ep2, ca2, bv2, ti2, zs2, st2, pu2, pv2, pe2, fs2, be2, br2, sc2, rc2, ou2, qh2, ow2, ce2, sd2, rs2, oo2, ct2, sp2, mm2, sh2, wn2, hR2, hD2, cX, cY⟩ := hv_comp (w := w) (nx := nx) (fr := fr) (qn := qn) (pr := pr) (hd := hd) (cu := cu) (le := le) (ba := ba) (ex := ex) (md := md) (rg := rg') (pc := pc) (pt := pt) (ve := ve) (ep := ep) (ca := ca) (bv := bv) (ti := ti) (zs := zs) (st := st) (pu := pu) (pv := pv) (pe := pe) (fs := fs) (be := be) (br := br) (sc := sc) (rc := rc) (ou := ou) (qh := qh) (ow := ow) (ce := ce) (im := im) (sd := sd) (rs := rs) (oo := oo) (ct := ct) (sp := sp) (mm := mm) (sh := sh) (wn := wn) hw hnx hR' hm hd0
  refine ⟨hd2, ex2, md2, rg2, pc2, pt2, ve2, ep2, ca2, bv2, ti2, zs2, st2, pu2, pv2, pe2, fs2, be2, br2, sc2, rc2, ou2, qh2, ow2, ce2, sd2, rs2, oo2, ct2, sp2, mm2, sh2, wn2, hR2, hD2, fun post hp => ?_, fun post hp => ?_⟩
  · have cX' := cX post hp
    rw [ho]
    exact br_f (by decide) (br_t (by decide) (br_f (by decide) (br_f (by decide) (pX _ cX'))))
  · have cY' := cY post hp
    rw [ho] at cY' ⊢
    exact br_f (by decide) (br_f (by decide) (br_f (by decide) (pY _ cY')))
theorem hv_e2 {n : Nat} (hw : w < 65536) (hR : hv_R F fr hd cu md rg im ce sd rs oo mm sh wn sp pt ve ep ca bv ti zs st pc pu pv pe fs be br) (hm : m < 3) (hon : ¬ md m = 0) (hd0 : m < 2 → ex - hv_E ct m = d) (hn : n < 256) (epc : pc m = nI n) (ho : w / 4096 = 2) : hv_O F m d fr qn pr cu le ba im (fun post => wX_execute_65 post (nI m) (nI w) (nI (w / 4096)) (nI (w % 256)) (nI n) fr qn pr hd cu le ba ex md rg pc pt ve ep ca bv ti zs st pu pv pe fs be br sc rc ou qh ow ce im sd rs oo ct) (fun post => wY_execute_124 post (nI m) (nI n) (nI m * 16) (nI (w / 4096)) (nI (w % 256)) (nI (w % 8)) (nI (4 * m + w / 1024 % 4)) (rg (4 * m + w / 1024 % 4)) (rg (4 * m + w / 256 % 4)) (nI ((n + 1) % 256)) (nI ((n + 1) % 256)) fr qn pr hd cu le ba md rg sp mm sc rc ou qh ow im sh ct wn) := by
  obtain ⟨h2, hfr, hh, hcu, hg, hB, hS, hZ, h⟩ := id hR
  obtain ⟨rg', nx, hg', hnx, pX, pY⟩ := hv_pl2 (fr := fr) (qn := qn) (pr := pr) (hd := hd) (cu := cu) (le := le) (ba := ba) (ex := ex) (md := md) (rg := rg) (pc := pc) (pt := pt) (ve := ve) (ep := ep) (ca := ca) (bv := bv) (ti := ti) (zs := zs) (st := st) (pu := pu) (pv := pv) (pe := pe) (fs := fs) (be := be) (br := br) (sc := sc) (rc := rc) (ou := ou) (qh := qh) (ow := ow) (ce := ce) (im := im) (sd := sd) (rs := rs) (oo := oo) (ct := ct) (sp := sp) (mm := mm) (sh := sh) (wn := wn) hm hw ho hg hn epc
  have hR' : hv_R F fr hd cu md rg' im ce sd rs oo mm sh wn sp pt ve ep ca bv ti zs st pc pu pv pe fs be br := ⟨h2, hfr, hh, hcu, hg', hB, hS, hZ, h⟩
  obtain ⟨hd2, ex2, md2, rg2, pc2, pt2, ve2, ep2, ca2, bv2, ti2, zs2, st2, pu2, pv2, pe2, fs2, be2, br2, sc2, rc2, ou2, qh2, ow2, ce2, sd2, rs2, oo2, ct2, sp2, mm2, sh2, wn2, hR2, hD2, cX, cY⟩ := hv_comp (w := w) (nx := nx) (fr := fr) (qn := qn) (pr := pr) (hd := hd) (cu := cu) (le := le) (ba := ba) (ex := ex) (md := md) (rg := rg') (pc := pc) (pt := pt) (ve := ve) (ep := ep) (ca := ca) (bv := bv) (ti := ti) (zs := zs) (st := st) (pu := pu) (pv := pv) (pe := pe) (fs := fs) (be := be) (br := br) (sc := sc) (rc := rc) (ou := ou) (qh := qh) (ow := ow) (ce := ce) (im := im) (sd := sd) (rs := rs) (oo := oo) (ct := ct) (sp := sp) (mm := mm) (sh := sh) (wn := wn) hw hnx hR' hm hd0
  refine ⟨hd2, ex2, md2, rg2, pc2, pt2, ve2, ep2, ca2, bv2, ti2, zs2, st2, pu2, pv2, pe2, fs2, be2, br2, sc2, rc2, ou2, qh2, ow2, ce2, sd2, rs2, oo2, ct2, sp2, mm2, sh2, wn2, hR2, hD2, fun post hp => ?_, fun post hp => ?_⟩
  · have cX' := cX post hp
    rw [ho]
    exact br_f (by decide) (br_t (by decide) (br_f (by decide) (br_f (by decide) (pX _ cX'))))
  · have cY' := cY post hp
    rw [ho] at cY' ⊢
    exact br_f (by decide) (br_f (by decide) (br_f (by decide) (pY _ cY')))
theorem hv_e3 {n : Nat} (hw : w < 65536) (hR : hv_R F fr hd cu md rg im ce sd rs oo mm sh wn sp pt ve ep ca bv ti zs st pc pu pv pe fs be br) (hm : m < 3) (hon : ¬ md m = 0) (hd0 : m < 2 → ex - hv_E ct m = d) (hn : n < 256) (epc : pc m = nI n) (ho : w / 4096 = 3) : hv_O F m d fr qn pr cu le ba im (fun post => wX_execute_65 post (nI m) (nI w) (nI (w / 4096)) (nI (w % 256)) (nI n) fr qn pr hd cu le ba ex md rg pc pt ve ep ca bv ti zs st pu pv pe fs be br sc rc ou qh ow ce im sd rs oo ct) (fun post => wY_execute_124 post (nI m) (nI n) (nI m * 16) (nI (w / 4096)) (nI (w % 256)) (nI (w % 8)) (nI (4 * m + w / 1024 % 4)) (rg (4 * m + w / 1024 % 4)) (rg (4 * m + w / 256 % 4)) (nI ((n + 1) % 256)) (nI ((n + 1) % 256)) fr qn pr hd cu le ba md rg sp mm sc rc ou qh ow im sh ct wn) := by
  obtain ⟨h2, hfr, hh, hcu, hg, hB, hS, hZ, h⟩ := id hR
  obtain ⟨rg', nx, hg', hnx, pX, pY⟩ := hv_pl3 (fr := fr) (qn := qn) (pr := pr) (hd := hd) (cu := cu) (le := le) (ba := ba) (ex := ex) (md := md) (rg := rg) (pc := pc) (pt := pt) (ve := ve) (ep := ep) (ca := ca) (bv := bv) (ti := ti) (zs := zs) (st := st) (pu := pu) (pv := pv) (pe := pe) (fs := fs) (be := be) (br := br) (sc := sc) (rc := rc) (ou := ou) (qh := qh) (ow := ow) (ce := ce) (im := im) (sd := sd) (rs := rs) (oo := oo) (ct := ct) (sp := sp) (mm := mm) (sh := sh) (wn := wn) hm hw ho hg hn epc
  have hR' : hv_R F fr hd cu md rg' im ce sd rs oo mm sh wn sp pt ve ep ca bv ti zs st pc pu pv pe fs be br := ⟨h2, hfr, hh, hcu, hg', hB, hS, hZ, h⟩
  obtain ⟨hd2, ex2, md2, rg2, pc2, pt2, ve2, ep2, ca2, bv2, ti2, zs2, st2, pu2, pv2, pe2, fs2, be2, br2, sc2, rc2, ou2, qh2, ow2, ce2, sd2, rs2, oo2, ct2, sp2, mm2, sh2, wn2, hR2, hD2, cX, cY⟩ := hv_comp (w := w) (nx := nx) (fr := fr) (qn := qn) (pr := pr) (hd := hd) (cu := cu) (le := le) (ba := ba) (ex := ex) (md := md) (rg := rg') (pc := pc) (pt := pt) (ve := ve) (ep := ep) (ca := ca) (bv := bv) (ti := ti) (zs := zs) (st := st) (pu := pu) (pv := pv) (pe := pe) (fs := fs) (be := be) (br := br) (sc := sc) (rc := rc) (ou := ou) (qh := qh) (ow := ow) (ce := ce) (im := im) (sd := sd) (rs := rs) (oo := oo) (ct := ct) (sp := sp) (mm := mm) (sh := sh) (wn := wn) hw hnx hR' hm hd0
  refine ⟨hd2, ex2, md2, rg2, pc2, pt2, ve2, ep2, ca2, bv2, ti2, zs2, st2, pu2, pv2, pe2, fs2, be2, br2, sc2, rc2, ou2, qh2, ow2, ce2, sd2, rs2, oo2, ct2, sp2, mm2, sh2, wn2, hR2, hD2, fun post hp => ?_, fun post hp => ?_⟩
  · have cX' := cX post hp
    rw [ho]
    exact br_f (by decide) (br_t (by decide) (br_f (by decide) (br_f (by decide) (pX _ cX'))))
  · have cY' := cY post hp
    rw [ho] at cY' ⊢
    exact br_f (by decide) (br_f (by decide) (br_f (by decide) (pY _ cY')))
theorem hv_e4 {n : Nat} (hw : w < 65536) (hR : hv_R F fr hd cu md rg im ce sd rs oo mm sh wn sp pt ve ep ca bv ti zs st pc pu pv pe fs be br) (hm : m < 3) (hon : ¬ md m = 0) (hd0 : m < 2 → ex - hv_E ct m = d) (hn : n < 256) (epc : pc m = nI n) (ho : w / 4096 = 4) : hv_O F m d fr qn pr cu le ba im (fun post => wX_execute_65 post (nI m) (nI w) (nI (w / 4096)) (nI (w % 256)) (nI n) fr qn pr hd cu le ba ex md rg pc pt ve ep ca bv ti zs st pu pv pe fs be br sc rc ou qh ow ce im sd rs oo ct) (fun post => wY_execute_124 post (nI m) (nI n) (nI m * 16) (nI (w / 4096)) (nI (w % 256)) (nI (w % 8)) (nI (4 * m + w / 1024 % 4)) (rg (4 * m + w / 1024 % 4)) (rg (4 * m + w / 256 % 4)) (nI ((n + 1) % 256)) (nI ((n + 1) % 256)) fr qn pr hd cu le ba md rg sp mm sc rc ou qh ow im sh ct wn) := by
  obtain ⟨hd', ex', md', rg', pc', pt', ve', ep', ca', bv', ti', zs', st', pu', pv', pe', fs', be', br', sc', rc', ou', qh', ow', ce', sd', rs', oo', ct', sp', mm', sh', wn', hR', hD', rX, rY⟩ := hv_ls4 (fr := fr) (qn := qn) (pr := pr) (hd := hd) (cu := cu) (le := le) (ba := ba) (ex := ex) (md := md) (rg := rg) (pc := pc) (pt := pt) (ve := ve) (ep := ep) (ca := ca) (bv := bv) (ti := ti) (zs := zs) (st := st) (pu := pu) (pv := pv) (pe := pe) (fs := fs) (be := be) (br := br) (sc := sc) (rc := rc) (ou := ou) (qh := qh) (ow := ow) (ce := ce) (im := im) (sd := sd) (rs := rs) (oo := oo) (ct := ct) (sp := sp) (mm := mm) (sh := sh) (wn := wn) hw hR hm hon hd0 hn epc ho
  refine ⟨hd', ex', md', rg', pc', pt', ve', ep', ca', bv', ti', zs', st', pu', pv', pe', fs', be', br', sc', rc', ou', qh', ow', ce', sd', rs', oo', ct', sp', mm', sh', wn', hR', hD', fun post hp => ?_, fun post hp => ?_⟩
  · rw [ho]
    exact br_f (by decide) (br_t (by decide) (br_t rfl (rX _ hp)))
  · rw [ho]
    exact br_f (by decide) (br_t rfl (rY _ hp))
theorem hv_e5 {n : Nat} (hw : w < 65536) (hR : hv_R F fr hd cu md rg im ce sd rs oo mm sh wn sp pt ve ep ca bv ti zs st pc pu pv pe fs be br) (hm : m < 3) (hon : ¬ md m = 0) (hd0 : m < 2 → ex - hv_E ct m = d) (hn : n < 256) (epc : pc m = nI n) (ho : w / 4096 = 5) : hv_O F m d fr qn pr cu le ba im (fun post => wX_execute_65 post (nI m) (nI w) (nI (w / 4096)) (nI (w % 256)) (nI n) fr qn pr hd cu le ba ex md rg pc pt ve ep ca bv ti zs st pu pv pe fs be br sc rc ou qh ow ce im sd rs oo ct) (fun post => wY_execute_124 post (nI m) (nI n) (nI m * 16) (nI (w / 4096)) (nI (w % 256)) (nI (w % 8)) (nI (4 * m + w / 1024 % 4)) (rg (4 * m + w / 1024 % 4)) (rg (4 * m + w / 256 % 4)) (nI ((n + 1) % 256)) (nI ((n + 1) % 256)) fr qn pr hd cu le ba md rg sp mm sc rc ou qh ow im sh ct wn) := by
  obtain ⟨hd', ex', md', rg', pc', pt', ve', ep', ca', bv', ti', zs', st', pu', pv', pe', fs', be', br', sc', rc', ou', qh', ow', ce', sd', rs', oo', ct', sp', mm', sh', wn', hR', hD', rX, rY⟩ := hv_ls5 (fr := fr) (qn := qn) (pr := pr) (hd := hd) (cu := cu) (le := le) (ba := ba) (ex := ex) (md := md) (rg := rg) (pc := pc) (pt := pt) (ve := ve) (ep := ep) (ca := ca) (bv := bv) (ti := ti) (zs := zs) (st := st) (pu := pu) (pv := pv) (pe := pe) (fs := fs) (be := be) (br := br) (sc := sc) (rc := rc) (ou := ou) (qh := qh) (ow := ow) (ce := ce) (im := im) (sd := sd) (rs := rs) (oo := oo) (ct := ct) (sp := sp) (mm := mm) (sh := sh) (wn := wn) hw hR hm hon hd0 hn epc ho
  refine ⟨hd', ex', md', rg', pc', pt', ve', ep', ca', bv', ti', zs', st', pu', pv', pe', fs', be', br', sc', rc', ou', qh', ow', ce', sd', rs', oo', ct', sp', mm', sh', wn', hR', hD', fun post hp => ?_, fun post hp => ?_⟩
  · rw [ho]
    exact br_f (by decide) (br_t (by decide) (br_f (by decide) (br_t rfl (rX _ hp))))
  · rw [ho]
    exact br_f (by decide) (br_f (by decide) (br_t rfl (rY _ hp)))
theorem hv_e6 {n : Nat} (hw : w < 65536) (hR : hv_R F fr hd cu md rg im ce sd rs oo mm sh wn sp pt ve ep ca bv ti zs st pc pu pv pe fs be br) (hm : m < 3) (hon : ¬ md m = 0) (hd0 : m < 2 → ex - hv_E ct m = d) (hn : n < 256) (epc : pc m = nI n) (ho : w / 4096 = 6) : hv_O F m d fr qn pr cu le ba im (fun post => wX_execute_65 post (nI m) (nI w) (nI (w / 4096)) (nI (w % 256)) (nI n) fr qn pr hd cu le ba ex md rg pc pt ve ep ca bv ti zs st pu pv pe fs be br sc rc ou qh ow ce im sd rs oo ct) (fun post => wY_execute_124 post (nI m) (nI n) (nI m * 16) (nI (w / 4096)) (nI (w % 256)) (nI (w % 8)) (nI (4 * m + w / 1024 % 4)) (rg (4 * m + w / 1024 % 4)) (rg (4 * m + w / 256 % 4)) (nI ((n + 1) % 256)) (nI ((n + 1) % 256)) fr qn pr hd cu le ba md rg sp mm sc rc ou qh ow im sh ct wn) := by
  obtain ⟨h2, hfr, hh, hcu, hg, hB, hS, hZ, h⟩ := id hR
  obtain ⟨rg', nx, hg', hnx, pX, pY⟩ := hv_pl6 (fr := fr) (qn := qn) (pr := pr) (hd := hd) (cu := cu) (le := le) (ba := ba) (ex := ex) (md := md) (rg := rg) (pc := pc) (pt := pt) (ve := ve) (ep := ep) (ca := ca) (bv := bv) (ti := ti) (zs := zs) (st := st) (pu := pu) (pv := pv) (pe := pe) (fs := fs) (be := be) (br := br) (sc := sc) (rc := rc) (ou := ou) (qh := qh) (ow := ow) (ce := ce) (im := im) (sd := sd) (rs := rs) (oo := oo) (ct := ct) (sp := sp) (mm := mm) (sh := sh) (wn := wn) hm hw ho hg hn epc
  have hR' : hv_R F fr hd cu md rg' im ce sd rs oo mm sh wn sp pt ve ep ca bv ti zs st pc pu pv pe fs be br := ⟨h2, hfr, hh, hcu, hg', hB, hS, hZ, h⟩
  obtain ⟨hd2, ex2, md2, rg2, pc2, pt2, ve2, ep2, ca2, bv2, ti2, zs2, st2, pu2, pv2, pe2, fs2, be2, br2, sc2, rc2, ou2, qh2, ow2, ce2, sd2, rs2, oo2, ct2, sp2, mm2, sh2, wn2, hR2, hD2, cX, cY⟩ := hv_comp (w := w) (nx := nx) (fr := fr) (qn := qn) (pr := pr) (hd := hd) (cu := cu) (le := le) (ba := ba) (ex := ex) (md := md) (rg := rg') (pc := pc) (pt := pt) (ve := ve) (ep := ep) (ca := ca) (bv := bv) (ti := ti) (zs := zs) (st := st) (pu := pu) (pv := pv) (pe := pe) (fs := fs) (be := be) (br := br) (sc := sc) (rc := rc) (ou := ou) (qh := qh) (ow := ow) (ce := ce) (im := im) (sd := sd) (rs := rs) (oo := oo) (ct := ct) (sp := sp) (mm := mm) (sh := sh) (wn := wn) hw hnx hR' hm hd0
  refine ⟨hd2, ex2, md2, rg2, pc2, pt2, ve2, ep2, ca2, bv2, ti2, zs2, st2, pu2, pv2, pe2, fs2, be2, br2, sc2, rc2, ou2, qh2, ow2, ce2, sd2, rs2, oo2, ct2, sp2, mm2, sh2, wn2, hR2, hD2, fun post hp => ?_, fun post hp => ?_⟩
  · have cX' := cX post hp
    rw [ho]
    exact br_f (by decide) (br_t (by decide) (br_f (by decide) (br_f (by decide) (pX _ cX'))))
  · have cY' := cY post hp
    rw [ho] at cY' ⊢
    exact br_f (by decide) (br_f (by decide) (br_f (by decide) (pY _ cY')))
theorem hv_e7 {n : Nat} (hw : w < 65536) (hR : hv_R F fr hd cu md rg im ce sd rs oo mm sh wn sp pt ve ep ca bv ti zs st pc pu pv pe fs be br) (hm : m < 3) (hon : ¬ md m = 0) (hd0 : m < 2 → ex - hv_E ct m = d) (hn : n < 256) (epc : pc m = nI n) (ho : w / 4096 = 7) : hv_O F m d fr qn pr cu le ba im (fun post => wX_execute_65 post (nI m) (nI w) (nI (w / 4096)) (nI (w % 256)) (nI n) fr qn pr hd cu le ba ex md rg pc pt ve ep ca bv ti zs st pu pv pe fs be br sc rc ou qh ow ce im sd rs oo ct) (fun post => wY_execute_124 post (nI m) (nI n) (nI m * 16) (nI (w / 4096)) (nI (w % 256)) (nI (w % 8)) (nI (4 * m + w / 1024 % 4)) (rg (4 * m + w / 1024 % 4)) (rg (4 * m + w / 256 % 4)) (nI ((n + 1) % 256)) (nI ((n + 1) % 256)) fr qn pr hd cu le ba md rg sp mm sc rc ou qh ow im sh ct wn) := by
  obtain ⟨h2, hfr, hh, hcu, hg, hB, hS, hZ, h⟩ := id hR
  obtain ⟨rg', nx, hg', hnx, pX, pY⟩ := hv_pl7 (fr := fr) (qn := qn) (pr := pr) (hd := hd) (cu := cu) (le := le) (ba := ba) (ex := ex) (md := md) (rg := rg) (pc := pc) (pt := pt) (ve := ve) (ep := ep) (ca := ca) (bv := bv) (ti := ti) (zs := zs) (st := st) (pu := pu) (pv := pv) (pe := pe) (fs := fs) (be := be) (br := br) (sc := sc) (rc := rc) (ou := ou) (qh := qh) (ow := ow) (ce := ce) (im := im) (sd := sd) (rs := rs) (oo := oo) (ct := ct) (sp := sp) (mm := mm) (sh := sh) (wn := wn) hm hw ho hg hn epc
  have hR' : hv_R F fr hd cu md rg' im ce sd rs oo mm sh wn sp pt ve ep ca bv ti zs st pc pu pv pe fs be br := ⟨h2, hfr, hh, hcu, hg', hB, hS, hZ, h⟩
  obtain ⟨hd2, ex2, md2, rg2, pc2, pt2, ve2, ep2, ca2, bv2, ti2, zs2, st2, pu2, pv2, pe2, fs2, be2, br2, sc2, rc2, ou2, qh2, ow2, ce2, sd2, rs2, oo2, ct2, sp2, mm2, sh2, wn2, hR2, hD2, cX, cY⟩ := hv_comp (w := w) (nx := nx) (fr := fr) (qn := qn) (pr := pr) (hd := hd) (cu := cu) (le := le) (ba := ba) (ex := ex) (md := md) (rg := rg') (pc := pc) (pt := pt) (ve := ve) (ep := ep) (ca := ca) (bv := bv) (ti := ti) (zs := zs) (st := st) (pu := pu) (pv := pv) (pe := pe) (fs := fs) (be := be) (br := br) (sc := sc) (rc := rc) (ou := ou) (qh := qh) (ow := ow) (ce := ce) (im := im) (sd := sd) (rs := rs) (oo := oo) (ct := ct) (sp := sp) (mm := mm) (sh := sh) (wn := wn) hw hnx hR' hm hd0
  refine ⟨hd2, ex2, md2, rg2, pc2, pt2, ve2, ep2, ca2, bv2, ti2, zs2, st2, pu2, pv2, pe2, fs2, be2, br2, sc2, rc2, ou2, qh2, ow2, ce2, sd2, rs2, oo2, ct2, sp2, mm2, sh2, wn2, hR2, hD2, fun post hp => ?_, fun post hp => ?_⟩
  · have cX' := cX post hp
    rw [ho]
    exact br_f (by decide) (br_t (by decide) (br_f (by decide) (br_f (by decide) (pX _ cX'))))
  · have cY' := cY post hp
    rw [ho] at cY' ⊢
    exact br_f (by decide) (br_f (by decide) (br_f (by decide) (pY _ cY')))
theorem hv_e8 {n : Nat} (hw : w < 65536) (hR : hv_R F fr hd cu md rg im ce sd rs oo mm sh wn sp pt ve ep ca bv ti zs st pc pu pv pe fs be br) (hm : m < 3) (hon : ¬ md m = 0) (hd0 : m < 2 → ex - hv_E ct m = d) (hn : n < 256) (epc : pc m = nI n) (ho : w / 4096 = 8) : hv_O F m d fr qn pr cu le ba im (fun post => wX_execute_65 post (nI m) (nI w) (nI (w / 4096)) (nI (w % 256)) (nI n) fr qn pr hd cu le ba ex md rg pc pt ve ep ca bv ti zs st pu pv pe fs be br sc rc ou qh ow ce im sd rs oo ct) (fun post => wY_execute_124 post (nI m) (nI n) (nI m * 16) (nI (w / 4096)) (nI (w % 256)) (nI (w % 8)) (nI (4 * m + w / 1024 % 4)) (rg (4 * m + w / 1024 % 4)) (rg (4 * m + w / 256 % 4)) (nI ((n + 1) % 256)) (nI ((n + 1) % 256)) fr qn pr hd cu le ba md rg sp mm sc rc ou qh ow im sh ct wn) := by
  obtain ⟨h2, hfr, hh, hcu, hg, hB, hS, hZ, h⟩ := id hR
  obtain ⟨rg', nx, hg', hnx, pX, pY⟩ := hv_pl8 (fr := fr) (qn := qn) (pr := pr) (hd := hd) (cu := cu) (le := le) (ba := ba) (ex := ex) (md := md) (rg := rg) (pc := pc) (pt := pt) (ve := ve) (ep := ep) (ca := ca) (bv := bv) (ti := ti) (zs := zs) (st := st) (pu := pu) (pv := pv) (pe := pe) (fs := fs) (be := be) (br := br) (sc := sc) (rc := rc) (ou := ou) (qh := qh) (ow := ow) (ce := ce) (im := im) (sd := sd) (rs := rs) (oo := oo) (ct := ct) (sp := sp) (mm := mm) (sh := sh) (wn := wn) hm hw ho hg hn epc
  have hR' : hv_R F fr hd cu md rg' im ce sd rs oo mm sh wn sp pt ve ep ca bv ti zs st pc pu pv pe fs be br := ⟨h2, hfr, hh, hcu, hg', hB, hS, hZ, h⟩
  obtain ⟨hd2, ex2, md2, rg2, pc2, pt2, ve2, ep2, ca2, bv2, ti2, zs2, st2, pu2, pv2, pe2, fs2, be2, br2, sc2, rc2, ou2, qh2, ow2, ce2, sd2, rs2, oo2, ct2, sp2, mm2, sh2, wn2, hR2, hD2, cX, cY⟩ := hv_comp (w := w) (nx := nx) (fr := fr) (qn := qn) (pr := pr) (hd := hd) (cu := cu) (le := le) (ba := ba) (ex := ex) (md := md) (rg := rg') (pc := pc) (pt := pt) (ve := ve) (ep := ep) (ca := ca) (bv := bv) (ti := ti) (zs := zs) (st := st) (pu := pu) (pv := pv) (pe := pe) (fs := fs) (be := be) (br := br) (sc := sc) (rc := rc) (ou := ou) (qh := qh) (ow := ow) (ce := ce) (im := im) (sd := sd) (rs := rs) (oo := oo) (ct := ct) (sp := sp) (mm := mm) (sh := sh) (wn := wn) hw hnx hR' hm hd0
  refine ⟨hd2, ex2, md2, rg2, pc2, pt2, ve2, ep2, ca2, bv2, ti2, zs2, st2, pu2, pv2, pe2, fs2, be2, br2, sc2, rc2, ou2, qh2, ow2, ce2, sd2, rs2, oo2, ct2, sp2, mm2, sh2, wn2, hR2, hD2, fun post hp => ?_, fun post hp => ?_⟩
  · have cX' := cX post hp
    rw [ho]
    exact br_f (by decide) (br_t (by decide) (br_f (by decide) (br_f (by decide) (pX _ cX'))))
  · have cY' := cY post hp
    rw [ho] at cY' ⊢
    exact br_f (by decide) (br_f (by decide) (br_f (by decide) (pY _ cY')))
theorem hv_e9 {n : Nat} (hw : w < 65536) (hR : hv_R F fr hd cu md rg im ce sd rs oo mm sh wn sp pt ve ep ca bv ti zs st pc pu pv pe fs be br) (hm : m < 3) (hon : ¬ md m = 0) (hd0 : m < 2 → ex - hv_E ct m = d) (hn : n < 256) (epc : pc m = nI n) (ho : w / 4096 = 9) : hv_O F m d fr qn pr cu le ba im (fun post => wX_execute_65 post (nI m) (nI w) (nI (w / 4096)) (nI (w % 256)) (nI n) fr qn pr hd cu le ba ex md rg pc pt ve ep ca bv ti zs st pu pv pe fs be br sc rc ou qh ow ce im sd rs oo ct) (fun post => wY_execute_124 post (nI m) (nI n) (nI m * 16) (nI (w / 4096)) (nI (w % 256)) (nI (w % 8)) (nI (4 * m + w / 1024 % 4)) (rg (4 * m + w / 1024 % 4)) (rg (4 * m + w / 256 % 4)) (nI ((n + 1) % 256)) (nI ((n + 1) % 256)) fr qn pr hd cu le ba md rg sp mm sc rc ou qh ow im sh ct wn) := by
  obtain ⟨h2, hfr, hh, hcu, hg, hB, hS, hZ, h⟩ := id hR
  obtain ⟨rg', nx, hg', hnx, pX, pY⟩ := hv_pl9 (fr := fr) (qn := qn) (pr := pr) (hd := hd) (cu := cu) (le := le) (ba := ba) (ex := ex) (md := md) (rg := rg) (pc := pc) (pt := pt) (ve := ve) (ep := ep) (ca := ca) (bv := bv) (ti := ti) (zs := zs) (st := st) (pu := pu) (pv := pv) (pe := pe) (fs := fs) (be := be) (br := br) (sc := sc) (rc := rc) (ou := ou) (qh := qh) (ow := ow) (ce := ce) (im := im) (sd := sd) (rs := rs) (oo := oo) (ct := ct) (sp := sp) (mm := mm) (sh := sh) (wn := wn) hm hw ho hg hn epc
  have hR' : hv_R F fr hd cu md rg' im ce sd rs oo mm sh wn sp pt ve ep ca bv ti zs st pc pu pv pe fs be br := ⟨h2, hfr, hh, hcu, hg', hB, hS, hZ, h⟩
  obtain ⟨hd2, ex2, md2, rg2, pc2, pt2, ve2, ep2, ca2, bv2, ti2, zs2, st2, pu2, pv2, pe2, fs2, be2, br2, sc2, rc2, ou2, qh2, ow2, ce2, sd2, rs2, oo2, ct2, sp2, mm2, sh2, wn2, hR2, hD2, cX, cY⟩ := hv_comp (w := w) (nx := nx) (fr := fr) (qn := qn) (pr := pr) (hd := hd) (cu := cu) (le := le) (ba := ba) (ex := ex) (md := md) (rg := rg') (pc := pc) (pt := pt) (ve := ve) (ep := ep) (ca := ca) (bv := bv) (ti := ti) (zs := zs) (st := st) (pu := pu) (pv := pv) (pe := pe) (fs := fs) (be := be) (br := br) (sc := sc) (rc := rc) (ou := ou) (qh := qh) (ow := ow) (ce := ce) (im := im) (sd := sd) (rs := rs) (oo := oo) (ct := ct) (sp := sp) (mm := mm) (sh := sh) (wn := wn) hw hnx hR' hm hd0
  refine ⟨hd2, ex2, md2, rg2, pc2, pt2, ve2, ep2, ca2, bv2, ti2, zs2, st2, pu2, pv2, pe2, fs2, be2, br2, sc2, rc2, ou2, qh2, ow2, ce2, sd2, rs2, oo2, ct2, sp2, mm2, sh2, wn2, hR2, hD2, fun post hp => ?_, fun post hp => ?_⟩
  · have cX' := cX post hp
    rw [ho]
    exact br_f (by decide) (br_t (by decide) (br_f (by decide) (br_f (by decide) (pX _ cX'))))
  · have cY' := cY post hp
    rw [ho] at cY' ⊢
    exact br_f (by decide) (br_f (by decide) (br_f (by decide) (pY _ cY')))
theorem hv_e10 {n : Nat} (hw : w < 65536) (hR : hv_R F fr hd cu md rg im ce sd rs oo mm sh wn sp pt ve ep ca bv ti zs st pc pu pv pe fs be br) (hm : m < 3) (hon : ¬ md m = 0) (hd0 : m < 2 → ex - hv_E ct m = d) (hn : n < 256) (epc : pc m = nI n) (ho : w / 4096 = 10) : hv_O F m d fr qn pr cu le ba im (fun post => wX_execute_65 post (nI m) (nI w) (nI (w / 4096)) (nI (w % 256)) (nI n) fr qn pr hd cu le ba ex md rg pc pt ve ep ca bv ti zs st pu pv pe fs be br sc rc ou qh ow ce im sd rs oo ct) (fun post => wY_execute_124 post (nI m) (nI n) (nI m * 16) (nI (w / 4096)) (nI (w % 256)) (nI (w % 8)) (nI (4 * m + w / 1024 % 4)) (rg (4 * m + w / 1024 % 4)) (rg (4 * m + w / 256 % 4)) (nI ((n + 1) % 256)) (nI ((n + 1) % 256)) fr qn pr hd cu le ba md rg sp mm sc rc ou qh ow im sh ct wn) := by
  obtain ⟨hd', ex', md', rg', pc', pt', ve', ep', ca', bv', ti', zs', st', pu', pv', pe', fs', be', br', sc', rc', ou', qh', ow', ce', sd', rs', oo', ct', sp', mm', sh', wn', hR', hD', rX, rY⟩ := hv_raise (c := nI 6) (v := nI (w % 256)) (e := nI ((n + 1) % 256)) (fr := fr) (qn := qn) (pr := pr) (hd := hd) (cu := cu) (le := le) (ba := ba) (ex := ex) (md := md) (rg := rg) (pc := pc) (pt := pt) (ve := ve) (ep := ep) (ca := ca) (bv := bv) (ti := ti) (zs := zs) (st := st) (pu := pu) (pv := pv) (pe := pe) (fs := fs) (be := be) (br := br) (sc := sc) (rc := rc) (ou := ou) (qh := qh) (ow := ow) (ce := ce) (im := im) (sd := sd) (rs := rs) (oo := oo) (ct := ct) (sp := sp) (mm := mm) (sh := sh) (wn := wn) hR hm hon (hv_kn (by decide)) (hv_kn (by omega)) (hv_kn (by omega)) hd0
  have ean : (nI n + 1) &&& 255 = nI ((n + 1) % 256) := by rw [nI_1]; exact hv_a255 (by omega)
  refine ⟨hd', ex', md', rg', pc', pt', ve', ep', ca', bv', ti', zs', st', pu', pv', pe', fs', be', br', sc', rc', ou', qh', ow', ce', sd', rs', oo', ct', sp', mm', sh', wn', hR', hD', fun post hp => ?_, fun post hp => ?_⟩
  · rw [ho]
    unfold wX_execute_65
    rw [ean]
    exact br_t rfl (rX _ hp)
  · rw [ho]
    exact br_t rfl (rY _ hp)
theorem hv_e11 {n : Nat} (hw : w < 65536) (hR : hv_R F fr hd cu md rg im ce sd rs oo mm sh wn sp pt ve ep ca bv ti zs st pc pu pv pe fs be br) (hm : m < 3) (hon : ¬ md m = 0) (hd0 : m < 2 → ex - hv_E ct m = d) (hn : n < 256) (epc : pc m = nI n) (ho : w / 4096 = 11) : hv_O F m d fr qn pr cu le ba im (fun post => wX_execute_65 post (nI m) (nI w) (nI (w / 4096)) (nI (w % 256)) (nI n) fr qn pr hd cu le ba ex md rg pc pt ve ep ca bv ti zs st pu pv pe fs be br sc rc ou qh ow ce im sd rs oo ct) (fun post => wY_execute_124 post (nI m) (nI n) (nI m * 16) (nI (w / 4096)) (nI (w % 256)) (nI (w % 8)) (nI (4 * m + w / 1024 % 4)) (rg (4 * m + w / 1024 % 4)) (rg (4 * m + w / 256 % 4)) (nI ((n + 1) % 256)) (nI ((n + 1) % 256)) fr qn pr hd cu le ba md rg sp mm sc rc ou qh ow im sh ct wn) := by
  obtain ⟨hd', ex', md', rg', pc', pt', ve', ep', ca', bv', ti', zs', st', pu', pv', pe', fs', be', br', sc', rc', ou', qh', ow', ce', sd', rs', oo', ct', sp', mm', sh', wn', nx, hnx, hR', hD', pX, pY⟩ := hv_pr11 (fr := fr) (qn := qn) (pr := pr) (hd := hd) (cu := cu) (le := le) (ba := ba) (ex := ex) (md := md) (rg := rg) (pc := pc) (pt := pt) (ve := ve) (ep := ep) (ca := ca) (bv := bv) (ti := ti) (zs := zs) (st := st) (pu := pu) (pv := pv) (pe := pe) (fs := fs) (be := be) (br := br) (sc := sc) (rc := rc) (ou := ou) (qh := qh) (ow := ow) (ce := ce) (im := im) (sd := sd) (rs := rs) (oo := oo) (ct := ct) (sp := sp) (mm := mm) (sh := sh) (wn := wn) hw hR hm hon hd0 hn epc ho
  obtain ⟨hd2, ex2, md2, rg2, pc2, pt2, ve2, ep2, ca2, bv2, ti2, zs2, st2, pu2, pv2, pe2, fs2, be2, br2, sc2, rc2, ou2, qh2, ow2, ce2, sd2, rs2, oo2, ct2, sp2, mm2, sh2, wn2, hR2, hD2, cX, cY⟩ := hv_comp (w := w) (nx := nx) (fr := fr) (qn := qn) (pr := pr) (hd := hd') (cu := cu) (le := le) (ba := ba) (ex := ex') (md := md') (rg := rg') (pc := pc') (pt := pt') (ve := ve') (ep := ep') (ca := ca') (bv := bv') (ti := ti') (zs := zs') (st := st') (pu := pu') (pv := pv') (pe := pe') (fs := fs') (be := be') (br := br') (sc := sc') (rc := rc') (ou := ou') (qh := qh') (ow := ow') (ce := ce') (im := im) (sd := sd') (rs := rs') (oo := oo') (ct := ct') (sp := sp') (mm := mm') (sh := sh') (wn := wn') hw hnx hR' hm hD'
  refine ⟨hd2, ex2, md2, rg2, pc2, pt2, ve2, ep2, ca2, bv2, ti2, zs2, st2, pu2, pv2, pe2, fs2, be2, br2, sc2, rc2, ou2, qh2, ow2, ce2, sd2, rs2, oo2, ct2, sp2, mm2, sh2, wn2, hR2, hD2, fun post hp => ?_, fun post hp => ?_⟩
  · have cX' := cX post hp
    rw [ho]
    exact br_f (by decide) (br_f (by decide) (pX _ cX'))
  · have pY' := pY post (cY post hp)
    rw [ho] at pY' ⊢
    exact br_f (by decide) (br_f (by decide) (br_f (by decide) (pY')))
theorem hv_e12 {n : Nat} (hw : w < 65536) (hR : hv_R F fr hd cu md rg im ce sd rs oo mm sh wn sp pt ve ep ca bv ti zs st pc pu pv pe fs be br) (hm : m < 3) (hon : ¬ md m = 0) (hd0 : m < 2 → ex - hv_E ct m = d) (hn : n < 256) (epc : pc m = nI n) (ho : w / 4096 = 12) : hv_O F m d fr qn pr cu le ba im (fun post => wX_execute_65 post (nI m) (nI w) (nI (w / 4096)) (nI (w % 256)) (nI n) fr qn pr hd cu le ba ex md rg pc pt ve ep ca bv ti zs st pu pv pe fs be br sc rc ou qh ow ce im sd rs oo ct) (fun post => wY_execute_124 post (nI m) (nI n) (nI m * 16) (nI (w / 4096)) (nI (w % 256)) (nI (w % 8)) (nI (4 * m + w / 1024 % 4)) (rg (4 * m + w / 1024 % 4)) (rg (4 * m + w / 256 % 4)) (nI ((n + 1) % 256)) (nI ((n + 1) % 256)) fr qn pr hd cu le ba md rg sp mm sc rc ou qh ow im sh ct wn) := by
  obtain ⟨hd', ex', md', rg', pc', pt', ve', ep', ca', bv', ti', zs', st', pu', pv', pe', fs', be', br', sc', rc', ou', qh', ow', ce', sd', rs', oo', ct', sp', mm', sh', wn', nx, hnx, hR', hD', pX, pY⟩ := hv_pr12 (fr := fr) (qn := qn) (pr := pr) (hd := hd) (cu := cu) (le := le) (ba := ba) (ex := ex) (md := md) (rg := rg) (pc := pc) (pt := pt) (ve := ve) (ep := ep) (ca := ca) (bv := bv) (ti := ti) (zs := zs) (st := st) (pu := pu) (pv := pv) (pe := pe) (fs := fs) (be := be) (br := br) (sc := sc) (rc := rc) (ou := ou) (qh := qh) (ow := ow) (ce := ce) (im := im) (sd := sd) (rs := rs) (oo := oo) (ct := ct) (sp := sp) (mm := mm) (sh := sh) (wn := wn) hw hR hm hd0 hn epc hon ho
  obtain ⟨hd2, ex2, md2, rg2, pc2, pt2, ve2, ep2, ca2, bv2, ti2, zs2, st2, pu2, pv2, pe2, fs2, be2, br2, sc2, rc2, ou2, qh2, ow2, ce2, sd2, rs2, oo2, ct2, sp2, mm2, sh2, wn2, hR2, hD2, cX, cY⟩ := hv_comp (w := w) (nx := nx) (fr := fr) (qn := qn) (pr := pr) (hd := hd') (cu := cu) (le := le) (ba := ba) (ex := ex') (md := md') (rg := rg') (pc := pc') (pt := pt') (ve := ve') (ep := ep') (ca := ca') (bv := bv') (ti := ti') (zs := zs') (st := st') (pu := pu') (pv := pv') (pe := pe') (fs := fs') (be := be') (br := br') (sc := sc') (rc := rc') (ou := ou') (qh := qh') (ow := ow') (ce := ce') (im := im) (sd := sd') (rs := rs') (oo := oo') (ct := ct') (sp := sp') (mm := mm') (sh := sh') (wn := wn') hw hnx hR' hm hD'
  refine ⟨hd2, ex2, md2, rg2, pc2, pt2, ve2, ep2, ca2, bv2, ti2, zs2, st2, pu2, pv2, pe2, fs2, be2, br2, sc2, rc2, ou2, qh2, ow2, ce2, sd2, rs2, oo2, ct2, sp2, mm2, sh2, wn2, hR2, hD2, fun post hp => ?_, fun post hp => ?_⟩
  · have cX' := cX post hp
    rw [ho]
    exact br_f (by decide) (br_f (by decide) (pX _ cX'))
  · have pY' := pY post (cY post hp)
    rw [ho] at pY' ⊢
    exact br_f (by decide) (br_f (by decide) (br_f (by decide) (pY')))
theorem hv_e13 {n : Nat} (hw : w < 65536) (hR : hv_R F fr hd cu md rg im ce sd rs oo mm sh wn sp pt ve ep ca bv ti zs st pc pu pv pe fs be br) (hm : m < 3) (hon : ¬ md m = 0) (hd0 : m < 2 → ex - hv_E ct m = d) (hn : n < 256) (epc : pc m = nI n) (ho : w / 4096 = 13) : hv_O F m d fr qn pr cu le ba im (fun post => wX_execute_65 post (nI m) (nI w) (nI (w / 4096)) (nI (w % 256)) (nI n) fr qn pr hd cu le ba ex md rg pc pt ve ep ca bv ti zs st pu pv pe fs be br sc rc ou qh ow ce im sd rs oo ct) (fun post => wY_execute_124 post (nI m) (nI n) (nI m * 16) (nI (w / 4096)) (nI (w % 256)) (nI (w % 8)) (nI (4 * m + w / 1024 % 4)) (rg (4 * m + w / 1024 % 4)) (rg (4 * m + w / 256 % 4)) (nI ((n + 1) % 256)) (nI ((n + 1) % 256)) fr qn pr hd cu le ba md rg sp mm sc rc ou qh ow im sh ct wn) := by
  obtain ⟨hd', ex', md', rg', pc', pt', ve', ep', ca', bv', ti', zs', st', pu', pv', pe', fs', be', br', sc', rc', ou', qh', ow', ce', sd', rs', oo', ct', sp', mm', sh', wn', nx, hnx, hR', hD', pX, pY⟩ := hv_pr13 (fr := fr) (qn := qn) (pr := pr) (hd := hd) (cu := cu) (le := le) (ba := ba) (ex := ex) (md := md) (rg := rg) (pc := pc) (pt := pt) (ve := ve) (ep := ep) (ca := ca) (bv := bv) (ti := ti) (zs := zs) (st := st) (pu := pu) (pv := pv) (pe := pe) (fs := fs) (be := be) (br := br) (sc := sc) (rc := rc) (ou := ou) (qh := qh) (ow := ow) (ce := ce) (im := im) (sd := sd) (rs := rs) (oo := oo) (ct := ct) (sp := sp) (mm := mm) (sh := sh) (wn := wn) hw hR hm hon hd0 hn epc ho
  obtain ⟨hd2, ex2, md2, rg2, pc2, pt2, ve2, ep2, ca2, bv2, ti2, zs2, st2, pu2, pv2, pe2, fs2, be2, br2, sc2, rc2, ou2, qh2, ow2, ce2, sd2, rs2, oo2, ct2, sp2, mm2, sh2, wn2, hR2, hD2, cX, cY⟩ := hv_comp (w := w) (nx := nx) (fr := fr) (qn := qn) (pr := pr) (hd := hd') (cu := cu) (le := le) (ba := ba) (ex := ex') (md := md') (rg := rg') (pc := pc') (pt := pt') (ve := ve') (ep := ep') (ca := ca') (bv := bv') (ti := ti') (zs := zs') (st := st') (pu := pu') (pv := pv') (pe := pe') (fs := fs') (be := be') (br := br') (sc := sc') (rc := rc') (ou := ou') (qh := qh') (ow := ow') (ce := ce') (im := im) (sd := sd') (rs := rs') (oo := oo') (ct := ct') (sp := sp') (mm := mm') (sh := sh') (wn := wn') hw hnx hR' hm hD'
  refine ⟨hd2, ex2, md2, rg2, pc2, pt2, ve2, ep2, ca2, bv2, ti2, zs2, st2, pu2, pv2, pe2, fs2, be2, br2, sc2, rc2, ou2, qh2, ow2, ce2, sd2, rs2, oo2, ct2, sp2, mm2, sh2, wn2, hR2, hD2, fun post hp => ?_, fun post hp => ?_⟩
  · have cX' := cX post hp
    rw [ho]
    exact br_f (by decide) (br_f (by decide) (pX _ cX'))
  · have pY' := pY post (cY post hp)
    rw [ho] at pY' ⊢
    exact br_f (by decide) (br_f (by decide) (br_f (by decide) (pY')))
theorem hv_e14 {n : Nat} (hw : w < 65536) (hR : hv_R F fr hd cu md rg im ce sd rs oo mm sh wn sp pt ve ep ca bv ti zs st pc pu pv pe fs be br) (hm : m < 3) (hon : ¬ md m = 0) (hd0 : m < 2 → ex - hv_E ct m = d) (hn : n < 256) (epc : pc m = nI n) (ho : w / 4096 = 14) : hv_O F m d fr qn pr cu le ba im (fun post => wX_execute_65 post (nI m) (nI w) (nI (w / 4096)) (nI (w % 256)) (nI n) fr qn pr hd cu le ba ex md rg pc pt ve ep ca bv ti zs st pu pv pe fs be br sc rc ou qh ow ce im sd rs oo ct) (fun post => wY_execute_124 post (nI m) (nI n) (nI m * 16) (nI (w / 4096)) (nI (w % 256)) (nI (w % 8)) (nI (4 * m + w / 1024 % 4)) (rg (4 * m + w / 1024 % 4)) (rg (4 * m + w / 256 % 4)) (nI ((n + 1) % 256)) (nI ((n + 1) % 256)) fr qn pr hd cu le ba md rg sp mm sc rc ou qh ow im sh ct wn) := by
  obtain ⟨hd', ex', md', rg', pc', pt', ve', ep', ca', bv', ti', zs', st', pu', pv', pe', fs', be', br', sc', rc', ou', qh', ow', ce', sd', rs', oo', ct', sp', mm', sh', wn', nx, hnx, hR', hD', pX, pY⟩ := hv_pr14 (fr := fr) (qn := qn) (pr := pr) (hd := hd) (cu := cu) (le := le) (ba := ba) (ex := ex) (md := md) (rg := rg) (pc := pc) (pt := pt) (ve := ve) (ep := ep) (ca := ca) (bv := bv) (ti := ti) (zs := zs) (st := st) (pu := pu) (pv := pv) (pe := pe) (fs := fs) (be := be) (br := br) (sc := sc) (rc := rc) (ou := ou) (qh := qh) (ow := ow) (ce := ce) (im := im) (sd := sd) (rs := rs) (oo := oo) (ct := ct) (sp := sp) (mm := mm) (sh := sh) (wn := wn) hw hR hm hon hd0 hn epc ho
  obtain ⟨hd2, ex2, md2, rg2, pc2, pt2, ve2, ep2, ca2, bv2, ti2, zs2, st2, pu2, pv2, pe2, fs2, be2, br2, sc2, rc2, ou2, qh2, ow2, ce2, sd2, rs2, oo2, ct2, sp2, mm2, sh2, wn2, hR2, hD2, cX, cY⟩ := hv_comp (w := w) (nx := nx) (fr := fr) (qn := qn) (pr := pr) (hd := hd') (cu := cu) (le := le) (ba := ba) (ex := ex') (md := md') (rg := rg') (pc := pc') (pt := pt') (ve := ve') (ep := ep') (ca := ca') (bv := bv') (ti := ti') (zs := zs') (st := st') (pu := pu') (pv := pv') (pe := pe') (fs := fs') (be := be') (br := br') (sc := sc') (rc := rc') (ou := ou') (qh := qh') (ow := ow') (ce := ce') (im := im) (sd := sd') (rs := rs') (oo := oo') (ct := ct') (sp := sp') (mm := mm') (sh := sh') (wn := wn') hw hnx hR' hm hD'
  refine ⟨hd2, ex2, md2, rg2, pc2, pt2, ve2, ep2, ca2, bv2, ti2, zs2, st2, pu2, pv2, pe2, fs2, be2, br2, sc2, rc2, ou2, qh2, ow2, ce2, sd2, rs2, oo2, ct2, sp2, mm2, sh2, wn2, hR2, hD2, fun post hp => ?_, fun post hp => ?_⟩
  · have cX' := cX post hp
    rw [ho]
    exact br_f (by decide) (br_f (by decide) (pX _ cX'))
  · have pY' := pY post (cY post hp)
    rw [ho] at pY' ⊢
    exact br_f (by decide) (br_f (by decide) (br_f (by decide) (pY')))
theorem hv_e15 {n : Nat} (hw : w < 65536) (hR : hv_R F fr hd cu md rg im ce sd rs oo mm sh wn sp pt ve ep ca bv ti zs st pc pu pv pe fs be br) (hm : m < 3) (hon : ¬ md m = 0) (hd0 : m < 2 → ex - hv_E ct m = d) (hn : n < 256) (epc : pc m = nI n) (ho : w / 4096 = 15) : hv_O F m d fr qn pr cu le ba im (fun post => wX_execute_65 post (nI m) (nI w) (nI (w / 4096)) (nI (w % 256)) (nI n) fr qn pr hd cu le ba ex md rg pc pt ve ep ca bv ti zs st pu pv pe fs be br sc rc ou qh ow ce im sd rs oo ct) (fun post => wY_execute_124 post (nI m) (nI n) (nI m * 16) (nI (w / 4096)) (nI (w % 256)) (nI (w % 8)) (nI (4 * m + w / 1024 % 4)) (rg (4 * m + w / 1024 % 4)) (rg (4 * m + w / 256 % 4)) (nI ((n + 1) % 256)) (nI ((n + 1) % 256)) fr qn pr hd cu le ba md rg sp mm sc rc ou qh ow im sh ct wn) := by
  obtain ⟨hd', ex', md', rg', pc', pt', ve', ep', ca', bv', ti', zs', st', pu', pv', pe', fs', be', br', sc', rc', ou', qh', ow', ce', sd', rs', oo', ct', sp', mm', sh', wn', nx, hnx, hR', hD', pX, pY⟩ := hv_pr15 (fr := fr) (qn := qn) (pr := pr) (hd := hd) (cu := cu) (le := le) (ba := ba) (ex := ex) (md := md) (rg := rg) (pc := pc) (pt := pt) (ve := ve) (ep := ep) (ca := ca) (bv := bv) (ti := ti) (zs := zs) (st := st) (pu := pu) (pv := pv) (pe := pe) (fs := fs) (be := be) (br := br) (sc := sc) (rc := rc) (ou := ou) (qh := qh) (ow := ow) (ce := ce) (im := im) (sd := sd) (rs := rs) (oo := oo) (ct := ct) (sp := sp) (mm := mm) (sh := sh) (wn := wn) hw hR hm hon hd0 hn epc ho
  obtain ⟨hd2, ex2, md2, rg2, pc2, pt2, ve2, ep2, ca2, bv2, ti2, zs2, st2, pu2, pv2, pe2, fs2, be2, br2, sc2, rc2, ou2, qh2, ow2, ce2, sd2, rs2, oo2, ct2, sp2, mm2, sh2, wn2, hR2, hD2, cX, cY⟩ := hv_comp (w := w) (nx := nx) (fr := fr) (qn := qn) (pr := pr) (hd := hd') (cu := cu) (le := le) (ba := ba) (ex := ex') (md := md') (rg := rg') (pc := pc') (pt := pt') (ve := ve') (ep := ep') (ca := ca') (bv := bv') (ti := ti') (zs := zs') (st := st') (pu := pu') (pv := pv') (pe := pe') (fs := fs') (be := be') (br := br') (sc := sc') (rc := rc') (ou := ou') (qh := qh') (ow := ow') (ce := ce') (im := im) (sd := sd') (rs := rs') (oo := oo') (ct := ct') (sp := sp') (mm := mm') (sh := sh') (wn := wn') hw hnx hR' hm hD'
  refine ⟨hd2, ex2, md2, rg2, pc2, pt2, ve2, ep2, ca2, bv2, ti2, zs2, st2, pu2, pv2, pe2, fs2, be2, br2, sc2, rc2, ou2, qh2, ow2, ce2, sd2, rs2, oo2, ct2, sp2, mm2, sh2, wn2, hR2, hD2, fun post hp => ?_, fun post hp => ?_⟩
  · have cX' := cX post hp
    rw [ho]
    exact br_f (by decide) (br_f (by decide) (pX _ cX'))
  · have pY' := pY post (cY post hp)
    rw [ho] at pY' ⊢
    exact br_f (by decide) (br_f (by decide) (br_f (by decide) (pY')))
theorem hv_e65 {n : Nat} (hw : w < 65536) (hR : hv_R F fr hd cu md rg im ce sd rs oo mm sh wn sp pt ve ep ca bv ti zs st pc pu pv pe fs be br) (hm : m < 3) (hon : ¬ md m = 0) (hd0 : m < 2 → ex - hv_E ct m = d) (hn : n < 256) (epc : pc m = nI n) (h0 : ¬ w / 4096 = 0) : hv_O F m d fr qn pr cu le ba im (fun post => wX_execute_65 post (nI m) (nI w) (nI (w / 4096)) (nI (w % 256)) (nI n) fr qn pr hd cu le ba ex md rg pc pt ve ep ca bv ti zs st pu pv pe fs be br sc rc ou qh ow ce im sd rs oo ct) (fun post => wY_execute_124 post (nI m) (nI n) (nI m * 16) (nI (w / 4096)) (nI (w % 256)) (nI (w % 8)) (nI (4 * m + w / 1024 % 4)) (rg (4 * m + w / 1024 % 4)) (rg (4 * m + w / 256 % 4)) (nI ((n + 1) % 256)) (nI ((n + 1) % 256)) fr qn pr hd cu le ba md rg sp mm sc rc ou qh ow im sh ct wn) := by
  obtain q | q | q | q | q | q | q | q | q | q | q | q | q | q | q : w / 4096 = 1 ∨ w / 4096 = 2 ∨ w / 4096 = 3 ∨ w / 4096 = 4 ∨ w / 4096 = 5 ∨ w / 4096 = 6 ∨ w / 4096 = 7 ∨ w / 4096 = 8 ∨ w / 4096 = 9 ∨ w / 4096 = 10 ∨ w / 4096 = 11 ∨ w / 4096 = 12 ∨ w / 4096 = 13 ∨ w / 4096 = 14 ∨ w / 4096 = 15 := by omega
  · exact hv_e1 hw hR hm hon hd0 hn epc q
  · exact hv_e2 hw hR hm hon hd0 hn epc q
  · exact hv_e3 hw hR hm hon hd0 hn epc q
  · exact hv_e4 hw hR hm hon hd0 hn epc q
  · exact hv_e5 hw hR hm hon hd0 hn epc q
  · exact hv_e6 hw hR hm hon hd0 hn epc q
  · exact hv_e7 hw hR hm hon hd0 hn epc q
  · exact hv_e8 hw hR hm hon hd0 hn epc q
  · exact hv_e9 hw hR hm hon hd0 hn epc q
  · exact hv_e10 hw hR hm hon hd0 hn epc q
  · exact hv_e11 hw hR hm hon hd0 hn epc q
  · exact hv_e12 hw hR hm hon hd0 hn epc q
  · exact hv_e13 hw hR hm hon hd0 hn epc q
  · exact hv_e14 hw hR hm hon hd0 hn epc q
  · exact hv_e15 hw hR hm hon hd0 hn epc q
theorem hv_exec {n : Nat} (hw : w < 65536) (hR : hv_R F fr hd cu md rg im ce sd rs oo mm sh wn sp pt ve ep ca bv ti zs st pc pu pv pe fs be br) (hm : m < 3) (hon : ¬ md m = 0) (hd0 : m < 2 → ex - hv_E ct m = d) (hn : n < 256) (epc : pc m = nI n) : hv_O F m d fr qn pr cu le ba im (fun post => wpX_execute post (fr, qn, pr, hd, cu, le, ba, ex, md, rg, pc, pt, ve, ep, ca, bv, ti, zs, st, pu, pv, pe, fs, be, br, sc, rc, ou, qh, ow, ce, im, sd, rs, oo, ct) (nI m) (nI w)) (fun post => wpY_execute post (fr, qn, pr, hd, cu, le, ba, md, rg, sp, mm, sc, rc, ou, qh, ow, im, sh, ct, wn) (nI m) (nI n) (nI w)) := by
  have est := hv_S7 (hv_Rs hR) hm
  by_cases q0 : w / 4096 = 0
  · obtain ⟨hd', ex', md', rg', pc', pt', ve', ep', ca', bv', ti', zs', st', pu', pv', pe', fs', be', br', sc', rc', ou', qh', ow', ce', sd', rs', oo', ct', sp', mm', sh', wn', hR', hD', rX, rY⟩ := hv_raise (c := nI 1) (v := nI (w % 256)) (e := nI n) (fr := fr) (qn := qn) (pr := pr) (hd := hd) (cu := cu) (le := le) (ba := ba) (ex := ex) (md := md) (rg := rg) (pc := pc) (pt := pt) (ve := ve) (ep := ep) (ca := ca) (bv := bv) (ti := ti) (zs := zs) (st := st) (pu := pu) (pv := pv) (pe := pe) (fs := fs) (be := be) (br := br) (sc := sc) (rc := rc) (ou := ou) (qh := qh) (ow := ow) (ce := ce) (im := im) (sd := sd) (rs := rs) (oo := oo) (ct := ct) (sp := sp) (mm := mm) (sh := sh) (wn := wn) hR hm hon (hv_kn (by decide)) (hv_kn (by omega)) (hv_kn hn) hd0
    refine ⟨hd', ex', md', rg', pc', pt', ve', ep', ca', bv', ti', zs', st', pu', pv', pe', fs', be', br', sc', rc', ou', qh', ow', ce', sd', rs', oo', ct', sp', mm', sh', wn', hR', hD', fun post hp => ?_, fun post hp => ?_⟩
    · unfold wpX_execute
      try dsimp only
      refine nm_r (e' := nI (w / 4096)) (by rw [hv_sh12 (by omega), hv_a15 (by omega)]; exact congrArg nI (by omega)) (nm_r (e' := nI (w % 256)) (hv_a255 (by omega)) ?_)
      rw [hv_im hm, epc]
      refine ⟨hv_iv hm, nm_e ?_⟩
      exact br_t (by rw [q0]; rfl) (rX _ hp)
    · unfold wpY_execute
      try dsimp only
      refine nm_e (nm_r (e' := nI (w / 4096)) (hv_sh12 (by omega)) (nm_r (e' := nI (w % 256)) (hv_a255 (by omega)) (nm_r (e' := nI (w % 8)) (by rw [hv_a7 (by omega)]; exact congrArg nI (by omega)) (nm_r (e' := nI (4 * m + w / 1024 % 4)) (by rw [hv_sh10 (by omega), hv_a3 (by omega), hv_i4]) ?_))))
      rw [hv_sh8 (a := w) (by omega), hv_a3 (a := w / 256) (by omega), hv_i4 m (w / 256 % 4), nI_clamp (n := 4 * m + w / 256 % 4) (by omega), nI_clamp (n := 4 * m + w / 1024 % 4) (by omega), hv_ic7 hm]
      refine ⟨vp_in_nI (by omega) (by decide), nm_e ⟨vp_in_nI (by omega) (by decide), nm_e (nm_r (e' := nI ((n + 1) % 256)) (by rw [nI_1]; exact hv_a255 (by omega)) ?_)⟩⟩
      exact br_t (by rw [q0]; rfl) (rY _ hp)
  have n0 : ¬ nI (w / 4096) = 0 := nI_ne0 (by omega) (by omega)
  by_cases q1 : w / 4096 < 11 ∨ (sp (16 * m + 7) &&& 1) = 0
  · obtain ⟨hd', ex', md', rg', pc', pt', ve', ep', ca', bv', ti', zs', st', pu', pv', pe', fs', be', br', sc', rc', ou', qh', ow', ce', sd', rs', oo', ct', sp', mm', sh', wn', hR', hD', rX, rY⟩ := hv_e65 (fr := fr) (qn := qn) (pr := pr) (hd := hd) (cu := cu) (le := le) (ba := ba) (ex := ex) (md := md) (rg := rg) (pc := pc) (pt := pt) (ve := ve) (ep := ep) (ca := ca) (bv := bv) (ti := ti) (zs := zs) (st := st) (pu := pu) (pv := pv) (pe := pe) (fs := fs) (be := be) (br := br) (sc := sc) (rc := rc) (ou := ou) (qh := qh) (ow := ow) (ce := ce) (im := im) (sd := sd) (rs := rs) (oo := oo) (ct := ct) (sp := sp) (mm := mm) (sh := sh) (wn := wn) hw hR hm hon hd0 hn epc q0
    refine ⟨hd', ex', md', rg', pc', pt', ve', ep', ca', bv', ti', zs', st', pu', pv', pe', fs', be', br', sc', rc', ou', qh', ow', ce', sd', rs', oo', ct', sp', mm', sh', wn', hR', hD', fun post hp => ?_, fun post hp => ?_⟩
    · unfold wpX_execute
      try dsimp only
      refine nm_r (e' := nI (w / 4096)) (by rw [hv_sh12 (by omega), hv_a15 (by omega)]; exact congrArg nI (by omega)) (nm_r (e' := nI (w % 256)) (hv_a255 (by omega)) ?_)
      rw [hv_im hm, epc]
      refine ⟨hv_iv hm, nm_e ?_⟩
      by_cases q2 : w / 4096 < 11
      · exact br_f n0 (br_t (nI_lt (b := 11) q2 (by decide)) (rX _ hp))
      · exact br_f n0 (br_f (nI_nlt (b := 11) (by omega) (by omega)) ⟨hv_iv hm, br_t (by rw [est]; exact q1.resolve_left q2) (rX _ hp)⟩)
    · unfold wpY_execute
      try dsimp only
      refine nm_e (nm_r (e' := nI (w / 4096)) (hv_sh12 (by omega)) (nm_r (e' := nI (w % 256)) (hv_a255 (by omega)) (nm_r (e' := nI (w % 8)) (by rw [hv_a7 (by omega)]; exact congrArg nI (by omega)) (nm_r (e' := nI (4 * m + w / 1024 % 4)) (by rw [hv_sh10 (by omega), hv_a3 (by omega), hv_i4]) ?_))))
      rw [hv_sh8 (a := w) (by omega), hv_a3 (a := w / 256) (by omega), hv_i4 m (w / 256 % 4), nI_clamp (n := 4 * m + w / 256 % 4) (by omega), nI_clamp (n := 4 * m + w / 1024 % 4) (by omega), hv_ic7 hm]
      refine ⟨vp_in_nI (by omega) (by decide), nm_e ⟨vp_in_nI (by omega) (by decide), nm_e (nm_r (e' := nI ((n + 1) % 256)) (by rw [nI_1]; exact hv_a255 (by omega)) ?_)⟩⟩
      by_cases q2 : w / 4096 < 11
      · exact br_f n0 (br_t (nI_lt (b := 11) q2 (by decide)) (rY _ hp))
      · exact br_f n0 (br_f (nI_nlt (b := 11) (by omega) (by omega)) ⟨hv_iw7 hm, br_t (q1.resolve_left q2) (rY _ hp)⟩)
  · have q2 : ¬ w / 4096 < 11 := fun z => q1 (Or.inl z)
    have q3 : ¬ (sp (16 * m + 7) &&& 1) = 0 := fun z => q1 (Or.inr z)
    obtain ⟨hd', ex', md', rg', pc', pt', ve', ep', ca', bv', ti', zs', st', pu', pv', pe', fs', be', br', sc', rc', ou', qh', ow', ce', sd', rs', oo', ct', sp', mm', sh', wn', hR', hD', rX, rY⟩ := hv_raise (c := nI 2) (v := nI (w / 4096)) (e := nI n) (fr := fr) (qn := qn) (pr := pr) (hd := hd) (cu := cu) (le := le) (ba := ba) (ex := ex) (md := md) (rg := rg) (pc := pc) (pt := pt) (ve := ve) (ep := ep) (ca := ca) (bv := bv) (ti := ti) (zs := zs) (st := st) (pu := pu) (pv := pv) (pe := pe) (fs := fs) (be := be) (br := br) (sc := sc) (rc := rc) (ou := ou) (qh := qh) (ow := ow) (ce := ce) (im := im) (sd := sd) (rs := rs) (oo := oo) (ct := ct) (sp := sp) (mm := mm) (sh := sh) (wn := wn) hR hm hon (hv_kn (by decide)) (hv_kn (by omega)) (hv_kn hn) hd0
    refine ⟨hd', ex', md', rg', pc', pt', ve', ep', ca', bv', ti', zs', st', pu', pv', pe', fs', be', br', sc', rc', ou', qh', ow', ce', sd', rs', oo', ct', sp', mm', sh', wn', hR', hD', fun post hp => ?_, fun post hp => ?_⟩
    · unfold wpX_execute
      try dsimp only
      refine nm_r (e' := nI (w / 4096)) (by rw [hv_sh12 (by omega), hv_a15 (by omega)]; exact congrArg nI (by omega)) (nm_r (e' := nI (w % 256)) (hv_a255 (by omega)) ?_)
      rw [hv_im hm, epc]
      refine ⟨hv_iv hm, nm_e ?_⟩
      exact br_f n0 (br_f (nI_nlt (b := 11) (by omega) (by omega)) ⟨hv_iv hm, br_f (by rw [est]; exact q3) (rX _ hp)⟩)
    · unfold wpY_execute
      try dsimp only
      refine nm_e (nm_r (e' := nI (w / 4096)) (hv_sh12 (by omega)) (nm_r (e' := nI (w % 256)) (hv_a255 (by omega)) (nm_r (e' := nI (w % 8)) (by rw [hv_a7 (by omega)]; exact congrArg nI (by omega)) (nm_r (e' := nI (4 * m + w / 1024 % 4)) (by rw [hv_sh10 (by omega), hv_a3 (by omega), hv_i4]) ?_))))
      rw [hv_sh8 (a := w) (by omega), hv_a3 (a := w / 256) (by omega), hv_i4 m (w / 256 % 4), nI_clamp (n := 4 * m + w / 256 % 4) (by omega), nI_clamp (n := 4 * m + w / 1024 % 4) (by omega), hv_ic7 hm]
      refine ⟨vp_in_nI (by omega) (by decide), nm_e ⟨vp_in_nI (by omega) (by decide), nm_e (nm_r (e' := nI ((n + 1) % 256)) (by rw [nI_1]; exact hv_a255 (by omega)) ?_)⟩⟩
      exact br_f n0 (br_f (nI_nlt (b := 11) (by omega) (by omega)) ⟨hv_iw7 hm, br_f q3 (rY _ hp)⟩)
end
end
section
/-! one step -/
section
variable {fr qn pr hd cu le ba ex : Int32} {md rg pc pt ve ep ca bv ti zs st pu pv pe fs be br sc rc ou qh ow ce im sd rs oo ct : Nat → Int32} {sp mm sh wn : Nat → Int32}
variable {F m : Nat} {d : Int32}
theorem hv_deliver (hR : hv_R F fr hd cu md rg im ce sd rs oo mm sh wn sp pt ve ep ca bv ti zs st pc pu pv pe fs be br) (hm : m < 3) (hd0 : m < 2 → ex - hv_E ct m = d) (q : ¬ sp (16 * m + 9) = 0) : hv_O F m d fr qn pr cu le ba im (fun post => wpX_step post (fr, qn, pr, hd, cu, le, ba, ex, md, rg, pc, pt, ve, ep, ca, bv, ti, zs, st, pu, pv, pe, fs, be, br, sc, rc, ou, qh, ow, ce, im, sd, rs, oo, ct) (nI m)) (fun post => wpY_step post (fr, qn, pr, hd, cu, le, ba, md, rg, sp, mm, sc, rc, ou, qh, ow, im, sh, ct, wn) (nI m)) := by
  obtain ⟨h2, hfr, hh, hcu, hg, hB, hS, hZ, h⟩ := id hR
  have h11 := hv_B8 hB hm (c := 11) (by decide) (by decide)
  have h9 := hv_B8 hB hm (c := 9) (by decide) (by decide)
  have h10 := hv_B8 hB hm (c := 10) (by decide) (by decide)
  have h7 := hv_B8 hB hm (c := 7) (by decide) (by decide)
  have h1 := hv_B8 hB hm (c := 1) (by decide) (by decide)
  have hS' := hv_Su12 (hv_Su11 (hv_Su10 (hv_Su9 (hv_Su8 (hv_Su7 (hv_Su6 (hv_Su4 (hv_Su3 (hv_Su2 (hS) m (sp (16 * m + 11))) m (sp (16 * m + 9))) m (sp (16 * m + 10))) m (sp (16 * m + 7) &&& 3)) m (sp (16 * m + 7) &&& 4)) m (sp (16 * m + 1))) m (0)) m (0)) m (0)) m (1)
  have hB' := hv_Bu (hv_Bu (hv_Bu (hv_Bu (hv_Bu (hv_Bu (hv_Bu (hv_Bu (hv_Bu (hv_Bu (hB) (m := m) (c := 2) (v := sp (16 * m + 11)) (by decide) (hv_bd8 (h11))) (m := m) (c := 3) (v := sp (16 * m + 9)) (by decide) (hv_bd8 (h9))) (m := m) (c := 4) (v := sp (16 * m + 10)) (by decide) (hv_bd8 (h10))) (m := m) (c := 6) (v := sp (16 * m + 7) &&& 3) (by decide) (hv_bd8 (hv_k8b (hv_k3 _) (by decide)))) (m := m) (c := 7) (v := sp (16 * m + 7) &&& 4) (by decide) (hv_bd8 (hv_kanl (k := 8) (by decide) h7))) (m := m) (c := 8) (v := sp (16 * m + 1)) (by decide) (hv_bd8 (h1))) (m := m) (c := 9) (v := 0) (by decide) (hv_bd8 (hv_k0 (by decide)))) (m := m) (c := 10) (v := 0) (by decide) (hv_bd8 (hv_k0 (by decide)))) (m := m) (c := 11) (v := 0) (by decide) (hv_bd8 (hv_k0 (by decide)))) (m := m) (c := 12) (v := 1) (by decide) (hv_bd8 (hv_k1 (by decide)))
  have hZ' := hv_Zs (hv_Zs (hv_Zs (hv_Zs (hv_Zs (hv_Zs (hv_Zs (hv_Zs (hv_Zs (hv_Zs (hZ) (m := m) (c := 2) (v := sp (16 * m + 11)) (by decide) (by decide)) (m := m) (c := 3) (v := sp (16 * m + 9)) (by decide) (by decide)) (m := m) (c := 4) (v := sp (16 * m + 10)) (by decide) (by decide)) (m := m) (c := 6) (v := sp (16 * m + 7) &&& 3) (by decide) (by decide)) (m := m) (c := 7) (v := sp (16 * m + 7) &&& 4) (by decide) (by decide)) (m := m) (c := 8) (v := sp (16 * m + 1)) (by decide) (by decide)) (m := m) (c := 9) (v := 0) (by decide) (by decide)) (m := m) (c := 10) (v := 0) (by decide) (by decide)) (m := m) (c := 11) (v := 0) (by decide) (by decide)) (m := m) (c := 12) (v := 1) (by decide) (by decide)
  have hD : m < 2 → hv_ex ex m - hv_E (hv_bx ct m 5) m = d := fun z => (hv_Ed (by decide) (by decide) z).trans (hd0 z)
  refine ⟨hd, hv_ex ex m, md, rg, upd pc m (sp (16 * m + 1)), pt, ve, upd ep m (sp (16 * m + 11)), upd ca m (sp (16 * m + 9)), upd bv m (sp (16 * m + 10)), ti, upd zs m (sp (16 * m + 7) &&& 3), upd st m (sp (16 * m + 7) &&& 4), upd pu m (0), upd pv m (0), upd pe m (0), upd fs m (1), be, br, upd sc m (sc m + 1), rc, ou, qh, ow, ce, sd, rs, oo, hv_bx ct m 5, upd (upd (upd (upd (upd (upd (upd (upd (upd (upd sp (16 * m + 2) (sp (16 * m + 11))) (16 * m + 3) (sp (16 * m + 9))) (16 * m + 4) (sp (16 * m + 10))) (16 * m + 6) (sp (16 * m + 7) &&& 3)) (16 * m + 7) (sp (16 * m + 7) &&& 4)) (16 * m + 8) (sp (16 * m + 1))) (16 * m + 9) (0)) (16 * m + 10) (0)) (16 * m + 11) (0)) (16 * m + 12) (1), mm, sh, wn, ⟨h2, hfr, hh, hcu, hg, hB', hS', hZ', h⟩, hD, fun post hp => ?_, fun post hp => ?_⟩
  · unfold wpX_step
    try dsimp only
    rw [hv_im hm]
    refine ⟨hv_iv hm, hv_iv hm, nm_e ⟨hv_iv hm, ?_⟩⟩
    refine br_f (by rw [hv_S9 hS hm]; exact q) ?_
    unfold wpX_deliver
    try dsimp only
    rw [hv_im hm, hv_S11 hS hm, hv_S9 hS hm, hv_S10 hS hm, hv_S7 hS hm, hv_S1 hS hm]
    exact ⟨hv_iv hm, hv_iv hm, nm_e (⟨hv_iv hm, hv_iv hm, nm_e (⟨hv_iv hm, hv_iv hm, nm_e (⟨hv_iv hm, hv_iv hm, nm_e (⟨hv_iv hm, hv_iv hm, nm_e (⟨hv_iv hm, hv_iv hm, nm_e (⟨hv_iv hm, nm_e (⟨hv_iv hm, nm_e (⟨hv_iv hm, nm_e (⟨hv_iv hm, nm_e (hx_bumpE (k := 5) hm (by decide) _ hp)⟩)⟩)⟩)⟩)⟩)⟩)⟩)⟩)⟩)⟩
  · unfold wpY_step
    try dsimp only
    refine nm_e ?_
    rw [hv_im hm, hv_ic8 hm, hv_ic9 hm, hv_ic7 hm, hv_ic11 hm, hv_ic2 hm, hv_ic3 hm, hv_ic10 hm, hv_ic4 hm, hv_ic6 hm, hv_ic1 hm, hv_ic12 hm]
    refine ⟨hv_iv hm, hv_iv hm, nm_e ⟨hv_iw8 hm, nm_e ⟨hv_iw9 hm, ?_⟩⟩⟩
    refine br_f q ?_
    exact ⟨hv_iw11 hm, hv_iw2 hm, nm_r (e' := upd sp (16 * m + 2) (sp (16 * m + 11))) (rfl) (⟨hv_iw9 hm, hv_iw3 hm, nm_r (e' := upd (upd sp (16 * m + 2) (sp (16 * m + 11))) (16 * m + 3) (sp (16 * m + 9))) (by rw [pk_un (by omega)]) (⟨hv_iw10 hm, hv_iw4 hm, nm_r (e' := upd (upd (upd sp (16 * m + 2) (sp (16 * m + 11))) (16 * m + 3) (sp (16 * m + 9))) (16 * m + 4) (sp (16 * m + 10))) (by rw [pk_un (by omega), pk_un (by omega)]) (⟨hv_iw7 hm, hv_iw6 hm, nm_r (e' := upd (upd (upd (upd sp (16 * m + 2) (sp (16 * m + 11))) (16 * m + 3) (sp (16 * m + 9))) (16 * m + 4) (sp (16 * m + 10))) (16 * m + 6) (sp (16 * m + 7) &&& 3)) (by rw [pk_un (by omega), pk_un (by omega), pk_un (by omega)]) (⟨hv_iw7 hm, hv_iw7 hm, nm_r (e' := upd (upd (upd (upd (upd sp (16 * m + 2) (sp (16 * m + 11))) (16 * m + 3) (sp (16 * m + 9))) (16 * m + 4) (sp (16 * m + 10))) (16 * m + 6) (sp (16 * m + 7) &&& 3)) (16 * m + 7) (sp (16 * m + 7) &&& 4)) (by rw [pk_un (by omega), pk_un (by omega), pk_un (by omega), pk_un (by omega)]) (⟨hv_iw1 hm, hv_iw8 hm, nm_r (e' := upd (upd (upd (upd (upd (upd sp (16 * m + 2) (sp (16 * m + 11))) (16 * m + 3) (sp (16 * m + 9))) (16 * m + 4) (sp (16 * m + 10))) (16 * m + 6) (sp (16 * m + 7) &&& 3)) (16 * m + 7) (sp (16 * m + 7) &&& 4)) (16 * m + 8) (sp (16 * m + 1))) (by rw [pk_un (by omega), pk_un (by omega), pk_un (by omega), pk_un (by omega), pk_un (by omega)]) (⟨hv_iw9 hm, nm_e (⟨hv_iw10 hm, nm_e (⟨hv_iw11 hm, nm_e (⟨hv_iw12 hm, nm_e (hy_bump (k := 5) hm (by decide) _ hp)⟩)⟩)⟩)⟩)⟩)⟩)⟩)⟩)⟩)⟩
theorem hv_step (hR : hv_R F fr hd cu md rg im ce sd rs oo mm sh wn sp pt ve ep ca bv ti zs st pc pu pv pe fs be br) (hm : m < 3) (hon : ¬ md m = 0) (hd0 : m < 2 → ex - hv_E ct m = d) : hv_O F m d fr qn pr cu le ba im (fun post => wpX_step post (fr, qn, pr, hd, cu, le, ba, ex, md, rg, pc, pt, ve, ep, ca, bv, ti, zs, st, pu, pv, pe, fs, be, br, sc, rc, ou, qh, ow, ce, im, sd, rs, oo, ct) (nI m)) (fun post => wpY_step post (fr, qn, pr, hd, cu, le, ba, md, rg, sp, mm, sc, rc, ou, qh, ow, im, sh, ct, wn) (nI m)) := by
  by_cases q : sp (16 * m + 9) = 0
  · obtain ⟨h2, hfr, hh, hcu, hg, hB, hS, hZ, h⟩ := id hR
    obtain ⟨n, hn, en⟩ := hv_B8 hB hm (c := 8) (by decide) (by decide)
    have epc : pc m = nI n := (hv_S8 hS hm).trans en
    have qX : pu m = 0 := (hv_S9 hS hm).trans q
    have e7 := hv_S7 hS hm
    by_cases q6 : (sp (16 * m + 7) &&& 6) = 6
    · have hR1 : hv_R F fr hd cu md rg im ce sd rs oo mm sh wn (upd sp (16 * m + 7) (sp (16 * m + 7) &&& 3)) pt ve ep ca bv ti zs (upd st m (sp (16 * m + 7) &&& 3)) pc pu pv pe fs be br := ⟨h2, hfr, hh, hcu, hg, hv_Bu hB (m := m) (c := 7) (by decide) (hv_bd8 (hv_k8b (hv_k3 _) (by decide))), hv_Su7 hS m _, hv_Zs hZ (by decide) (by decide), h⟩
      obtain ⟨hd', ex', md', rg', pc', pt', ve', ep', ca', bv', ti', zs', st', pu', pv', pe', fs', be', br', sc', rc', ou', qh', ow', ce', sd', rs', oo', ct', sp', mm', sh', wn', hR', hD', rX, rY⟩ := hv_raise (c := nI 7) (v := nI 0) (e := nI n) (fr := fr) (qn := qn) (pr := pr) (hd := hd) (cu := cu) (le := le) (ba := ba) (ex := ex) (md := md) (rg := rg) (pc := pc) (pt := pt) (ve := ve) (ep := ep) (ca := ca) (bv := bv) (ti := ti) (zs := zs) (st := upd st m (sp (16 * m + 7) &&& 3)) (pu := pu) (pv := pv) (pe := pe) (fs := fs) (be := be) (br := br) (sc := upd sc m (sc m + 1)) (rc := rc) (ou := ou) (qh := qh) (ow := ow) (ce := ce) (im := im) (sd := sd) (rs := rs) (oo := oo) (ct := ct) (sp := upd sp (16 * m + 7) (sp (16 * m + 7) &&& 3)) (mm := mm) (sh := sh) (wn := wn) hR1 hm hon (hv_kn (by decide)) (hv_kn (by decide)) (hv_kn hn) hd0
      refine ⟨hd', ex', md', rg', pc', pt', ve', ep', ca', bv', ti', zs', st', pu', pv', pe', fs', be', br', sc', rc', ou', qh', ow', ce', sd', rs', oo', ct', sp', mm', sh', wn', hR', hD', fun post hp => ?_, fun post hp => ?_⟩
      · unfold wpX_step
        try dsimp only
        rw [hv_im hm]
        refine ⟨hv_iv hm, hv_iv hm, nm_e ⟨hv_iv hm, ?_⟩⟩
        refine br_t qX ⟨hv_iv hm, nm_r epc ⟨hv_iv hm, ?_⟩⟩
        rw [e7]
        refine br_t q6 ⟨hv_iv hm, hv_iv hm, nm_e ?_⟩
        exact rX _ hp
      · unfold wpY_step
        try dsimp only
        refine nm_e ?_
        rw [hv_im hm, hv_ic8 hm, hv_ic9 hm, hv_ic7 hm, hv_ic11 hm, hv_ic2 hm, hv_ic3 hm, hv_ic10 hm, hv_ic4 hm, hv_ic6 hm, hv_ic1 hm, hv_ic12 hm]
        refine ⟨hv_iv hm, hv_iv hm, nm_e ⟨hv_iw8 hm, nm_e ⟨hv_iw9 hm, ?_⟩⟩⟩
        refine br_t q ⟨hv_iw7 hm, br_t q6 ⟨hv_iw7 hm, hv_iw7 hm, nm_e ?_⟩⟩
        rw [en]
        exact rY _ hp
    · obtain ⟨hd1, ex1, ce1, sd1, rs1, oo1, ct1, mm1, sh1, wn1, h1, hh1, hD1, hout⟩ := hv_acc (kd := 3) (va := n) (fr := fr) (qn := qn) (pr := pr) (hd := hd) (cu := cu) (le := le) (ba := ba) (ex := ex) (md := md) (rg := rg) (pc := pc) (pt := pt) (ve := ve) (ep := ep) (ca := ca) (bv := bv) (ti := ti) (zs := zs) (st := st) (pu := pu) (pv := pv) (pe := pe) (fs := fs) (be := be) (br := br) (sc := upd sc m (sc m + 1)) (rc := rc) (ou := ou) (qh := qh) (ow := ow) (ce := ce) (im := im) (sd := sd) (rs := rs) (oo := oo) (ct := ct) (sp := sp) (mm := mm) (sh := sh) (wn := wn) hm hn (by decide) (by decide) h hS hB hfr h2 hh hon hd0
      have hR1 : hv_R F fr hd1 cu md rg im ce1 sd1 rs1 oo1 mm1 sh1 wn1 sp pt ve ep ca bv ti zs st pc pu pv pe fs be br := ⟨h2, hfr, hh1, hcu, hg, hB, hS, hZ, h1⟩
      rcases hout with ⟨aX, aY⟩ | ⟨a, ha2, aX, aY⟩
      · obtain ⟨hd', ex', md', rg', pc', pt', ve', ep', ca', bv', ti', zs', st', pu', pv', pe', fs', be', br', sc', rc', ou', qh', ow', ce', sd', rs', oo', ct', sp', mm', sh', wn', hR', hD', rX, rY⟩ := hv_raise (c := nI 3) (v := nI n) (e := nI n) (fr := fr) (qn := qn) (pr := pr) (hd := hd1) (cu := cu) (le := le) (ba := ba) (ex := ex1) (md := md) (rg := rg) (pc := pc) (pt := pt) (ve := ve) (ep := ep) (ca := ca) (bv := bv) (ti := ti) (zs := zs) (st := st) (pu := pu) (pv := pv) (pe := pe) (fs := fs) (be := be) (br := br) (sc := upd sc m (sc m + 1)) (rc := rc) (ou := ou) (qh := qh) (ow := ow) (ce := ce1) (im := im) (sd := sd1) (rs := rs1) (oo := oo1) (ct := ct1) (sp := sp) (mm := mm1) (sh := sh1) (wn := wn1) hR1 hm hon (hv_kn (by decide)) (hv_kn hn) (hv_kn hn) hD1
        refine ⟨hd', ex', md', rg', pc', pt', ve', ep', ca', bv', ti', zs', st', pu', pv', pe', fs', be', br', sc', rc', ou', qh', ow', ce', sd', rs', oo', ct', sp', mm', sh', wn', hR', hD', fun post hp => ?_, fun post hp => ?_⟩
        · unfold wpX_step
          try dsimp only
          rw [hv_im hm]
          refine ⟨hv_iv hm, hv_iv hm, nm_e ⟨hv_iv hm, ?_⟩⟩
          refine br_t qX ⟨hv_iv hm, nm_r epc ⟨hv_iv hm, br_f (by rw [e7]; exact q6) ?_⟩⟩
          exact aX _ (br_f (by decide) (rX _ hp))
        · unfold wpY_step
          try dsimp only
          refine nm_e ?_
          rw [hv_im hm, hv_ic8 hm, hv_ic9 hm, hv_ic7 hm, hv_ic11 hm, hv_ic2 hm, hv_ic3 hm, hv_ic10 hm, hv_ic4 hm, hv_ic6 hm, hv_ic1 hm, hv_ic12 hm]
          refine ⟨hv_iv hm, hv_iv hm, nm_e ⟨hv_iw8 hm, nm_e ⟨hv_iw9 hm, ?_⟩⟩⟩
          refine br_t q ⟨hv_iw7 hm, br_f q6 ?_⟩
          rw [en]
          exact aY _ (br_t rfl (rY _ hp))
      · have hlt := hv_lclt h1.1 (hv_Mr h1) (a := 256 * m + a) (by omega)
        obtain ⟨w, hw, ew⟩ := hv_Mc h1 _ hlt
        have em : mm1 (256 * m + a) = nI w := (hv_Mm h1 _ (by omega) (fun _ => by rw [show (256 * m + a) / 256 = m by omega]; exact hon)).trans ew
        obtain ⟨hd', ex', md', rg', pc', pt', ve', ep', ca', bv', ti', zs', st', pu', pv', pe', fs', be', br', sc', rc', ou', qh', ow', ce', sd', rs', oo', ct', sp', mm', sh', wn', hR', hD', rX, rY⟩ := hv_exec (w := w) (n := n) (fr := fr) (qn := qn) (pr := pr) (hd := hd1) (cu := cu) (le := le) (ba := ba) (ex := ex1) (md := md) (rg := rg) (pc := pc) (pt := pt) (ve := ve) (ep := ep) (ca := ca) (bv := bv) (ti := ti) (zs := zs) (st := st) (pu := pu) (pv := pv) (pe := pe) (fs := fs) (be := be) (br := br) (sc := upd sc m (sc m + 1)) (rc := rc) (ou := ou) (qh := qh) (ow := ow) (ce := ce1) (im := im) (sd := sd1) (rs := rs1) (oo := oo1) (ct := ct1) (sp := sp) (mm := mm1) (sh := sh1) (wn := wn1) hw hR1 hm hon hD1 hn epc
        refine ⟨hd', ex', md', rg', pc', pt', ve', ep', ca', bv', ti', zs', st', pu', pv', pe', fs', be', br', sc', rc', ou', qh', ow', ce', sd', rs', oo', ct', sp', mm', sh', wn', hR', hD', fun post hp => ?_, fun post hp => ?_⟩
        · unfold wpX_step
          try dsimp only
          rw [hv_im hm]
          refine ⟨hv_iv hm, hv_iv hm, nm_e ⟨hv_iv hm, ?_⟩⟩
          refine br_t qX ⟨hv_iv hm, nm_r epc ⟨hv_iv hm, br_f (by rw [e7]; exact q6) ?_⟩⟩
          refine aX _ (br_t (nI_pos' (by omega)) ?_)
          try dsimp only
          rw [nI_clamp (n := hv_lc rs1 (256 * m + a)) (by omega), ew]
          exact ⟨vp_in_nI hlt (by decide), rX _ hp⟩
        · unfold wpY_step
          try dsimp only
          refine nm_e ?_
          rw [hv_im hm, hv_ic8 hm, hv_ic9 hm, hv_ic7 hm, hv_ic11 hm, hv_ic2 hm, hv_ic3 hm, hv_ic10 hm, hv_ic4 hm, hv_ic6 hm, hv_ic1 hm, hv_ic12 hm]
          refine ⟨hv_iv hm, hv_iv hm, nm_e ⟨hv_iw8 hm, nm_e ⟨hv_iw9 hm, ?_⟩⟩⟩
          refine br_t q ⟨hv_iw7 hm, br_f q6 ?_⟩
          rw [en]
          refine aY _ (br_f (hv_nm2 (by omega)) ?_)
          try dsimp only
          rw [hv_i256 m a, nI_clamp (n := 256 * m + a) (by omega), em]
          exact ⟨vp_in_nI (by omega) (by decide), rY _ hp⟩
  · exact hv_deliver hR hm hd0 q
end
end
section
/-! runs -/
section
variable {fr qn pr hd cu le ba ex : Int32} {md rg pc pt ve ep ca bv ti zs st pu pv pe fs be br sc rc ou qh ow ce im sd rs oo ct : Nat → Int32} {sp mm sh wn : Nat → Int32}
variable {F c : Nat}
theorem hx_sw (hc : c < 2) (post : SX → Prop) (hp : post (fr, qn, pr, hd, (nI c), qn, ba, ex, md, rg, pc, pt, ve, ep, ca, bv, ti, zs, st, pu, pv, pe, fs, be, br, sc, rc, ou, qh, ow, ce, im, sd, rs, oo, (hv_bx ct c 8))) : wpX_switchTo post (fr, qn, pr, hd, cu, le, ba, ex, md, rg, pc, pt, ve, ep, ca, bv, ti, zs, st, pu, pv, pe, fs, be, br, sc, rc, ou, qh, ow, ce, im, sd, rs, oo, ct) (nI c) := by
  unfold wpX_switchTo
  exact hx_bump (k := 8) (by omega) (by decide) _ hp
theorem hy_sw (hc : c < 2) (post : SY → Prop) (hp : post (fr, qn, pr, hd, (nI c), qn, ba, md, rg, sp, mm, sc, rc, ou, qh, ow, im, sh, (hv_bx ct c 8), wn)) : wpY_switchTo post (fr, qn, pr, hd, cu, le, ba, md, rg, sp, mm, sc, rc, ou, qh, ow, im, sh, ct, wn) (nI c) := by
  unfold wpY_switchTo
  exact hy_bump (k := 8) (by omega) (by decide) _ hp
theorem hy_exits (hc : c < 2) (post : Int32 → Prop) (hp : post (hv_E ct c)) : wpY_exits post (fr, qn, pr, hd, cu, le, ba, md, rg, sp, mm, sc, rc, ou, qh, ow, im, sh, ct, wn) (nI c) := by
  unfold wpY_exits
  try dsimp only
  refine nm_r (hv_i10z c) ?_
  have a1 : nI (10 * c) + 1 = nI (10 * c + 1) := nI_add _ 1
  have a2 : nI (10 * c) + 2 = nI (10 * c + 2) := nI_add _ 2
  have a3 : nI (10 * c) + 3 = nI (10 * c + 3) := nI_add _ 3
  have a4 : nI (10 * c) + 4 = nI (10 * c + 4) := nI_add _ 4
  have a5 : nI (10 * c) + 5 = nI (10 * c + 5) := nI_add _ 5
  rw [a1, a2, a3, a4, a5, nI_clamp (n := 10 * c + 1) (by omega), nI_clamp (n := 10 * c + 2) (by omega), nI_clamp (n := 10 * c + 3) (by omega), nI_clamp (n := 10 * c + 4) (by omega), nI_clamp (n := 10 * c + 5) (by omega)]
  exact ⟨vp_in_nI (by omega) (by decide), vp_in_nI (by omega) (by decide), vp_in_nI (by omega) (by decide), vp_in_nI (by omega) (by decide), vp_in_nI (by omega) (by decide), hp⟩
theorem hv_rsch (hc : c < 2) : ∃ (cu' le' : Int32) (ct' : Nat → Int32), hv_k 2 cu' ∧ (∀ post : SX → Prop, post (fr, qn, pr, hd, cu', le', ba, ex, md, rg, pc, pt, ve, ep, ca, bv, ti, zs, st, pu, pv, pe, fs, be, br, sc, rc, ou, qh, ow, ce, im, sd, rs, oo, ct') → wpX_reschedule post (fr, qn, pr, hd, (nI c), le, ba, ex, md, rg, pc, pt, ve, ep, ca, bv, ti, zs, st, pu, pv, pe, fs, be, br, sc, rc, ou, qh, ow, ce, im, sd, rs, oo, ct)) ∧
    (∀ (post : Int32 → SY → Prop) (J : Int32 → Int32 → Int32 → Int32 → Int32 → Int32 → Int32 → Int32 → Int32 → (Nat → Int32) → (Nat → Int32) → (Nat → Int32) → (Nat → Int32) → (Nat → Int32) → (Nat → Int32) → (Nat → Int32) → (Nat → Int32) → (Nat → Int32) → (Nat → Int32) → (Nat → Int32) → (Nat → Int32) → (Nat → Int32) → Prop) (x1 x2 x3 : Int32), J x2 (x3 + 1) fr qn pr hd cu' le' ba md rg sp mm sc rc ou qh ow im sh ct' wn →
      ((le ≤ 0 → wY_run_140 post J x1 x2 x3 fr qn pr hd (nI c) le ba md rg sp mm sc rc ou qh ow im sh ct wn) ∧ (¬ le ≤ 0 → vp_in (nI c) 3 ∧ ((md (nI c).toNatClampNeg = 1 → ∀ y, y = x3 + 1 → J x2 y fr qn pr hd (nI c) le ba md rg sp mm sc rc ou qh ow im sh ct wn) ∧ (¬ md (nI c).toNatClampNeg = 1 → wY_run_140 post J x1 x2 x3 fr qn pr hd (nI c) le ba md rg sp mm sc rc ou qh ow im sh ct wn))))) := by
  have ec := hv_im (m := c) (by omega)
  have ic := hv_iv (m := c) (by omega)
  have ec1 := hv_im (m := 1 - c) (by omega)
  have ic1 := hv_iv (m := 1 - c) (by omega)
  have key : ∃ (cu' le' : Int32) (ct' : Nat → Int32), hv_k 2 cu' ∧ (∀ post : SX → Prop, post (fr, qn, pr, hd, cu', le', ba, ex, md, rg, pc, pt, ve, ep, ca, bv, ti, zs, st, pu, pv, pe, fs, be, br, sc, rc, ou, qh, ow, ce, im, sd, rs, oo, ct') → wX_reschedule_21 post fr qn pr hd (nI c) le ba ex md rg pc pt ve ep ca bv ti zs st pu pv pe fs be br sc rc ou qh ow ce im sd rs oo ct) ∧
    (∀ (post : Int32 → SY → Prop) (J : Int32 → Int32 → Int32 → Int32 → Int32 → Int32 → Int32 → Int32 → Int32 → (Nat → Int32) → (Nat → Int32) → (Nat → Int32) → (Nat → Int32) → (Nat → Int32) → (Nat → Int32) → (Nat → Int32) → (Nat → Int32) → (Nat → Int32) → (Nat → Int32) → (Nat → Int32) → (Nat → Int32) → (Nat → Int32) → Prop) (x1 x2 x3 : Int32), J x2 (x3 + 1) fr qn pr hd cu' le' ba md rg sp mm sc rc ou qh ow im sh ct' wn → wY_run_140 post J x1 x2 x3 fr qn pr hd (nI c) le ba md rg sp mm sc rc ou qh ow im sh ct wn) := by
    by_cases q : md (1 - c) = 1
    · refine ⟨nI (1 - c), qn, hv_bx ct (1 - c) 8, hv_kn (by omega), fun post hp => ?_, fun post J x1 x2 x3 hp => ?_⟩
      · unfold wX_reschedule_21
        refine nm_r (hv_s1 hc) ⟨ic1, br_t (by rw [ec1]; exact q) ?_⟩
        exact hx_sw (by omega) _ hp
      · unfold wY_run_140
        rw [hv_s1 hc, ec1]
        refine ⟨ic1, br_t q ?_⟩
        exact hy_sw (by omega) _ (nm_e hp)
    · refine ⟨nI c, qn, ct, hv_kn hc, fun post hp => ?_, fun post J x1 x2 x3 hp => ?_⟩
      · unfold wX_reschedule_21
        exact nm_r (hv_s1 hc) ⟨ic1, br_f (by rw [ec1]; exact q) hp⟩
      · unfold wY_run_140
        rw [hv_s1 hc, ec1]
        exact ⟨ic1, br_f q (nm_e hp)⟩
  obtain ⟨cu', le', ct', hk, kX, kY⟩ := key
  by_cases q0 : le ≤ 0
  · exact ⟨cu', le', ct', hk, fun post hp => br_t q0 (kX post hp), fun post J x1 x2 x3 hp => br_t q0 (kY post J x1 x2 x3 hp)⟩
  by_cases q1 : md c = 1
  · refine ⟨nI c, le, ct, hv_kn hc, fun post hp => br_f q0 ⟨ic, br_t (by rw [ec]; exact q1) hp⟩, fun post J x1 x2 x3 hp => br_f q0 ⟨ic, br_t (by rw [ec]; exact q1) (nm_e hp)⟩⟩
  · exact ⟨cu', le', ct', hk, fun post hp => br_f q0 ⟨ic, br_f (by rw [ec]; exact q1) (kX post hp)⟩, fun post J x1 x2 x3 hp => br_f q0 ⟨ic, br_f (by rw [ec]; exact q1) (kY post J x1 x2 x3 hp)⟩⟩
theorem hv_body (hc : c < 2) (hR : hv_R F fr hd (nI c) md rg im ce sd rs oo mm sh wn sp pt ve ep ca bv ti zs st pc pu pv pe fs be br) (hmd : md c = 1) : ∃ (cu' le' hd' ex' : Int32) (md' rg' pc' pt' ve' ep' ca' bv' ti' zs' st' pu' pv' pe' fs' be' br' sc' rc' ou' qh' ow' ce' sd' rs' oo' ct' sp' mm' sh' wn' : Nat → Int32), hv_R F fr hd' cu' md' rg' im ce' sd' rs' oo' mm' sh' wn' sp' pt' ve' ep' ca' bv' ti' zs' st' pc' pu' pv' pe' fs' be' br' ∧
    (∀ (post : Int32 → SX → Prop) J (x2 x3 x4 : Int32), J (x3 + 1) (x4 + 1) fr qn pr hd' cu' le' ba ex' md' rg' pc' pt' ve' ep' ca' bv' ti' zs' st' pu' pv' pe' fs' be' br' sc' rc' ou' qh' ow' ce' im sd' rs' oo' ct' → wX_run_78 post J x2 x3 x4 fr qn pr hd (nI c) le ba ex md rg pc pt ve ep ca bv ti zs st pu pv pe fs be br sc rc ou qh ow ce im sd rs oo ct) ∧
    (∀ (post : Int32 → SY → Prop) J (x1 x2 x3 : Int32), J (x2 + 1) (x3 + 1) fr qn pr hd' cu' le' ba md' rg' sp' mm' sc' rc' ou' qh' ow' im sh' ct' wn' → wY_run_68 post J x1 x2 x3 fr qn pr hd (nI c) le ba md rg sp mm sc rc ou qh ow im sh ct wn) := by
  obtain ⟨hd2, ex2, md2, rg2, pc2, pt2, ve2, ep2, ca2, bv2, ti2, zs2, st2, pu2, pv2, pe2, fs2, be2, br2, sc2, rc2, ou2, qh2, ow2, ce2, sd2, rs2, oo2, ct2, sp2, mm2, sh2, wn2, hR2, hD2, sX, sY⟩ := hv_step (m := c) (d := 0 - hv_E ct c) (fr := fr) (qn := qn) (pr := pr) (hd := hd) (cu := nI c) (le := le) (ba := ba) (ex := 0) (md := md) (rg := rg) (pc := pc) (pt := pt) (ve := ve) (ep := ep) (ca := ca) (bv := bv) (ti := ti) (zs := zs) (st := st) (pu := pu) (pv := pv) (pe := pe) (fs := fs) (be := be) (br := br) (sc := sc) (rc := rc) (ou := ou) (qh := qh) (ow := ow) (ce := ce) (im := im) (sd := sd) (rs := rs) (oo := oo) (ct := ct) (sp := sp) (mm := mm) (sh := sh) (wn := wn) hR (by omega) (by rw [hmd]; decide) (fun _ => rfl)
  have hex : ex2 = hv_E ct2 c - hv_E ct c := by
    have := hD2 hc
    grind
  obtain ⟨cu3, le3, ct3, hk3, rX, rY⟩ := hv_rsch (c := c) (le := le - (1 + pr * ex2)) (fr := fr) (qn := qn) (pr := pr) (hd := hd2) (ba := ba) (ex := ex2) (md := md2) (rg := rg2) (pc := pc2) (pt := pt2) (ve := ve2) (ep := ep2) (ca := ca2) (bv := bv2) (ti := ti2) (zs := zs2) (st := st2) (pu := pu2) (pv := pv2) (pe := pe2) (fs := fs2) (be := be2) (br := br2) (sc := sc2) (rc := rc2) (ou := ou2) (qh := qh2) (ow := ow2) (ce := ce2) (im := im) (sd := sd2) (rs := rs2) (oo := oo2) (ct := ct2) (sp := sp2) (mm := mm2) (sh := sh2) (wn := wn2) hc
  obtain ⟨a1, a2, a3, a4, a5⟩ := hR2
  refine ⟨cu3, le3, hd2, ex2, md2, rg2, pc2, pt2, ve2, ep2, ca2, bv2, ti2, zs2, st2, pu2, pv2, pe2, fs2, be2, br2, sc2, rc2, ou2, qh2, ow2, ce2, sd2, rs2, oo2, ct3, sp2, mm2, sh2, wn2, ⟨a1, a2, a3, hk3, a5⟩, fun post J x2 x3 x4 hp => ?_, fun post J x1 x2 x3 hp => ?_⟩
  · unfold wX_run_78
    refine sX _ (nm_e (nm_e ?_))
    exact rX _ (nm_e hp)
  · unfold wY_run_68
    refine hy_exits hc _ ?_
    refine sY _ (nm_e ?_)
    refine hy_exits hc _ ?_
    refine nm_r hex.symm (nm_e ?_)
    exact rY post J x1 _ x3 hp
end
end
section
/-! the loops of run and runBare -/
section
variable {F L N : Nat} {fr qn pr ba : Int32} {im : Nat → Int32}
theorem hv_runl (hL : L ≤ 2000) (hN : N < 2 ^ 31) (hLN : L = N ∨ (L = 2000 ∧ 2000 < N)) : ∀ (dd i : Nat), i + dd = L → ∀ (q : Int32) (cu le hd ex : Int32) (md rg pc pt ve ep ca bv ti zs st pu pv pe fs be br sc rc ou qh ow ce sd rs oo ct sp mm sh wn : Nat → Int32), hv_R F fr hd cu md rg im ce sd rs oo mm sh wn sp pt ve ep ca bv ti zs st pc pu pv pe fs be br → ∃ (q' : Int32) (cu' le' hd' ex' : Int32) (md' rg' pc' pt' ve' ep' ca' bv' ti' zs' st' pu' pv' pe' fs' be' br' sc' rc' ou' qh' ow' ce' sd' rs' oo' ct' sp' mm' sh' wn' : Nat → Int32), hv_R F fr hd' cu' md' rg' im ce' sd' rs' oo' mm' sh' wn' sp' pt' ve' ep' ca' bv' ti' zs' st' pc' pu' pv' pe' fs' be' br' ∧
    (∀ post : Int32 → SX → Prop, post q' (fr, qn, pr, hd', cu', le', ba, ex', md', rg', pc', pt', ve', ep', ca', bv', ti', zs', st', pu', pv', pe', fs', be', br', sc', rc', ou', qh', ow', ce', im, sd', rs', oo', ct') → wX_run_27 post (nI L) (dd + 1) q (nI i) fr qn pr hd cu le ba ex md rg pc pt ve ep ca bv ti zs st pu pv pe fs be br sc rc ou qh ow ce im sd rs oo ct) ∧
    (∀ post : Int32 → SY → Prop, post q' (fr, qn, pr, hd', cu', le', ba, md', rg', sp', mm', sc', rc', ou', qh', ow', im, sh', ct', wn') → wY_run_11 post (nI N) (dd + 1) q (nI i) fr qn pr hd cu le ba md rg sp mm sc rc ou qh ow im sh ct wn) := by
  intro dd
  induction dd with
  | zero =>
    intro i hi q cu le hd ex md rg pc pt ve ep ca bv ti zs st pu pv pe fs be br sc rc ou qh ow ce sd rs oo ct sp mm sh wn hR
    obtain rfl : i = L := by omega
    refine ⟨q, cu, le, hd, ex, md, rg, pc, pt, ve, ep, ca, bv, ti, zs, st, pu, pv, pe, fs, be, br, sc, rc, ou, qh, ow, ce, sd, rs, oo, ct, sp, mm, sh, wn, hR, fun post hp => br_t (nI_le (Nat.le_refl _) (by omega)) hp, fun post hp => ?_⟩
    rcases hLN with e | ⟨e, h⟩
    · exact br_t (nI_le (by omega) (by omega)) hp
    · exact br_f (nI_ge (by omega) (by omega)) (br_t (nI_le (a := 2000) (by omega) (by omega)) hp)
  | succ dd ih =>
    intro i hi q cu le hd ex md rg pc pt ve ep ca bv ti zs st pu pv pe fs be br sc rc ou qh ow ce sd rs oo ct sp mm sh wn hR
    have x1 : ¬ nI L ≤ nI i := nI_ge (by omega) (by omega)
    have y1 : ¬ nI N ≤ nI i := nI_ge (by omega) (by omega)
    have y2 : ¬ 2000 ≤ nI i := nI_ge (b := 2000) (by omega) (by decide)
    by_cases q0 : md 0 = 1 ∨ md 1 = 1
    · obtain ⟨a1, a2, a3, ⟨c, hc, rfl⟩, a5⟩ := id hR
      have ec := hv_im (m := c) (by omega)
      have ic := hv_iv (m := c) (by omega)
      by_cases q1 : md c = 1
      · obtain ⟨cu2, le2, hd2, ex2, md2, rg2, pc2, pt2, ve2, ep2, ca2, bv2, ti2, zs2, st2, pu2, pv2, pe2, fs2, be2, br2, sc2, rc2, ou2, qh2, ow2, ce2, sd2, rs2, oo2, ct2, sp2, mm2, sh2, wn2, hR2, bX, bY⟩ := hv_body (c := c) (fr := fr) (qn := qn) (pr := pr) (hd := hd) (le := le) (ba := ba) (ex := ex) (md := md) (rg := rg) (pc := pc) (pt := pt) (ve := ve) (ep := ep) (ca := ca) (bv := bv) (ti := ti) (zs := zs) (st := st) (pu := pu) (pv := pv) (pe := pe) (fs := fs) (be := be) (br := br) (sc := sc) (rc := rc) (ou := ou) (qh := qh) (ow := ow) (ce := ce) (im := im) (sd := sd) (rs := rs) (oo := oo) (ct := ct) (sp := sp) (mm := mm) (sh := sh) (wn := wn) hc hR q1
        obtain ⟨q', cu', le', hd', ex', md', rg', pc', pt', ve', ep', ca', bv', ti', zs', st', pu', pv', pe', fs', be', br', sc', rc', ou', qh', ow', ce', sd', rs', oo', ct', sp', mm', sh', wn', hR', iX, iY⟩ := ih (i + 1) (by omega) (q + 1) cu2 le2 hd2 ex2 md2 rg2 pc2 pt2 ve2 ep2 ca2 bv2 ti2 zs2 st2 pu2 pv2 pe2 fs2 be2 br2 sc2 rc2 ou2 qh2 ow2 ce2 sd2 rs2 oo2 ct2 sp2 mm2 sh2 wn2 hR2
        refine ⟨q', cu', le', hd', ex', md', rg', pc', pt', ve', ep', ca', bv', ti', zs', st', pu', pv', pe', fs', be', br', sc', rc', ou', qh', ow', ce', sd', rs', oo', ct', sp', mm', sh', wn', hR', fun post hp => ?_, fun post hp => ?_⟩
        · have K := bX post (wX_run_27 post (nI L) (dd + 1)) (nI L) q (nI i) (by rw [nI_1]; exact iX post hp)
          have K55 : wX_run_55 post (wX_run_27 post (nI L) (dd + 1)) (nI L) q (nI i) fr qn pr hd (nI c) le ba ex md rg pc pt ve ep ca bv ti zs st pu pv pe fs be br sc rc ou qh ow ce im sd rs oo ct := by
            unfold wX_run_55
            rw [ec]
            exact ⟨ic, br_t q1 K⟩
          refine br_f x1 ?_
          by_cases z : md 0 = 1
          · exact br_t z K55
          · exact br_f z (br_t (q0.resolve_left z) K55)
        · have K := bY post (wY_run_11 post (nI N) (dd + 1)) (nI N) q (nI i) (by rw [nI_1]; exact iY post hp)
          have K45 : wY_run_45 post (wY_run_11 post (nI N) (dd + 1)) (nI N) q (nI i) fr qn pr hd (nI c) le ba md rg sp mm sc rc ou qh ow im sh ct wn := by
            unfold wY_run_45
            rw [ec]
            exact ⟨ic, br_t q1 K⟩
          refine br_f y1 (br_f y2 ?_)
          by_cases z : md 0 = 1
          · exact br_t z K45
          · exact br_f z (br_t (q0.resolve_left z) K45)
      · have q2 : md (1 - c) = 1 := by
          obtain rfl | rfl : c = 0 ∨ c = 1 := by omega
          · exact q0.resolve_left q1
          · exact q0.resolve_right q1
        have hR1 : hv_R F fr hd (nI (1 - c)) md rg im ce sd rs oo mm sh wn sp pt ve ep ca bv ti zs st pc pu pv pe fs be br := ⟨a1, a2, a3, hv_kn (by omega), a5⟩
        obtain ⟨cu2, le2, hd2, ex2, md2, rg2, pc2, pt2, ve2, ep2, ca2, bv2, ti2, zs2, st2, pu2, pv2, pe2, fs2, be2, br2, sc2, rc2, ou2, qh2, ow2, ce2, sd2, rs2, oo2, ct2, sp2, mm2, sh2, wn2, hR2, bX, bY⟩ := hv_body (c := 1 - c) (fr := fr) (qn := qn) (pr := pr) (hd := hd) (le := qn) (ba := ba) (ex := ex) (md := md) (rg := rg) (pc := pc) (pt := pt) (ve := ve) (ep := ep) (ca := ca) (bv := bv) (ti := ti) (zs := zs) (st := st) (pu := pu) (pv := pv) (pe := pe) (fs := fs) (be := be) (br := br) (sc := sc) (rc := rc) (ou := ou) (qh := qh) (ow := ow) (ce := ce) (im := im) (sd := sd) (rs := rs) (oo := oo) (ct := hv_bx ct (1 - c) 8) (sp := sp) (mm := mm) (sh := sh) (wn := wn) (by omega) hR1 q2
        obtain ⟨q', cu', le', hd', ex', md', rg', pc', pt', ve', ep', ca', bv', ti', zs', st', pu', pv', pe', fs', be', br', sc', rc', ou', qh', ow', ce', sd', rs', oo', ct', sp', mm', sh', wn', hR', iX, iY⟩ := ih (i + 1) (by omega) (q + 1) cu2 le2 hd2 ex2 md2 rg2 pc2 pt2 ve2 ep2 ca2 bv2 ti2 zs2 st2 pu2 pv2 pe2 fs2 be2 br2 sc2 rc2 ou2 qh2 ow2 ce2 sd2 rs2 oo2 ct2 sp2 mm2 sh2 wn2 hR2
        refine ⟨q', cu', le', hd', ex', md', rg', pc', pt', ve', ep', ca', bv', ti', zs', st', pu', pv', pe', fs', be', br', sc', rc', ou', qh', ow', ce', sd', rs', oo', ct', sp', mm', sh', wn', hR', fun post hp => ?_, fun post hp => ?_⟩
        · have K := bX post (wX_run_27 post (nI L) (dd + 1)) (nI L) q (nI i) (by rw [nI_1]; exact iX post hp)
          have K55 : wX_run_55 post (wX_run_27 post (nI L) (dd + 1)) (nI L) q (nI i) fr qn pr hd (nI c) le ba ex md rg pc pt ve ep ca bv ti zs st pu pv pe fs be br sc rc ou qh ow ce im sd rs oo ct := by
            unfold wX_run_55
            rw [ec, hv_s1 hc]
            exact ⟨ic, br_f q1 (hx_sw (by omega) _ K)⟩
          refine br_f x1 ?_
          by_cases z : md 0 = 1
          · exact br_t z K55
          · exact br_f z (br_t (q0.resolve_left z) K55)
        · have K := bY post (wY_run_11 post (nI N) (dd + 1)) (nI N) q (nI i) (by rw [nI_1]; exact iY post hp)
          have K45 : wY_run_45 post (wY_run_11 post (nI N) (dd + 1)) (nI N) q (nI i) fr qn pr hd (nI c) le ba md rg sp mm sc rc ou qh ow im sh ct wn := by
            unfold wY_run_45
            rw [ec, hv_s1 hc]
            exact ⟨ic, br_f q1 (hy_sw (by omega) _ K)⟩
          refine br_f y1 (br_f y2 ?_)
          by_cases z : md 0 = 1
          · exact br_t z K45
          · exact br_f z (br_t (q0.resolve_left z) K45)
    · have z0 : ¬ md 0 = 1 := fun z => q0 (Or.inl z)
      have z1 : ¬ md 1 = 1 := fun z => q0 (Or.inr z)
      exact ⟨q, cu, le, hd, ex, md, rg, pc, pt, ve, ep, ca, bv, ti, zs, st, pu, pv, pe, fs, be, br, sc, rc, ou, qh, ow, ce, sd, rs, oo, ct, sp, mm, sh, wn, hR, fun post hp => br_f x1 (br_f z0 (br_f z1 hp)), fun post hp => br_f y1 (br_f y2 (br_f z0 (br_f z1 hp)))⟩
theorem hv_runb {cu le : Int32} (hL : L ≤ 2000) (hN : N < 2 ^ 31) (hLN : L = N ∨ (L = 2000 ∧ 2000 < N)) : ∀ (dd i : Nat), i + dd = L → ∀ (q : Int32) (hd ex : Int32) (md rg pc pt ve ep ca bv ti zs st pu pv pe fs be br sc rc ou qh ow ce sd rs oo ct sp mm sh wn : Nat → Int32), hv_R F fr hd cu md rg im ce sd rs oo mm sh wn sp pt ve ep ca bv ti zs st pc pu pv pe fs be br → ∃ (q' : Int32) (hd' ex' : Int32) (md' rg' pc' pt' ve' ep' ca' bv' ti' zs' st' pu' pv' pe' fs' be' br' sc' rc' ou' qh' ow' ce' sd' rs' oo' ct' sp' mm' sh' wn' : Nat → Int32), hv_R F fr hd' cu md' rg' im ce' sd' rs' oo' mm' sh' wn' sp' pt' ve' ep' ca' bv' ti' zs' st' pc' pu' pv' pe' fs' be' br' ∧
    (∀ post : Int32 → SX → Prop, post q' (fr, qn, pr, hd', cu, le, ba, ex', md', rg', pc', pt', ve', ep', ca', bv', ti', zs', st', pu', pv', pe', fs', be', br', sc', rc', ou', qh', ow', ce', im, sd', rs', oo', ct') → wX_runBare_36 post (nI L) (dd + 1) q (nI i) fr qn pr hd cu le ba ex md rg pc pt ve ep ca bv ti zs st pu pv pe fs be br sc rc ou qh ow ce im sd rs oo ct) ∧
    (∀ post : Int32 → SY → Prop, post q' (fr, qn, pr, hd', cu, le, ba, md', rg', sp', mm', sc', rc', ou', qh', ow', im, sh', ct', wn') → wY_runBare_20 post (nI N) (dd + 1) q (nI i) fr qn pr hd cu le ba md rg sp mm sc rc ou qh ow im sh ct wn) := by
  intro dd
  induction dd with
  | zero =>
    intro i hi q hd ex md rg pc pt ve ep ca bv ti zs st pu pv pe fs be br sc rc ou qh ow ce sd rs oo ct sp mm sh wn hR
    obtain rfl : i = L := by omega
    refine ⟨q, hd, ex, md, rg, pc, pt, ve, ep, ca, bv, ti, zs, st, pu, pv, pe, fs, be, br, sc, rc, ou, qh, ow, ce, sd, rs, oo, ct, sp, mm, sh, wn, hR, fun post hp => br_t (nI_le (Nat.le_refl _) (by omega)) hp, fun post hp => ?_⟩
    rcases hLN with e | ⟨e, h⟩
    · exact br_t (nI_le (by omega) (by omega)) hp
    · exact br_f (nI_ge (by omega) (by omega)) (br_t (nI_le (a := 2000) (by omega) (by omega)) hp)
  | succ dd ih =>
    intro i hi q hd ex md rg pc pt ve ep ca bv ti zs st pu pv pe fs be br sc rc ou qh ow ce sd rs oo ct sp mm sh wn hR
    have x1 : ¬ nI L ≤ nI i := nI_ge (by omega) (by omega)
    have y1 : ¬ nI N ≤ nI i := nI_ge (by omega) (by omega)
    have y2 : ¬ 2000 ≤ nI i := nI_ge (b := 2000) (by omega) (by decide)
    by_cases q0 : md 2 = 1
    · obtain ⟨hd2, ex2, md2, rg2, pc2, pt2, ve2, ep2, ca2, bv2, ti2, zs2, st2, pu2, pv2, pe2, fs2, be2, br2, sc2, rc2, ou2, qh2, ow2, ce2, sd2, rs2, oo2, ct2, sp2, mm2, sh2, wn2, hR2, _, sX, sY⟩ := hv_step (m := 2) (d := 0) (fr := fr) (qn := qn) (pr := pr) (hd := hd) (cu := cu) (le := le) (ba := ba) (ex := ex) (md := md) (rg := rg) (pc := pc) (pt := pt) (ve := ve) (ep := ep) (ca := ca) (bv := bv) (ti := ti) (zs := zs) (st := st) (pu := pu) (pv := pv) (pe := pe) (fs := fs) (be := be) (br := br) (sc := sc) (rc := rc) (ou := ou) (qh := qh) (ow := ow) (ce := ce) (im := im) (sd := sd) (rs := rs) (oo := oo) (ct := ct) (sp := sp) (mm := mm) (sh := sh) (wn := wn) hR (by decide) (by rw [q0]; decide) (fun z => absurd z (by decide))
      obtain ⟨q', hd', ex', md', rg', pc', pt', ve', ep', ca', bv', ti', zs', st', pu', pv', pe', fs', be', br', sc', rc', ou', qh', ow', ce', sd', rs', oo', ct', sp', mm', sh', wn', hR', iX, iY⟩ := ih (i + 1) (by omega) (q + 1) hd2 ex2 md2 rg2 pc2 pt2 ve2 ep2 ca2 bv2 ti2 zs2 st2 pu2 pv2 pe2 fs2 be2 br2 sc2 rc2 ou2 qh2 ow2 ce2 sd2 rs2 oo2 ct2 sp2 mm2 sh2 wn2 hR2
      refine ⟨q', hd', ex', md', rg', pc', pt', ve', ep', ca', bv', ti', zs', st', pu', pv', pe', fs', be', br', sc', rc', ou', qh', ow', ce', sd', rs', oo', ct', sp', mm', sh', wn', hR', fun post hp => ?_, fun post hp => ?_⟩
      · refine br_f x1 (br_t q0 (sX _ (nm_e (nm_r (nI_1 i) ?_))))
        exact iX post hp
      · refine br_f y1 (br_f y2 (br_t q0 (sY _ (nm_e (nm_r (nI_1 i) ?_)))))
        exact iY post hp
    · exact ⟨q, hd, ex, md, rg, pc, pt, ve, ep, ca, bv, ti, zs, st, pu, pv, pe, fs, be, br, sc, rc, ou, qh, ow, ce, sd, rs, oo, ct, sp, mm, sh, wn, hR, fun post hp => br_f x1 (br_f q0 hp), fun post hp => br_f y1 (br_f y2 (br_f q0 hp))⟩
end
/-! the owed relation -/
def i_Rel (_ : Nat) (u : SX) (v : SY) : Prop := ∃ (F : Nat) (fr qn pr hd cu le ba ex : Int32) (md rg pc pt ve ep ca bv ti zs st pu pv pe fs be br sc rc ou qh ow ce im sd rs oo ct sp mm sh wn : Nat → Int32), hv_R F fr hd cu md rg im ce sd rs oo mm sh wn sp pt ve ep ca bv ti zs st pc pu pv pe fs be br ∧ u = (fr, qn, pr, hd, cu, le, ba, ex, md, rg, pc, pt, ve, ep, ca, bv, ti, zs, st, pu, pv, pe, fs, be, br, sc, rc, ou, qh, ow, ce, im, sd, rs, oo, ct) ∧ v = (fr, qn, pr, hd, cu, le, ba, md, rg, sp, mm, sc, rc, ou, qh, ow, im, sh, ct, wn)
theorem i_up {k : Nat} {u : SX} {v : SY} (h : i_Rel k u v) : i_Rel (k + 5) u v := h
theorem hv_in {k F : Nat} (fr qn pr hd cu le ba ex : Int32) (md rg pc pt ve ep ca bv ti zs st pu pv pe fs be br sc rc ou qh ow ce im sd rs oo ct sp mm sh wn : Nat → Int32) (h : hv_R F fr hd cu md rg im ce sd rs oo mm sh wn sp pt ve ep ca bv ti zs st pc pu pv pe fs be br) : i_Rel k (fr, qn, pr, hd, cu, le, ba, ex, md, rg, pc, pt, ve, ep, ca, bv, ti, zs, st, pu, pv, pe, fs, be, br, sc, rc, ou, qh, ow, ce, im, sd, rs, oo, ct) (fr, qn, pr, hd, cu, le, ba, md, rg, sp, mm, sc, rc, ou, qh, ow, im, sh, ct, wn) := ⟨F, fr, qn, pr, hd, cu, le, ba, ex, md, rg, pc, pt, ve, ep, ca, bv, ti, zs, st, pu, pv, pe, fs, be, br, sc, rc, ou, qh, ow, ce, im, sd, rs, oo, ct, sp, mm, sh, wn, h, rfl, rfl⟩
theorem hv_el {P : SX → SY → Prop} {k : Nat} {u : SX} {v : SY} (I : i_Rel k u v) (h : ∀ (F : Nat) (fr qn pr hd cu le ba ex : Int32) (md rg pc pt ve ep ca bv ti zs st pu pv pe fs be br sc rc ou qh ow ce im sd rs oo ct sp mm sh wn : Nat → Int32), hv_R F fr hd cu md rg im ce sd rs oo mm sh wn sp pt ve ep ca bv ti zs st pc pu pv pe fs be br → P (fr, qn, pr, hd, cu, le, ba, ex, md, rg, pc, pt, ve, ep, ca, bv, ti, zs, st, pu, pv, pe, fs, be, br, sc, rc, ou, qh, ow, ce, im, sd, rs, oo, ct) (fr, qn, pr, hd, cu, le, ba, md, rg, sp, mm, sc, rc, ou, qh, ow, im, sh, ct, wn)) : P u v :=
  Exists.elim I fun F I => Exists.elim I fun fr I => Exists.elim I fun qn I => Exists.elim I fun pr I => Exists.elim I fun hd I => Exists.elim I fun cu I => Exists.elim I fun le I => Exists.elim I fun ba I => Exists.elim I fun ex I => Exists.elim I fun md I => Exists.elim I fun rg I => Exists.elim I fun pc I => Exists.elim I fun pt I => Exists.elim I fun ve I => Exists.elim I fun ep I => Exists.elim I fun ca I => Exists.elim I fun bv I => Exists.elim I fun ti I => Exists.elim I fun zs I => Exists.elim I fun st I => Exists.elim I fun pu I => Exists.elim I fun pv I => Exists.elim I fun pe I => Exists.elim I fun fs I => Exists.elim I fun be I => Exists.elim I fun br I => Exists.elim I fun sc I => Exists.elim I fun rc I => Exists.elim I fun ou I => Exists.elim I fun qh I => Exists.elim I fun ow I => Exists.elim I fun ce I => Exists.elim I fun im I => Exists.elim I fun sd I => Exists.elim I fun rs I => Exists.elim I fun oo I => Exists.elim I fun ct I => Exists.elim I fun sp I => Exists.elim I fun mm I => Exists.elim I fun sh I => Exists.elim I fun wn I => by rw [I.2.1, I.2.2]; exact h F fr qn pr hd cu le ba ex md rg pc pt ve ep ca bv ti zs st pu pv pe fs be br sc rc ou qh ow ce im sd rs oo ct sp mm sh wn I.1
end
section
/-! images, boots, powering off: the relation alone -/
def hv_z : Nat → Int32 := fun _ => 0
theorem hv_cqq {f g1 g2 : Nat → Int32} {d s1 s2 n : Nat} : hv_cq (hv_cq f g1 d s1 n) g2 d s2 n = hv_cq f g2 d s2 n := by
  funext j
  by_cases q : d ≤ j ∧ j < d + n
  · rw [hv_cqin q.1 q.2, hv_cqin q.1 q.2]
  · rw [hv_cqout (by omega), hv_cqout (by omega), hv_cqout (by omega)]
theorem hv_cqw {f g : Nat → Int32} {N d s n : Nat} (hf : hv_w N f) (hg : ∀ i, i < n → hv_k 65536 (g (s + i))) : hv_w N (hv_cq f g d s n) := by
  intro j hj
  by_cases q : d ≤ j ∧ j < d + n
  · rw [hv_cqin q.1 q.2]; exact hg _ (by omega)
  · rw [hv_cqout (by omega)]; exact hf j hj
theorem hv_z0 (i : Nat) : hv_z i = 0 := rfl
section
variable {F : Nat} {md im ce sd rs oo mm sh wn im' : Nat → Int32}
theorem hv_lcg (h : hv_M F md im ce sd rs oo mm sh wn) {g a : Nat} (hg : g < 2) (ha : a < 768) (hne : a < 512 → ¬ a / 256 = g) : hv_lc rs a < 256 + 256 * g ∨ 256 + 256 * g + 256 ≤ hv_lc rs a := by
  have hF := h.1
  rcases hv_lcc h.1 (hv_Mr h) a with ⟨e, _⟩ | ⟨_, x, hx, _, _, e⟩
  · rw [e]
    by_cases q : a < 512
    · have := hne q; omega
    · omega
  · omega
theorem hv_Mimg (h : hv_M F md im ce sd rs oo mm sh wn) {g : Nat} (hg : g < 2) (hz : md g = 0) (hi : ∀ j, j < 512 → (j < 256 * g ∨ 256 * g + 256 ≤ j) → im' j = im j) (hw : hv_w 512 im') :
    hv_M F md im' (hv_cq ce im' (256 + 256 * g) (256 * g) 256) sd rs oo mm sh wn := by
  refine ⟨h.1, h.2.1, h.2.2.1, h.2.2.2.1, ?_, ?_, hv_cqw (hv_Mc h) (fun i hi => hw _ (by omega)), hw⟩
  · intro a ha hon
    rw [hv_cqout (hv_lcg h hg ha (fun z e => hon z (by rw [e]; exact hz)))]
    exact hv_Mm h a ha hon
  · intro g' hg' hz'
    obtain ⟨h1, h2⟩ := hv_Mx h g' hg' hz'
    refine ⟨h1, fun a ha => ?_⟩
    by_cases e : g' = g
    · subst e
      rw [hv_cqin (by omega) (by omega)]
      exact congrArg im' (by omega)
    · rw [hv_cqout (by omega), hi _ (by omega) (by omega)]
      exact h2 a ha
theorem hv_Mboot (h : hv_M F md im ce sd rs oo mm sh wn) {g : Nat} (hg : g < 2) (hz : md g = 0) :
    hv_M F (upd (upd md g 0) g 1) im (hv_cq ce im (256 + 256 * g) (256 * g) 256) sd rs oo (hv_cq (hv_cq mm hv_z (256 * g) 0 256) im (256 * g) (256 * g) 256) sh wn := by
  have hx := hv_Mx h g hg hz
  rw [hv_cqq]
  refine ⟨h.1, h.2.1, h.2.2.1, h.2.2.2.1, ?_, ?_, hv_cqw (hv_Mc h) (fun i hi => hv_Mi h _ (by omega)), hv_Mi h⟩
  · intro a ha hon
    by_cases q : a < 512 ∧ a / 256 = g
    · have el : hv_lc rs a = 256 + a := hv_lcn fun _ => by
        have := hx.1 (a / 16 % 16) (by omega)
        rw [show 16 * g + a / 16 % 16 = a / 16 by omega] at this
        exact this
      rw [el, hv_cqin (by omega) (by omega), hv_cqin (by omega) (by omega)]
      exact congrArg im (by omega)
    · have hne : a < 512 → ¬ a / 256 = g := fun z e => q ⟨z, e⟩
      rw [hv_cqout (hv_lcg h hg ha hne), hv_cqout (by
        by_cases z : a < 512
        · have := hne z; omega
        · omega)]
      refine hv_Mm h a ha fun z => ?_
      have := hon z
      rw [pk_un (hne z), pk_un (hne z)] at this
      exact this
  · intro g' hg' hz'
    by_cases e : g' = g
    · subst e; rw [pk_us] at hz'; exact absurd hz' (by decide)
    · rw [pk_un e, pk_un e] at hz'
      obtain ⟨h1, h2⟩ := hv_Mx h g' hg' hz'
      refine ⟨h1, fun a ha => ?_⟩
      rw [hv_cqout (by omega)]
      exact h2 a ha
/-! the bare machine's memory -/
theorem hv_Mb (h : hv_M F md im ce sd rs oo mm sh wn) {s : Nat → Int32} {b : Nat} (hs : ∀ i, i < 256 → hv_k 65536 (s (b + i))) :
    hv_M F md im (hv_cq ce s 768 b 256) sd rs oo (hv_cq mm s 512 b 256) sh wn := by
  have hF := h.1
  refine ⟨h.1, h.2.1, h.2.2.1, h.2.2.2.1, ?_, ?_, hv_cqw (hv_Mc h) hs, hv_Mi h⟩
  · intro a ha hon
    by_cases q : a < 512
    · have hl : hv_lc rs a < 768 := by
        rcases hv_lcc h.1 (hv_Mr h) a with ⟨e, _⟩ | ⟨_, x, hx, _, _, e⟩ <;> omega
      rw [hv_cqout (by omega), hv_cqout (by omega)]
      exact hv_Mm h a ha hon
    · rw [hv_lcn (fun z => absurd z q), hv_cqin (by omega) (by omega), hv_cqin (by omega) (by omega)]
      exact congrArg s (by omega)
  · intro g hg hz
    obtain ⟨h1, h2⟩ := hv_Mx h g hg hz
    refine ⟨h1, fun a ha => ?_⟩
    rw [hv_cqout (by omega)]
    exact h2 a ha
theorem hv_Mmd2 (h : hv_M F md im ce sd rs oo mm sh wn) (v : Int32) : hv_M F (upd md 2 v) im ce sd rs oo mm sh wn := by
  refine ⟨h.1, h.2.1, h.2.2.1, h.2.2.2.1, ?_, ?_, h.2.2.2.2.2.2⟩
  · intro a ha hon
    refine hv_Mm h a ha fun z => ?_
    have := hon z
    rw [pk_un (by omega)] at this
    exact this
  · intro g hg hz
    rw [pk_un (by omega)] at hz
    exact hv_Mx h g hg hz
/-! powering off: owners, residents, shadow entries of g fall -/
def hv_oi (wn oo : Nat → Int32) (g i : Nat) : Nat → Int32 := fun x => if x < 16 ∧ ¬ wn x = -2 ∧ 16 * g ≤ (wn x).toNatClampNeg ∧ (wn x).toNatClampNeg < 16 * g + i then -1 else oo x
def hv_wi (wn : Nat → Int32) (g i : Nat) : Nat → Int32 := fun x => if x < i ∧ ¬ wn x = -2 ∧ wn x >>> ((4 : Int32) &&& 31) = nI g then -2 else wn x
def hv_n1 : Nat → Int32 := fun _ => -1
def hv_n2 : Nat → Int32 := fun _ => -2
theorem hv_oi0 (g : Nat) : hv_oi wn oo g 0 = oo := funext fun x => if_neg (by omega)
theorem hv_wi0 (g : Nat) : hv_wi wn g 0 = wn := funext fun x => if_neg (by omega)
theorem hv_oin (ho : hv_own F rs oo wn) {g i : Nat} (hgi : 16 * g + i < 32) (e : rs (16 * g + i) = -1) : hv_oi wn oo g (i + 1) = hv_oi wn oo g i := by
  funext x
  unfold hv_oi
  by_cases q : x < 16 ∧ ¬ wn x = -2 ∧ 16 * g ≤ (wn x).toNatClampNeg ∧ (wn x).toNatClampNeg < 16 * g + i
  · rw [if_pos q, if_pos ⟨q.1, q.2.1, q.2.2.1, by have := q.2.2.2; omega⟩]
  · rw [if_neg q, if_neg]
    intro ⟨q1, q2, q3, q4⟩
    rcases ho x q1 with z | ⟨k, hk, _, _, b, c⟩
    · exact q2 z.2
    · have ek : (wn x).toNatClampNeg = k := by rw [b]; exact nI_clamp (by omega)
      have hq : ¬ (wn x).toNatClampNeg < 16 * g + i := fun z => q ⟨q1, q2, q3, z⟩
      have : k = 16 * g + i := by omega
      subst this
      exact hv_nm1 (n := x) (by omega) (c.symm.trans e)
theorem hv_oir (ho : hv_own F rs oo wn) {g i x : Nat} (hgi : 16 * g + i < 32) (hx : x < 16) (e : rs (16 * g + i) = nI x) (ew : wn x = nI (16 * g + i)) : upd (hv_oi wn oo g i) x (-1) = hv_oi wn oo g (i + 1) := by
  funext y
  by_cases ey : y = x
  · subst ey
    rw [pk_us]
    unfold hv_oi
    rw [if_pos]
    rw [ew, nI_clamp (by omega)]
    exact ⟨hx, hv_nm2 (by omega), by omega, by omega⟩
  · rw [pk_un ey]
    unfold hv_oi
    by_cases q : y < 16 ∧ ¬ wn y = -2 ∧ 16 * g ≤ (wn y).toNatClampNeg ∧ (wn y).toNatClampNeg < 16 * g + i
    · rw [if_pos q, if_pos ⟨q.1, q.2.1, q.2.2.1, by have := q.2.2.2; omega⟩]
    · rw [if_neg q, if_neg]
      intro ⟨q1, q2, q3, q4⟩
      rcases ho y q1 with z | ⟨k, hk, _, _, b, c⟩
      · exact q2 z.2
      · have ek : (wn y).toNatClampNeg = k := by rw [b]; exact nI_clamp (by omega)
        have hq : ¬ (wn y).toNatClampNeg < 16 * g + i := fun z => q ⟨q1, q2, q3, z⟩
        have : k = 16 * g + i := by omega
        subst this
        exact ey (hv_inj (by omega) (by omega) (c.symm.trans e))
theorem hv_wik {g i : Nat} (h : ¬ (¬ wn i = -2 ∧ wn i >>> ((4 : Int32) &&& 31) = nI g)) : hv_wi wn g (i + 1) = hv_wi wn g i := by
  funext x
  unfold hv_wi
  by_cases q : x < i ∧ ¬ wn x = -2 ∧ wn x >>> ((4 : Int32) &&& 31) = nI g
  · rw [if_pos q, if_pos ⟨by omega, q.2⟩]
  · rw [if_neg q, if_neg]
    intro ⟨q1, q2⟩
    by_cases e : x = i
    · subst e; exact h q2
    · exact q ⟨by omega, q2⟩
theorem hv_wiu {g i : Nat} (h : ¬ wn i = -2 ∧ wn i >>> ((4 : Int32) &&& 31) = nI g) : upd (hv_wi wn g i) i (-2) = hv_wi wn g (i + 1) := by
  funext x
  by_cases e : x = i
  · subst e
    rw [pk_us]
    exact (if_pos ⟨by omega, h⟩).symm
  · rw [pk_un e]
    unfold hv_wi
    by_cases q : x < i ∧ ¬ wn x = -2 ∧ wn x >>> ((4 : Int32) &&& 31) = nI g
    · rw [if_pos q, if_pos ⟨by omega, q.2⟩]
    · rw [if_neg q, if_neg]
      intro ⟨q1, q2⟩
      exact q ⟨by omega, q2⟩
theorem hv_wiat {g i : Nat} : hv_wi wn g i i = wn i := if_neg (by omega)
/-- what the two loops leave -/
theorem hv_oiw (ho : hv_own F rs oo wn) {g x : Nat} (hg : g < 2) (hx : x < 16) : (wn x = -2 ∧ hv_oi wn oo g 16 x = -1 ∧ hv_wi wn g 16 x = -2) ∨ (∃ k, k < 32 ∧ x < F ∧ wn x = nI k ∧ rs k = nI x ∧ ((k / 16 = g ∧ hv_oi wn oo g 16 x = -1 ∧ hv_wi wn g 16 x = -2) ∨ (¬ k / 16 = g ∧ hv_oi wn oo g 16 x = nI k ∧ hv_wi wn g 16 x = nI k))) := by
  rcases ho x hx with ⟨a, b⟩ | ⟨k, hk, hxF, a, b, c⟩
  · refine Or.inl ⟨b, ?_, ?_⟩
    · unfold hv_oi; rw [if_neg (fun z => z.2.1 b)]; exact a
    · unfold hv_wi; rw [if_neg (fun z => z.2.1 b)]; exact b
  · refine Or.inr ⟨k, hk, hxF, b, c, ?_⟩
    have ek : (wn x).toNatClampNeg = k := by rw [b]; exact nI_clamp (by omega)
    have e4 : wn x >>> ((4 : Int32) &&& 31) = nI (k / 16) := by rw [b]; exact hv_sh4 (by omega)
    have hn : ¬ wn x = -2 := by rw [b]; exact hv_nm2 (by omega)
    by_cases q : k / 16 = g
    · refine Or.inl ⟨q, ?_, ?_⟩
      · unfold hv_oi; rw [if_pos]; exact ⟨hx, hn, by omega, by omega⟩
      · unfold hv_wi; rw [if_pos]; exact ⟨hx, hn, by rw [e4, q]⟩
    · refine Or.inr ⟨q, ?_, ?_⟩
      · unfold hv_oi; rw [if_neg]
        · exact a
        · intro ⟨_, _, z1, z2⟩; omega
      · unfold hv_wi; rw [if_neg]
        · exact b
        · intro ⟨_, _, z⟩
          rw [e4] at z
          exact absurd (hv_inj (by omega) (by omega) z) q
theorem hv_Moff (h : hv_M F md im ce sd rs oo mm sh wn) {g : Nat} (hg : g < 2) :
    hv_M F (upd md g 0) im (hv_cq ce im (256 + 256 * g) (256 * g) 256) (hv_cq sd hv_n1 (16 * g) 0 16) (hv_cq rs hv_n1 (16 * g) 0 16) (hv_oi wn oo g 16) (hv_cq mm hv_z (256 * g) 0 256) (hv_cq sh hv_n2 (16 * g) 0 16) (hv_wi wn g 16) := by
  have hF := h.1
  have rin : ∀ k, k / 16 = g → hv_cq rs hv_n1 (16 * g) 0 16 k = -1 := fun k hk => hv_cqin (by omega) (by omega)
  have rout : ∀ k, ¬ k / 16 = g → hv_cq rs hv_n1 (16 * g) 0 16 k = rs k := fun k hk => hv_cqout (by omega)
  have hk1 : ∀ x k, x < 16 → k < 32 → wn x = nI k → ¬ k / 16 = g → hv_wi wn g 16 x = nI k := fun x k hx hk e hn => by
    rcases hv_oiw (hv_Mo h) hg hx with ⟨z, _⟩ | ⟨k', hk', _, b, _, z⟩
    · exact absurd (e.symm.trans z) (hv_nm2 (by omega))
    · have := hv_inj (by omega) (by omega) (b.symm.trans e)
      subst this
      rcases z with z | z
      · exact absurd z.1 hn
      · exact z.2.2
  refine ⟨hF, ?_, ?_, ?_, ?_, ?_, hv_cqw (hv_Mc h) (fun i hi => hv_Mi h _ (by omega)), hv_Mi h⟩
  · intro x hx
    rcases hv_oiw (hv_Mo h) hg hx with ⟨_, z1, z2⟩ | ⟨k, hk, hxF, b, c, ⟨_, z1, z2⟩ | ⟨hn, z1, z2⟩⟩
    · exact Or.inl ⟨z1, z2⟩
    · exact Or.inl ⟨z1, z2⟩
    · exact Or.inr ⟨k, hk, hxF, z1, z2, by rw [rout k hn]; exact c⟩
  · intro k hk
    by_cases q : k / 16 = g
    · exact Or.inl (rin k q)
    · rw [rout k q]
      rcases hv_Mr h k hk with z | ⟨x, hx, a, b⟩
      · exact Or.inl z
      · exact Or.inr ⟨x, hx, a, hk1 x k (by omega) hk b q⟩
  · intro i hi
    by_cases q : i / 16 = g
    · exact Or.inl ⟨hv_cqin (by omega) (by omega), hv_cqin (by omega) (by omega)⟩
    · rw [hv_cqout (by omega), hv_cqout (by omega)]
      rcases hv_Ms h i hi with z | ⟨s, f, hs, hf, a, b, c⟩
      · exact Or.inl z
      · exact Or.inr ⟨s, f, hs, hf, a, b, hk1 (s % 16) _ (by omega) (by omega) c (by omega)⟩
  · intro a ha hon
    have hne : a < 512 → ¬ a / 256 = g := fun z e => hon z (by rw [e]; exact pk_us)
    have el : hv_lc (hv_cq rs hv_n1 (16 * g) 0 16) a = hv_lc rs a := by
      unfold hv_lc
      by_cases z : a < 512
      · have := hne z
        rw [rout (a / 16) (by omega)]
      · rw [if_neg (fun q => z q.1), if_neg (fun q => z q.1)]
    rw [el, hv_cqout (hv_lcg h hg ha hne), hv_cqout (by
        by_cases z : a < 512
        · have := hne z; omega
        · omega)]
    refine hv_Mm h a ha fun z => ?_
    have := hon z
    rw [pk_un (hne z)] at this
    exact this
  · intro g' hg' hz'
    by_cases e : g' = g
    · subst e
      refine ⟨fun f hf => rin _ (by omega), fun a ha => ?_⟩
      rw [hv_cqin (by omega) (by omega)]
      exact congrArg im (by omega)
    · rw [pk_un e] at hz'
      obtain ⟨h1, h2⟩ := hv_Mx h g' hg' hz'
      refine ⟨fun f hf => by rw [rout _ (by omega)]; exact h1 f hf, fun a ha => ?_⟩
      rw [hv_cqout (by omega)]
      exact h2 a ha
end
/-! a machine's special registers become 0 -/
theorem hv_uw {a sp : Nat → Int32} {j m c : Nat} (hc : c < 16) (h : a j = sp (16 * j + c)) : upd a m 0 j = hv_cq sp hv_z (16 * m) 0 16 (16 * j + c) := by
  by_cases e : j = m
  · subst e; rw [pk_us, hv_cqin (by omega) (by omega)]; rfl
  · rw [pk_un e, hv_cqout (by omega)]; exact h
theorem hv_Sw {sp pt ve ep ca bv ti zs st pc pu pv pe fs be br : Nat → Int32} (h : hv_S sp pt ve ep ca bv ti zs st pc pu pv pe fs be br) (m : Nat) : hv_S (hv_cq sp hv_z (16 * m) 0 16) (upd pt m 0) (upd ve m 0) (upd ep m 0) (upd ca m 0) (upd bv m 0) (upd ti m 0) (upd zs m 0) (upd st m 0) (upd pc m 0) (upd pu m 0) (upd pv m 0) (upd pe m 0) (upd fs m 0) (upd be m 0) (upd br m 0) := fun j hj => ⟨hv_uw (by decide) (hv_S0 h hj), hv_uw (by decide) (hv_S1 h hj), hv_uw (by decide) (hv_S2 h hj), hv_uw (by decide) (hv_S3 h hj), hv_uw (by decide) (hv_S4 h hj), hv_uw (by decide) (hv_S5 h hj), hv_uw (by decide) (hv_S6 h hj), hv_uw (by decide) (hv_S7 h hj), hv_uw (by decide) (hv_S8 h hj), hv_uw (by decide) (hv_S9 h hj), hv_uw (by decide) (hv_S10 h hj), hv_uw (by decide) (hv_S11 h hj), hv_uw (by decide) (hv_S12 h hj), hv_uw (by decide) (hv_S13 h hj), hv_uw (by decide) (hv_S14 h hj)⟩
theorem hv_Bw {sp : Nat → Int32} (h : hv_B sp) (m : Nat) : hv_B (hv_cq sp hv_z (16 * m) 0 16) := by
  intro i hi
  by_cases q : 16 * m ≤ i ∧ i < 16 * m + 16
  · rw [hv_cqin q.1 q.2]; exact hv_k0 (by unfold hv_bd; split <;> decide)
  · rw [hv_cqout (by omega)]; exact h i hi
theorem hv_Zw {md sp : Nat → Int32} (h : hv_Z md sp) (m : Nat) : hv_Z (upd md m 0) (hv_cq sp hv_z (16 * m) 0 16) := by
  intro g hg hz
  by_cases e : g = m
  · subst e; exact hv_cqin (by omega) (by omega)
  · rw [pk_un e] at hz
    rw [hv_cqout (by omega)]; exact h g hg hz
theorem hv_ww {rg : Nat → Int32} (h : hv_w 12 rg) (d n : Nat) : hv_w 12 (hv_cq rg hv_z d 0 n) := hv_cqw h (fun _ _ => hv_k0 (by decide))
end
section
/-! clear, wipe, start, the backing store -/
section
variable {fr qn pr hd cu le ba ex : Int32} {md rg pc pt ve ep ca bv ti zs st pu pv pe fs be br sc rc ou qh ow ce im sd rs oo ct : Nat → Int32} {sp mm sh wn : Nat → Int32}
variable {F m g : Nat}
theorem hv_e256 (i : Nat) : (256 + nI g * 256) + nI i = nI (256 + 256 * g + i) := by rw [hv_i256z, hv_p256, nI_add]
theorem hx_rb2 (hg : g < 2) (post : SX → Prop) (h : post (fr, qn, pr, hd, cu, le, ba, ex, md, rg, pc, pt, ve, ep, ca, bv, ti, zs, st, pu, pv, pe, fs, be, br, sc, rc, ou, qh, ow, (hv_cq ce im (256 + 256 * g) (256 * g) 256), im, sd, rs, oo, ct)) : ∃ n, wX_resetBacking_2 post (nI g) fr qn pr hd cu le ba ex n 0 md rg pc pt ve ep ca bv ti zs st pu pv pe fs be br sc rc ou qh ow ce im sd rs oo ct := by
  have hx1 : ∀ n, wX_resetBacking_2 post (nI g) fr qn pr hd cu le ba ex (n + 1) (nI 256) md rg pc pt ve ep ca bv ti zs st pu pv pe fs be br sc rc ou qh ow (hv_cq ce im (256 + 256 * g) (256 * g) 256) im sd rs oo ct := by
    intro n
    refine br_t (nI_le (a := 256) (Nat.le_refl _) (by decide)) ?_
    exact h
  have hs1 : ∀ n i, i < 256 → wX_resetBacking_2 post (nI g) fr qn pr hd cu le ba ex n (nI (i + 1)) md rg pc pt ve ep ca bv ti zs st pu pv pe fs be br sc rc ou qh ow (hv_cq ce im (256 + 256 * g) (256 * g) (i + 1)) im sd rs oo ct → wX_resetBacking_2 post (nI g) fr qn pr hd cu le ba ex (n + 1) (nI i) md rg pc pt ve ep ca bv ti zs st pu pv pe fs be br sc rc ou qh ow (hv_cq ce im (256 + 256 * g) (256 * g) i) im sd rs oo ct := by
    intro n i hi hw
    refine br_f (nI_ge (b := 256) hi (by decide)) ?_
    rw [hv_i256 g i, hv_e256 i, nI_clamp (n := 256 * g + i) (by omega), nI_clamp (n := 256 + 256 * g + i) (by omega)]
    exact ⟨vp_in_nI (by omega) (by decide), vp_in_nI (by omega) (by decide), nm_r (hv_cqs ce im (256 + 256 * g) (256 * g) i) (nm_r (nI_1 i) hw)⟩
  have z := hv_loop (fun n i c => wX_resetBacking_2 post (nI g) fr qn pr hd cu le ba ex n i md rg pc pt ve ep ca bv ti zs st pu pv pe fs be br sc rc ou qh ow c im sd rs oo ct) 256 (fun i => hv_cq ce im (256 + 256 * g) (256 * g) i) hx1 hs1
  simp only [hv_cq0] at z
  exact z
theorem hx_rb (hg : g < 2) (post : SX → Prop) (h : post (fr, qn, pr, hd, cu, le, ba, ex, md, rg, pc, pt, ve, ep, ca, bv, ti, zs, st, pu, pv, pe, fs, be, br, sc, rc, ou, qh, ow, (hv_cq ce im (256 + 256 * g) (256 * g) 256), im, sd, rs, oo, ct)) : wpX_resetBacking post (fr, qn, pr, hd, cu, le, ba, ex, md, rg, pc, pt, ve, ep, ca, bv, ti, zs, st, pu, pv, pe, fs, be, br, sc, rc, ou, qh, ow, ce, im, sd, rs, oo, ct) (nI g) := hx_rb2 hg post h
theorem hx_cl166 (hm : m < 3) (post : SX → Prop) (h : post (fr, qn, pr, hd, cu, le, ba, ex, md, rg, pc, pt, ve, ep, ca, bv, ti, zs, st, pu, pv, pe, fs, be, br, sc, rc, ou, qh, (hv_cq ow hv_z (32 * m) 0 32), ce, im, sd, rs, oo, ct)) : ∃ n, wX_clearMachine_166 post (nI m) fr qn pr hd cu le ba ex n 0 md rg pc pt ve ep ca bv ti zs st pu pv pe fs be br sc rc ou qh ow ce im sd rs oo ct := by
  have hx1 : ∀ n, wX_clearMachine_166 post (nI m) fr qn pr hd cu le ba ex (n + 1) (nI 32) md rg pc pt ve ep ca bv ti zs st pu pv pe fs be br sc rc ou qh (hv_cq ow hv_z (32 * m) 0 32) ce im sd rs oo ct := by
    intro n
    refine br_t (nI_le (a := 32) (Nat.le_refl _) (by decide)) ?_
    exact h
  have hs1 : ∀ n i, i < 32 → wX_clearMachine_166 post (nI m) fr qn pr hd cu le ba ex n (nI (i + 1)) md rg pc pt ve ep ca bv ti zs st pu pv pe fs be br sc rc ou qh (hv_cq ow hv_z (32 * m) 0 (i + 1)) ce im sd rs oo ct → wX_clearMachine_166 post (nI m) fr qn pr hd cu le ba ex (n + 1) (nI i) md rg pc pt ve ep ca bv ti zs st pu pv pe fs be br sc rc ou qh (hv_cq ow hv_z (32 * m) 0 i) ce im sd rs oo ct := by
    intro n i hi hw
    refine br_f (nI_ge (b := 32) hi (by decide)) ?_
    rw [hv_i32 m i, nI_clamp (n := 32 * m + i) (by omega)]
    exact ⟨vp_in_nI (by omega) (by decide), nm_r (hv_cqs ow hv_z (32 * m) 0 i) (nm_r (nI_1 i) hw)⟩
  have z := hv_loop (fun n i c => wX_clearMachine_166 post (nI m) fr qn pr hd cu le ba ex n i md rg pc pt ve ep ca bv ti zs st pu pv pe fs be br sc rc ou qh c ce im sd rs oo ct) 32 (fun i => hv_cq ow hv_z (32 * m) 0 i) hx1 hs1
  simp only [hv_cq0] at z
  exact z
theorem hx_cl9 (hm : m < 3) (post : SX → Prop) (h : post (fr, qn, pr, hd, cu, le, ba, ex, md, (hv_cq rg hv_z (4 * m) 0 4), (upd pc m 0), (upd pt m 0), (upd ve m 0), (upd ep m 0), (upd ca m 0), (upd bv m 0), (upd ti m 0), (upd zs m 0), (upd st m 0), (upd pu m 0), (upd pv m 0), (upd pe m 0), (upd fs m 0), (upd be m 0), (upd br m 0), (upd sc m 0), (upd rc m 0), (upd ou m 0), (upd qh m 0), (hv_cq ow hv_z (32 * m) 0 32), ce, im, sd, rs, oo, ct)) : ∃ n, wX_clearMachine_9 post (nI m) fr qn pr hd cu le ba ex n 0 md rg pc pt ve ep ca bv ti zs st pu pv pe fs be br sc rc ou qh ow ce im sd rs oo ct := by
  have hx1 : ∀ n, wX_clearMachine_9 post (nI m) fr qn pr hd cu le ba ex (n + 1) (nI 4) md (hv_cq rg hv_z (4 * m) 0 4) pc pt ve ep ca bv ti zs st pu pv pe fs be br sc rc ou qh ow ce im sd rs oo ct := by
    intro n
    refine br_t (nI_le (a := 4) (Nat.le_refl _) (by decide)) ?_
    rw [hv_im hm]
    exact ⟨hv_iv hm, nm_e (⟨hv_iv hm, nm_e (⟨hv_iv hm, nm_e (⟨hv_iv hm, nm_e (⟨hv_iv hm, nm_e (⟨hv_iv hm, nm_e (⟨hv_iv hm, nm_e (⟨hv_iv hm, nm_e (⟨hv_iv hm, nm_e (⟨hv_iv hm, nm_e (⟨hv_iv hm, nm_e (⟨hv_iv hm, nm_e (⟨hv_iv hm, nm_e (⟨hv_iv hm, nm_e (⟨hv_iv hm, nm_e (⟨hv_iv hm, nm_e (⟨hv_iv hm, nm_e (⟨hv_iv hm, nm_e (⟨hv_iv hm, nm_e (hx_cl166 hm post h)⟩)⟩)⟩)⟩)⟩)⟩)⟩)⟩)⟩)⟩)⟩)⟩)⟩)⟩)⟩)⟩)⟩)⟩)⟩
  have hs1 : ∀ n i, i < 4 → wX_clearMachine_9 post (nI m) fr qn pr hd cu le ba ex n (nI (i + 1)) md (hv_cq rg hv_z (4 * m) 0 (i + 1)) pc pt ve ep ca bv ti zs st pu pv pe fs be br sc rc ou qh ow ce im sd rs oo ct → wX_clearMachine_9 post (nI m) fr qn pr hd cu le ba ex (n + 1) (nI i) md (hv_cq rg hv_z (4 * m) 0 i) pc pt ve ep ca bv ti zs st pu pv pe fs be br sc rc ou qh ow ce im sd rs oo ct := by
    intro n i hi hw
    refine br_f (nI_ge (b := 4) hi (by decide)) ?_
    rw [hv_i4 m i, nI_clamp (n := 4 * m + i) (by omega)]
    exact ⟨vp_in_nI (by omega) (by decide), nm_r (hv_cqs rg hv_z (4 * m) 0 i) (nm_r (nI_1 i) hw)⟩
  have z := hv_loop (fun n i c => wX_clearMachine_9 post (nI m) fr qn pr hd cu le ba ex n i md c pc pt ve ep ca bv ti zs st pu pv pe fs be br sc rc ou qh ow ce im sd rs oo ct) 4 (fun i => hv_cq rg hv_z (4 * m) 0 i) hx1 hs1
  simp only [hv_cq0] at z
  exact z
theorem hx_clr (hm : m < 3) (post : SX → Prop) (h : post (fr, qn, pr, hd, cu, le, ba, ex, (upd md m 0), (hv_cq rg hv_z (4 * m) 0 4), (upd pc m 0), (upd pt m 0), (upd ve m 0), (upd ep m 0), (upd ca m 0), (upd bv m 0), (upd ti m 0), (upd zs m 0), (upd st m 0), (upd pu m 0), (upd pv m 0), (upd pe m 0), (upd fs m 0), (upd be m 0), (upd br m 0), (upd sc m 0), (upd rc m 0), (upd ou m 0), (upd qh m 0), (hv_cq ow hv_z (32 * m) 0 32), ce, im, sd, rs, oo, ct)) : wpX_clearMachine post (fr, qn, pr, hd, cu, le, ba, ex, md, rg, pc, pt, ve, ep, ca, bv, ti, zs, st, pu, pv, pe, fs, be, br, sc, rc, ou, qh, ow, ce, im, sd, rs, oo, ct) (nI m) := by
  unfold wpX_clearMachine
  try dsimp only
  rw [hv_im hm]
  exact ⟨hv_iv hm, nm_e (hx_cl9 hm post h)⟩
theorem hx_start {e r : Int32} (hm : m < 3) (post : SX → Prop) (h : post (fr, qn, pr, hd, cu, le, ba, ex, (upd (upd md m 0) m 1), (upd (hv_cq rg hv_z (4 * m) 0 4) (4 * m) r), (upd (upd pc m 0) m e), (upd pt m 0), (upd ve m 0), (upd ep m 0), (upd ca m 0), (upd bv m 0), (upd ti m 0), (upd zs m 0), (upd st m 0), (upd pu m 0), (upd pv m 0), (upd pe m 0), (upd fs m 0), (upd (upd be m 0) m e), (upd (upd br m 0) m r), (upd sc m 0), (upd rc m 0), (upd ou m 0), (upd qh m 0), (hv_cq ow hv_z (32 * m) 0 32), ce, im, sd, rs, oo, ct)) : wpX_startMachine post (fr, qn, pr, hd, cu, le, ba, ex, md, rg, pc, pt, ve, ep, ca, bv, ti, zs, st, pu, pv, pe, fs, be, br, sc, rc, ou, qh, ow, ce, im, sd, rs, oo, ct) (nI m) e r := by
  unfold wpX_startMachine
  refine hx_clr hm _ ?_
  try dsimp only
  rw [hv_im hm, hv_i4z m, nI_clamp (n := 4 * m) (by omega)]
  exact ⟨hv_iv hm, nm_e ⟨vp_in_nI (by omega) (by decide), nm_e ⟨hv_iv hm, nm_e ⟨hv_iv hm, nm_e ⟨hv_iv hm, nm_e h⟩⟩⟩⟩⟩
theorem hy_w87 (hm : m < 3) (post : SY → Prop) (h : post (fr, qn, pr, hd, cu, le, ba, md, rg, sp, mm, (upd sc m 0), (upd rc m 0), (upd ou m 0), (upd qh m 0), (hv_cq ow hv_z (32 * m) 0 32), im, sh, ct, wn)) : ∃ n, wY_wipe_87 post (nI m) fr qn pr hd cu le ba n 0 md rg sp mm sc rc ou qh ow im sh ct wn := by
  have hx1 : ∀ n, wY_wipe_87 post (nI m) fr qn pr hd cu le ba (n + 1) (nI 32) md rg sp mm sc rc ou qh (hv_cq ow hv_z (32 * m) 0 32) im sh ct wn := by
    intro n
    refine br_t (nI_le (a := 32) (Nat.le_refl _) (by decide)) ?_
    rw [hv_im hm]
    exact ⟨hv_iv hm, nm_e (⟨hv_iv hm, nm_e (⟨hv_iv hm, nm_e (⟨hv_iv hm, nm_e (h)⟩)⟩)⟩)⟩
  have hs1 : ∀ n i, i < 32 → wY_wipe_87 post (nI m) fr qn pr hd cu le ba n (nI (i + 1)) md rg sp mm sc rc ou qh (hv_cq ow hv_z (32 * m) 0 (i + 1)) im sh ct wn → wY_wipe_87 post (nI m) fr qn pr hd cu le ba (n + 1) (nI i) md rg sp mm sc rc ou qh (hv_cq ow hv_z (32 * m) 0 i) im sh ct wn := by
    intro n i hi hw
    refine br_f (nI_ge (b := 32) hi (by decide)) ?_
    rw [hv_i32 m i, nI_clamp (n := 32 * m + i) (by omega)]
    exact ⟨vp_in_nI (by omega) (by decide), nm_r (hv_cqs ow hv_z (32 * m) 0 i) (nm_r (nI_1 i) hw)⟩
  have z := hv_loop (fun n i c => wY_wipe_87 post (nI m) fr qn pr hd cu le ba n i md rg sp mm sc rc ou qh c im sh ct wn) 32 (fun i => hv_cq ow hv_z (32 * m) 0 i) hx1 hs1
  simp only [hv_cq0] at z
  exact z
theorem hy_w59 (hm : m < 3) (post : SY → Prop) (h : post (fr, qn, pr, hd, cu, le, ba, md, rg, sp, (hv_cq mm hv_z (256 * m) 0 256), (upd sc m 0), (upd rc m 0), (upd ou m 0), (upd qh m 0), (hv_cq ow hv_z (32 * m) 0 32), im, sh, ct, wn)) : ∃ n, wY_wipe_59 post (nI m) fr qn pr hd cu le ba n 0 md rg sp mm sc rc ou qh ow im sh ct wn := by
  have hx1 : ∀ n, wY_wipe_59 post (nI m) fr qn pr hd cu le ba (n + 1) (nI 256) md rg sp (hv_cq mm hv_z (256 * m) 0 256) sc rc ou qh ow im sh ct wn := by
    intro n
    refine br_t (nI_le (a := 256) (Nat.le_refl _) (by decide)) ?_
    exact hy_w87 hm post h
  have hs1 : ∀ n i, i < 256 → wY_wipe_59 post (nI m) fr qn pr hd cu le ba n (nI (i + 1)) md rg sp (hv_cq mm hv_z (256 * m) 0 (i + 1)) sc rc ou qh ow im sh ct wn → wY_wipe_59 post (nI m) fr qn pr hd cu le ba (n + 1) (nI i) md rg sp (hv_cq mm hv_z (256 * m) 0 i) sc rc ou qh ow im sh ct wn := by
    intro n i hi hw
    refine br_f (nI_ge (b := 256) hi (by decide)) ?_
    rw [hv_i256 m i, nI_clamp (n := 256 * m + i) (by omega)]
    exact ⟨vp_in_nI (by omega) (by decide), nm_r (hv_cqs mm hv_z (256 * m) 0 i) (nm_r (nI_1 i) hw)⟩
  have z := hv_loop (fun n i c => wY_wipe_59 post (nI m) fr qn pr hd cu le ba n i md rg sp c sc rc ou qh ow im sh ct wn) 256 (fun i => hv_cq mm hv_z (256 * m) 0 i) hx1 hs1
  simp only [hv_cq0] at z
  exact z
theorem hy_w33 (hm : m < 3) (post : SY → Prop) (h : post (fr, qn, pr, hd, cu, le, ba, md, rg, (hv_cq sp hv_z (16 * m) 0 16), (hv_cq mm hv_z (256 * m) 0 256), (upd sc m 0), (upd rc m 0), (upd ou m 0), (upd qh m 0), (hv_cq ow hv_z (32 * m) 0 32), im, sh, ct, wn)) : ∃ n, wY_wipe_33 post (nI m) fr qn pr hd cu le ba n 0 md rg sp mm sc rc ou qh ow im sh ct wn := by
  have hx1 : ∀ n, wY_wipe_33 post (nI m) fr qn pr hd cu le ba (n + 1) (nI 16) md rg (hv_cq sp hv_z (16 * m) 0 16) mm sc rc ou qh ow im sh ct wn := by
    intro n
    refine br_t (nI_le (a := 16) (Nat.le_refl _) (by decide)) ?_
    exact hy_w59 hm post h
  have hs1 : ∀ n i, i < 16 → wY_wipe_33 post (nI m) fr qn pr hd cu le ba n (nI (i + 1)) md rg (hv_cq sp hv_z (16 * m) 0 (i + 1)) mm sc rc ou qh ow im sh ct wn → wY_wipe_33 post (nI m) fr qn pr hd cu le ba (n + 1) (nI i) md rg (hv_cq sp hv_z (16 * m) 0 i) mm sc rc ou qh ow im sh ct wn := by
    intro n i hi hw
    refine br_f (nI_ge (b := 16) hi (by decide)) ?_
    rw [hv_i16 m i, nI_clamp (n := 16 * m + i) (by omega)]
    exact ⟨vp_in_nI (by omega) (by decide), nm_r (hv_cqs sp hv_z (16 * m) 0 i) (nm_r (nI_1 i) hw)⟩
  have z := hv_loop (fun n i c => wY_wipe_33 post (nI m) fr qn pr hd cu le ba n i md rg c mm sc rc ou qh ow im sh ct wn) 16 (fun i => hv_cq sp hv_z (16 * m) 0 i) hx1 hs1
  simp only [hv_cq0] at z
  exact z
theorem hy_w9 (hm : m < 3) (post : SY → Prop) (h : post (fr, qn, pr, hd, cu, le, ba, md, (hv_cq rg hv_z (4 * m) 0 4), (hv_cq sp hv_z (16 * m) 0 16), (hv_cq mm hv_z (256 * m) 0 256), (upd sc m 0), (upd rc m 0), (upd ou m 0), (upd qh m 0), (hv_cq ow hv_z (32 * m) 0 32), im, sh, ct, wn)) : ∃ n, wY_wipe_9 post (nI m) fr qn pr hd cu le ba n 0 md rg sp mm sc rc ou qh ow im sh ct wn := by
  have hx1 : ∀ n, wY_wipe_9 post (nI m) fr qn pr hd cu le ba (n + 1) (nI 4) md (hv_cq rg hv_z (4 * m) 0 4) sp mm sc rc ou qh ow im sh ct wn := by
    intro n
    refine br_t (nI_le (a := 4) (Nat.le_refl _) (by decide)) ?_
    exact hy_w33 hm post h
  have hs1 : ∀ n i, i < 4 → wY_wipe_9 post (nI m) fr qn pr hd cu le ba n (nI (i + 1)) md (hv_cq rg hv_z (4 * m) 0 (i + 1)) sp mm sc rc ou qh ow im sh ct wn → wY_wipe_9 post (nI m) fr qn pr hd cu le ba (n + 1) (nI i) md (hv_cq rg hv_z (4 * m) 0 i) sp mm sc rc ou qh ow im sh ct wn := by
    intro n i hi hw
    refine br_f (nI_ge (b := 4) hi (by decide)) ?_
    rw [hv_i4 m i, nI_clamp (n := 4 * m + i) (by omega)]
    exact ⟨vp_in_nI (by omega) (by decide), nm_r (hv_cqs rg hv_z (4 * m) 0 i) (nm_r (nI_1 i) hw)⟩
  have z := hv_loop (fun n i c => wY_wipe_9 post (nI m) fr qn pr hd cu le ba n i md c sp mm sc rc ou qh ow im sh ct wn) 4 (fun i => hv_cq rg hv_z (4 * m) 0 i) hx1 hs1
  simp only [hv_cq0] at z
  exact z
theorem hy_wipe (hm : m < 3) (post : SY → Prop) (h : post (fr, qn, pr, hd, cu, le, ba, (upd md m 0), (hv_cq rg hv_z (4 * m) 0 4), (hv_cq sp hv_z (16 * m) 0 16), (hv_cq mm hv_z (256 * m) 0 256), (upd sc m 0), (upd rc m 0), (upd ou m 0), (upd qh m 0), (hv_cq ow hv_z (32 * m) 0 32), im, sh, ct, wn)) : wpY_wipe post (fr, qn, pr, hd, cu, le, ba, md, rg, sp, mm, sc, rc, ou, qh, ow, im, sh, ct, wn) (nI m) := by
  unfold wpY_wipe
  try dsimp only
  rw [hv_im hm]
  exact ⟨hv_iv hm, nm_e (hy_w9 hm post h)⟩
theorem hy_st8 {e r : Int32} (hm : m < 3) (hg : g < 2) (post : SY → Prop) (h : post (fr, qn, pr, hd, cu, le, ba, (upd md m 1), (upd rg (4 * m) r), (upd (upd (upd sp (16 * m + 8) (e)) (16 * m + 13) (e)) (16 * m + 14) (r)), (hv_cq mm im (256 * m) (256 * g) 256), sc, rc, ou, qh, ow, im, sh, ct, wn)) : ∃ n, wY_start_8 post (nI m) (nI g) e r fr qn pr hd cu le ba n 0 md rg sp mm sc rc ou qh ow im sh ct wn := by
  have hx1 : ∀ n, wY_start_8 post (nI m) (nI g) e r fr qn pr hd cu le ba (n + 1) (nI 256) md rg sp (hv_cq mm im (256 * m) (256 * g) 256) sc rc ou qh ow im sh ct wn := by
    intro n
    refine br_t (nI_le (a := 256) (Nat.le_refl _) (by decide)) ?_
    rw [hv_ic8 hm, hv_ic13 hm, hv_ic14 hm, hv_i4z m, nI_clamp (n := 4 * m) (by omega), hv_im hm]
    exact ⟨hv_iw8 hm, nm_e ⟨hv_iw13 hm, nm_e ⟨hv_iw14 hm, nm_e ⟨vp_in_nI (by omega) (by decide), nm_e ⟨hv_iv hm, nm_e h⟩⟩⟩⟩⟩
  have hs1 : ∀ n i, i < 256 → wY_start_8 post (nI m) (nI g) e r fr qn pr hd cu le ba n (nI (i + 1)) md rg sp (hv_cq mm im (256 * m) (256 * g) (i + 1)) sc rc ou qh ow im sh ct wn → wY_start_8 post (nI m) (nI g) e r fr qn pr hd cu le ba (n + 1) (nI i) md rg sp (hv_cq mm im (256 * m) (256 * g) i) sc rc ou qh ow im sh ct wn := by
    intro n i hi hw
    refine br_f (nI_ge (b := 256) hi (by decide)) ?_
    rw [hv_i256 g i, hv_i256 m i, nI_clamp (n := 256 * g + i) (by omega), nI_clamp (n := 256 * m + i) (by omega)]
    exact ⟨vp_in_nI (by omega) (by decide), vp_in_nI (by omega) (by decide), nm_r (hv_cqs mm im (256 * m) (256 * g) i) (nm_r (nI_1 i) hw)⟩
  have z := hv_loop (fun n i c => wY_start_8 post (nI m) (nI g) e r fr qn pr hd cu le ba n i md rg sp c sc rc ou qh ow im sh ct wn) 256 (fun i => hv_cq mm im (256 * m) (256 * g) i) hx1 hs1
  simp only [hv_cq0] at z
  exact z
theorem hy_start {e r : Int32} (hm : m < 3) (hg : g < 2) (post : SY → Prop) (h : post (fr, qn, pr, hd, cu, le, ba, (upd (upd md m 0) m 1), (upd (hv_cq rg hv_z (4 * m) 0 4) (4 * m) r), (upd (upd (upd (hv_cq sp hv_z (16 * m) 0 16) (16 * m + 8) e) (16 * m + 13) e) (16 * m + 14) r), (hv_cq (hv_cq mm hv_z (256 * m) 0 256) im (256 * m) (256 * g) 256), (upd sc m 0), (upd rc m 0), (upd ou m 0), (upd qh m 0), (hv_cq ow hv_z (32 * m) 0 32), im, sh, ct, wn)) : wpY_start post (fr, qn, pr, hd, cu, le, ba, md, rg, sp, mm, sc, rc, ou, qh, ow, im, sh, ct, wn) (nI m) (nI g) e r := by
  unfold wpY_start
  refine hy_wipe hm _ ?_
  exact hy_st8 hm hg post h
end
end
section
/-! load, copyImage, boot, bootBare -/
theorem hv_rng (v : Int32) (b : Nat) (hb : b < 2 ^ 30) : (∃ j, j ≤ b ∧ v = nI j) ∨ v < 0 ∨ (¬ v < 0 ∧ nI b < v ∧ ¬ v ≤ nI b) := by
  by_cases h : v < 0
  · exact Or.inr (Or.inl h)
  · obtain ⟨j, hj, rfl⟩ := nI_of h
    by_cases q : j ≤ b
    · exact Or.inl ⟨j, q, rfl⟩
    · exact Or.inr (Or.inr ⟨h, nI_lt (by omega) hj, nI_ge (by omega) hj⟩)
theorem hv_g01 (v : Int32) : (∃ g, g < 2 ∧ v = nI g) ∨ (¬ v = 0 ∧ ¬ v = 1 ∧ (v < 0 ∨ nI 1 < v)) := by
  rcases hv_rng v 1 (by decide) with ⟨j, hj, e⟩ | h | ⟨h1, h2, h3⟩
  · exact Or.inl ⟨j, by omega, e⟩
  · exact Or.inr ⟨fun z => by rw [z] at h; exact absurd h (by decide), fun z => by rw [z] at h; exact absurd h (by decide), Or.inl h⟩
  · exact Or.inr ⟨fun z => by rw [z] at h3; exact absurd (by decide) h3, fun z => by rw [z] at h3; exact absurd (by decide) h3, Or.inr h2⟩
theorem hv_k64 (y : Int64) : hv_k 65536 ((y &&& 65535).toInt32) := by
  have hlt : (y &&& 65535).toBitVec.toNat < 65536 := by
    rw [Int64.toBitVec_and, BitVec.toNat_and]; exact Nat.lt_of_le_of_lt Nat.and_le_right (by decide)
  obtain ⟨n, hn, en⟩ : ∃ n, n < 65536 ∧ y &&& 65535 = lN n := ⟨_, hlt, Int64.toBitVec_inj.mp (by show _ = BitVec.ofNat 64 _; simp)⟩
  rw [en, lN_i]
  exact hv_kn hn
section
variable {fr qn pr hd cu le ba ex : Int32} {md rg pc pt ve ep ca bv ti zs st pu pv pe fs be br sc rc ou qh ow ce im sd rs oo ct : Nat → Int32} {sp mm sh wn : Nat → Int32}
variable {F m g : Nat}
theorem hx_ig1 (hg : g < 2) (post : Int32 → Prop) (h : post 1) : wpX_isGuest post (fr, qn, pr, hd, cu, le, ba, ex, md, rg, pc, pt, ve, ep, ca, bv, ti, zs, st, pu, pv, pe, fs, be, br, sc, rc, ou, qh, ow, ce, im, sd, rs, oo, ct) (nI g) := by
  obtain rfl | rfl : g = 0 ∨ g = 1 := by omega
  · exact br_t rfl h
  · exact br_f (by decide) (br_t rfl h)
theorem hx_ig0 {v : Int32} (h0 : ¬ v = 0) (h1 : ¬ v = 1) (post : Int32 → Prop) (h : post 0) : wpX_isGuest post (fr, qn, pr, hd, cu, le, ba, ex, md, rg, pc, pt, ve, ep, ca, bv, ti, zs, st, pu, pv, pe, fs, be, br, sc, rc, ou, qh, ow, ce, im, sd, rs, oo, ct) v := br_f h0 (br_f h1 h)
theorem hx_im1 (hm : m < 3) (post : Int32 → Prop) (h : post 1) : wpX_isMachine post (fr, qn, pr, hd, cu, le, ba, ex, md, rg, pc, pt, ve, ep, ca, bv, ti, zs, st, pu, pv, pe, fs, be, br, sc, rc, ou, qh, ow, ce, im, sd, rs, oo, ct) (nI m) := br_f (nI_pos (by omega)) (br_f (nI_nlt (a := 2) (by omega) (by decide)) h)
theorem hx_im0 {v : Int32} (hv : v < 0 ∨ nI 2 < v) (post : Int32 → Prop) (h : post 0) : wpX_isMachine post (fr, qn, pr, hd, cu, le, ba, ex, md, rg, pc, pt, ve, ep, ca, bv, ti, zs, st, pu, pv, pe, fs, be, br, sc, rc, ou, qh, ow, ce, im, sd, rs, oo, ct) v := by
  by_cases q : v < 0
  · exact br_t q h
  · exact br_f q (br_t (hv.resolve_left q) h)
theorem hy_in0 {v : Int32} (b : Nat) (hv : v < 0 ∨ nI b < v) (post : Int32 → Prop) (h : post 0) : wpY_in post (fr, qn, pr, hd, cu, le, ba, md, rg, sp, mm, sc, rc, ou, qh, ow, im, sh, ct, wn) v (nI b) := by
  by_cases q : v < 0
  · exact br_t q h
  · exact br_f q (br_t (hv.resolve_left q) h)
/-! the images' loops -/
def hv_ldv (x : Int64) (j : Nat) : Int32 := (((x.toUInt64 >>> ((48 - (16 * nI j)).toInt64.toUInt64 &&& Int64.toUInt64 63)).toInt64) &&& 65535).toInt32
theorem hx_ld35 {ad : Nat} {x : Int64} (hg : g < 2) (had : ad ≤ 252) (post : Int32 → SX → Prop) (h : post (nI ad + 4) (fr, qn, pr, hd, cu, le, ba, ex, md, rg, pc, pt, ve, ep, ca, bv, ti, zs, st, pu, pv, pe, fs, be, br, sc, rc, ou, qh, ow, (hv_cq ce (hv_cq im (hv_ldv x) (256 * g + ad) 0 4) (256 + 256 * g) (256 * g) 256), (hv_cq im (hv_ldv x) (256 * g + ad) 0 4), sd, rs, oo, ct)) : ∃ n, wX_load_35 post (nI g) (nI ad) x fr qn pr hd cu le ba ex n 0 md rg pc pt ve ep ca bv ti zs st pu pv pe fs be br sc rc ou qh ow ce im sd rs oo ct := by
  have hx1 : ∀ n, wX_load_35 post (nI g) (nI ad) x fr qn pr hd cu le ba ex (n + 1) (nI 4) md rg pc pt ve ep ca bv ti zs st pu pv pe fs be br sc rc ou qh ow ce (hv_cq im (hv_ldv x) (256 * g + ad) 0 4) sd rs oo ct := by
    intro n
    refine br_t (nI_le (a := 4) (Nat.le_refl _) (by decide)) ?_
    exact hx_rb hg _ h
  have hs1 : ∀ n i, i < 4 → wX_load_35 post (nI g) (nI ad) x fr qn pr hd cu le ba ex n (nI (i + 1)) md rg pc pt ve ep ca bv ti zs st pu pv pe fs be br sc rc ou qh ow ce (hv_cq im (hv_ldv x) (256 * g + ad) 0 (i + 1)) sd rs oo ct → wX_load_35 post (nI g) (nI ad) x fr qn pr hd cu le ba ex (n + 1) (nI i) md rg pc pt ve ep ca bv ti zs st pu pv pe fs be br sc rc ou qh ow ce (hv_cq im (hv_ldv x) (256 * g + ad) 0 i) sd rs oo ct := by
    intro n i hi hw
    refine br_f (nI_ge (b := 4) hi (by decide)) ?_
    have e3 : ((nI g * 256) + nI ad) + nI i = nI (256 * g + ad + i) := by rw [hv_i256, nI_add]
    rw [e3, nI_clamp (n := 256 * g + ad + i) (by omega)]
    have es := hv_cqs im (hv_ldv x) (256 * g + ad) 0 i
    rw [Nat.zero_add] at es
    exact ⟨vp_in_nI (by omega) (by decide), nm_r es (nm_r (nI_1 i) hw)⟩
  have z := hv_loop (fun n i c => wX_load_35 post (nI g) (nI ad) x fr qn pr hd cu le ba ex n i md rg pc pt ve ep ca bv ti zs st pu pv pe fs be br sc rc ou qh ow ce c sd rs oo ct) 4 (fun i => hv_cq im (hv_ldv x) (256 * g + ad) 0 i) hx1 hs1
  simp only [hv_cq0] at z
  exact z
theorem hy_ld36 {ad : Nat} {x : Int64} (hg : g < 2) (had : ad ≤ 252) (post : Int32 → SY → Prop) (h : post (nI ad + 4) (fr, qn, pr, hd, cu, le, ba, md, rg, sp, mm, sc, rc, ou, qh, ow, (hv_cq im (hv_ldv x) (256 * g + ad) 0 4), sh, ct, wn)) : ∃ n, wY_load_36 post (nI g) (nI ad) x fr qn pr hd cu le ba n 0 md rg sp mm sc rc ou qh ow im sh ct wn := by
  have hx1 : ∀ n, wY_load_36 post (nI g) (nI ad) x fr qn pr hd cu le ba (n + 1) (nI 4) md rg sp mm sc rc ou qh ow (hv_cq im (hv_ldv x) (256 * g + ad) 0 4) sh ct wn := by
    intro n
    refine br_t (nI_le (a := 4) (Nat.le_refl _) (by decide)) ?_
    exact h
  have hs1 : ∀ n i, i < 4 → wY_load_36 post (nI g) (nI ad) x fr qn pr hd cu le ba n (nI (i + 1)) md rg sp mm sc rc ou qh ow (hv_cq im (hv_ldv x) (256 * g + ad) 0 (i + 1)) sh ct wn → wY_load_36 post (nI g) (nI ad) x fr qn pr hd cu le ba (n + 1) (nI i) md rg sp mm sc rc ou qh ow (hv_cq im (hv_ldv x) (256 * g + ad) 0 i) sh ct wn := by
    intro n i hi hw
    refine br_f (nI_ge (b := 4) hi (by decide)) ?_
    have e3 : ((nI g * 256) + nI ad) + nI i = nI (256 * g + ad + i) := by rw [hv_i256, nI_add]
    rw [e3, nI_clamp (n := 256 * g + ad + i) (by omega)]
    have es := hv_cqs im (hv_ldv x) (256 * g + ad) 0 i
    rw [Nat.zero_add] at es
    exact ⟨vp_in_nI (by omega) (by decide), nm_r es (nm_r (nI_1 i) hw)⟩
  have z := hv_loop (fun n i c => wY_load_36 post (nI g) (nI ad) x fr qn pr hd cu le ba n i md rg sp mm sc rc ou qh ow c sh ct wn) 4 (fun i => hv_cq im (hv_ldv x) (256 * g + ad) 0 i) hx1 hs1
  simp only [hv_cq0] at z
  exact z
theorem hx_ci27 (hg : g < 2) (post : Int32 → SX → Prop) (h : post 1 (fr, qn, pr, hd, cu, le, ba, ex, md, rg, pc, pt, ve, ep, ca, bv, ti, zs, st, pu, pv, pe, fs, be, br, sc, rc, ou, qh, ow, (hv_cq ce (hv_cq im im (256 * g) (256 * (1 - g)) 256) (256 + 256 * g) (256 * g) 256), (hv_cq im im (256 * g) (256 * (1 - g)) 256), sd, rs, oo, ct)) : ∃ n, wX_copyImage_27 post (nI g) (nI (1 - g)) fr qn pr hd cu le ba ex n 0 md rg pc pt ve ep ca bv ti zs st pu pv pe fs be br sc rc ou qh ow ce im sd rs oo ct := by
  have hx1 : ∀ n, wX_copyImage_27 post (nI g) (nI (1 - g)) fr qn pr hd cu le ba ex (n + 1) (nI 256) md rg pc pt ve ep ca bv ti zs st pu pv pe fs be br sc rc ou qh ow ce (hv_cq im im (256 * g) (256 * (1 - g)) 256) sd rs oo ct := by
    intro n
    refine br_t (nI_le (a := 256) (Nat.le_refl _) (by decide)) ?_
    exact hx_rb hg _ h
  have hs1 : ∀ n i, i < 256 → wX_copyImage_27 post (nI g) (nI (1 - g)) fr qn pr hd cu le ba ex n (nI (i + 1)) md rg pc pt ve ep ca bv ti zs st pu pv pe fs be br sc rc ou qh ow ce (hv_cq im im (256 * g) (256 * (1 - g)) (i + 1)) sd rs oo ct → wX_copyImage_27 post (nI g) (nI (1 - g)) fr qn pr hd cu le ba ex (n + 1) (nI i) md rg pc pt ve ep ca bv ti zs st pu pv pe fs be br sc rc ou qh ow ce (hv_cq im im (256 * g) (256 * (1 - g)) i) sd rs oo ct := by
    intro n i hi hw
    refine br_f (nI_ge (b := 256) hi (by decide)) ?_
    rw [hv_i256 (1 - g) i, hv_i256 g i, nI_clamp (n := 256 * (1 - g) + i) (by omega), nI_clamp (n := 256 * g + i) (by omega)]
    refine ⟨vp_in_nI (by omega) (by decide), vp_in_nI (by omega) (by decide), nm_r ?_ (nm_r (nI_1 i) hw)⟩
    rw [hv_cqout (by omega)]
    exact hv_cqs im im (256 * g) (256 * (1 - g)) i
  have z := hv_loop (fun n i c => wX_copyImage_27 post (nI g) (nI (1 - g)) fr qn pr hd cu le ba ex n i md rg pc pt ve ep ca bv ti zs st pu pv pe fs be br sc rc ou qh ow ce c sd rs oo ct) 256 (fun i => hv_cq im im (256 * g) (256 * (1 - g)) i) hx1 hs1
  simp only [hv_cq0] at z
  exact z
theorem hy_ci24 (hg : g < 2) (post : Int32 → SY → Prop) (h : post 1 (fr, qn, pr, hd, cu, le, ba, md, rg, sp, mm, sc, rc, ou, qh, ow, (hv_cq im im (256 * g) (256 * (1 - g)) 256), sh, ct, wn)) : ∃ n, wY_copyImage_24 post (nI g) fr qn pr hd cu le ba n 0 md rg sp mm sc rc ou qh ow im sh ct wn := by
  have hx1 : ∀ n, wY_copyImage_24 post (nI g) fr qn pr hd cu le ba (n + 1) (nI 256) md rg sp mm sc rc ou qh ow (hv_cq im im (256 * g) (256 * (1 - g)) 256) sh ct wn := by
    intro n
    refine br_t (nI_le (a := 256) (Nat.le_refl _) (by decide)) ?_
    exact h
  have hs1 : ∀ n i, i < 256 → wY_copyImage_24 post (nI g) fr qn pr hd cu le ba n (nI (i + 1)) md rg sp mm sc rc ou qh ow (hv_cq im im (256 * g) (256 * (1 - g)) (i + 1)) sh ct wn → wY_copyImage_24 post (nI g) fr qn pr hd cu le ba (n + 1) (nI i) md rg sp mm sc rc ou qh ow (hv_cq im im (256 * g) (256 * (1 - g)) i) sh ct wn := by
    intro n i hi hw
    refine br_f (nI_ge (b := 256) hi (by decide)) ?_
    rw [hv_s1 hg, hv_i256 (1 - g) i, hv_i256 g i, nI_clamp (n := 256 * (1 - g) + i) (by omega), nI_clamp (n := 256 * g + i) (by omega)]
    refine ⟨vp_in_nI (by omega) (by decide), vp_in_nI (by omega) (by decide), nm_r ?_ (nm_r (nI_1 i) hw)⟩
    rw [hv_cqout (by omega)]
    exact hv_cqs im im (256 * g) (256 * (1 - g)) i
  have z := hv_loop (fun n i c => wY_copyImage_24 post (nI g) fr qn pr hd cu le ba n i md rg sp mm sc rc ou qh ow c sh ct wn) 256 (fun i => hv_cq im im (256 * g) (256 * (1 - g)) i) hx1 hs1
  simp only [hv_cq0] at z
  exact z
theorem hx_bb23 (hg : g < 2) (post : Int32 → SX → Prop) (h : post 1 (fr, qn, pr, hd, cu, le, (nI g), ex, (upd (upd md 2 0) 2 1), (upd (hv_cq rg hv_z (4 * 2) 0 4) (4 * 2) (br g)), (upd (upd pc 2 0) 2 (be g)), (upd pt 2 0), (upd ve 2 0), (upd ep 2 0), (upd ca 2 0), (upd bv 2 0), (upd ti 2 0), (upd zs 2 0), (upd st 2 0), (upd pu 2 0), (upd pv 2 0), (upd pe 2 0), (upd fs 2 0), (upd (upd be 2 0) 2 (be g)), (upd (upd br 2 0) 2 (br g)), (upd sc 2 0), (upd rc 2 0), (upd ou 2 0), (upd qh 2 0), (hv_cq ow hv_z (32 * 2) 0 32), (hv_cq ce im 768 (256 * g) 256), im, sd, rs, oo, ct)) : ∃ n, wX_bootBare_23 post (nI g) fr qn pr hd cu le ba ex n 0 md rg pc pt ve ep ca bv ti zs st pu pv pe fs be br sc rc ou qh ow ce im sd rs oo ct := by
  have hx1 : ∀ n, wX_bootBare_23 post (nI g) fr qn pr hd cu le ba ex (n + 1) (nI 256) md rg pc pt ve ep ca bv ti zs st pu pv pe fs be br sc rc ou qh ow (hv_cq ce im 768 (256 * g) 256) im sd rs oo ct := by
    intro n
    refine br_t (nI_le (a := 256) (Nat.le_refl _) (by decide)) ?_
    rw [hv_im (m := g) (by omega)]
    exact ⟨hv_iv (by omega), hv_iv (by omega), hx_start (m := 2) (by decide) _ h⟩
  have hs1 : ∀ n i, i < 256 → wX_bootBare_23 post (nI g) fr qn pr hd cu le ba ex n (nI (i + 1)) md rg pc pt ve ep ca bv ti zs st pu pv pe fs be br sc rc ou qh ow (hv_cq ce im 768 (256 * g) (i + 1)) im sd rs oo ct → wX_bootBare_23 post (nI g) fr qn pr hd cu le ba ex (n + 1) (nI i) md rg pc pt ve ep ca bv ti zs st pu pv pe fs be br sc rc ou qh ow (hv_cq ce im 768 (256 * g) i) im sd rs oo ct := by
    intro n i hi hw
    refine br_f (nI_ge (b := 256) hi (by decide)) ?_
    rw [hv_i256 g i, hv_p768 i, nI_clamp (n := 256 * g + i) (by omega), nI_clamp (n := 768 + i) (by omega)]
    exact ⟨vp_in_nI (by omega) (by decide), vp_in_nI (by omega) (by decide), nm_r (hv_cqs ce im 768 (256 * g) i) (nm_r (nI_1 i) hw)⟩
  have z := hv_loop (fun n i c => wX_bootBare_23 post (nI g) fr qn pr hd cu le ba ex n i md rg pc pt ve ep ca bv ti zs st pu pv pe fs be br sc rc ou qh ow c im sd rs oo ct) 256 (fun i => hv_cq ce im 768 (256 * g) i) hx1 hs1
  simp only [hv_cq0] at z
  exact z
end
end
section
/-! the owed statements of load, copyImage, boot, bootBare -/
theorem i_vc_load {k : Nat} {u : SX} {v : SY} (I : i_Rel k u v) (hk : k + 5 ≤ 2563) (v1 : Int32) (v2 : Int32) (a2 : Int64) : wpX_load (fun r u' => wpY_load (fun r' v' => r' = r ∧ i_Rel (k + 5) u' v') v v1 v2 a2) u v1 v2 a2 := by
  refine hv_el (P := fun u v => wpX_load (fun r u' => wpY_load (fun r' v' => r' = r ∧ i_Rel (k + 5) u' v') v v1 v2 a2) u v1 v2 a2) I ?_
  intro F fr qn pr hd cu le ba ex md rg pc pt ve ep ca bv ti zs st pu pv pe fs be br sc rc ou qh ow ce im sd rs oo ct sp mm sh wn hR
  have hin : i_Rel (k + 5) (fr, qn, pr, hd, cu, le, ba, ex, md, rg, pc, pt, ve, ep, ca, bv, ti, zs, st, pu, pv, pe, fs, be, br, sc, rc, ou, qh, ow, ce, im, sd, rs, oo, ct) (fr, qn, pr, hd, cu, le, ba, md, rg, sp, mm, sc, rc, ou, qh, ow, im, sh, ct, wn) := hv_in fr qn pr hd cu le ba ex md rg pc pt ve ep ca bv ti zs st pu pv pe fs be br sc rc ou qh ow ce im sd rs oo ct sp mm sh wn hR
  unfold wpX_load
  rcases hv_g01 v1 with ⟨g, hg, rfl⟩ | ⟨n0, n1, nb⟩
  · refine hx_ig1 hg _ (br_f (by decide) ?_)
    have yb : (v2 < 0 ∨ nI 252 < v2) → wpY_load (fun r' v' => r' = -1 ∧ i_Rel (k + 5) (fr, qn, pr, hd, cu, le, ba, ex, md, rg, pc, pt, ve, ep, ca, bv, ti, zs, st, pu, pv, pe, fs, be, br, sc, rc, ou, qh, ow, ce, im, sd, rs, oo, ct) v') (fr, qn, pr, hd, cu, le, ba, md, rg, sp, mm, sc, rc, ou, qh, ow, im, sh, ct, wn) (nI g) v2 a2 := fun z => by
      unfold wpY_load
      exact hy_in1 g 1 (by omega) (by decide) (br_f (by decide) (hy_in0 252 z _ (br_t rfl ⟨rfl, hin⟩)))
    rcases hv_rng v2 252 (by decide) with ⟨ad, had, rfl⟩ | h | ⟨h1, h2, h3⟩
    · refine br_f (nI_pos (by omega)) (br_t (nI_le (b := 252) had (by decide)) ?_)
      by_cases q : md g = 0
      · refine ⟨hv_iv (by omega), br_t (by rw [hv_im (by omega)]; exact q) ?_⟩
        refine hx_ld35 hg had _ ?_
        unfold wpY_load
        refine hy_in1 g 1 (by omega) (by decide) (br_f (by decide) (hy_in1 ad 252 had (by decide) (br_f (by decide) ⟨hv_iv (by omega), br_t (by rw [hv_im (by omega)]; exact q) ?_⟩)))
        refine hy_ld36 hg had _ ⟨rfl, ?_⟩
        obtain ⟨h2, hfr, hh, hcu, hg', hB, hS, hZ, h⟩ := hR
        refine hv_in (F := F) _ _ _ _ _ _ _ _ _ _ _ _ _ _ _ _ _ _ _ _ _ _ _ _ _ _ _ _ _ _ _ _ _ _ _ _ _ _ _ _ ⟨h2, hfr, hh, hcu, hg', hB, hS, hZ, ?_⟩
        exact hv_Mimg h hg q (fun j hj hj2 => hv_cqout (by omega)) (hv_cqw (hv_Mi h) (fun i _ => hv_k64 _))
      · refine ⟨hv_iv (by omega), br_f (by rw [hv_im (by omega)]; exact q) ?_⟩
        unfold wpY_load
        exact hy_in1 g 1 (by omega) (by decide) (br_f (by decide) (hy_in1 ad 252 had (by decide) (br_f (by decide) ⟨hv_iv (by omega), br_f (by rw [hv_im (by omega)]; exact q) ⟨rfl, hin⟩⟩)))
    · exact br_t h (yb (Or.inl h))
    · exact br_f h1 (br_f h3 (yb (Or.inr h2)))
  · refine hx_ig0 n0 n1 _ (br_t rfl ?_)
    unfold wpY_load
    exact hy_in0 1 nb _ (br_t rfl ⟨rfl, hin⟩)
theorem i_vc_copyImage {k : Nat} {u : SX} {v : SY} (I : i_Rel k u v) (hk : k + 5 ≤ 2563) (v1 : Int32) : wpX_copyImage (fun r u' => wpY_copyImage (fun r' v' => r' = r ∧ i_Rel (k + 5) u' v') v v1) u v1 := by
  refine hv_el (P := fun u v => wpX_copyImage (fun r u' => wpY_copyImage (fun r' v' => r' = r ∧ i_Rel (k + 5) u' v') v v1) u v1) I ?_
  intro F fr qn pr hd cu le ba ex md rg pc pt ve ep ca bv ti zs st pu pv pe fs be br sc rc ou qh ow ce im sd rs oo ct sp mm sh wn hR
  have hin : i_Rel (k + 5) (fr, qn, pr, hd, cu, le, ba, ex, md, rg, pc, pt, ve, ep, ca, bv, ti, zs, st, pu, pv, pe, fs, be, br, sc, rc, ou, qh, ow, ce, im, sd, rs, oo, ct) (fr, qn, pr, hd, cu, le, ba, md, rg, sp, mm, sc, rc, ou, qh, ow, im, sh, ct, wn) := hv_in fr qn pr hd cu le ba ex md rg pc pt ve ep ca bv ti zs st pu pv pe fs be br sc rc ou qh ow ce im sd rs oo ct sp mm sh wn hR
  unfold wpX_copyImage
  rcases hv_g01 v1 with ⟨g, hg, rfl⟩ | ⟨n0, n1, nb⟩
  · refine hx_ig1 hg _ (br_f (by decide) ?_)
    by_cases q : md g = 0
    · refine ⟨hv_iv (by omega), br_t (by rw [hv_im (by omega)]; exact q) (nm_r (hv_s1 hg) ?_)⟩
      refine hx_ci27 hg _ ?_
      unfold wpY_copyImage
      refine hy_in1 g 1 (by omega) (by decide) (br_f (by decide) ⟨hv_iv (by omega), br_t (by rw [hv_im (by omega)]; exact q) ?_⟩)
      refine hy_ci24 hg _ ⟨rfl, ?_⟩
      obtain ⟨h2, hfr, hh, hcu, hg', hB, hS, hZ, h⟩ := hR
      refine hv_in (F := F) _ _ _ _ _ _ _ _ _ _ _ _ _ _ _ _ _ _ _ _ _ _ _ _ _ _ _ _ _ _ _ _ _ _ _ _ _ _ _ _ ⟨h2, hfr, hh, hcu, hg', hB, hS, hZ, ?_⟩
      exact hv_Mimg h hg q (fun j hj hj2 => hv_cqout (by omega)) (hv_cqw (hv_Mi h) (fun i hi => hv_Mi h _ (by omega)))
    · refine ⟨hv_iv (by omega), br_f (by rw [hv_im (by omega)]; exact q) ?_⟩
      unfold wpY_copyImage
      exact hy_in1 g 1 (by omega) (by decide) (br_f (by decide) ⟨hv_iv (by omega), br_f (by rw [hv_im (by omega)]; exact q) ⟨rfl, hin⟩⟩)
  · refine hx_ig0 n0 n1 _ (br_t rfl ?_)
    unfold wpY_copyImage
    exact hy_in0 1 nb _ (br_t rfl ⟨rfl, hin⟩)
/-! a start's relation -/
section
variable {fr qn pr hd cu le ba ex : Int32} {md rg pc pt ve ep ca bv ti zs st pu pv pe fs be br sc rc ou qh ow ce im sd rs oo ct : Nat → Int32} {sp mm sh wn : Nat → Int32}
variable {F m : Nat}
theorem hv_stS {e r : Int32} (hS : hv_S sp pt ve ep ca bv ti zs st pc pu pv pe fs be br) : hv_S (upd (upd (upd (hv_cq sp hv_z (16 * m) 0 16) (16 * m + 8) e) (16 * m + 13) e) (16 * m + 14) r) (upd pt m 0) (upd ve m 0) (upd ep m 0) (upd ca m 0) (upd bv m 0) (upd ti m 0) (upd zs m 0) (upd st m 0) (upd (upd pc m 0) m e) (upd pu m 0) (upd pv m 0) (upd pe m 0) (upd fs m 0) (upd (upd be m 0) m e) (upd (upd br m 0) m r) := hv_Su14 (hv_Su13 (hv_Su8 (hv_Sw hS m) m e) m e) m r
theorem hv_stB {e r : Int32} (hB : hv_B sp) (he : hv_k 256 e) (hr : hv_k 65536 r) : hv_B (upd (upd (upd (hv_cq sp hv_z (16 * m) 0 16) (16 * m + 8) e) (16 * m + 13) e) (16 * m + 14) r) :=
  hv_Bu (c := 14) (hv_Bu (c := 13) (hv_Bu (c := 8) (hv_Bw hB m) (by decide) (hv_bd8 he)) (by decide) (hv_bd8 he)) (by decide) hr
theorem hv_stZ {e r : Int32} (hZ : hv_Z md sp) : hv_Z (upd (upd md m 0) m 1) (upd (upd (upd (hv_cq sp hv_z (16 * m) 0 16) (16 * m + 8) e) (16 * m + 13) e) (16 * m + 14) r) :=
  hv_Zm (hv_Zs (c := 14) (hv_Zs (c := 13) (hv_Zs (c := 8) (hv_Zw hZ m) (by decide) (by decide)) (by decide) (by decide)) (by decide) (by decide)) (by decide)
theorem hv_stG {r : Int32} (hg : hv_w 12 rg) (hr : hv_k 65536 r) : hv_w 12 (upd (hv_cq rg hv_z (4 * m) 0 4) (4 * m) r) := hv_wu (hv_ww hg _ _) hr
end
theorem i_vc_boot {k : Nat} {u : SX} {v : SY} (I : i_Rel k u v) (hk : k + 5 ≤ 2563) (v1 : Int32) (v2 : Int32) (v3 : Int32) : wpX_boot (fun r u' => wpY_boot (fun r' v' => r' = r ∧ i_Rel (k + 5) u' v') v v1 v2 v3) u v1 v2 v3 := by
  refine hv_el (P := fun u v => wpX_boot (fun r u' => wpY_boot (fun r' v' => r' = r ∧ i_Rel (k + 5) u' v') v v1 v2 v3) u v1 v2 v3) I ?_
  intro F fr qn pr hd cu le ba ex md rg pc pt ve ep ca bv ti zs st pu pv pe fs be br sc rc ou qh ow ce im sd rs oo ct sp mm sh wn hR
  have hin : i_Rel (k + 5) (fr, qn, pr, hd, cu, le, ba, ex, md, rg, pc, pt, ve, ep, ca, bv, ti, zs, st, pu, pv, pe, fs, be, br, sc, rc, ou, qh, ow, ce, im, sd, rs, oo, ct) (fr, qn, pr, hd, cu, le, ba, md, rg, sp, mm, sc, rc, ou, qh, ow, im, sh, ct, wn) := hv_in fr qn pr hd cu le ba ex md rg pc pt ve ep ca bv ti zs st pu pv pe fs be br sc rc ou qh ow ce im sd rs oo ct sp mm sh wn hR
  unfold wpX_boot
  rcases hv_g01 v1 with ⟨g, hg, rfl⟩ | ⟨n0, n1, nb⟩
  · refine hx_ig1 hg _ (br_f (by decide) ?_)
    have yb : (v2 < 0 ∨ nI 255 < v2) → wpY_boot (fun r' v' => r' = -1 ∧ i_Rel (k + 5) (fr, qn, pr, hd, cu, le, ba, ex, md, rg, pc, pt, ve, ep, ca, bv, ti, zs, st, pu, pv, pe, fs, be, br, sc, rc, ou, qh, ow, ce, im, sd, rs, oo, ct) v') (fr, qn, pr, hd, cu, le, ba, md, rg, sp, mm, sc, rc, ou, qh, ow, im, sh, ct, wn) (nI g) v2 v3 := fun z => by
      unfold wpY_boot
      exact hy_in1 g 1 (by omega) (by decide) (br_f (by decide) (hy_in0 255 z _ (br_t rfl ⟨rfl, hin⟩)))
    rcases hv_rng v2 255 (by decide) with ⟨ad, had, rfl⟩ | h | ⟨h1, h2, h3⟩
    · refine br_f (nI_pos (by omega)) (br_t (nI_le (b := 255) had (by decide)) ?_)
      by_cases q : md g = 0
      · refine ⟨hv_iv (by omega), br_t (by rw [hv_im (by omega)]; exact q) ?_⟩
        refine hx_rb hg _ ?_
        refine hx_start (m := g) (by omega) _ ?_
        unfold wpY_boot
        refine hy_in1 g 1 (by omega) (by decide) (br_f (by decide) (hy_in1 ad 255 had (by decide) (br_f (by decide) ⟨hv_iv (by omega), br_t (by rw [hv_im (by omega)]; exact q) ?_⟩)))
        refine hy_start (m := g) (by omega) hg _ ⟨rfl, ?_⟩
        obtain ⟨h2, hfr, hh, hcu, hg', hB, hS, hZ, h⟩ := hR
        refine hv_in (F := F) _ _ _ _ _ _ _ _ _ _ _ _ _ _ _ _ _ _ _ _ _ _ _ _ _ _ _ _ _ _ _ _ _ _ _ _ _ _ _ _ ⟨h2, hfr, hh, hcu, hv_stG hg' (hv_k65535 _), hv_stB hB (hv_kn (by omega)) (hv_k65535 _), hv_stS hS, hv_stZ hZ, ?_⟩
        exact hv_Mboot h hg q
      · refine ⟨hv_iv (by omega), br_f (by rw [hv_im (by omega)]; exact q) ?_⟩
        unfold wpY_boot
        exact hy_in1 g 1 (by omega) (by decide) (br_f (by decide) (hy_in1 ad 255 had (by decide) (br_f (by decide) ⟨hv_iv (by omega), br_f (by rw [hv_im (by omega)]; exact q) ⟨rfl, hin⟩⟩)))
    · exact br_t h (yb (Or.inl h))
    · exact br_f h1 (br_f h3 (yb (Or.inr h2)))
  · refine hx_ig0 n0 n1 _ (br_t rfl ?_)
    unfold wpY_boot
    exact hy_in0 1 nb _ (br_t rfl ⟨rfl, hin⟩)
theorem i_vc_bootBare {k : Nat} {u : SX} {v : SY} (I : i_Rel k u v) (hk : k + 5 ≤ 2563) (v1 : Int32) : wpX_bootBare (fun r u' => wpY_bootBare (fun r' v' => r' = r ∧ i_Rel (k + 5) u' v') v v1) u v1 := by
  refine hv_el (P := fun u v => wpX_bootBare (fun r u' => wpY_bootBare (fun r' v' => r' = r ∧ i_Rel (k + 5) u' v') v v1) u v1) I ?_
  intro F fr qn pr hd cu le ba ex md rg pc pt ve ep ca bv ti zs st pu pv pe fs be br sc rc ou qh ow ce im sd rs oo ct sp mm sh wn hR
  have hin : i_Rel (k + 5) (fr, qn, pr, hd, cu, le, ba, ex, md, rg, pc, pt, ve, ep, ca, bv, ti, zs, st, pu, pv, pe, fs, be, br, sc, rc, ou, qh, ow, ce, im, sd, rs, oo, ct) (fr, qn, pr, hd, cu, le, ba, md, rg, sp, mm, sc, rc, ou, qh, ow, im, sh, ct, wn) := hv_in fr qn pr hd cu le ba ex md rg pc pt ve ep ca bv ti zs st pu pv pe fs be br sc rc ou qh ow ce im sd rs oo ct sp mm sh wn hR
  unfold wpX_bootBare
  rcases hv_g01 v1 with ⟨g, hg, rfl⟩ | ⟨n0, n1, nb⟩
  · refine hx_ig1 hg _ (br_f (by decide) ?_)
    by_cases q : md g = 0
    · refine ⟨hv_iv (by omega), br_t (by rw [hv_im (by omega)]; exact q) ?_⟩
      unfold wpY_bootBare
      exact hy_in1 g 1 (by omega) (by decide) (br_f (by decide) ⟨hv_iv (by omega), br_t (by rw [hv_im (by omega)]; exact q) ⟨rfl, hin⟩⟩)
    · refine ⟨hv_iv (by omega), br_f (by rw [hv_im (by omega)]; exact q) ?_⟩
      refine hx_bb23 hg _ ?_
      obtain ⟨h2, hfr, hh, hcu, hg', hB, hS, hZ, h⟩ := hR
      have hg3 : g < 3 := by omega
      rw [hv_S13 hS hg3, hv_S14 hS hg3]
      unfold wpY_bootBare
      refine hy_in1 g 1 (by omega) (by decide) (br_f (by decide) ⟨hv_iv (by omega), br_f (by rw [hv_im (by omega)]; exact q) ?_⟩)
      rw [hv_ic13 hg3, hv_ic14 hg3]
      refine ⟨hv_iw13 hg3, hv_iw14 hg3, ?_⟩
      refine hy_start (m := 2) (by decide) hg _ ⟨rfl, ?_⟩
      have h3 := hv_Mmd2 (hv_Mmd2 (hv_Mb h (s := im) (b := 256 * g) (fun i hi => hv_Mi h _ (by omega))) 0) 1
      rw [← hv_cqq (g1 := hv_z) (s1 := 0) (f := mm)] at h3
      exact hv_in (F := F) _ _ _ _ _ _ _ _ _ _ _ _ _ _ _ _ _ _ _ _ _ _ _ _ _ _ _ _ _ _ _ _ _ _ _ _ _ _ _ _ ⟨h2, hfr, hh, hcu, hv_stG hg' (hv_B16 hB hg3 (by decide)), hv_stB hB (hv_B8 hB hg3 (by decide) (by decide)) (hv_B16 hB hg3 (by decide)), hv_stS hS, hv_stZ hZ, h3⟩
  · refine hx_ig0 n0 n1 _ (br_t rfl ?_)
    unfold wpY_bootBare
    exact hy_in0 1 nb _ (br_t rfl ⟨rfl, hin⟩)
end
section
/-! powerOff -/
section
variable {fr qn pr hd cu le ba ex : Int32} {md rg pc pt ve ep ca bv ti zs st pu pv pe fs be br sc rc ou qh ow ce im sd rs oo ct : Nat → Int32} {sp mm sh wn : Nat → Int32}
variable {F g : Nat}
theorem hx_po126  (post : Int32 → SX → Prop) (h : post 1 (fr, qn, pr, hd, cu, le, ((-2)), ex, md, rg, pc, pt, ve, ep, ca, bv, ti, zs, st, pu, pv, pe, fs, be, br, sc, rc, ou, qh, ow, (hv_cq ce hv_z 768 0 256), im, sd, rs, oo, ct)) : ∃ n, wX_powerOff_126 post fr qn pr hd cu le ba ex n 0 md rg pc pt ve ep ca bv ti zs st pu pv pe fs be br sc rc ou qh ow ce im sd rs oo ct := by
  have hx1 : ∀ n, wX_powerOff_126 post fr qn pr hd cu le ba ex (n + 1) (nI 256) md rg pc pt ve ep ca bv ti zs st pu pv pe fs be br sc rc ou qh ow (hv_cq ce hv_z 768 0 256) im sd rs oo ct := by
    intro n
    refine br_t (nI_le (a := 256) (Nat.le_refl _) (by decide)) ?_
    exact h
  have hs1 : ∀ n i, i < 256 → wX_powerOff_126 post fr qn pr hd cu le ba ex n (nI (i + 1)) md rg pc pt ve ep ca bv ti zs st pu pv pe fs be br sc rc ou qh ow (hv_cq ce hv_z 768 0 (i + 1)) im sd rs oo ct → wX_powerOff_126 post fr qn pr hd cu le ba ex (n + 1) (nI i) md rg pc pt ve ep ca bv ti zs st pu pv pe fs be br sc rc ou qh ow (hv_cq ce hv_z 768 0 i) im sd rs oo ct := by
    intro n i hi hw
    refine br_f (nI_ge (b := 256) hi (by decide)) ?_
    rw [hv_p768 i, nI_clamp (n := 768 + i) (by omega)]
    exact ⟨vp_in_nI (by omega) (by decide), nm_r (hv_cqs ce hv_z 768 0 i) (nm_r (nI_1 i) hw)⟩
  have z := hv_loop (fun n i c => wX_powerOff_126 post fr qn pr hd cu le ba ex n i md rg pc pt ve ep ca bv ti zs st pu pv pe fs be br sc rc ou qh ow c im sd rs oo ct) 256 (fun i => hv_cq ce hv_z 768 0 i) hx1 hs1
  simp only [hv_cq0] at z
  exact z
theorem hx_po77 (hg : g < 2) (post : Int32 → SX → Prop) (h1 : ba = nI g → post 1 (fr, qn, pr, hd, cu, le, ((-2)), ex, (upd (upd md g 0) 2 0), (hv_cq (hv_cq rg hv_z (4 * g) 0 4) hv_z (4 * 2) 0 4), (upd (upd pc g 0) 2 0), (upd (upd pt g 0) 2 0), (upd (upd ve g 0) 2 0), (upd (upd ep g 0) 2 0), (upd (upd ca g 0) 2 0), (upd (upd bv g 0) 2 0), (upd (upd ti g 0) 2 0), (upd (upd zs g 0) 2 0), (upd (upd st g 0) 2 0), (upd (upd pu g 0) 2 0), (upd (upd pv g 0) 2 0), (upd (upd pe g 0) 2 0), (upd (upd fs g 0) 2 0), (upd (upd be g 0) 2 0), (upd (upd br g 0) 2 0), (upd (upd sc g 0) 2 0), (upd (upd rc g 0) 2 0), (upd (upd ou g 0) 2 0), (upd (upd qh g 0) 2 0), (hv_cq (hv_cq ow hv_z (32 * g) 0 32) hv_z (32 * 2) 0 32), (hv_cq (hv_cq ce im (256 + 256 * g) (256 * g) 256) hv_z 768 0 256), im, sd, rs, oo, (hv_cq ct hv_z (10 * g) 0 10))) (h2 : ¬ ba = nI g → post 1 (fr, qn, pr, hd, cu, le, ba, ex, (upd md g 0), (hv_cq rg hv_z (4 * g) 0 4), (upd pc g 0), (upd pt g 0), (upd ve g 0), (upd ep g 0), (upd ca g 0), (upd bv g 0), (upd ti g 0), (upd zs g 0), (upd st g 0), (upd pu g 0), (upd pv g 0), (upd pe g 0), (upd fs g 0), (upd be g 0), (upd br g 0), (upd sc g 0), (upd rc g 0), (upd ou g 0), (upd qh g 0), (hv_cq ow hv_z (32 * g) 0 32), (hv_cq ce im (256 + 256 * g) (256 * g) 256), im, sd, rs, oo, (hv_cq ct hv_z (10 * g) 0 10))) : ∃ n, wX_powerOff_77 post (nI g) fr qn pr hd cu le ba ex n 0 md rg pc pt ve ep ca bv ti zs st pu pv pe fs be br sc rc ou qh ow ce im sd rs oo ct := by
  have hx1 : ∀ n, wX_powerOff_77 post (nI g) fr qn pr hd cu le ba ex (n + 1) (nI 10) md rg pc pt ve ep ca bv ti zs st pu pv pe fs be br sc rc ou qh ow ce im sd rs oo (hv_cq ct hv_z (10 * g) 0 10) := by
    intro n
    refine br_t (nI_le (a := 10) (Nat.le_refl _) (by decide)) ?_
    refine hx_clr (m := g) (by omega) _ ?_
    refine hx_rb hg _ ?_
    refine br_c (fun q => ?_) h2
    refine hx_clr (m := 2) (by decide) _ ?_
    exact hx_po126 _ (h1 q)
  have hs1 : ∀ n i, i < 10 → wX_powerOff_77 post (nI g) fr qn pr hd cu le ba ex n (nI (i + 1)) md rg pc pt ve ep ca bv ti zs st pu pv pe fs be br sc rc ou qh ow ce im sd rs oo (hv_cq ct hv_z (10 * g) 0 (i + 1)) → wX_powerOff_77 post (nI g) fr qn pr hd cu le ba ex (n + 1) (nI i) md rg pc pt ve ep ca bv ti zs st pu pv pe fs be br sc rc ou qh ow ce im sd rs oo (hv_cq ct hv_z (10 * g) 0 i) := by
    intro n i hi hw
    refine br_f (nI_ge (b := 10) hi (by decide)) ?_
    rw [hv_i10 g i, nI_clamp (n := 10 * g + i) (by omega)]
    exact ⟨vp_in_nI (by omega) (by decide), nm_r (hv_cqs ct hv_z (10 * g) 0 i) (nm_r (nI_1 i) hw)⟩
  have z := hv_loop (fun n i c => wX_powerOff_77 post (nI g) fr qn pr hd cu le ba ex n i md rg pc pt ve ep ca bv ti zs st pu pv pe fs be br sc rc ou qh ow ce im sd rs oo c) 10 (fun i => hv_cq ct hv_z (10 * g) 0 i) hx1 hs1
  simp only [hv_cq0] at z
  exact z
theorem hx_po26 (hg : g < 2) (h : hv_M F md im ce sd rs oo mm sh wn) (post : Int32 → SX → Prop) (hE : ∃ n, wX_powerOff_77 post (nI g) fr qn pr hd cu le ba ex n 0 md rg pc pt ve ep ca bv ti zs st pu pv pe fs be br sc rc ou qh ow ce im (hv_cq sd hv_n1 (16 * g) 0 16) (hv_cq rs hv_n1 (16 * g) 0 16) (hv_oi wn oo g 16) ct) : ∃ n, wX_powerOff_26 post (nI g) fr qn pr hd cu le ba ex n (nI (16 * g)) md rg pc pt ve ep ca bv ti zs st pu pv pe fs be br sc rc ou qh ow ce im sd rs oo ct := by
  have hF := h.1
  have e16 : nI g * 16 + 16 = nI (16 * g + 16) := hv_i16 g 16
  have key : ∀ d j, j + d = 16 → wX_powerOff_26 post (nI g) fr qn pr hd cu le ba ex (d + 1) (nI (16 * g + j)) md rg pc pt ve ep ca bv ti zs st pu pv pe fs be br sc rc ou qh ow ce im (hv_cq sd hv_n1 (16 * g) 0 j) (hv_cq rs hv_n1 (16 * g) 0 j) (hv_oi wn oo g j) ct := by
    intro d
    induction d with
    | zero =>
      intro j hj
      obtain rfl : j = 16 := by omega
      exact br_t (by rw [e16]; exact nI_le (Nat.le_refl _) (by omega)) hE
    | succ d ih =>
      intro j hj
      have ih' := ih (j + 1) (by omega)
      refine br_f (by rw [e16]; exact nI_ge (by omega) (by omega)) ?_
      rw [nI_clamp (n := 16 * g + j) (by omega)]
      have er : hv_cq rs hv_n1 (16 * g) 0 j (16 * g + j) = rs (16 * g + j) := hv_cqout (by omega)
      have e1 : nI (16 * g + j) + 1 = nI (16 * g + (j + 1)) := nI_1 _
      refine ⟨vp_in_nI (by omega) (by decide), ?_⟩
      rcases hv_Mr h (16 * g + j) (by omega) with e | ⟨x, hx, e, ew⟩
      · refine nm_r (er.trans e) (br_t (by decide) ?_)
        unfold wX_powerOff_55
        rw [nI_clamp (n := 16 * g + j) (by omega), ← hv_oin (hv_Mo h) (by omega) e]
        exact ⟨vp_in_nI (by omega) (by decide), nm_r (hv_cqs rs hv_n1 (16 * g) 0 j) ⟨vp_in_nI (by omega) (by decide), nm_r (hv_cqs sd hv_n1 (16 * g) 0 j) (nm_r e1 ih')⟩⟩
      · refine nm_r (er.trans e) (br_f (nI_pos (by omega)) ?_)
        rw [nI_clamp (n := x) (by omega)]
        refine ⟨vp_in_nI (by omega) (by decide), nm_r (hv_oir (hv_Mo h) (by omega) (by omega) e ew) ?_⟩
        unfold wX_powerOff_55
        rw [nI_clamp (n := 16 * g + j) (by omega)]
        exact ⟨vp_in_nI (by omega) (by decide), nm_r (hv_cqs rs hv_n1 (16 * g) 0 j) ⟨vp_in_nI (by omega) (by decide), nm_r (hv_cqs sd hv_n1 (16 * g) 0 j) (nm_r e1 ih')⟩⟩
  have z := key 16 0 (by omega)
  rw [hv_oi0, hv_cq0, hv_cq0] at z
  exact ⟨17, z⟩
theorem hy_po96 (hg : g < 2) (post : Int32 → SY → Prop) (h1 : ba = nI g → post 1 (fr, qn, pr, hd, cu, le, ((-2)), (upd (upd md g 0) 2 0), (hv_cq (hv_cq rg hv_z (4 * g) 0 4) hv_z (4 * 2) 0 4), (hv_cq (hv_cq sp hv_z (16 * g) 0 16) hv_z (16 * 2) 0 16), (hv_cq (hv_cq mm hv_z (256 * g) 0 256) hv_z (256 * 2) 0 256), (upd (upd sc g 0) 2 0), (upd (upd rc g 0) 2 0), (upd (upd ou g 0) 2 0), (upd (upd qh g 0) 2 0), (hv_cq (hv_cq ow hv_z (32 * g) 0 32) hv_z (32 * 2) 0 32), im, sh, (hv_cq ct hv_z (10 * g) 0 10), wn)) (h2 : ¬ ba = nI g → post 1 (fr, qn, pr, hd, cu, le, ba, (upd md g 0), (hv_cq rg hv_z (4 * g) 0 4), (hv_cq sp hv_z (16 * g) 0 16), (hv_cq mm hv_z (256 * g) 0 256), (upd sc g 0), (upd rc g 0), (upd ou g 0), (upd qh g 0), (hv_cq ow hv_z (32 * g) 0 32), im, sh, (hv_cq ct hv_z (10 * g) 0 10), wn)) : ∃ n, wY_powerOff_96 post (nI g) fr qn pr hd cu le ba n 0 md rg sp mm sc rc ou qh ow im sh ct wn := by
  have hx1 : ∀ n, wY_powerOff_96 post (nI g) fr qn pr hd cu le ba (n + 1) (nI 10) md rg sp mm sc rc ou qh ow im sh (hv_cq ct hv_z (10 * g) 0 10) wn := by
    intro n
    refine br_t (nI_le (a := 10) (Nat.le_refl _) (by decide)) ?_
    refine hy_wipe (m := g) (by omega) _ ?_
    refine br_c (fun q => ?_) h2
    exact hy_wipe (m := 2) (by decide) _ (h1 q)
  have hs1 : ∀ n i, i < 10 → wY_powerOff_96 post (nI g) fr qn pr hd cu le ba n (nI (i + 1)) md rg sp mm sc rc ou qh ow im sh (hv_cq ct hv_z (10 * g) 0 (i + 1)) wn → wY_powerOff_96 post (nI g) fr qn pr hd cu le ba (n + 1) (nI i) md rg sp mm sc rc ou qh ow im sh (hv_cq ct hv_z (10 * g) 0 i) wn := by
    intro n i hi hw
    refine br_f (nI_ge (b := 10) hi (by decide)) ?_
    rw [hv_i10 g i, nI_clamp (n := 10 * g + i) (by omega)]
    exact ⟨vp_in_nI (by omega) (by decide), nm_r (hv_cqs ct hv_z (10 * g) 0 i) (nm_r (nI_1 i) hw)⟩
  have z := hv_loop (fun n i c => wY_powerOff_96 post (nI g) fr qn pr hd cu le ba n i md rg sp mm sc rc ou qh ow im sh c wn) 10 (fun i => hv_cq ct hv_z (10 * g) 0 i) hx1 hs1
  simp only [hv_cq0] at z
  exact z
theorem hy_po69 (hg : g < 2) (post : Int32 → SY → Prop) (hE : ∃ n, wY_powerOff_96 post (nI g) fr qn pr hd cu le ba n 0 md rg sp mm sc rc ou qh ow im (hv_cq sh hv_n2 (16 * g) 0 16) ct wn) : ∃ n, wY_powerOff_69 post (nI g) fr qn pr hd cu le ba n 0 md rg sp mm sc rc ou qh ow im sh ct wn := by
  have hx1 : ∀ n, wY_powerOff_69 post (nI g) fr qn pr hd cu le ba (n + 1) (nI 16) md rg sp mm sc rc ou qh ow im (hv_cq sh hv_n2 (16 * g) 0 16) ct wn := by
    intro n
    refine br_t (nI_le (a := 16) (Nat.le_refl _) (by decide)) ?_
    exact hE
  have hs1 : ∀ n i, i < 16 → wY_powerOff_69 post (nI g) fr qn pr hd cu le ba n (nI (i + 1)) md rg sp mm sc rc ou qh ow im (hv_cq sh hv_n2 (16 * g) 0 (i + 1)) ct wn → wY_powerOff_69 post (nI g) fr qn pr hd cu le ba (n + 1) (nI i) md rg sp mm sc rc ou qh ow im (hv_cq sh hv_n2 (16 * g) 0 i) ct wn := by
    intro n i hi hw
    refine br_f (nI_ge (b := 16) hi (by decide)) ?_
    rw [hv_i16 g i, nI_clamp (n := 16 * g + i) (by omega)]
    exact ⟨vp_in_nI (by omega) (by decide), nm_r (hv_cqs sh hv_n2 (16 * g) 0 i) (nm_r (nI_1 i) hw)⟩
  have z := hv_loop (fun n i c => wY_powerOff_69 post (nI g) fr qn pr hd cu le ba n i md rg sp mm sc rc ou qh ow im c ct wn) 16 (fun i => hv_cq sh hv_n2 (16 * g) 0 i) hx1 hs1
  simp only [hv_cq0] at z
  exact z
theorem hy_po24 (hg : g < 2) (post : Int32 → SY → Prop) (hE : ∃ n, wY_powerOff_69 post (nI g) fr qn pr hd cu le ba n 0 md rg sp mm sc rc ou qh ow im sh ct (hv_wi wn g 16)) : ∃ n, wY_powerOff_24 post (nI g) fr qn pr hd cu le ba n 0 md rg sp mm sc rc ou qh ow im sh ct wn := by
  have hx1 : ∀ n, wY_powerOff_24 post (nI g) fr qn pr hd cu le ba (n + 1) (nI 16) md rg sp mm sc rc ou qh ow im sh ct (hv_wi wn g 16) := fun n => br_t (nI_le (a := 16) (Nat.le_refl _) (by decide)) hE
  have hs1 : ∀ n i, i < 16 → wY_powerOff_24 post (nI g) fr qn pr hd cu le ba n (nI (i + 1)) md rg sp mm sc rc ou qh ow im sh ct (hv_wi wn g (i + 1)) → wY_powerOff_24 post (nI g) fr qn pr hd cu le ba (n + 1) (nI i) md rg sp mm sc rc ou qh ow im sh ct (hv_wi wn g i) := by
    intro n i hi hw
    refine br_f (nI_ge (b := 16) hi (by decide)) ?_
    rw [nI_clamp (n := i) (by omega), hv_wiat]
    have iv : vp_in (nI i) 16 := vp_in_nI hi (by decide)
    refine ⟨iv, ?_⟩
    by_cases q : wn i = -2
    · rw [← hv_wik (g := g) (fun z => z.1 q)]
      exact br_t q (nm_r (nI_1 i) hw)
    by_cases q2 : wn i >>> ((4 : Int32) &&& 31) = nI g
    · rw [hv_wiu ⟨q, q2⟩]
      exact br_f q ⟨iv, br_t q2 ⟨iv, nm_e (nm_r (nI_1 i) hw)⟩⟩
    · rw [← hv_wik (g := g) (fun z => q2 z.2)]
      exact br_f q ⟨iv, br_f q2 (nm_r (nI_1 i) hw)⟩
  have z := hv_loop (fun n i c => wY_powerOff_24 post (nI g) fr qn pr hd cu le ba n i md rg sp mm sc rc ou qh ow im sh ct c) 16 (fun i => hv_wi wn g i) hx1 hs1
  simp only [hv_wi0] at z
  exact z
end
theorem i_vc_powerOff {k : Nat} {u : SX} {v : SY} (I : i_Rel k u v) (hk : k + 5 ≤ 2563) (v1 : Int32) : wpX_powerOff (fun r u' => wpY_powerOff (fun r' v' => r' = r ∧ i_Rel (k + 5) u' v') v v1) u v1 := by
  refine hv_el (P := fun u v => wpX_powerOff (fun r u' => wpY_powerOff (fun r' v' => r' = r ∧ i_Rel (k + 5) u' v') v v1) u v1) I ?_
  intro F fr qn pr hd cu le ba ex md rg pc pt ve ep ca bv ti zs st pu pv pe fs be br sc rc ou qh ow ce im sd rs oo ct sp mm sh wn hR
  have hin : i_Rel (k + 5) (fr, qn, pr, hd, cu, le, ba, ex, md, rg, pc, pt, ve, ep, ca, bv, ti, zs, st, pu, pv, pe, fs, be, br, sc, rc, ou, qh, ow, ce, im, sd, rs, oo, ct) (fr, qn, pr, hd, cu, le, ba, md, rg, sp, mm, sc, rc, ou, qh, ow, im, sh, ct, wn) := hv_in fr qn pr hd cu le ba ex md rg pc pt ve ep ca bv ti zs st pu pv pe fs be br sc rc ou qh ow ce im sd rs oo ct sp mm sh wn hR
  unfold wpX_powerOff
  rcases hv_g01 v1 with ⟨g, hg, rfl⟩ | ⟨n0, n1, nb⟩
  · refine hx_ig1 hg _ (br_f (by decide) ?_)
    by_cases q : md g = 0
    · refine ⟨hv_iv (by omega), br_t (by rw [hv_im (by omega)]; exact q) ?_⟩
      unfold wpY_powerOff
      exact hy_in1 g 1 (by omega) (by decide) (br_f (by decide) ⟨hv_iv (by omega), br_t (by rw [hv_im (by omega)]; exact q) ⟨rfl, hin⟩⟩)
    · refine ⟨hv_iv (by omega), br_f (by rw [hv_im (by omega)]; exact q) (nm_r (hv_i16z g) ?_)⟩
      obtain ⟨h2, hfr, hh, hcu, hg', hB, hS, hZ, h⟩ := hR
      have h3 := hv_Moff h hg
      refine hx_po26 hg h _ (hx_po77 hg _ (fun qb => ?_) (fun qb => ?_))
      · unfold wpY_powerOff
        refine hy_in1 g 1 (by omega) (by decide) (br_f (by decide) ⟨hv_iv (by omega), br_f (by rw [hv_im (by omega)]; exact q) ?_⟩)
        refine hy_po24 hg _ (hy_po69 hg _ (hy_po96 hg _ (fun _ => ⟨rfl, ?_⟩) (fun z => absurd qb z)))
        have h4 := hv_Mmd2 (hv_Mb h3 (s := hv_z) (b := 0) (fun _ _ => hv_k0 (by decide))) 0
        exact hv_in (F := F) _ _ _ _ _ _ _ _ _ _ _ _ _ _ _ _ _ _ _ _ _ _ _ _ _ _ _ _ _ _ _ _ _ _ _ _ _ _ _ _ ⟨h2, hfr, hh, hcu, hv_ww (hv_ww hg' _ _) _ _, hv_Bw (hv_Bw hB g) 2, hv_Sw (hv_Sw hS g) 2, hv_Zw (hv_Zw hZ g) 2, h4⟩
      · unfold wpY_powerOff
        refine hy_in1 g 1 (by omega) (by decide) (br_f (by decide) ⟨hv_iv (by omega), br_f (by rw [hv_im (by omega)]; exact q) ?_⟩)
        refine hy_po24 hg _ (hy_po69 hg _ (hy_po96 hg _ (fun z => absurd z qb) (fun _ => ⟨rfl, ?_⟩)))
        exact hv_in (F := F) _ _ _ _ _ _ _ _ _ _ _ _ _ _ _ _ _ _ _ _ _ _ _ _ _ _ _ _ _ _ _ _ _ _ _ _ _ _ _ _ ⟨h2, hfr, hh, hcu, hv_ww hg' _ _, hv_Bw hB g, hv_Sw hS g, hv_Zw hZ g, h3⟩
  · refine hx_ig0 n0 n1 _ (br_t rfl ?_)
    unfold wpY_powerOff
    exact hy_in0 1 nb _ (br_t rfl ⟨rfl, hin⟩)
end
section
/-! run, runBare, yieldNow, evict, flush -/
theorem hv_lim (v : Int32) (h : 1 ≤ v) : ∃ N, 1 ≤ N ∧ N < 2 ^ 31 ∧ v = nI N := by
  have h0 : ¬ v < 0 := fun z => by
    rw [Int32.lt_iff_toInt_lt] at z
    rw [Int32.le_iff_toInt_le] at h
    have a : (0 : Int32).toInt = 0 := by decide
    have b : (1 : Int32).toInt = 1 := by decide
    omega
  obtain ⟨j, hj, rfl⟩ := nI_of h0
  exact ⟨j, Nat.le_of_not_lt fun z => nI_ge (b := 1) z (by decide) h, hj, rfl⟩
theorem i_vc_run {k : Nat} {u : SX} {v : SY} (I : i_Rel k u v) (hk : k + 5 ≤ 2563) (v1 : Int32) : wpX_run (fun r u' => wpY_run (fun r' v' => r' = r ∧ i_Rel (k + 5) u' v') v v1) u v1 := by
  refine hv_el (P := fun u v => wpX_run (fun r u' => wpY_run (fun r' v' => r' = r ∧ i_Rel (k + 5) u' v') v v1) u v1) I ?_
  intro F fr qn pr hd cu le ba ex md rg pc pt ve ep ca bv ti zs st pu pv pe fs be br sc rc ou qh ow ce im sd rs oo ct sp mm sh wn hR
  have hin : i_Rel (k + 5) (fr, qn, pr, hd, cu, le, ba, ex, md, rg, pc, pt, ve, ep, ca, bv, ti, zs, st, pu, pv, pe, fs, be, br, sc, rc, ou, qh, ow, ce, im, sd, rs, oo, ct) (fr, qn, pr, hd, cu, le, ba, md, rg, sp, mm, sc, rc, ou, qh, ow, im, sh, ct, wn) := hv_in fr qn pr hd cu le ba ex md rg pc pt ve ep ca bv ti zs st pu pv pe fs be br sc rc ou qh ow ce im sd rs oo ct sp mm sh wn hR
  unfold wpX_run
  by_cases q : 1 ≤ v1
  · obtain ⟨N, hN1, hN, rfl⟩ := hv_lim v1 q
    refine br_t q ?_
    by_cases q2 : N ≤ 2000
    · obtain ⟨q', cu', le', hd', ex', md', rg', pc', pt', ve', ep', ca', bv', ti', zs', st', pu', pv', pe', fs', be', br', sc', rc', ou', qh', ow', ce', sd', rs', oo', ct', sp', mm', sh', wn', hR', rX, rY⟩ := hv_runl (L := N) (N := N) (qn := qn) (pr := pr) (ba := ba) q2 hN (Or.inl rfl) N 0 (by omega) 0 cu le hd ex md rg pc pt ve ep ca bv ti zs st pu pv pe fs be br sc rc ou qh ow ce sd rs oo ct sp mm sh wn hR
      refine br_t (nI_le (b := 2000) q2 (by decide)) ⟨N + 1, rX _ ?_⟩
      unfold wpY_run
      exact br_t q ⟨N + 1, rY _ ⟨rfl, hv_in (F := F) _ _ _ _ _ _ _ _ _ _ _ _ _ _ _ _ _ _ _ _ _ _ _ _ _ _ _ _ _ _ _ _ _ _ _ _ _ _ _ _ hR'⟩⟩
    · obtain ⟨q', cu', le', hd', ex', md', rg', pc', pt', ve', ep', ca', bv', ti', zs', st', pu', pv', pe', fs', be', br', sc', rc', ou', qh', ow', ce', sd', rs', oo', ct', sp', mm', sh', wn', hR', rX, rY⟩ := hv_runl (L := 2000) (N := N) (qn := qn) (pr := pr) (ba := ba) (Nat.le_refl _) hN (Or.inr ⟨rfl, by omega⟩) 2000 0 (by omega) 0 cu le hd ex md rg pc pt ve ep ca bv ti zs st pu pv pe fs be br sc rc ou qh ow ce sd rs oo ct sp mm sh wn hR
      refine br_f (nI_ge (b := N) (a := 2000) (by omega) hN) ⟨2001, rX _ ?_⟩
      unfold wpY_run
      exact br_t q ⟨2001, rY _ ⟨rfl, hv_in (F := F) _ _ _ _ _ _ _ _ _ _ _ _ _ _ _ _ _ _ _ _ _ _ _ _ _ _ _ _ _ _ _ _ _ _ _ _ _ _ _ _ hR'⟩⟩
  · refine br_f q ?_
    unfold wpY_run
    exact br_f q ⟨rfl, hin⟩
theorem i_vc_runBare {k : Nat} {u : SX} {v : SY} (I : i_Rel k u v) (hk : k + 5 ≤ 2563) (v1 : Int32) : wpX_runBare (fun r u' => wpY_runBare (fun r' v' => r' = r ∧ i_Rel (k + 5) u' v') v v1) u v1 := by
  refine hv_el (P := fun u v => wpX_runBare (fun r u' => wpY_runBare (fun r' v' => r' = r ∧ i_Rel (k + 5) u' v') v v1) u v1) I ?_
  intro F fr qn pr hd cu le ba ex md rg pc pt ve ep ca bv ti zs st pu pv pe fs be br sc rc ou qh ow ce im sd rs oo ct sp mm sh wn hR
  have hin : i_Rel (k + 5) (fr, qn, pr, hd, cu, le, ba, ex, md, rg, pc, pt, ve, ep, ca, bv, ti, zs, st, pu, pv, pe, fs, be, br, sc, rc, ou, qh, ow, ce, im, sd, rs, oo, ct) (fr, qn, pr, hd, cu, le, ba, md, rg, sp, mm, sc, rc, ou, qh, ow, im, sh, ct, wn) := hv_in fr qn pr hd cu le ba ex md rg pc pt ve ep ca bv ti zs st pu pv pe fs be br sc rc ou qh ow ce im sd rs oo ct sp mm sh wn hR
  unfold wpX_runBare
  by_cases q : v1 < 1
  · refine br_t q ?_
    unfold wpY_runBare
    exact br_t q ⟨rfl, hin⟩
  · refine br_f q ?_
    by_cases q0 : md 2 = 0
    · refine br_t q0 ?_
      unfold wpY_runBare
      exact br_f q (br_t q0 ⟨rfl, hin⟩)
    refine br_f q0 ?_
    obtain ⟨N, hN1, hN, rfl⟩ := hv_lim v1 (Int32.not_lt.mp q)
    by_cases q2 : N ≤ 2000
    · obtain ⟨q', hd', ex', md', rg', pc', pt', ve', ep', ca', bv', ti', zs', st', pu', pv', pe', fs', be', br', sc', rc', ou', qh', ow', ce', sd', rs', oo', ct', sp', mm', sh', wn', hR', rX, rY⟩ := hv_runb (L := N) (N := N) (qn := qn) (pr := pr) (ba := ba) (le := le) q2 hN (Or.inl rfl) N 0 (by omega) 0 hd ex md rg pc pt ve ep ca bv ti zs st pu pv pe fs be br sc rc ou qh ow ce sd rs oo ct sp mm sh wn hR
      refine br_t (nI_le (b := 2000) q2 (by decide)) ⟨N + 1, rX _ ?_⟩
      unfold wpY_runBare
      exact br_f q (br_f q0 ⟨N + 1, rY _ ⟨rfl, hv_in (F := F) _ _ _ _ _ _ _ _ _ _ _ _ _ _ _ _ _ _ _ _ _ _ _ _ _ _ _ _ _ _ _ _ _ _ _ _ _ _ _ _ hR'⟩⟩)
    · obtain ⟨q', hd', ex', md', rg', pc', pt', ve', ep', ca', bv', ti', zs', st', pu', pv', pe', fs', be', br', sc', rc', ou', qh', ow', ce', sd', rs', oo', ct', sp', mm', sh', wn', hR', rX, rY⟩ := hv_runb (L := 2000) (N := N) (qn := qn) (pr := pr) (ba := ba) (le := le) (Nat.le_refl _) hN (Or.inr ⟨rfl, by omega⟩) 2000 0 (by omega) 0 hd ex md rg pc pt ve ep ca bv ti zs st pu pv pe fs be br sc rc ou qh ow ce sd rs oo ct sp mm sh wn hR
      refine br_f (nI_ge (b := N) (a := 2000) (by omega) hN) ⟨2001, rX _ ?_⟩
      unfold wpY_runBare
      exact br_f q (br_f q0 ⟨2001, rY _ ⟨rfl, hv_in (F := F) _ _ _ _ _ _ _ _ _ _ _ _ _ _ _ _ _ _ _ _ _ _ _ _ _ _ _ _ _ _ _ _ _ _ _ _ _ _ _ _ hR'⟩⟩)
theorem i_vc_yieldNow {k : Nat} {u : SX} {v : SY} (I : i_Rel k u v) (hk : k + 5 ≤ 2563) : wpX_yieldNow (fun r u' => wpY_yieldNow (fun r' v' => r' = r ∧ i_Rel (k + 5) u' v') v) u := by
  refine hv_el (P := fun u v => wpX_yieldNow (fun r u' => wpY_yieldNow (fun r' v' => r' = r ∧ i_Rel (k + 5) u' v') v) u) I ?_
  intro F fr qn pr hd cu le ba ex md rg pc pt ve ep ca bv ti zs st pu pv pe fs be br sc rc ou qh ow ce im sd rs oo ct sp mm sh wn hR
  have hin : i_Rel (k + 5) (fr, qn, pr, hd, cu, le, ba, ex, md, rg, pc, pt, ve, ep, ca, bv, ti, zs, st, pu, pv, pe, fs, be, br, sc, rc, ou, qh, ow, ce, im, sd, rs, oo, ct) (fr, qn, pr, hd, cu, le, ba, md, rg, sp, mm, sc, rc, ou, qh, ow, im, sh, ct, wn) := hv_in fr qn pr hd cu le ba ex md rg pc pt ve ep ca bv ti zs st pu pv pe fs be br sc rc ou qh ow ce im sd rs oo ct sp mm sh wn hR
  obtain ⟨h2, hfr, hh, ⟨c, hc, rfl⟩, a5⟩ := id hR
  have ec1 := hv_im (m := 1 - c) (by omega)
  have ic1 := hv_iv (m := 1 - c) (by omega)
  unfold wpX_yieldNow
  refine nm_r (hv_s1 hc) ⟨ic1, ?_⟩
  rw [ec1]
  by_cases q : md (1 - c) = 1
  · refine br_t q ?_
    refine hx_sw (by omega) _ ?_
    unfold wpY_yieldNow
    try dsimp only
    rw [hv_s1 hc, ec1]
    refine ⟨ic1, br_t q ?_⟩
    exact hy_sw (by omega) _ ⟨rfl, hv_in (F := F) _ _ _ _ _ _ _ _ _ _ _ _ _ _ _ _ _ _ _ _ _ _ _ _ _ _ _ _ _ _ _ _ _ _ _ _ _ _ _ _ ⟨h2, hfr, hh, hv_kn (by omega), a5⟩⟩
  · refine br_f q ?_
    unfold wpY_yieldNow
    try dsimp only
    rw [hv_s1 hc, ec1]
    exact ⟨ic1, br_f q ⟨rfl, hin⟩⟩
theorem hv_fr (v : Int32) {F : Nat} (h2 : 2 ≤ F) (hF : F ≤ 16) : (∃ x, x < F ∧ v = nI x) ∨ v < 0 ∨ (¬ v < 0 ∧ ¬ v < nI F ∧ nI F ≤ v ∧ nI (F - 1) < v) := by
  rcases hv_rng v (F - 1) (by omega) with ⟨x, hx, e⟩ | h | ⟨h1, h2', h3⟩
  · exact Or.inl ⟨x, by omega, e⟩
  · exact Or.inr (Or.inl h)
  · obtain ⟨j, hj, rfl⟩ := nI_of h1
    have : F ≤ j := Nat.le_of_not_lt fun z => h3 (nI_le (by omega) (by omega))
    exact Or.inr (Or.inr ⟨h1, nI_nlt this hj, nI_le this hj, h2'⟩)
theorem hv_fm1 {F : Nat} (h2 : 2 ≤ F) : nI F - 1 = nI (F - 1) := pk_sub (a := F) (b := 1) (by omega)
theorem i_vc_evict {k : Nat} {u : SX} {v : SY} (I : i_Rel k u v) (hk : k + 5 ≤ 2563) (v1 : Int32) : wpX_evict (fun r u' => wpY_evict (fun r' v' => r' = r ∧ i_Rel (k + 5) u' v') v v1) u v1 := by
  refine hv_el (P := fun u v => wpX_evict (fun r u' => wpY_evict (fun r' v' => r' = r ∧ i_Rel (k + 5) u' v') v v1) u v1) I ?_
  intro F fr qn pr hd cu le ba ex md rg pc pt ve ep ca bv ti zs st pu pv pe fs be br sc rc ou qh ow ce im sd rs oo ct sp mm sh wn hR
  have hin : i_Rel (k + 5) (fr, qn, pr, hd, cu, le, ba, ex, md, rg, pc, pt, ve, ep, ca, bv, ti, zs, st, pu, pv, pe, fs, be, br, sc, rc, ou, qh, ow, ce, im, sd, rs, oo, ct) (fr, qn, pr, hd, cu, le, ba, md, rg, sp, mm, sc, rc, ou, qh, ow, im, sh, ct, wn) := hv_in fr qn pr hd cu le ba ex md rg pc pt ve ep ca bv ti zs st pu pv pe fs be br sc rc ou qh ow ce im sd rs oo ct sp mm sh wn hR
  obtain ⟨h2, rfl, hh, hcu, hg, hB, hS, hZ, h⟩ := id hR
  have hF := h.1
  unfold wpX_evict
  rcases hv_fr v1 h2 hF with ⟨x, hx, rfl⟩ | hb | ⟨hb1, hb2, hb3, hb4⟩
  · refine br_f (nI_pos (by omega)) (br_t (nI_lt hx (by omega)) ?_)
    rw [nI_clamp (n := x) (by omega)]
    refine ⟨vp_in_nI (by omega) (by decide), ?_⟩
    rcases hv_Mo h x (by omega) with ⟨eo, ew⟩ | ⟨kk, hkk, _, eo, ew, er⟩
    · refine nm_r eo (br_f (by decide) ?_)
      unfold wpY_evict
      try dsimp only
      rw [hv_fm1 h2]
      refine hy_in1 x (F - 1) (by omega) (by omega) (br_f (by decide) ?_)
      rw [nI_clamp (n := x) (by omega)]
      exact ⟨vp_in_nI (by omega) (by decide), nm_r ew (br_t rfl ⟨rfl, hin⟩)⟩
    · refine nm_r eo (br_t (nI_pos' (by omega)) ?_)
      obtain ⟨sd', sh', ct', h', hE, eX, eY⟩ := hv_ev (fr := nI F) (qn := qn) (pr := pr) (hd := hd) (cu := cu) (le := le) (ba := ba) (ex := ex) (md := md) (rg := rg) (pc := pc) (pt := pt) (ve := ve) (ep := ep) (ca := ca) (bv := bv) (ti := ti) (zs := zs) (st := st) (pu := pu) (pv := pv) (pe := pe) (fs := fs) (be := be) (br := br) (sc := sc) (rc := rc) (ou := ou) (qh := qh) (ow := ow) (ce := ce) (im := im) (sd := sd) (rs := rs) (oo := oo) (ct := ct) (sp := sp) (mm := mm) (sh := sh) (wn := wn) (x := x) (k := kk) (by omega) hkk ew h
      refine eX _ ?_
      unfold wpY_evict
      try dsimp only
      rw [hv_fm1 h2]
      refine hy_in1 x (F - 1) (by omega) (by omega) (br_f (by decide) ?_)
      rw [nI_clamp (n := x) (by omega)]
      refine ⟨vp_in_nI (by omega) (by decide), nm_r ew (br_f (hv_nm2 (by omega)) ?_)⟩
      exact eY _ ⟨rfl, hv_in (F := F) _ _ _ _ _ _ _ _ _ _ _ _ _ _ _ _ _ _ _ _ _ _ _ _ _ _ _ _ _ _ _ _ _ _ _ _ _ _ _ _ ⟨h2, rfl, hh, hcu, hg, hB, hS, hZ, h'⟩⟩
  · refine br_t hb ?_
    unfold wpY_evict
    try dsimp only
    rw [hv_fm1 h2]
    exact hy_in0 (F - 1) (Or.inl hb) _ (br_t rfl ⟨rfl, hin⟩)
  · refine br_f hb1 (br_f hb2 ?_)
    unfold wpY_evict
    try dsimp only
    rw [hv_fm1 h2]
    exact hy_in0 (F - 1) (Or.inr hb4) _ (br_t rfl ⟨rfl, hin⟩)
theorem i_vc_flush {k : Nat} {u : SX} {v : SY} (I : i_Rel k u v) (hk : k + 5 ≤ 2563) (v1 : Int32) : wpX_flush (fun r u' => wpY_flush (fun r' v' => r' = r ∧ i_Rel (k + 5) u' v') v v1) u v1 := by
  refine hv_el (P := fun u v => wpX_flush (fun r u' => wpY_flush (fun r' v' => r' = r ∧ i_Rel (k + 5) u' v') v v1) u v1) I ?_
  intro F fr qn pr hd cu le ba ex md rg pc pt ve ep ca bv ti zs st pu pv pe fs be br sc rc ou qh ow ce im sd rs oo ct sp mm sh wn hR
  have hin : i_Rel (k + 5) (fr, qn, pr, hd, cu, le, ba, ex, md, rg, pc, pt, ve, ep, ca, bv, ti, zs, st, pu, pv, pe, fs, be, br, sc, rc, ou, qh, ow, ce, im, sd, rs, oo, ct) (fr, qn, pr, hd, cu, le, ba, md, rg, sp, mm, sc, rc, ou, qh, ow, im, sh, ct, wn) := hv_in fr qn pr hd cu le ba ex md rg pc pt ve ep ca bv ti zs st pu pv pe fs be br sc rc ou qh ow ce im sd rs oo ct sp mm sh wn hR
  unfold wpX_flush
  rcases hv_g01 v1 with ⟨g, hg, rfl⟩ | ⟨n0, n1, nb⟩
  · refine hx_ig1 hg _ (br_f (by decide) ?_)
    by_cases q : md g = 0
    · refine ⟨hv_iv (by omega), br_t (by rw [hv_im (by omega)]; exact q) ?_⟩
      unfold wpY_flush
      exact hy_in1 g 1 (by omega) (by decide) (br_f (by decide) ⟨hv_iv (by omega), br_t (by rw [hv_im (by omega)]; exact q) ⟨rfl, hin⟩⟩)
    · refine ⟨hv_iv (by omega), br_f (by rw [hv_im (by omega)]; exact q) ?_⟩
      obtain ⟨h2, hfr, hh, hcu, hg', hB, hS, hZ, h⟩ := hR
      obtain ⟨sd', sh', ct', q', h', hE, eX, eY, _⟩ := hv_fl (fr := fr) (qn := qn) (pr := pr) (hd := hd) (cu := cu) (le := le) (ba := ba) (ex := ex) (md := md) (rg := rg) (pc := pc) (pt := pt) (ve := ve) (ep := ep) (ca := ca) (bv := bv) (ti := ti) (zs := zs) (st := st) (pu := pu) (pv := pv) (pe := pe) (fs := fs) (be := be) (br := br) (sc := sc) (rc := rc) (ou := ou) (qh := qh) (ow := ow) (ce := ce) (im := im) (rs := rs) (oo := oo) (sp := sp) (mm := mm) (wn := wn) hg 16 0 rfl sd sh ct 0 h
      unfold wpX_flushShadow
      refine ⟨17, eX _ ?_⟩
      unfold wpY_flush
      refine hy_in1 g 1 (by omega) (by decide) (br_f (by decide) ⟨hv_iv (by omega), br_f (by rw [hv_im (by omega)]; exact q) ?_⟩)
      exact ⟨17, eY _ ⟨rfl, hv_in (F := F) _ _ _ _ _ _ _ _ _ _ _ _ _ _ _ _ _ _ _ _ _ _ _ _ _ _ _ _ _ _ _ _ _ _ _ _ _ _ _ _ ⟨h2, hfr, hh, hcu, hg', hB, hS, hZ, h'⟩⟩⟩
  · refine hx_ig0 n0 n1 _ (br_t rfl ?_)
    unfold wpY_flush
    exact hy_in0 1 nb _ (br_t rfl ⟨rfl, hin⟩)
end
section
/-! getters -/
section
variable {fr qn pr hd cu le ba ex : Int32} {md rg pc pt ve ep ca bv ti zs st pu pv pe fs be br sc rc ou qh ow ce im sd rs oo ct : Nat → Int32} {sp mm sh wn : Nat → Int32}
variable {F m : Nat}
theorem hx_pk {a : Nat} (hm : m < 3) (hak : a < 256) (h : hv_M F md im ce sd rs oo mm sh wn) (post : Int32 → Prop) (hp : post (ce (hv_lc rs (256 * m + a)))) : wpX_locate (fun r => vp_in r 1024 ∧ post (ce r.toNatClampNeg)) (fr, qn, pr, hd, cu, le, ba, ex, md, rg, pc, pt, ve, ep, ca, bv, ti, zs, st, pu, pv, pe, fs, be, br, sc, rc, ou, qh, ow, ce, im, sd, rs, oo, ct) (nI m) (nI a) := by
  have hlt := hv_lclt h.1 (hv_Mr h) (a := 256 * m + a) (by omega)
  refine hx_loc hm hak h.1 (hv_Mr h) _ ?_
  rw [nI_clamp (n := hv_lc rs (256 * m + a)) (by omega)]
  exact ⟨vp_in_nI hlt (by decide), hp⟩
theorem hy_pk {a : Nat} (hm : m < 3) (hak : a < 256) (h : hv_M F md im ce sd rs oo mm sh wn) (post : Int32 → Prop) (hp : post (ce (hv_lc rs (256 * m + a)))) : wpY_peek post (fr, qn, pr, hd, cu, le, ba, md, rg, sp, mm, sc, rc, ou, qh, ow, im, sh, ct, wn) (nI m) (nI a) := by
  have e49 : (m < 2 → ¬ md m = 0) → wY_peek_49 post (nI m) (nI a) fr qn pr hd cu le ba md rg sp mm sc rc ou qh ow im sh ct wn := fun hon => by
    unfold wY_peek_49
    rw [hv_i256 m a, nI_clamp (n := 256 * m + a) (by omega), hv_Mm h (256 * m + a) (by omega) (fun z => by rw [show (256 * m + a) / 256 = m by omega]; exact hon (by omega))]
    exact ⟨vp_in_nI (by omega) (by decide), hp⟩
  unfold wpY_peek
  refine hy_in1 m 2 (by omega) (by decide) (br_f (by decide) (hy_in1 a 255 (by omega) (by decide) (br_f (by decide) ?_)))
  by_cases q : m < 2
  · refine br_f (nI_ge (b := 2) q (by decide)) ⟨hv_iv hm, ?_⟩
    rw [hv_im hm]
    by_cases q0 : md m = 0
    · refine br_t q0 ?_
      rw [hv_i256 m a, nI_clamp (n := 256 * m + a) (by omega)]
      obtain ⟨h1, h2⟩ := hv_Mx h m q q0
      have el : hv_lc rs (256 * m + a) = 256 + 256 * m + a := by
        rw [hv_lcn (fun _ => by rw [show (256 * m + a) / 16 = 16 * m + a / 16 by omega]; exact h1 _ (by omega))]
        omega
      rw [el, h2 a hak] at hp
      exact ⟨vp_in_nI (by omega) (by decide), hp⟩
    · exact br_f q0 (e49 fun _ => q0)
  · exact br_t (nI_le (a := 2) (by omega) (by omega)) (e49 fun z => absurd z q)
/-! digest's loops -/
theorem hv_dg3 (hm : m < 3) (h : hv_M F md im ce sd rs oo mm sh wn) : ∀ (dd i : Nat), i + dd = 256 → ∀ acc : Int32, ∃ acc', (∀ post : Int32 → Prop, post acc' → wX_digest_132 post (nI m) fr qn pr hd cu le ba ex md rg pc pt ve ep ca bv ti zs st pu pv pe fs be br sc rc ou qh ow ce im sd rs oo ct (dd + 1) acc (nI i)) ∧ (∀ post : Int32 → Prop, post acc' → wY_digest_157 post (nI m) fr qn pr hd cu le ba md rg sp mm sc rc ou qh ow im sh ct wn (dd + 1) acc (nI i)) := by
  intro dd
  induction dd with
  | zero =>
    intro i hi acc
    have hle : (256 : Int32) ≤ nI i := nI_le (a := 256) (by omega) (by omega)
    exact ⟨acc, fun post hp => br_t hle hp, fun post hp => br_t hle hp⟩
  | succ dd ih =>
    intro i hi acc
    have hle : ¬ (256 : Int32) ≤ nI i := nI_ge (b := 256) (by omega) (by decide)
    obtain ⟨acc', iX, iY⟩ := ih (i + 1) (by omega) (((acc * 31) + ce (hv_lc rs (256 * m + i))) &&& 2147483647)
    refine ⟨acc', fun post hp => br_f hle ?_, fun post hp => br_f hle ?_⟩
    · refine hx_pk hm (by omega) h (fun x => wpX_mix (fun r_270 => (∀ x3_307 : Int32, x3_307 = nI i + 1 → (wX_digest_132 post (nI m) fr qn pr hd cu le ba ex md rg pc pt ve ep ca bv ti zs st pu pv pe fs be br sc rc ou qh ow ce im sd rs oo ct (dd + 1) r_270 x3_307))) (fr, qn, pr, hd, cu, le, ba, ex, md, rg, pc, pt, ve, ep, ca, bv, ti, zs, st, pu, pv, pe, fs, be, br, sc, rc, ou, qh, ow, ce, im, sd, rs, oo, ct) acc x) ?_
      exact nm_r (nI_1 i) (iX post hp)
    · refine hy_pk hm (by omega) h _ ?_
      exact nm_e (nm_r (nI_1 i) (iY post hp))
theorem hv_dg2 (hm : m < 3) (h : hv_M F md im ce sd rs oo mm sh wn) : ∀ (dd i : Nat), i + dd = 4 → ∀ acc : Int32, ∃ acc', (∀ post : Int32 → Prop, post acc' → wX_digest_55 post (nI m) fr qn pr hd cu le ba ex md rg pc pt ve ep ca bv ti zs st pu pv pe fs be br sc rc ou qh ow ce im sd rs oo ct (dd + 1) acc (nI i)) ∧ (∀ post : Int32 → Prop, post acc' → wY_digest_65 post (nI m) fr qn pr hd cu le ba md rg sp mm sc rc ou qh ow im sh ct wn (dd + 1) acc (nI i)) := by
  intro dd
  induction dd with
  | zero =>
    intro i hi acc
    have hle : (4 : Int32) ≤ nI i := nI_le (a := 4) (by omega) (by omega)
    obtain ⟨acc', iX, iY⟩ := hv_dg3 (fr := fr) (qn := qn) (pr := pr) (hd := hd) (cu := cu) (le := le) (ba := ba) (ex := ex) (md := md) (rg := rg) (pc := pc) (pt := pt) (ve := ve) (ep := ep) (ca := ca) (bv := bv) (ti := ti) (zs := zs) (st := st) (pu := pu) (pv := pv) (pe := pe) (fs := fs) (be := be) (br := br) (sc := sc) (rc := rc) (ou := ou) (qh := qh) (ow := ow) (ce := ce) (im := im) (sd := sd) (rs := rs) (oo := oo) (ct := ct) (sp := sp) (mm := mm) (sh := sh) (wn := wn) hm h 256 0 rfl ((((((((acc * 31 + sc m) &&& 2147483647) * 31 + rc m) &&& 2147483647) * 31 + ou m) &&& 2147483647) * 31 + qh m) &&& 2147483647)
    refine ⟨acc', fun post hp => br_t hle ?_, fun post hp => br_t hle ?_⟩
    · rw [hv_im hm]
      refine ⟨hv_iv hm, ?_⟩
      refine ⟨hv_iv hm, ?_⟩
      refine ⟨hv_iv hm, ?_⟩
      refine ⟨hv_iv hm, ?_⟩
      exact ⟨257, iX post hp⟩
    · rw [hv_im hm]
      exact ⟨hv_iv hm, nm_e ⟨hv_iv hm, nm_e ⟨hv_iv hm, nm_e ⟨hv_iv hm, nm_e ⟨257, iY post hp⟩⟩⟩⟩⟩
  | succ dd ih =>
    intro i hi acc
    have hle : ¬ (4 : Int32) ≤ nI i := nI_ge (b := 4) (by omega) (by decide)
    obtain ⟨acc', iX, iY⟩ := ih (i + 1) (by omega) (((acc * 31) + rg (4 * m + i)) &&& 2147483647)
    refine ⟨acc', fun post hp => br_f hle ?_, fun post hp => br_f hle ?_⟩
    · rw [hv_i4 m i, nI_clamp (n := 4 * m + i) (by omega)]
      refine ⟨vp_in_nI (by omega) (by decide), ?_⟩
      exact nm_r (nI_1 i) (iX post hp)
    · rw [hv_i4 m i, nI_clamp (n := 4 * m + i) (by omega)]
      exact ⟨vp_in_nI (by omega) (by decide), nm_e (nm_r (nI_1 i) (iY post hp))⟩
theorem hv_dg1 (hm : m < 3) (h : hv_M F md im ce sd rs oo mm sh wn) (hS : hv_S sp pt ve ep ca bv ti zs st pc pu pv pe fs be br) : ∀ (dd i : Nat), i + dd = 13 → ∀ acc : Int32, ∃ acc', (∀ post : Int32 → Prop, post acc' → wX_digest_25 post (nI m) fr qn pr hd cu le ba ex md rg pc pt ve ep ca bv ti zs st pu pv pe fs be br sc rc ou qh ow ce im sd rs oo ct (dd + 1) acc (nI i)) ∧ (∀ post : Int32 → Prop, post acc' → wY_digest_31 post (nI m) fr qn pr hd cu le ba md rg sp mm sc rc ou qh ow im sh ct wn (dd + 1) acc (nI i)) := by
  intro dd
  induction dd with
  | zero =>
    intro i hi acc
    have hle : (12 : Int32) < nI i := nI_lt (a := 12) (by omega) (by omega)
    obtain ⟨acc', iX, iY⟩ := hv_dg2 (fr := fr) (qn := qn) (pr := pr) (hd := hd) (cu := cu) (le := le) (ba := ba) (ex := ex) (md := md) (rg := rg) (pc := pc) (pt := pt) (ve := ve) (ep := ep) (ca := ca) (bv := bv) (ti := ti) (zs := zs) (st := st) (pu := pu) (pv := pv) (pe := pe) (fs := fs) (be := be) (br := br) (sc := sc) (rc := rc) (ou := ou) (qh := qh) (ow := ow) (ce := ce) (im := im) (sd := sd) (rs := rs) (oo := oo) (ct := ct) (sp := sp) (mm := mm) (sh := sh) (wn := wn) hm h 4 0 rfl acc
    exact ⟨acc', fun post hp => br_t hle ⟨5, iX post hp⟩, fun post hp => br_t hle ⟨5, iY post hp⟩⟩
  | succ dd ih =>
    intro i hi acc
    have hle : ¬ (12 : Int32) < nI i := nI_nlt (a := 12) (by omega) (by decide)
    obtain ⟨acc', iX, iY⟩ := ih (i + 1) (by omega) (((acc * 31) + sp (16 * m + i)) &&& 2147483647)
    refine ⟨acc', fun post hp => br_f hle ?_, fun post hp => br_f hle ?_⟩
    · refine hx_rs hm (by omega) hS _ ?_
      exact nm_r (nI_1 i) (iX post hp)
    · rw [hv_i16 m i, nI_clamp (n := 16 * m + i) (by omega)]
      exact ⟨vp_in_nI (by omega) (by decide), nm_e (nm_r (nI_1 i) (iY post hp))⟩
end
theorem i_vc_state {k : Nat} {u : SX} {v : SY} (I : i_Rel k u v) (hk : k + 5 ≤ 2563) (v1 : Int32) : wpX_state (fun r => wpY_state (fun r' => r' = r ∧ i_Rel (k + 5) u v) v v1) u v1 := by
  refine hv_el (P := fun u v => wpX_state (fun r => wpY_state (fun r' => r' = r ∧ i_Rel (k + 5) u v) v v1) u v1) I ?_
  intro F fr qn pr hd cu le ba ex md rg pc pt ve ep ca bv ti zs st pu pv pe fs be br sc rc ou qh ow ce im sd rs oo ct sp mm sh wn hR
  have hin : i_Rel (k + 5) (fr, qn, pr, hd, cu, le, ba, ex, md, rg, pc, pt, ve, ep, ca, bv, ti, zs, st, pu, pv, pe, fs, be, br, sc, rc, ou, qh, ow, ce, im, sd, rs, oo, ct) (fr, qn, pr, hd, cu, le, ba, md, rg, sp, mm, sc, rc, ou, qh, ow, im, sh, ct, wn) := hv_in fr qn pr hd cu le ba ex md rg pc pt ve ep ca bv ti zs st pu pv pe fs be br sc rc ou qh ow ce im sd rs oo ct sp mm sh wn hR
  unfold wpX_state
  have bad : (v1 < 0 ∨ nI 2 < v1) → wpY_state (fun r' => r' = -1 ∧ i_Rel (k + 5) (fr, qn, pr, hd, cu, le, ba, ex, md, rg, pc, pt, ve, ep, ca, bv, ti, zs, st, pu, pv, pe, fs, be, br, sc, rc, ou, qh, ow, ce, im, sd, rs, oo, ct) (fr, qn, pr, hd, cu, le, ba, md, rg, sp, mm, sc, rc, ou, qh, ow, im, sh, ct, wn)) (fr, qn, pr, hd, cu, le, ba, md, rg, sp, mm, sc, rc, ou, qh, ow, im, sh, ct, wn) v1 := fun z => by
    unfold wpY_state
    exact hy_in0 2 z _ (br_t rfl ⟨rfl, hin⟩)
  rcases hv_rng v1 2 (by decide) with ⟨m, hm, rfl⟩ | hb | ⟨hb1, hb2, hb3⟩
  · refine hx_im1 (by omega) _ (br_f (by decide) ⟨hv_iv (by omega), ?_⟩)
    unfold wpY_state
    exact hy_in1 m 2 hm (by decide) (br_f (by decide) ⟨hv_iv (by omega), rfl, hin⟩)
  · exact hx_im0 (Or.inl hb) _ (br_t rfl (bad (Or.inl hb)))
  · exact hx_im0 (Or.inr hb2) _ (br_t rfl (bad (Or.inr hb2)))
theorem i_vc_steps {k : Nat} {u : SX} {v : SY} (I : i_Rel k u v) (hk : k + 5 ≤ 2563) (v1 : Int32) : wpX_steps (fun r => wpY_steps (fun r' => r' = r ∧ i_Rel (k + 5) u v) v v1) u v1 := by
  refine hv_el (P := fun u v => wpX_steps (fun r => wpY_steps (fun r' => r' = r ∧ i_Rel (k + 5) u v) v v1) u v1) I ?_
  intro F fr qn pr hd cu le ba ex md rg pc pt ve ep ca bv ti zs st pu pv pe fs be br sc rc ou qh ow ce im sd rs oo ct sp mm sh wn hR
  have hin : i_Rel (k + 5) (fr, qn, pr, hd, cu, le, ba, ex, md, rg, pc, pt, ve, ep, ca, bv, ti, zs, st, pu, pv, pe, fs, be, br, sc, rc, ou, qh, ow, ce, im, sd, rs, oo, ct) (fr, qn, pr, hd, cu, le, ba, md, rg, sp, mm, sc, rc, ou, qh, ow, im, sh, ct, wn) := hv_in fr qn pr hd cu le ba ex md rg pc pt ve ep ca bv ti zs st pu pv pe fs be br sc rc ou qh ow ce im sd rs oo ct sp mm sh wn hR
  unfold wpX_steps
  have bad : (v1 < 0 ∨ nI 2 < v1) → wpY_steps (fun r' => r' = -1 ∧ i_Rel (k + 5) (fr, qn, pr, hd, cu, le, ba, ex, md, rg, pc, pt, ve, ep, ca, bv, ti, zs, st, pu, pv, pe, fs, be, br, sc, rc, ou, qh, ow, ce, im, sd, rs, oo, ct) (fr, qn, pr, hd, cu, le, ba, md, rg, sp, mm, sc, rc, ou, qh, ow, im, sh, ct, wn)) (fr, qn, pr, hd, cu, le, ba, md, rg, sp, mm, sc, rc, ou, qh, ow, im, sh, ct, wn) v1 := fun z => by
    unfold wpY_steps
    exact hy_in0 2 z _ (br_t rfl ⟨rfl, hin⟩)
  rcases hv_rng v1 2 (by decide) with ⟨m, hm, rfl⟩ | hb | ⟨hb1, hb2, hb3⟩
  · refine hx_im1 (by omega) _ (br_f (by decide) ⟨hv_iv (by omega), ?_⟩)
    unfold wpY_steps
    exact hy_in1 m 2 hm (by decide) (br_f (by decide) ⟨hv_iv (by omega), rfl, hin⟩)
  · exact hx_im0 (Or.inl hb) _ (br_t rfl (bad (Or.inl hb)))
  · exact hx_im0 (Or.inr hb2) _ (br_t rfl (bad (Or.inr hb2)))
theorem i_vc_retired {k : Nat} {u : SX} {v : SY} (I : i_Rel k u v) (hk : k + 5 ≤ 2563) (v1 : Int32) : wpX_retired (fun r => wpY_retired (fun r' => r' = r ∧ i_Rel (k + 5) u v) v v1) u v1 := by
  refine hv_el (P := fun u v => wpX_retired (fun r => wpY_retired (fun r' => r' = r ∧ i_Rel (k + 5) u v) v v1) u v1) I ?_
  intro F fr qn pr hd cu le ba ex md rg pc pt ve ep ca bv ti zs st pu pv pe fs be br sc rc ou qh ow ce im sd rs oo ct sp mm sh wn hR
  have hin : i_Rel (k + 5) (fr, qn, pr, hd, cu, le, ba, ex, md, rg, pc, pt, ve, ep, ca, bv, ti, zs, st, pu, pv, pe, fs, be, br, sc, rc, ou, qh, ow, ce, im, sd, rs, oo, ct) (fr, qn, pr, hd, cu, le, ba, md, rg, sp, mm, sc, rc, ou, qh, ow, im, sh, ct, wn) := hv_in fr qn pr hd cu le ba ex md rg pc pt ve ep ca bv ti zs st pu pv pe fs be br sc rc ou qh ow ce im sd rs oo ct sp mm sh wn hR
  unfold wpX_retired
  have bad : (v1 < 0 ∨ nI 2 < v1) → wpY_retired (fun r' => r' = -1 ∧ i_Rel (k + 5) (fr, qn, pr, hd, cu, le, ba, ex, md, rg, pc, pt, ve, ep, ca, bv, ti, zs, st, pu, pv, pe, fs, be, br, sc, rc, ou, qh, ow, ce, im, sd, rs, oo, ct) (fr, qn, pr, hd, cu, le, ba, md, rg, sp, mm, sc, rc, ou, qh, ow, im, sh, ct, wn)) (fr, qn, pr, hd, cu, le, ba, md, rg, sp, mm, sc, rc, ou, qh, ow, im, sh, ct, wn) v1 := fun z => by
    unfold wpY_retired
    exact hy_in0 2 z _ (br_t rfl ⟨rfl, hin⟩)
  rcases hv_rng v1 2 (by decide) with ⟨m, hm, rfl⟩ | hb | ⟨hb1, hb2, hb3⟩
  · refine hx_im1 (by omega) _ (br_f (by decide) ⟨hv_iv (by omega), ?_⟩)
    unfold wpY_retired
    exact hy_in1 m 2 hm (by decide) (br_f (by decide) ⟨hv_iv (by omega), rfl, hin⟩)
  · exact hx_im0 (Or.inl hb) _ (br_t rfl (bad (Or.inl hb)))
  · exact hx_im0 (Or.inr hb2) _ (br_t rfl (bad (Or.inr hb2)))
theorem i_vc_outCount {k : Nat} {u : SX} {v : SY} (I : i_Rel k u v) (hk : k + 5 ≤ 2563) (v1 : Int32) : wpX_outCount (fun r => wpY_outCount (fun r' => r' = r ∧ i_Rel (k + 5) u v) v v1) u v1 := by
  refine hv_el (P := fun u v => wpX_outCount (fun r => wpY_outCount (fun r' => r' = r ∧ i_Rel (k + 5) u v) v v1) u v1) I ?_
  intro F fr qn pr hd cu le ba ex md rg pc pt ve ep ca bv ti zs st pu pv pe fs be br sc rc ou qh ow ce im sd rs oo ct sp mm sh wn hR
  have hin : i_Rel (k + 5) (fr, qn, pr, hd, cu, le, ba, ex, md, rg, pc, pt, ve, ep, ca, bv, ti, zs, st, pu, pv, pe, fs, be, br, sc, rc, ou, qh, ow, ce, im, sd, rs, oo, ct) (fr, qn, pr, hd, cu, le, ba, md, rg, sp, mm, sc, rc, ou, qh, ow, im, sh, ct, wn) := hv_in fr qn pr hd cu le ba ex md rg pc pt ve ep ca bv ti zs st pu pv pe fs be br sc rc ou qh ow ce im sd rs oo ct sp mm sh wn hR
  unfold wpX_outCount
  have bad : (v1 < 0 ∨ nI 2 < v1) → wpY_outCount (fun r' => r' = -1 ∧ i_Rel (k + 5) (fr, qn, pr, hd, cu, le, ba, ex, md, rg, pc, pt, ve, ep, ca, bv, ti, zs, st, pu, pv, pe, fs, be, br, sc, rc, ou, qh, ow, ce, im, sd, rs, oo, ct) (fr, qn, pr, hd, cu, le, ba, md, rg, sp, mm, sc, rc, ou, qh, ow, im, sh, ct, wn)) (fr, qn, pr, hd, cu, le, ba, md, rg, sp, mm, sc, rc, ou, qh, ow, im, sh, ct, wn) v1 := fun z => by
    unfold wpY_outCount
    exact hy_in0 2 z _ (br_t rfl ⟨rfl, hin⟩)
  rcases hv_rng v1 2 (by decide) with ⟨m, hm, rfl⟩ | hb | ⟨hb1, hb2, hb3⟩
  · refine hx_im1 (by omega) _ (br_f (by decide) ⟨hv_iv (by omega), ?_⟩)
    unfold wpY_outCount
    exact hy_in1 m 2 hm (by decide) (br_f (by decide) ⟨hv_iv (by omega), rfl, hin⟩)
  · exact hx_im0 (Or.inl hb) _ (br_t rfl (bad (Or.inl hb)))
  · exact hx_im0 (Or.inr hb2) _ (br_t rfl (bad (Or.inr hb2)))
theorem i_vc_outHash {k : Nat} {u : SX} {v : SY} (I : i_Rel k u v) (hk : k + 5 ≤ 2563) (v1 : Int32) : wpX_outHash (fun r => wpY_outHash (fun r' => r' = r ∧ i_Rel (k + 5) u v) v v1) u v1 := by
  refine hv_el (P := fun u v => wpX_outHash (fun r => wpY_outHash (fun r' => r' = r ∧ i_Rel (k + 5) u v) v v1) u v1) I ?_
  intro F fr qn pr hd cu le ba ex md rg pc pt ve ep ca bv ti zs st pu pv pe fs be br sc rc ou qh ow ce im sd rs oo ct sp mm sh wn hR
  have hin : i_Rel (k + 5) (fr, qn, pr, hd, cu, le, ba, ex, md, rg, pc, pt, ve, ep, ca, bv, ti, zs, st, pu, pv, pe, fs, be, br, sc, rc, ou, qh, ow, ce, im, sd, rs, oo, ct) (fr, qn, pr, hd, cu, le, ba, md, rg, sp, mm, sc, rc, ou, qh, ow, im, sh, ct, wn) := hv_in fr qn pr hd cu le ba ex md rg pc pt ve ep ca bv ti zs st pu pv pe fs be br sc rc ou qh ow ce im sd rs oo ct sp mm sh wn hR
  unfold wpX_outHash
  have bad : (v1 < 0 ∨ nI 2 < v1) → wpY_outHash (fun r' => r' = -1 ∧ i_Rel (k + 5) (fr, qn, pr, hd, cu, le, ba, ex, md, rg, pc, pt, ve, ep, ca, bv, ti, zs, st, pu, pv, pe, fs, be, br, sc, rc, ou, qh, ow, ce, im, sd, rs, oo, ct) (fr, qn, pr, hd, cu, le, ba, md, rg, sp, mm, sc, rc, ou, qh, ow, im, sh, ct, wn)) (fr, qn, pr, hd, cu, le, ba, md, rg, sp, mm, sc, rc, ou, qh, ow, im, sh, ct, wn) v1 := fun z => by
    unfold wpY_outHash
    exact hy_in0 2 z _ (br_t rfl ⟨rfl, hin⟩)
  rcases hv_rng v1 2 (by decide) with ⟨m, hm, rfl⟩ | hb | ⟨hb1, hb2, hb3⟩
  · refine hx_im1 (by omega) _ (br_f (by decide) ⟨hv_iv (by omega), ?_⟩)
    unfold wpY_outHash
    exact hy_in1 m 2 hm (by decide) (br_f (by decide) ⟨hv_iv (by omega), rfl, hin⟩)
  · exact hx_im0 (Or.inl hb) _ (br_t rfl (bad (Or.inl hb)))
  · exact hx_im0 (Or.inr hb2) _ (br_t rfl (bad (Or.inr hb2)))
theorem i_vc_reg {k : Nat} {u : SX} {v : SY} (I : i_Rel k u v) (hk : k + 5 ≤ 2563) (v1 : Int32) (v2 : Int32) : wpX_reg (fun r => wpY_reg (fun r' => r' = r ∧ i_Rel (k + 5) u v) v v1 v2) u v1 v2 := by
  refine hv_el (P := fun u v => wpX_reg (fun r => wpY_reg (fun r' => r' = r ∧ i_Rel (k + 5) u v) v v1 v2) u v1 v2) I ?_
  intro F fr qn pr hd cu le ba ex md rg pc pt ve ep ca bv ti zs st pu pv pe fs be br sc rc ou qh ow ce im sd rs oo ct sp mm sh wn hR
  have hin : i_Rel (k + 5) (fr, qn, pr, hd, cu, le, ba, ex, md, rg, pc, pt, ve, ep, ca, bv, ti, zs, st, pu, pv, pe, fs, be, br, sc, rc, ou, qh, ow, ce, im, sd, rs, oo, ct) (fr, qn, pr, hd, cu, le, ba, md, rg, sp, mm, sc, rc, ou, qh, ow, im, sh, ct, wn) := hv_in fr qn pr hd cu le ba ex md rg pc pt ve ep ca bv ti zs st pu pv pe fs be br sc rc ou qh ow ce im sd rs oo ct sp mm sh wn hR
  unfold wpX_reg
  have bad : (v1 < 0 ∨ nI 2 < v1) → wpY_reg (fun r' => r' = -1 ∧ i_Rel (k + 5) (fr, qn, pr, hd, cu, le, ba, ex, md, rg, pc, pt, ve, ep, ca, bv, ti, zs, st, pu, pv, pe, fs, be, br, sc, rc, ou, qh, ow, ce, im, sd, rs, oo, ct) (fr, qn, pr, hd, cu, le, ba, md, rg, sp, mm, sc, rc, ou, qh, ow, im, sh, ct, wn)) (fr, qn, pr, hd, cu, le, ba, md, rg, sp, mm, sc, rc, ou, qh, ow, im, sh, ct, wn) v1 v2 := fun z => by
    unfold wpY_reg
    exact hy_in0 2 z _ (br_t rfl ⟨rfl, hin⟩)
  rcases hv_rng v1 2 (by decide) with ⟨m, hm, rfl⟩ | hb | ⟨hb1, hb2, hb3⟩
  rotate_left
  · exact hx_im0 (Or.inl hb) _ (br_t rfl (bad (Or.inl hb)))
  · exact hx_im0 (Or.inr hb2) _ (br_t rfl (bad (Or.inr hb2)))
  refine hx_im1 (by omega) _ (br_f (by decide) ?_)
  have bad2 : (v2 < 0 ∨ nI 3 < v2) → wpY_reg (fun r' => r' = -1 ∧ i_Rel (k + 5) (fr, qn, pr, hd, cu, le, ba, ex, md, rg, pc, pt, ve, ep, ca, bv, ti, zs, st, pu, pv, pe, fs, be, br, sc, rc, ou, qh, ow, ce, im, sd, rs, oo, ct) (fr, qn, pr, hd, cu, le, ba, md, rg, sp, mm, sc, rc, ou, qh, ow, im, sh, ct, wn)) (fr, qn, pr, hd, cu, le, ba, md, rg, sp, mm, sc, rc, ou, qh, ow, im, sh, ct, wn) (nI m) v2 := fun z => by
    unfold wpY_reg
    exact hy_in1 m 2 hm (by decide) (br_f (by decide) (hy_in0 3 z _ (br_t rfl ⟨rfl, hin⟩)))
  rcases hv_rng v2 3 (by decide) with ⟨j, hj, rfl⟩ | hb | ⟨hb1, hb2, hb3⟩
  rotate_left
  · exact br_t hb (bad2 (Or.inl hb))
  · exact br_f hb1 (br_f hb3 (bad2 (Or.inr hb2)))
  refine br_f (nI_pos (by omega)) (br_t (nI_le (b := 3) hj (by decide)) ?_)
  have ii : vp_in (nI m * 4 + nI j) 12 := by rw [hv_i4]; exact vp_in_nI (by omega) (by decide)
  refine ⟨ii, ?_⟩
  unfold wpY_reg
  refine hy_in1 m 2 hm (by decide) (br_f (by decide) (hy_in1 j 3 hj (by decide) (br_f (by decide) ?_)))
  exact ⟨ii, rfl, hin⟩
theorem i_vc_image {k : Nat} {u : SX} {v : SY} (I : i_Rel k u v) (hk : k + 5 ≤ 2563) (v1 : Int32) (v2 : Int32) : wpX_image (fun r => wpY_image (fun r' => r' = r ∧ i_Rel (k + 5) u v) v v1 v2) u v1 v2 := by
  refine hv_el (P := fun u v => wpX_image (fun r => wpY_image (fun r' => r' = r ∧ i_Rel (k + 5) u v) v v1 v2) u v1 v2) I ?_
  intro F fr qn pr hd cu le ba ex md rg pc pt ve ep ca bv ti zs st pu pv pe fs be br sc rc ou qh ow ce im sd rs oo ct sp mm sh wn hR
  have hin : i_Rel (k + 5) (fr, qn, pr, hd, cu, le, ba, ex, md, rg, pc, pt, ve, ep, ca, bv, ti, zs, st, pu, pv, pe, fs, be, br, sc, rc, ou, qh, ow, ce, im, sd, rs, oo, ct) (fr, qn, pr, hd, cu, le, ba, md, rg, sp, mm, sc, rc, ou, qh, ow, im, sh, ct, wn) := hv_in fr qn pr hd cu le ba ex md rg pc pt ve ep ca bv ti zs st pu pv pe fs be br sc rc ou qh ow ce im sd rs oo ct sp mm sh wn hR
  unfold wpX_image
  have bad : (v1 < 0 ∨ nI 1 < v1) → wpY_image (fun r' => r' = -1 ∧ i_Rel (k + 5) (fr, qn, pr, hd, cu, le, ba, ex, md, rg, pc, pt, ve, ep, ca, bv, ti, zs, st, pu, pv, pe, fs, be, br, sc, rc, ou, qh, ow, ce, im, sd, rs, oo, ct) (fr, qn, pr, hd, cu, le, ba, md, rg, sp, mm, sc, rc, ou, qh, ow, im, sh, ct, wn)) (fr, qn, pr, hd, cu, le, ba, md, rg, sp, mm, sc, rc, ou, qh, ow, im, sh, ct, wn) v1 v2 := fun z => by
    unfold wpY_image
    exact hy_in0 1 z _ (br_t rfl ⟨rfl, hin⟩)
  rcases hv_g01 v1 with ⟨m, hm, rfl⟩ | ⟨n0, n1, nb⟩
  rotate_left
  · exact hx_ig0 n0 n1 _ (br_t rfl (bad nb))
  refine hx_ig1 hm _ (br_f (by decide) ?_)
  have bad2 : (v2 < 0 ∨ nI 255 < v2) → wpY_image (fun r' => r' = -1 ∧ i_Rel (k + 5) (fr, qn, pr, hd, cu, le, ba, ex, md, rg, pc, pt, ve, ep, ca, bv, ti, zs, st, pu, pv, pe, fs, be, br, sc, rc, ou, qh, ow, ce, im, sd, rs, oo, ct) (fr, qn, pr, hd, cu, le, ba, md, rg, sp, mm, sc, rc, ou, qh, ow, im, sh, ct, wn)) (fr, qn, pr, hd, cu, le, ba, md, rg, sp, mm, sc, rc, ou, qh, ow, im, sh, ct, wn) (nI m) v2 := fun z => by
    unfold wpY_image
    exact hy_in1 m 1 (by omega) (by decide) (br_f (by decide) (hy_in0 255 z _ (br_t rfl ⟨rfl, hin⟩)))
  rcases hv_rng v2 255 (by decide) with ⟨j, hj, rfl⟩ | hb | ⟨hb1, hb2, hb3⟩
  rotate_left
  · exact br_t hb (bad2 (Or.inl hb))
  · exact br_f hb1 (br_f hb3 (bad2 (Or.inr hb2)))
  refine br_f (nI_pos (by omega)) (br_t (nI_le (b := 255) hj (by decide)) ?_)
  have ii : vp_in (nI m * 256 + nI j) 512 := by rw [hv_i256]; exact vp_in_nI (by omega) (by decide)
  refine ⟨ii, ?_⟩
  unfold wpY_image
  refine hy_in1 m 1 (by omega) (by decide) (br_f (by decide) (hy_in1 j 255 hj (by decide) (br_f (by decide) ?_)))
  exact ⟨ii, rfl, hin⟩
theorem i_vc_count {k : Nat} {u : SX} {v : SY} (I : i_Rel k u v) (hk : k + 5 ≤ 2563) (v1 : Int32) (v2 : Int32) : wpX_count (fun r => wpY_count (fun r' => r' = r ∧ i_Rel (k + 5) u v) v v1 v2) u v1 v2 := by
  refine hv_el (P := fun u v => wpX_count (fun r => wpY_count (fun r' => r' = r ∧ i_Rel (k + 5) u v) v v1 v2) u v1 v2) I ?_
  intro F fr qn pr hd cu le ba ex md rg pc pt ve ep ca bv ti zs st pu pv pe fs be br sc rc ou qh ow ce im sd rs oo ct sp mm sh wn hR
  have hin : i_Rel (k + 5) (fr, qn, pr, hd, cu, le, ba, ex, md, rg, pc, pt, ve, ep, ca, bv, ti, zs, st, pu, pv, pe, fs, be, br, sc, rc, ou, qh, ow, ce, im, sd, rs, oo, ct) (fr, qn, pr, hd, cu, le, ba, md, rg, sp, mm, sc, rc, ou, qh, ow, im, sh, ct, wn) := hv_in fr qn pr hd cu le ba ex md rg pc pt ve ep ca bv ti zs st pu pv pe fs be br sc rc ou qh ow ce im sd rs oo ct sp mm sh wn hR
  unfold wpX_count
  have bad : (v1 < 0 ∨ nI 1 < v1) → wpY_count (fun r' => r' = -1 ∧ i_Rel (k + 5) (fr, qn, pr, hd, cu, le, ba, ex, md, rg, pc, pt, ve, ep, ca, bv, ti, zs, st, pu, pv, pe, fs, be, br, sc, rc, ou, qh, ow, ce, im, sd, rs, oo, ct) (fr, qn, pr, hd, cu, le, ba, md, rg, sp, mm, sc, rc, ou, qh, ow, im, sh, ct, wn)) (fr, qn, pr, hd, cu, le, ba, md, rg, sp, mm, sc, rc, ou, qh, ow, im, sh, ct, wn) v1 v2 := fun z => by
    unfold wpY_count
    exact hy_in0 1 z _ (br_t rfl ⟨rfl, hin⟩)
  rcases hv_g01 v1 with ⟨m, hm, rfl⟩ | ⟨n0, n1, nb⟩
  rotate_left
  · exact hx_ig0 n0 n1 _ (br_t rfl (bad nb))
  refine hx_ig1 hm _ (br_f (by decide) ?_)
  have bad2 : (v2 < 0 ∨ nI 9 < v2) → wpY_count (fun r' => r' = -1 ∧ i_Rel (k + 5) (fr, qn, pr, hd, cu, le, ba, ex, md, rg, pc, pt, ve, ep, ca, bv, ti, zs, st, pu, pv, pe, fs, be, br, sc, rc, ou, qh, ow, ce, im, sd, rs, oo, ct) (fr, qn, pr, hd, cu, le, ba, md, rg, sp, mm, sc, rc, ou, qh, ow, im, sh, ct, wn)) (fr, qn, pr, hd, cu, le, ba, md, rg, sp, mm, sc, rc, ou, qh, ow, im, sh, ct, wn) (nI m) v2 := fun z => by
    unfold wpY_count
    exact hy_in1 m 1 (by omega) (by decide) (br_f (by decide) (hy_in0 9 z _ (br_t rfl ⟨rfl, hin⟩)))
  rcases hv_rng v2 9 (by decide) with ⟨j, hj, rfl⟩ | hb | ⟨hb1, hb2, hb3⟩
  rotate_left
  · exact br_t hb (bad2 (Or.inl hb))
  · exact br_f hb1 (br_f hb3 (bad2 (Or.inr hb2)))
  refine br_f (nI_pos (by omega)) (br_t (nI_le (b := 9) hj (by decide)) ?_)
  have ii : vp_in (nI m * 10 + nI j) 20 := by rw [hv_i10]; exact vp_in_nI (by omega) (by decide)
  refine ⟨ii, ?_⟩
  unfold wpY_count
  refine hy_in1 m 1 (by omega) (by decide) (br_f (by decide) (hy_in1 j 9 hj (by decide) (br_f (by decide) ?_)))
  exact ⟨ii, rfl, hin⟩
theorem i_vc_special {k : Nat} {u : SX} {v : SY} (I : i_Rel k u v) (hk : k + 5 ≤ 2563) (v1 : Int32) (v2 : Int32) : wpX_special (fun r => wpY_special (fun r' => r' = r ∧ i_Rel (k + 5) u v) v v1 v2) u v1 v2 := by
  refine hv_el (P := fun u v => wpX_special (fun r => wpY_special (fun r' => r' = r ∧ i_Rel (k + 5) u v) v v1 v2) u v1 v2) I ?_
  intro F fr qn pr hd cu le ba ex md rg pc pt ve ep ca bv ti zs st pu pv pe fs be br sc rc ou qh ow ce im sd rs oo ct sp mm sh wn hR
  have hin : i_Rel (k + 5) (fr, qn, pr, hd, cu, le, ba, ex, md, rg, pc, pt, ve, ep, ca, bv, ti, zs, st, pu, pv, pe, fs, be, br, sc, rc, ou, qh, ow, ce, im, sd, rs, oo, ct) (fr, qn, pr, hd, cu, le, ba, md, rg, sp, mm, sc, rc, ou, qh, ow, im, sh, ct, wn) := hv_in fr qn pr hd cu le ba ex md rg pc pt ve ep ca bv ti zs st pu pv pe fs be br sc rc ou qh ow ce im sd rs oo ct sp mm sh wn hR
  unfold wpX_special
  have bad : (v1 < 0 ∨ nI 2 < v1) → wpY_special (fun r' => r' = -1 ∧ i_Rel (k + 5) (fr, qn, pr, hd, cu, le, ba, ex, md, rg, pc, pt, ve, ep, ca, bv, ti, zs, st, pu, pv, pe, fs, be, br, sc, rc, ou, qh, ow, ce, im, sd, rs, oo, ct) (fr, qn, pr, hd, cu, le, ba, md, rg, sp, mm, sc, rc, ou, qh, ow, im, sh, ct, wn)) (fr, qn, pr, hd, cu, le, ba, md, rg, sp, mm, sc, rc, ou, qh, ow, im, sh, ct, wn) v1 v2 := fun z => by
    unfold wpY_special
    exact hy_in0 2 z _ (br_t rfl ⟨rfl, hin⟩)
  rcases hv_rng v1 2 (by decide) with ⟨m, hm, rfl⟩ | hb | ⟨hb1, hb2, hb3⟩
  rotate_left
  · exact hx_im0 (Or.inl hb) _ (br_t rfl (bad (Or.inl hb)))
  · exact hx_im0 (Or.inr hb2) _ (br_t rfl (bad (Or.inr hb2)))
  refine hx_im1 (by omega) _ (br_f (by decide) ?_)
  have bad2 : (v2 < 0 ∨ nI 14 < v2) → wpY_special (fun r' => r' = -1 ∧ i_Rel (k + 5) (fr, qn, pr, hd, cu, le, ba, ex, md, rg, pc, pt, ve, ep, ca, bv, ti, zs, st, pu, pv, pe, fs, be, br, sc, rc, ou, qh, ow, ce, im, sd, rs, oo, ct) (fr, qn, pr, hd, cu, le, ba, md, rg, sp, mm, sc, rc, ou, qh, ow, im, sh, ct, wn)) (fr, qn, pr, hd, cu, le, ba, md, rg, sp, mm, sc, rc, ou, qh, ow, im, sh, ct, wn) (nI m) v2 := fun z => by
    unfold wpY_special
    exact hy_in1 m 2 hm (by decide) (br_f (by decide) (hy_in0 14 z _ (br_t rfl ⟨rfl, hin⟩)))
  rcases hv_rng v2 14 (by decide) with ⟨j, hj, rfl⟩ | hb | ⟨hb1, hb2, hb3⟩
  rotate_left
  · exact br_t hb (bad2 (Or.inl hb))
  · exact br_f hb1 (br_f hb3 (bad2 (Or.inr hb2)))
  refine br_f (nI_pos (by omega)) (br_t (nI_le (b := 14) hj (by decide)) ?_)
  have hm3 : m < 3 := by omega
  refine hx_rs hm3 (by omega) (hv_Rs hR) _ ?_
  unfold wpY_special
  refine hy_in1 m 2 hm (by decide) (br_f (by decide) (hy_in1 j 14 hj (by decide) (br_f (by decide) ?_)))
  rw [hv_i16 m j, nI_clamp (n := 16 * m + j) (by omega)]
  exact ⟨vp_in_nI (by omega) (by decide), rfl, hin⟩
theorem i_vc_peek {k : Nat} {u : SX} {v : SY} (I : i_Rel k u v) (hk : k + 5 ≤ 2563) (v1 : Int32) (v2 : Int32) : wpX_peek (fun r => wpY_peek (fun r' => r' = r ∧ i_Rel (k + 5) u v) v v1 v2) u v1 v2 := by
  refine hv_el (P := fun u v => wpX_peek (fun r => wpY_peek (fun r' => r' = r ∧ i_Rel (k + 5) u v) v v1 v2) u v1 v2) I ?_
  intro F fr qn pr hd cu le ba ex md rg pc pt ve ep ca bv ti zs st pu pv pe fs be br sc rc ou qh ow ce im sd rs oo ct sp mm sh wn hR
  have hin : i_Rel (k + 5) (fr, qn, pr, hd, cu, le, ba, ex, md, rg, pc, pt, ve, ep, ca, bv, ti, zs, st, pu, pv, pe, fs, be, br, sc, rc, ou, qh, ow, ce, im, sd, rs, oo, ct) (fr, qn, pr, hd, cu, le, ba, md, rg, sp, mm, sc, rc, ou, qh, ow, im, sh, ct, wn) := hv_in fr qn pr hd cu le ba ex md rg pc pt ve ep ca bv ti zs st pu pv pe fs be br sc rc ou qh ow ce im sd rs oo ct sp mm sh wn hR
  unfold wpX_peek
  have bad : (v1 < 0 ∨ nI 2 < v1) → wpY_peek (fun r' => r' = -1 ∧ i_Rel (k + 5) (fr, qn, pr, hd, cu, le, ba, ex, md, rg, pc, pt, ve, ep, ca, bv, ti, zs, st, pu, pv, pe, fs, be, br, sc, rc, ou, qh, ow, ce, im, sd, rs, oo, ct) (fr, qn, pr, hd, cu, le, ba, md, rg, sp, mm, sc, rc, ou, qh, ow, im, sh, ct, wn)) (fr, qn, pr, hd, cu, le, ba, md, rg, sp, mm, sc, rc, ou, qh, ow, im, sh, ct, wn) v1 v2 := fun z => by
    unfold wpY_peek
    exact hy_in0 2 z _ (br_t rfl ⟨rfl, hin⟩)
  rcases hv_rng v1 2 (by decide) with ⟨m, hm, rfl⟩ | hb | ⟨hb1, hb2, hb3⟩
  rotate_left
  · exact hx_im0 (Or.inl hb) _ (br_t rfl (bad (Or.inl hb)))
  · exact hx_im0 (Or.inr hb2) _ (br_t rfl (bad (Or.inr hb2)))
  refine hx_im1 (by omega) _ (br_f (by decide) ?_)
  have bad2 : (v2 < 0 ∨ nI 255 < v2) → wpY_peek (fun r' => r' = -1 ∧ i_Rel (k + 5) (fr, qn, pr, hd, cu, le, ba, ex, md, rg, pc, pt, ve, ep, ca, bv, ti, zs, st, pu, pv, pe, fs, be, br, sc, rc, ou, qh, ow, ce, im, sd, rs, oo, ct) (fr, qn, pr, hd, cu, le, ba, md, rg, sp, mm, sc, rc, ou, qh, ow, im, sh, ct, wn)) (fr, qn, pr, hd, cu, le, ba, md, rg, sp, mm, sc, rc, ou, qh, ow, im, sh, ct, wn) (nI m) v2 := fun z => by
    unfold wpY_peek
    exact hy_in1 m 2 hm (by decide) (br_f (by decide) (hy_in0 255 z _ (br_t rfl ⟨rfl, hin⟩)))
  rcases hv_rng v2 255 (by decide) with ⟨j, hj, rfl⟩ | hb | ⟨hb1, hb2, hb3⟩
  rotate_left
  · exact br_t hb (bad2 (Or.inl hb))
  · exact br_f hb1 (br_f hb3 (bad2 (Or.inr hb2)))
  refine br_f (nI_pos (by omega)) (br_t (nI_le (b := 255) hj (by decide)) ?_)
  have hm3 : m < 3 := by omega
  refine hx_pk hm3 (by omega) (hv_Rm hR) (fun x => wpY_peek (fun r' => r' = x ∧ i_Rel (k + 5) (fr, qn, pr, hd, cu, le, ba, ex, md, rg, pc, pt, ve, ep, ca, bv, ti, zs, st, pu, pv, pe, fs, be, br, sc, rc, ou, qh, ow, ce, im, sd, rs, oo, ct) (fr, qn, pr, hd, cu, le, ba, md, rg, sp, mm, sc, rc, ou, qh, ow, im, sh, ct, wn)) (fr, qn, pr, hd, cu, le, ba, md, rg, sp, mm, sc, rc, ou, qh, ow, im, sh, ct, wn) (nI m) (nI j)) ?_
  exact hy_pk hm3 (by omega) (hv_Rm hR) _ ⟨rfl, hin⟩
theorem i_vc_outWord {k : Nat} {u : SX} {v : SY} (I : i_Rel k u v) (hk : k + 5 ≤ 2563) (v1 : Int32) (v2 : Int32) : wpX_outWord (fun r => wpY_outWord (fun r' => r' = r ∧ i_Rel (k + 5) u v) v v1 v2) u v1 v2 := by
  refine hv_el (P := fun u v => wpX_outWord (fun r => wpY_outWord (fun r' => r' = r ∧ i_Rel (k + 5) u v) v v1 v2) u v1 v2) I ?_
  intro F fr qn pr hd cu le ba ex md rg pc pt ve ep ca bv ti zs st pu pv pe fs be br sc rc ou qh ow ce im sd rs oo ct sp mm sh wn hR
  have hin : i_Rel (k + 5) (fr, qn, pr, hd, cu, le, ba, ex, md, rg, pc, pt, ve, ep, ca, bv, ti, zs, st, pu, pv, pe, fs, be, br, sc, rc, ou, qh, ow, ce, im, sd, rs, oo, ct) (fr, qn, pr, hd, cu, le, ba, md, rg, sp, mm, sc, rc, ou, qh, ow, im, sh, ct, wn) := hv_in fr qn pr hd cu le ba ex md rg pc pt ve ep ca bv ti zs st pu pv pe fs be br sc rc ou qh ow ce im sd rs oo ct sp mm sh wn hR
  unfold wpX_outWord
  have bad : (v1 < 0 ∨ nI 2 < v1) → wpY_outWord (fun r' => r' = -1 ∧ i_Rel (k + 5) (fr, qn, pr, hd, cu, le, ba, ex, md, rg, pc, pt, ve, ep, ca, bv, ti, zs, st, pu, pv, pe, fs, be, br, sc, rc, ou, qh, ow, ce, im, sd, rs, oo, ct) (fr, qn, pr, hd, cu, le, ba, md, rg, sp, mm, sc, rc, ou, qh, ow, im, sh, ct, wn)) (fr, qn, pr, hd, cu, le, ba, md, rg, sp, mm, sc, rc, ou, qh, ow, im, sh, ct, wn) v1 v2 := fun z => by
    unfold wpY_outWord
    exact hy_in0 2 z _ (br_t rfl ⟨rfl, hin⟩)
  rcases hv_rng v1 2 (by decide) with ⟨m, hm, rfl⟩ | hb | ⟨hb1, hb2, hb3⟩
  rotate_left
  · exact hx_im0 (Or.inl hb) _ (br_t rfl (bad (Or.inl hb)))
  · exact hx_im0 (Or.inr hb2) _ (br_t rfl (bad (Or.inr hb2)))
  refine hx_im1 (by omega) _ (br_f (by decide) ?_)
  have bad2 : (v2 < 0 ∨ nI 31 < v2) → wpY_outWord (fun r' => r' = -1 ∧ i_Rel (k + 5) (fr, qn, pr, hd, cu, le, ba, ex, md, rg, pc, pt, ve, ep, ca, bv, ti, zs, st, pu, pv, pe, fs, be, br, sc, rc, ou, qh, ow, ce, im, sd, rs, oo, ct) (fr, qn, pr, hd, cu, le, ba, md, rg, sp, mm, sc, rc, ou, qh, ow, im, sh, ct, wn)) (fr, qn, pr, hd, cu, le, ba, md, rg, sp, mm, sc, rc, ou, qh, ow, im, sh, ct, wn) (nI m) v2 := fun z => by
    unfold wpY_outWord
    exact hy_in1 m 2 hm (by decide) (br_f (by decide) (hy_in0 31 z _ (br_t rfl ⟨rfl, hin⟩)))
  rcases hv_rng v2 31 (by decide) with ⟨j, hj, rfl⟩ | hb | ⟨hb1, hb2, hb3⟩
  rotate_left
  · exact br_t hb (bad2 (Or.inl hb))
  · exact br_f hb1 (br_f hb3 (bad2 (Or.inr hb2)))
  refine br_f (nI_pos (by omega)) (br_t (nI_le (b := 31) hj (by decide)) ?_)
  have hm3 : m < 3 := by omega
  have ii : vp_in (nI m * 32 + nI j) 96 := by rw [hv_i32]; exact vp_in_nI (by omega) (by decide)
  refine ⟨hv_iv hm3, ?_⟩
  by_cases q : nI j < ou (nI m).toNatClampNeg
  · refine br_t q ⟨ii, ?_⟩
    unfold wpY_outWord
    exact hy_in1 m 2 hm (by decide) (br_f (by decide) (hy_in1 j 31 hj (by decide) (br_f (by decide) ⟨hv_iv hm3, br_t q ⟨ii, rfl, hin⟩⟩)))
  · refine br_f q ?_
    unfold wpY_outWord
    exact hy_in1 m 2 hm (by decide) (br_f (by decide) (hy_in1 j 31 hj (by decide) (br_f (by decide) ⟨hv_iv hm3, br_f q ⟨rfl, hin⟩⟩)))
theorem i_vc_shadow {k : Nat} {u : SX} {v : SY} (I : i_Rel k u v) (hk : k + 5 ≤ 2563) (v1 : Int32) (v2 : Int32) : wpX_shadow (fun r => wpY_shadow (fun r' => r' = r ∧ i_Rel (k + 5) u v) v v1 v2) u v1 v2 := by
  refine hv_el (P := fun u v => wpX_shadow (fun r => wpY_shadow (fun r' => r' = r ∧ i_Rel (k + 5) u v) v v1 v2) u v1 v2) I ?_
  intro F fr qn pr hd cu le ba ex md rg pc pt ve ep ca bv ti zs st pu pv pe fs be br sc rc ou qh ow ce im sd rs oo ct sp mm sh wn hR
  have hin : i_Rel (k + 5) (fr, qn, pr, hd, cu, le, ba, ex, md, rg, pc, pt, ve, ep, ca, bv, ti, zs, st, pu, pv, pe, fs, be, br, sc, rc, ou, qh, ow, ce, im, sd, rs, oo, ct) (fr, qn, pr, hd, cu, le, ba, md, rg, sp, mm, sc, rc, ou, qh, ow, im, sh, ct, wn) := hv_in fr qn pr hd cu le ba ex md rg pc pt ve ep ca bv ti zs st pu pv pe fs be br sc rc ou qh ow ce im sd rs oo ct sp mm sh wn hR
  unfold wpX_shadow
  have bad : (v1 < 0 ∨ nI 1 < v1) → wpY_shadow (fun r' => r' = -1 ∧ i_Rel (k + 5) (fr, qn, pr, hd, cu, le, ba, ex, md, rg, pc, pt, ve, ep, ca, bv, ti, zs, st, pu, pv, pe, fs, be, br, sc, rc, ou, qh, ow, ce, im, sd, rs, oo, ct) (fr, qn, pr, hd, cu, le, ba, md, rg, sp, mm, sc, rc, ou, qh, ow, im, sh, ct, wn)) (fr, qn, pr, hd, cu, le, ba, md, rg, sp, mm, sc, rc, ou, qh, ow, im, sh, ct, wn) v1 v2 := fun z => by
    unfold wpY_shadow
    exact hy_in0 1 z _ (br_t rfl ⟨rfl, hin⟩)
  rcases hv_g01 v1 with ⟨m, hm, rfl⟩ | ⟨n0, n1, nb⟩
  rotate_left
  · exact hx_ig0 n0 n1 _ (br_t rfl (bad nb))
  refine hx_ig1 hm _ (br_f (by decide) ?_)
  have bad2 : (v2 < 0 ∨ nI 15 < v2) → wpY_shadow (fun r' => r' = -1 ∧ i_Rel (k + 5) (fr, qn, pr, hd, cu, le, ba, ex, md, rg, pc, pt, ve, ep, ca, bv, ti, zs, st, pu, pv, pe, fs, be, br, sc, rc, ou, qh, ow, ce, im, sd, rs, oo, ct) (fr, qn, pr, hd, cu, le, ba, md, rg, sp, mm, sc, rc, ou, qh, ow, im, sh, ct, wn)) (fr, qn, pr, hd, cu, le, ba, md, rg, sp, mm, sc, rc, ou, qh, ow, im, sh, ct, wn) (nI m) v2 := fun z => by
    unfold wpY_shadow
    exact hy_in1 m 1 (by omega) (by decide) (br_f (by decide) (hy_in0 15 z _ (br_t rfl ⟨rfl, hin⟩)))
  rcases hv_rng v2 15 (by decide) with ⟨j, hj, rfl⟩ | hb | ⟨hb1, hb2, hb3⟩
  rotate_left
  · exact br_t hb (bad2 (Or.inl hb))
  · exact br_f hb1 (br_f hb3 (bad2 (Or.inr hb2)))
  refine br_f (nI_pos (by omega)) (br_t (nI_le (b := 15) hj (by decide)) ?_)
  have h := hv_Rm hR
  have ec : (nI m * 16 + nI j).toNatClampNeg = 16 * m + j := by rw [hv_i16]; exact nI_clamp (by omega)
  have ii : vp_in (nI m * 16 + nI j) 32 := by rw [hv_i16]; exact vp_in_nI (by omega) (by decide)
  rw [ec]
  refine ⟨ii, ?_⟩
  rcases hv_Ms h (16 * m + j) (by omega) with ⟨e1, e2⟩ | ⟨s, f, hs, hf, e1, e2, _⟩
  · refine nm_r e1 (br_f (by decide) ?_)
    unfold wpY_shadow
    refine hy_in1 m 1 (by omega) (by decide) (br_f (by decide) (hy_in1 j 15 hj (by decide) (br_f (by decide) ?_)))
    rw [ec]
    exact ⟨ii, e2, hin⟩
  · refine nm_r e1 (br_t (nI_pos' (by omega)) ?_)
    unfold wpY_shadow
    refine hy_in1 m 1 (by omega) (by decide) (br_f (by decide) (hy_in1 j 15 hj (by decide) (br_f (by decide) ?_)))
    rw [ec]
    exact ⟨ii, e2, hin⟩
end
section
/-! probe, digest, frameOf, owner, hostWord, host -/
theorem i_vc_probe {k : Nat} {u : SX} {v : SY} (I : i_Rel k u v) (hk : k + 5 ≤ 2563) (v1 : Int32) (v2 : Int32) (v3 : Int32) : wpX_probe (fun r => wpY_probe (fun r' => r' = r ∧ i_Rel (k + 5) u v) v v1 v2 v3) u v1 v2 v3 := by
  refine hv_el (P := fun u v => wpX_probe (fun r => wpY_probe (fun r' => r' = r ∧ i_Rel (k + 5) u v) v v1 v2 v3) u v1 v2 v3) I ?_
  intro F fr qn pr hd cu le ba ex md rg pc pt ve ep ca bv ti zs st pu pv pe fs be br sc rc ou qh ow ce im sd rs oo ct sp mm sh wn hR
  have hin : i_Rel (k + 5) (fr, qn, pr, hd, cu, le, ba, ex, md, rg, pc, pt, ve, ep, ca, bv, ti, zs, st, pu, pv, pe, fs, be, br, sc, rc, ou, qh, ow, ce, im, sd, rs, oo, ct) (fr, qn, pr, hd, cu, le, ba, md, rg, sp, mm, sc, rc, ou, qh, ow, im, sh, ct, wn) := hv_in fr qn pr hd cu le ba ex md rg pc pt ve ep ca bv ti zs st pu pv pe fs be br sc rc ou qh ow ce im sd rs oo ct sp mm sh wn hR
  unfold wpX_probe
  have bad : (v1 < 0 ∨ nI 2 < v1) → wpY_probe (fun r' => r' = -1 ∧ i_Rel (k + 5) (fr, qn, pr, hd, cu, le, ba, ex, md, rg, pc, pt, ve, ep, ca, bv, ti, zs, st, pu, pv, pe, fs, be, br, sc, rc, ou, qh, ow, ce, im, sd, rs, oo, ct) (fr, qn, pr, hd, cu, le, ba, md, rg, sp, mm, sc, rc, ou, qh, ow, im, sh, ct, wn)) (fr, qn, pr, hd, cu, le, ba, md, rg, sp, mm, sc, rc, ou, qh, ow, im, sh, ct, wn) v1 v2 v3 := fun z => by
    unfold wpY_probe
    exact hy_in0 2 z _ (br_t rfl ⟨rfl, hin⟩)
  rcases hv_rng v1 2 (by decide) with ⟨m, hm, rfl⟩ | hb | ⟨hb1, hb2, hb3⟩
  rotate_left
  · exact hx_im0 (Or.inl hb) _ (br_t rfl (bad (Or.inl hb)))
  · exact hx_im0 (Or.inr hb2) _ (br_t rfl (bad (Or.inr hb2)))
  refine hx_im1 (by omega) _ (br_f (by decide) ?_)
  have bad2 : (v2 < 0 ∨ nI 255 < v2) → wpY_probe (fun r' => r' = -1 ∧ i_Rel (k + 5) (fr, qn, pr, hd, cu, le, ba, ex, md, rg, pc, pt, ve, ep, ca, bv, ti, zs, st, pu, pv, pe, fs, be, br, sc, rc, ou, qh, ow, ce, im, sd, rs, oo, ct) (fr, qn, pr, hd, cu, le, ba, md, rg, sp, mm, sc, rc, ou, qh, ow, im, sh, ct, wn)) (fr, qn, pr, hd, cu, le, ba, md, rg, sp, mm, sc, rc, ou, qh, ow, im, sh, ct, wn) (nI m) v2 v3 := fun z => by
    unfold wpY_probe
    exact hy_in1 m 2 hm (by decide) (br_f (by decide) (hy_in0 255 z _ (br_t rfl ⟨rfl, hin⟩)))
  rcases hv_rng v2 255 (by decide) with ⟨va, hva, rfl⟩ | hb | ⟨hb1, hb2, hb3⟩
  rotate_left
  · exact br_t hb (bad2 (Or.inl hb))
  · exact br_f hb1 (br_f hb3 (bad2 (Or.inr hb2)))
  refine br_f (nI_pos (by omega)) (br_t (nI_le (b := 255) hva (by decide)) ?_)
  have bad3 : (v3 < 3 ∨ ¬ v3 ≤ 5) → wpY_probe (fun r' => r' = -1 ∧ i_Rel (k + 5) (fr, qn, pr, hd, cu, le, ba, ex, md, rg, pc, pt, ve, ep, ca, bv, ti, zs, st, pu, pv, pe, fs, be, br, sc, rc, ou, qh, ow, ce, im, sd, rs, oo, ct) (fr, qn, pr, hd, cu, le, ba, md, rg, sp, mm, sc, rc, ou, qh, ow, im, sh, ct, wn)) (fr, qn, pr, hd, cu, le, ba, md, rg, sp, mm, sc, rc, ou, qh, ow, im, sh, ct, wn) (nI m) (nI va) v3 := fun z => by
    unfold wpY_probe
    refine hy_in1 m 2 hm (by decide) (br_f (by decide) (hy_in1 va 255 hva (by decide) (br_f (by decide) ?_)))
    by_cases q : v3 < 3
    · exact br_t q ⟨rfl, hin⟩
    · exact br_f q (br_f (z.resolve_left q) ⟨rfl, hin⟩)
  have good : ∀ kd : Nat, 3 ≤ kd → kd ≤ 5 → wX_probe_38 (fun r => wpY_probe (fun r' => r' = r ∧ i_Rel (k + 5) (fr, qn, pr, hd, cu, le, ba, ex, md, rg, pc, pt, ve, ep, ca, bv, ti, zs, st, pu, pv, pe, fs, be, br, sc, rc, ou, qh, ow, ce, im, sd, rs, oo, ct) (fr, qn, pr, hd, cu, le, ba, md, rg, sp, mm, sc, rc, ou, qh, ow, im, sh, ct, wn)) (fr, qn, pr, hd, cu, le, ba, md, rg, sp, mm, sc, rc, ou, qh, ow, im, sh, ct, wn) (nI m) (nI va) (nI kd)) (nI m) (nI va) (nI kd) fr qn pr hd cu le ba ex md rg pc pt ve ep ca bv ti zs st pu pv pe fs be br sc rc ou qh ow ce im sd rs oo ct := fun kd hk3 hk5 => by
    obtain ⟨h2, hfr, hh, hcu, hg, hB, hS, hZ, h⟩ := id hR
    have hm3 : m < 3 := by omega
    unfold wX_probe_38
    by_cases hpg : (sp (16 * m + 0) &&& 16) = 0
    · refine hx_tr0 hm3 (by rw [hv_S0 hS hm3]; exact hpg) _ ?_
      exact hy_pr hm3 (by omega) hk3 hk5 _ (br_t hpg ⟨rfl, hin⟩)
    · obtain ⟨t, ht, et⟩ := hv_B8 hB (m := m) (c := 0) hm3 (by decide) (by decide)
      obtain ⟨w, r, hw, em, hr, tX, tY⟩ := hv_tr (fr := fr) (qn := qn) (pr := pr) (hd := hd) (cu := cu) (le := le) (ba := ba) (ex := ex) (md := md) (rg := rg) (pc := pc) (pt := pt) (ve := ve) (ep := ep) (ca := ca) (bv := bv) (ti := ti) (zs := zs) (st := st) (pu := pu) (pv := pv) (pe := pe) (fs := fs) (be := be) (br := br) (sc := sc) (rc := rc) (ou := ou) (qh := qh) (ow := ow) (ce := ce) (im := im) (sd := sd) (rs := rs) (oo := oo) (ct := ct) (sp := sp) (mm := mm) (sh := sh) (wn := wn) hm3 (by omega : va < 256) hk3 hk5 h hS ht et (fun z e => hpg (by rw [hZ m z e]; decide)) hpg
      exact tX _ (tY _ ⟨rfl, hin⟩)
  by_cases q3 : v3 = 3
  · subst q3; exact br_t rfl (good 3 (by decide) (by decide))
  by_cases q4 : v3 = 4
  · subst q4; exact br_f q3 (br_t rfl (good 4 (by decide) (by decide)))
  by_cases q5 : v3 = 5
  · subst q5; exact br_f q3 (br_f q4 (br_t rfl (good 5 (by decide) (by decide))))
  refine br_f q3 (br_f q4 (br_f q5 (bad3 ?_)))
  rcases hv_rng v3 5 (by decide) with ⟨j, hj, rfl⟩ | hb | ⟨hb1, hb2, hb3⟩
  · refine Or.inl (nI_lt (b := 3) ?_ (by decide))
    have a3 : ¬ j = 3 := fun z => q3 (by rw [z]; rfl)
    have a4 : ¬ j = 4 := fun z => q4 (by rw [z]; rfl)
    have a5 : ¬ j = 5 := fun z => q5 (by rw [z]; rfl)
    omega
  · exact Or.inl (Int32.lt_trans hb (by decide))
  · exact Or.inr hb3
theorem i_vc_digest {k : Nat} {u : SX} {v : SY} (I : i_Rel k u v) (hk : k + 5 ≤ 2563) (v1 : Int32) : wpX_digest (fun r => wpY_digest (fun r' => r' = r ∧ i_Rel (k + 5) u v) v v1) u v1 := by
  refine hv_el (P := fun u v => wpX_digest (fun r => wpY_digest (fun r' => r' = r ∧ i_Rel (k + 5) u v) v v1) u v1) I ?_
  intro F fr qn pr hd cu le ba ex md rg pc pt ve ep ca bv ti zs st pu pv pe fs be br sc rc ou qh ow ce im sd rs oo ct sp mm sh wn hR
  have hin : i_Rel (k + 5) (fr, qn, pr, hd, cu, le, ba, ex, md, rg, pc, pt, ve, ep, ca, bv, ti, zs, st, pu, pv, pe, fs, be, br, sc, rc, ou, qh, ow, ce, im, sd, rs, oo, ct) (fr, qn, pr, hd, cu, le, ba, md, rg, sp, mm, sc, rc, ou, qh, ow, im, sh, ct, wn) := hv_in fr qn pr hd cu le ba ex md rg pc pt ve ep ca bv ti zs st pu pv pe fs be br sc rc ou qh ow ce im sd rs oo ct sp mm sh wn hR
  unfold wpX_digest
  have bad : (v1 < 0 ∨ nI 2 < v1) → wpY_digest (fun r' => r' = -1 ∧ i_Rel (k + 5) (fr, qn, pr, hd, cu, le, ba, ex, md, rg, pc, pt, ve, ep, ca, bv, ti, zs, st, pu, pv, pe, fs, be, br, sc, rc, ou, qh, ow, ce, im, sd, rs, oo, ct) (fr, qn, pr, hd, cu, le, ba, md, rg, sp, mm, sc, rc, ou, qh, ow, im, sh, ct, wn)) (fr, qn, pr, hd, cu, le, ba, md, rg, sp, mm, sc, rc, ou, qh, ow, im, sh, ct, wn) v1 := fun z => by
    unfold wpY_digest
    exact hy_in0 2 z _ (br_t rfl ⟨rfl, hin⟩)
  rcases hv_rng v1 2 (by decide) with ⟨m, hm, rfl⟩ | hb | ⟨hb1, hb2, hb3⟩
  rotate_left
  · exact hx_im0 (Or.inl hb) _ (br_t rfl (bad (Or.inl hb)))
  · exact hx_im0 (Or.inr hb2) _ (br_t rfl (bad (Or.inr hb2)))
  refine hx_im1 (by omega) _ (br_f (by decide) ⟨hv_iv (by omega), ?_⟩)
  obtain ⟨acc', iX, iY⟩ := hv_dg1 (fr := fr) (qn := qn) (pr := pr) (hd := hd) (cu := cu) (le := le) (ba := ba) (ex := ex) (md := md) (rg := rg) (pc := pc) (pt := pt) (ve := ve) (ep := ep) (ca := ca) (bv := bv) (ti := ti) (zs := zs) (st := st) (pu := pu) (pv := pv) (pe := pe) (fs := fs) (be := be) (br := br) (sc := sc) (rc := rc) (ou := ou) (qh := qh) (ow := ow) (ce := ce) (im := im) (sd := sd) (rs := rs) (oo := oo) (ct := ct) (sp := sp) (mm := mm) (sh := sh) (wn := wn) (m := m) (by omega) (hv_Rm hR) (hv_Rs hR) 13 0 rfl (((7 * 31) + md (nI m).toNatClampNeg) &&& 2147483647)
  refine Exists.intro 14 (iX _ ?_)
  unfold wpY_digest
  exact hy_in1 m 2 hm (by decide) (br_f (by decide) ⟨hv_iv (by omega), nm_e ⟨14, iY _ ⟨rfl, hin⟩⟩⟩)
theorem i_vc_frameOf {k : Nat} {u : SX} {v : SY} (I : i_Rel k u v) (hk : k + 5 ≤ 2563) (v1 : Int32) (v2 : Int32) : wpX_frameOf (fun r => wpY_frameOf (fun r' => r' = r ∧ i_Rel (k + 5) u v) v v1 v2) u v1 v2 := by
  refine hv_el (P := fun u v => wpX_frameOf (fun r => wpY_frameOf (fun r' => r' = r ∧ i_Rel (k + 5) u v) v v1 v2) u v1 v2) I ?_
  intro F fr qn pr hd cu le ba ex md rg pc pt ve ep ca bv ti zs st pu pv pe fs be br sc rc ou qh ow ce im sd rs oo ct sp mm sh wn hR
  have hin : i_Rel (k + 5) (fr, qn, pr, hd, cu, le, ba, ex, md, rg, pc, pt, ve, ep, ca, bv, ti, zs, st, pu, pv, pe, fs, be, br, sc, rc, ou, qh, ow, ce, im, sd, rs, oo, ct) (fr, qn, pr, hd, cu, le, ba, md, rg, sp, mm, sc, rc, ou, qh, ow, im, sh, ct, wn) := hv_in fr qn pr hd cu le ba ex md rg pc pt ve ep ca bv ti zs st pu pv pe fs be br sc rc ou qh ow ce im sd rs oo ct sp mm sh wn hR
  unfold wpX_frameOf
  have bad : (v1 < 0 ∨ nI 1 < v1) → wpY_frameOf (fun r' => r' = -1 ∧ i_Rel (k + 5) (fr, qn, pr, hd, cu, le, ba, ex, md, rg, pc, pt, ve, ep, ca, bv, ti, zs, st, pu, pv, pe, fs, be, br, sc, rc, ou, qh, ow, ce, im, sd, rs, oo, ct) (fr, qn, pr, hd, cu, le, ba, md, rg, sp, mm, sc, rc, ou, qh, ow, im, sh, ct, wn)) (fr, qn, pr, hd, cu, le, ba, md, rg, sp, mm, sc, rc, ou, qh, ow, im, sh, ct, wn) v1 v2 := fun z => by
    unfold wpY_frameOf
    exact hy_in0 1 z _ (br_t rfl ⟨rfl, hin⟩)
  rcases hv_g01 v1 with ⟨m, hm, rfl⟩ | ⟨n0, n1, nb⟩
  rotate_left
  · exact hx_ig0 n0 n1 _ (br_t rfl (bad nb))
  refine hx_ig1 hm _ (br_f (by decide) ?_)
  have bad2 : (v2 < 0 ∨ nI 15 < v2) → wpY_frameOf (fun r' => r' = -1 ∧ i_Rel (k + 5) (fr, qn, pr, hd, cu, le, ba, ex, md, rg, pc, pt, ve, ep, ca, bv, ti, zs, st, pu, pv, pe, fs, be, br, sc, rc, ou, qh, ow, ce, im, sd, rs, oo, ct) (fr, qn, pr, hd, cu, le, ba, md, rg, sp, mm, sc, rc, ou, qh, ow, im, sh, ct, wn)) (fr, qn, pr, hd, cu, le, ba, md, rg, sp, mm, sc, rc, ou, qh, ow, im, sh, ct, wn) (nI m) v2 := fun z => by
    unfold wpY_frameOf
    exact hy_in1 m 1 (by omega) (by decide) (br_f (by decide) (hy_in0 15 z _ (br_t rfl ⟨rfl, hin⟩)))
  rcases hv_rng v2 15 (by decide) with ⟨j, hj, rfl⟩ | hb | ⟨hb1, hb2, hb3⟩
  rotate_left
  · exact br_t hb (bad2 (Or.inl hb))
  · exact br_f hb1 (br_f hb3 (bad2 (Or.inr hb2)))
  refine br_f (nI_pos (by omega)) (br_t (nI_le (b := 15) hj (by decide)) ?_)
  have h := hv_Rm hR
  have hF := h.1
  rw [hv_i16 m j, nI_clamp (n := 16 * m + j) (by omega)]
  refine ⟨vp_in_nI (by omega) (by decide), ?_⟩
  rcases hv_Mr h (16 * m + j) (by omega) with er | ⟨x, hx, er, ew⟩
  · refine nm_r er (br_f (by decide) ?_)
    refine hy_fo0 hm (by omega) (fun y hy z => ?_) ⟨rfl, hin⟩
    have := (hv_ownd (hv_Mo h) hy (by omega) z).2.2
    rw [er] at this
    exact hv_nm1 (by omega) this.symm
  · refine nm_r er (br_t (nI_pos' (by omega)) ?_)
    refine hy_fo1 hm (by omega) (x := x) (by omega) ew (fun y hy z => ?_) ⟨rfl, hin⟩
    have h1 := (hv_ownd (hv_Mo h) (x := y) (by omega) (by omega) z).2.2
    have := hv_inj (by omega) (by omega) (h1.symm.trans er)
    omega
theorem i_vc_owner {k : Nat} {u : SX} {v : SY} (I : i_Rel k u v) (hk : k + 5 ≤ 2563) (v1 : Int32) : wpX_owner (fun r => wpY_owner (fun r' => r' = r ∧ i_Rel (k + 5) u v) v v1) u v1 := by
  refine hv_el (P := fun u v => wpX_owner (fun r => wpY_owner (fun r' => r' = r ∧ i_Rel (k + 5) u v) v v1) u v1) I ?_
  intro F fr qn pr hd cu le ba ex md rg pc pt ve ep ca bv ti zs st pu pv pe fs be br sc rc ou qh ow ce im sd rs oo ct sp mm sh wn hR
  have hin : i_Rel (k + 5) (fr, qn, pr, hd, cu, le, ba, ex, md, rg, pc, pt, ve, ep, ca, bv, ti, zs, st, pu, pv, pe, fs, be, br, sc, rc, ou, qh, ow, ce, im, sd, rs, oo, ct) (fr, qn, pr, hd, cu, le, ba, md, rg, sp, mm, sc, rc, ou, qh, ow, im, sh, ct, wn) := hv_in fr qn pr hd cu le ba ex md rg pc pt ve ep ca bv ti zs st pu pv pe fs be br sc rc ou qh ow ce im sd rs oo ct sp mm sh wn hR
  unfold wpX_owner
  obtain ⟨h2, rfl, hh, hcu, hg, hB, hS, hZ, h⟩ := id hR
  have hF := h.1
  have bad : (v1 < 0 ∨ nI (F - 1) < v1) → wpY_owner (fun r' => r' = -1 ∧ i_Rel (k + 5) ((nI F), qn, pr, hd, cu, le, ba, ex, md, rg, pc, pt, ve, ep, ca, bv, ti, zs, st, pu, pv, pe, fs, be, br, sc, rc, ou, qh, ow, ce, im, sd, rs, oo, ct) ((nI F), qn, pr, hd, cu, le, ba, md, rg, sp, mm, sc, rc, ou, qh, ow, im, sh, ct, wn)) ((nI F), qn, pr, hd, cu, le, ba, md, rg, sp, mm, sc, rc, ou, qh, ow, im, sh, ct, wn) v1 := fun z => by
    unfold wpY_owner
    try dsimp only
    rw [hv_fm1 h2]
    exact hy_in0 (F - 1) z _ (br_t rfl ⟨rfl, hin⟩)
  rcases hv_fr v1 h2 hF with ⟨x, hx, rfl⟩ | hb | ⟨hb1, hb2, hb3, hb4⟩
  rotate_left
  · exact br_t hb (bad (Or.inl hb))
  · exact br_f hb1 (br_f hb2 (bad (Or.inr hb4)))
  refine br_f (nI_pos (by omega)) (br_t (nI_lt hx (by omega)) ?_)
  rw [nI_clamp (n := x) (by omega)]
  refine ⟨vp_in_nI (by omega) (by decide), ?_⟩
  rcases hv_Mo h x (by omega) with ⟨eo, ew⟩ | ⟨kk, hkk, _, eo, ew, er⟩
  · refine nm_r eo (br_f (by decide) ?_)
    unfold wpY_owner
    try dsimp only
    rw [hv_fm1 h2]
    refine hy_in1 x (F - 1) (by omega) (by omega) (br_f (by decide) ?_)
    rw [nI_clamp (n := x) (by omega)]
    exact ⟨vp_in_nI (by omega) (by decide), ew, hin⟩
  · refine nm_r eo (br_t (nI_pos' (by omega)) ?_)
    unfold wpY_owner
    try dsimp only
    rw [hv_fm1 h2]
    refine hy_in1 x (F - 1) (by omega) (by omega) (br_f (by decide) ?_)
    rw [nI_clamp (n := x) (by omega)]
    exact ⟨vp_in_nI (by omega) (by decide), ew, hin⟩
theorem i_vc_hostWord {k : Nat} {u : SX} {v : SY} (I : i_Rel k u v) (hk : k + 5 ≤ 2563) (v1 : Int32) (v2 : Int32) : wpX_hostWord (fun r => wpY_hostWord (fun r' => r' = r ∧ i_Rel (k + 5) u v) v v1 v2) u v1 v2 := by
  refine hv_el (P := fun u v => wpX_hostWord (fun r => wpY_hostWord (fun r' => r' = r ∧ i_Rel (k + 5) u v) v v1 v2) u v1 v2) I ?_
  intro F fr qn pr hd cu le ba ex md rg pc pt ve ep ca bv ti zs st pu pv pe fs be br sc rc ou qh ow ce im sd rs oo ct sp mm sh wn hR
  have hin : i_Rel (k + 5) (fr, qn, pr, hd, cu, le, ba, ex, md, rg, pc, pt, ve, ep, ca, bv, ti, zs, st, pu, pv, pe, fs, be, br, sc, rc, ou, qh, ow, ce, im, sd, rs, oo, ct) (fr, qn, pr, hd, cu, le, ba, md, rg, sp, mm, sc, rc, ou, qh, ow, im, sh, ct, wn) := hv_in fr qn pr hd cu le ba ex md rg pc pt ve ep ca bv ti zs st pu pv pe fs be br sc rc ou qh ow ce im sd rs oo ct sp mm sh wn hR
  unfold wpX_hostWord
  obtain ⟨h2, rfl, hh, hcu, hg, hB, hS, hZ, h⟩ := id hR
  have hF := h.1
  have bad : (v1 < 0 ∨ nI (F - 1) < v1) → wpY_hostWord (fun r' => r' = -1 ∧ i_Rel (k + 5) ((nI F), qn, pr, hd, cu, le, ba, ex, md, rg, pc, pt, ve, ep, ca, bv, ti, zs, st, pu, pv, pe, fs, be, br, sc, rc, ou, qh, ow, ce, im, sd, rs, oo, ct) ((nI F), qn, pr, hd, cu, le, ba, md, rg, sp, mm, sc, rc, ou, qh, ow, im, sh, ct, wn)) ((nI F), qn, pr, hd, cu, le, ba, md, rg, sp, mm, sc, rc, ou, qh, ow, im, sh, ct, wn) v1 v2 := fun z => by
    unfold wpY_hostWord
    try dsimp only
    rw [hv_fm1 h2]
    exact hy_in0 (F - 1) z _ (br_t rfl ⟨rfl, hin⟩)
  rcases hv_fr v1 h2 hF with ⟨x, hx, rfl⟩ | hb | ⟨hb1, hb2, hb3, hb4⟩
  rotate_left
  · exact br_t hb (bad (Or.inl hb))
  · exact br_f hb1 (br_t hb3 (bad (Or.inr hb4)))
  refine br_f (nI_pos (by omega)) (br_f (nI_ge hx (by omega)) ?_)
  have bad2 : (v2 < 0 ∨ nI 15 < v2) → wpY_hostWord (fun r' => r' = -1 ∧ i_Rel (k + 5) ((nI F), qn, pr, hd, cu, le, ba, ex, md, rg, pc, pt, ve, ep, ca, bv, ti, zs, st, pu, pv, pe, fs, be, br, sc, rc, ou, qh, ow, ce, im, sd, rs, oo, ct) ((nI F), qn, pr, hd, cu, le, ba, md, rg, sp, mm, sc, rc, ou, qh, ow, im, sh, ct, wn)) ((nI F), qn, pr, hd, cu, le, ba, md, rg, sp, mm, sc, rc, ou, qh, ow, im, sh, ct, wn) (nI x) v2 := fun z => by
    unfold wpY_hostWord
    try dsimp only
    rw [hv_fm1 h2]
    exact hy_in1 x (F - 1) (by omega) (by omega) (br_f (by decide) (hy_in0 15 z _ (br_t rfl ⟨rfl, hin⟩)))
  rcases hv_rng v2 15 (by decide) with ⟨o, ho, rfl⟩ | hb | ⟨hb1, hb2, hb3⟩
  rotate_left
  · exact br_t hb (bad2 (Or.inl hb))
  · exact br_f hb1 (br_f hb3 (bad2 (Or.inr hb2)))
  refine br_f (nI_pos (by omega)) (br_t (nI_le (b := 15) ho (by decide)) ?_)
  rw [nI_clamp (n := x) (by omega)]
  refine ⟨vp_in_nI (by omega) (by decide), ?_⟩
  rcases hv_Mo h x (by omega) with ⟨eo, ew⟩ | ⟨kk, hkk, _, eo, ew, er⟩
  · refine br_f (by rw [eo]; decide) ?_
    unfold wpY_hostWord
    try dsimp only
    rw [hv_fm1 h2]
    refine hy_in1 x (F - 1) (by omega) (by omega) (br_f (by decide) (hy_in1 o 15 ho (by decide) (br_f (by decide) ?_)))
    rw [nI_clamp (n := x) (by omega)]
    exact ⟨vp_in_nI (by omega) (by decide), nm_r ew (br_t rfl ⟨rfl, hin⟩)⟩
  · refine br_t (by rw [eo]; exact nI_pos' (by omega)) ?_
    rw [hv_i16 x o, nI_clamp (n := 16 * x + o) (by omega)]
    refine ⟨vp_in_nI (by omega) (by decide), ?_⟩
    unfold wpY_hostWord
    try dsimp only
    rw [hv_fm1 h2]
    refine hy_in1 x (F - 1) (by omega) (by omega) (br_f (by decide) (hy_in1 o 15 ho (by decide) (br_f (by decide) ?_)))
    rw [nI_clamp (n := x) (by omega)]
    refine ⟨vp_in_nI (by omega) (by decide), nm_r ew (br_f (hv_nm2 (by omega)) ?_)⟩
    rw [hv_i16 kk o, nI_clamp (n := 16 * kk + o) (by omega)]
    have hon : ¬ md (kk / 16) = 0 := fun z => by
      have := (hv_Mx h (kk / 16) (by omega) z).1 (kk % 16) (by omega)
      rw [show 16 * (kk / 16) + kk % 16 = kk by omega, er] at this
      exact hv_nm1 (by omega) this
    have em := hv_Mm h (16 * kk + o) (by omega) (fun _ => by rw [show (16 * kk + o) / 256 = kk / 16 by omega]; exact hon)
    rw [hv_lcr (h := x) (by omega) (by omega) (by rw [show (16 * kk + o) / 16 = kk by omega]; exact er), show (16 * kk + o) % 16 = o by omega] at em
    exact ⟨vp_in_nI (by omega) (by decide), em, hin⟩
theorem i_vc_host {k : Nat} {u : SX} {v : SY} (I : i_Rel k u v) (hk : k + 5 ≤ 2563) (v1 : Int32) : wpX_host (fun r => wpY_host (fun r' => r' = r ∧ i_Rel (k + 5) u v) v v1) u v1 := by
  refine hv_el (P := fun u v => wpX_host (fun r => wpY_host (fun r' => r' = r ∧ i_Rel (k + 5) u v) v v1) u v1) I ?_
  intro F fr qn pr hd cu le ba ex md rg pc pt ve ep ca bv ti zs st pu pv pe fs be br sc rc ou qh ow ce im sd rs oo ct sp mm sh wn hR
  have hin : i_Rel (k + 5) (fr, qn, pr, hd, cu, le, ba, ex, md, rg, pc, pt, ve, ep, ca, bv, ti, zs, st, pu, pv, pe, fs, be, br, sc, rc, ou, qh, ow, ce, im, sd, rs, oo, ct) (fr, qn, pr, hd, cu, le, ba, md, rg, sp, mm, sc, rc, ou, qh, ow, im, sh, ct, wn) := hv_in fr qn pr hd cu le ba ex md rg pc pt ve ep ca bv ti zs st pu pv pe fs be br sc rc ou qh ow ce im sd rs oo ct sp mm sh wn hR
  unfold wpX_host
  rcases hv_rng v1 6 (by decide) with ⟨j, hj, rfl⟩ | hb | ⟨hb1, hb2, hb3⟩
  · obtain rfl | rfl | rfl | rfl | rfl | rfl | rfl : j = 0 ∨ j = 1 ∨ j = 2 ∨ j = 3 ∨ j = 4 ∨ j = 5 ∨ j = 6 := by omega
    · exact br_f (by decide) (br_f (by decide) (br_t rfl (br_t rfl ⟨rfl, hin⟩)))
    · exact br_f (by decide) (br_f (by decide) (br_f (by decide) (br_t rfl (br_f (by decide) (br_t rfl ⟨rfl, hin⟩)))))
    · exact br_f (by decide) (br_f (by decide) (br_f (by decide) (br_f (by decide) (br_t rfl (br_f (by decide) (br_f (by decide) (br_t rfl ⟨rfl, hin⟩)))))))
    · exact br_f (by decide) (br_f (by decide) (br_f (by decide) (br_f (by decide) (br_f (by decide) (br_t rfl (br_f (by decide) (br_f (by decide) (br_f (by decide) (br_t rfl ⟨rfl, hin⟩)))))))))
    · exact br_f (by decide) (br_f (by decide) (br_f (by decide) (br_f (by decide) (br_f (by decide) (br_f (by decide) (br_t rfl (br_f (by decide) (br_f (by decide) (br_f (by decide) (br_f (by decide) (br_t rfl ⟨rfl, hin⟩)))))))))))
    · exact br_f (by decide) (br_f (by decide) (br_f (by decide) (br_f (by decide) (br_f (by decide) (br_f (by decide) (br_f (by decide) (br_t rfl (br_f (by decide) (br_f (by decide) (br_f (by decide) (br_f (by decide) (br_f (by decide) (br_t rfl ⟨rfl, hin⟩)))))))))))))
    · exact br_f (by decide) (br_f (by decide) (br_f (by decide) (br_f (by decide) (br_f (by decide) (br_f (by decide) (br_f (by decide) (br_f (by decide) (br_t rfl (br_f (by decide) (br_f (by decide) (br_f (by decide) (br_f (by decide) (br_f (by decide) (br_f (by decide) (br_t rfl ⟨rfl, hin⟩)))))))))))))))
  · have n : ∀ c : Nat, c < 7 → ¬ v1 = nI c := fun c hc z => by rw [z] at hb; exact nI_pos (by omega) hb
    exact br_t hb (br_f (n 0 (by decide)) (br_f (n 1 (by decide)) (br_f (n 2 (by decide)) (br_f (n 3 (by decide)) (br_f (n 4 (by decide)) (br_f (n 5 (by decide)) (br_f (n 6 (by decide)) (⟨rfl, hin⟩))))))))
  · have n : ∀ c : Nat, c < 7 → ¬ v1 = nI c := fun c hc z => by rw [z] at hb3; exact hb3 (nI_le (by omega) (by decide))
    exact br_f hb1 (br_t hb2 (br_f (n 0 (by decide)) (br_f (n 1 (by decide)) (br_f (n 2 (by decide)) (br_f (n 3 (by decide)) (br_f (n 4 (by decide)) (br_f (n 5 (by decide)) (br_f (n 6 (by decide)) (⟨rfl, hin⟩)))))))))
end
section
/-! the constructors -/
section
variable {fr qn pr hd cu le ba ex : Int32} {md rg pc pt ve ep ca bv ti zs st pu pv pe fs be br sc rc ou qh ow ce im sd rs oo ct : Nat → Int32} {sp mm sh wn : Nat → Int32}
theorem hx_i281 (post : SX → Prop) (h : post (fr, qn, pr, 0, 0, qn, ((-2)), 0, md, rg, pc, pt, ve, ep, ca, bv, ti, zs, st, pu, pv, pe, fs, be, br, sc, rc, ou, qh, ow, ce, im, sd, rs, (hv_cq oo hv_n1 0 0 16), ct)) : ∃ n, wX_init_281 post fr qn pr hd cu le ba ex n 0 md rg pc pt ve ep ca bv ti zs st pu pv pe fs be br sc rc ou qh ow ce im sd rs oo ct := by
  have hx1 : ∀ n, wX_init_281 post fr qn pr hd cu le ba ex (n + 1) (nI 16) md rg pc pt ve ep ca bv ti zs st pu pv pe fs be br sc rc ou qh ow ce im sd rs (hv_cq oo hv_n1 0 0 16) ct := fun n => br_t (nI_le (a := 16) (Nat.le_refl _) (by decide)) h
  have hs1 : ∀ n i, i < 16 → wX_init_281 post fr qn pr hd cu le ba ex n (nI (i + 1)) md rg pc pt ve ep ca bv ti zs st pu pv pe fs be br sc rc ou qh ow ce im sd rs (hv_cq oo hv_n1 0 0 (i + 1)) ct → wX_init_281 post fr qn pr hd cu le ba ex (n + 1) (nI i) md rg pc pt ve ep ca bv ti zs st pu pv pe fs be br sc rc ou qh ow ce im sd rs (hv_cq oo hv_n1 0 0 i) ct := by
    intro n i hi hw
    refine br_f (nI_ge (b := 16) hi (by decide)) ?_
    rw [nI_clamp (n := i) (by omega)]
    have es := hv_cqs oo hv_n1 0 0 i
    rw [Nat.zero_add] at es
    exact ⟨vp_in_nI hi (by decide), nm_r es (nm_r (nI_1 i) hw)⟩
  have z := hv_loop (fun n i c => wX_init_281 post fr qn pr hd cu le ba ex n i md rg pc pt ve ep ca bv ti zs st pu pv pe fs be br sc rc ou qh ow ce im sd rs c ct) 16 (fun i => hv_cq oo hv_n1 0 0 i) hx1 hs1
  simp only [hv_cq0] at z
  exact z
theorem hx_i249 (post : SX → Prop) (h : post (fr, qn, pr, 0, 0, qn, ((-2)), 0, md, rg, pc, pt, ve, ep, ca, bv, ti, zs, st, pu, pv, pe, fs, be, br, sc, rc, ou, qh, ow, ce, im, (hv_cq sd hv_n1 0 0 32), (hv_cq rs hv_n1 0 0 32), (hv_cq oo hv_n1 0 0 16), ct)) : ∃ n, wX_init_249 post fr qn pr hd cu le ba ex n 0 md rg pc pt ve ep ca bv ti zs st pu pv pe fs be br sc rc ou qh ow ce im sd rs oo ct := by
  have hx1 : ∀ n, wX_init_249 post fr qn pr hd cu le ba ex (n + 1) (nI 32) md rg pc pt ve ep ca bv ti zs st pu pv pe fs be br sc rc ou qh ow ce im (hv_cq sd hv_n1 0 0 32) (hv_cq rs hv_n1 0 0 32) oo ct := fun n => br_t (nI_le (a := 32) (Nat.le_refl _) (by decide)) (hx_i281 post h)
  have hs1 : ∀ n i, i < 32 → wX_init_249 post fr qn pr hd cu le ba ex n (nI (i + 1)) md rg pc pt ve ep ca bv ti zs st pu pv pe fs be br sc rc ou qh ow ce im (hv_cq sd hv_n1 0 0 (i + 1)) (hv_cq rs hv_n1 0 0 (i + 1)) oo ct → wX_init_249 post fr qn pr hd cu le ba ex (n + 1) (nI i) md rg pc pt ve ep ca bv ti zs st pu pv pe fs be br sc rc ou qh ow ce im (hv_cq sd hv_n1 0 0 i) (hv_cq rs hv_n1 0 0 i) oo ct := by
    intro n i hi hw
    refine br_f (nI_ge (b := 32) hi (by decide)) ?_
    rw [nI_clamp (n := i) (by omega)]
    have es := hv_cqs sd hv_n1 0 0 i
    have er := hv_cqs rs hv_n1 0 0 i
    rw [Nat.zero_add] at es er
    exact ⟨vp_in_nI hi (by decide), nm_r es ⟨vp_in_nI hi (by decide), nm_r er (nm_r (nI_1 i) hw)⟩⟩
  have z := hv_loop (fun n i (c : (Nat → Int32) × (Nat → Int32)) => wX_init_249 post fr qn pr hd cu le ba ex n i md rg pc pt ve ep ca bv ti zs st pu pv pe fs be br sc rc ou qh ow ce im c.1 c.2 oo ct) 32 (fun i => (hv_cq sd hv_n1 0 0 i, hv_cq rs hv_n1 0 0 i)) hx1 hs1
  simp only [hv_cq0] at z
  exact z
theorem hy_i207 (post : SY → Prop) (h : post (fr, qn, pr, hd, cu, qn, ((-2)), md, rg, sp, mm, sc, rc, ou, qh, ow, im, (hv_cq sh hv_n2 0 0 32), ct, wn)) : ∃ n, wY_init_207 post fr qn pr hd cu le ba n 0 md rg sp mm sc rc ou qh ow im sh ct wn := by
  have hx1 : ∀ n, wY_init_207 post fr qn pr hd cu le ba (n + 1) (nI 32) md rg sp mm sc rc ou qh ow im (hv_cq sh hv_n2 0 0 32) ct wn := fun n => br_t (nI_le (a := 32) (Nat.le_refl _) (by decide)) h
  have hs1 : ∀ n i, i < 32 → wY_init_207 post fr qn pr hd cu le ba n (nI (i + 1)) md rg sp mm sc rc ou qh ow im (hv_cq sh hv_n2 0 0 (i + 1)) ct wn → wY_init_207 post fr qn pr hd cu le ba (n + 1) (nI i) md rg sp mm sc rc ou qh ow im (hv_cq sh hv_n2 0 0 i) ct wn := by
    intro n i hi hw
    refine br_f (nI_ge (b := 32) hi (by decide)) ?_
    rw [nI_clamp (n := i) (by omega)]
    have es := hv_cqs sh hv_n2 0 0 i
    rw [Nat.zero_add] at es
    exact ⟨vp_in_nI hi (by decide), nm_r es (nm_r (nI_1 i) hw)⟩
  have z := hv_loop (fun n i c => wY_init_207 post fr qn pr hd cu le ba n i md rg sp mm sc rc ou qh ow im c ct wn) 32 (fun i => hv_cq sh hv_n2 0 0 i) hx1 hs1
  simp only [hv_cq0] at z
  exact z
theorem hy_i182 (post : SY → Prop) (h : post (fr, qn, pr, hd, cu, qn, ((-2)), md, rg, sp, mm, sc, rc, ou, qh, ow, im, (hv_cq sh hv_n2 0 0 32), ct, (hv_cq wn hv_n2 0 0 16))) : ∃ n, wY_init_182 post fr qn pr hd cu le ba n 0 md rg sp mm sc rc ou qh ow im sh ct wn := by
  have hx1 : ∀ n, wY_init_182 post fr qn pr hd cu le ba (n + 1) (nI 16) md rg sp mm sc rc ou qh ow im sh ct (hv_cq wn hv_n2 0 0 16) := fun n => br_t (nI_le (a := 16) (Nat.le_refl _) (by decide)) (hy_i207 post h)
  have hs1 : ∀ n i, i < 16 → wY_init_182 post fr qn pr hd cu le ba n (nI (i + 1)) md rg sp mm sc rc ou qh ow im sh ct (hv_cq wn hv_n2 0 0 (i + 1)) → wY_init_182 post fr qn pr hd cu le ba (n + 1) (nI i) md rg sp mm sc rc ou qh ow im sh ct (hv_cq wn hv_n2 0 0 i) := by
    intro n i hi hw
    refine br_f (nI_ge (b := 16) hi (by decide)) ?_
    rw [nI_clamp (n := i) (by omega)]
    have es := hv_cqs wn hv_n2 0 0 i
    rw [Nat.zero_add] at es
    exact ⟨vp_in_nI hi (by decide), nm_r es (nm_r (nI_1 i) hw)⟩
  have z := hv_loop (fun n i c => wY_init_182 post fr qn pr hd cu le ba n i md rg sp mm sc rc ou qh ow im sh ct c) 16 (fun i => hv_cq wn hv_n2 0 0 i) hx1 hs1
  simp only [hv_cq0] at z
  exact z
end
theorem hv_cl (v lo hi : Int32) : ∃ r, ((r = v ∧ lo ≤ v ∧ v ≤ hi) ∨ r = hi ∨ r = lo) ∧ ∀ A : Int32 → Prop, A r → ((lo ≤ v → ((v ≤ hi → A v) ∧ (¬ v ≤ hi → A hi))) ∧ (¬ lo ≤ v → A lo)) := by
  by_cases a : lo ≤ v
  · by_cases b : v ≤ hi
    · exact ⟨v, Or.inl ⟨rfl, a, b⟩, fun A h => br_t a (br_t b h)⟩
    · exact ⟨hi, Or.inr (Or.inl rfl), fun A h => br_t a (br_f b h)⟩
  · exact ⟨lo, Or.inr (Or.inr rfl), fun A h => br_f a h⟩
section
variable {fr qn pr hd cu le ba ex : Int32} {md rg pc pt ve ep ca bv ti zs st pu pv pe fs be br sc rc ou qh ow ce im sd rs oo ct : Nat → Int32} {sp mm sh wn : Nat → Int32}
theorem hx_clamp {v lo hi r : Int32} (c : ∀ A : Int32 → Prop, A r → ((lo ≤ v → ((v ≤ hi → A v) ∧ (¬ v ≤ hi → A hi))) ∧ (¬ lo ≤ v → A lo))) (post : Int32 → Prop) (h : post r) : wpX_clamp post (fr, qn, pr, hd, cu, le, ba, ex, md, rg, pc, pt, ve, ep, ca, bv, ti, zs, st, pu, pv, pe, fs, be, br, sc, rc, ou, qh, ow, ce, im, sd, rs, oo, ct) v lo hi := c post h
end
theorem hv_i0M {F : Nat} (hF : F ≤ 16) : hv_M F hv_z hv_z hv_z (hv_cq hv_z hv_n1 0 0 32) (hv_cq hv_z hv_n1 0 0 32) (hv_cq hv_z hv_n1 0 0 16) hv_z (hv_cq hv_z hv_n2 0 0 32) (hv_cq hv_z hv_n2 0 0 16) := by
  refine ⟨hF, ?_, ?_, ?_, ?_, ?_, ?_, ?_⟩
  · exact fun h hh => Or.inl ⟨hv_cqin (by omega) (by omega), hv_cqin (by omega) (by omega)⟩
  · exact fun k hk => Or.inl (hv_cqin (by omega) (by omega))
  · exact fun i hi => Or.inl ⟨hv_cqin (by omega) (by omega), hv_cqin (by omega) (by omega)⟩
  · exact fun a _ _ => rfl
  · exact fun g hg _ => ⟨fun f hf => hv_cqin (by omega) (by omega), fun _ _ => rfl⟩
  · exact fun _ _ => hv_k0 (by decide)
  · exact fun _ _ => hv_k0 (by decide)
theorem i_vc0 (k0 : Int32) (k1 : Int32) (k2 : Int32) : wpX_init (fun u => wpY_init (fun v => i_Rel 3 u v) k0 k1 k2) k0 k1 k2 := by
  obtain ⟨r0, h0, c0'⟩ := hv_cl k0 2 16
  obtain ⟨r1, h1, c1'⟩ := hv_cl k1 1 64
  obtain ⟨r2, h2, c2'⟩ := hv_cl k2 0 8
  obtain ⟨F, hF2, hF, rfl⟩ : ∃ F, 2 ≤ F ∧ F ≤ 16 ∧ r0 = nI F := by
    rcases h0 with ⟨rfl, a, b⟩ | rfl | rfl
    · have hp : ¬ r0 < 0 := fun z => by
        rw [Int32.lt_iff_toInt_lt] at z
        rw [Int32.le_iff_toInt_le] at a
        have a0 : (0 : Int32).toInt = 0 := by decide
        have a2 : (2 : Int32).toInt = 2 := by decide
        omega
      obtain ⟨j, hj, rfl⟩ := nI_of hp
      exact ⟨j, Nat.le_of_not_lt fun z => nI_ge (b := 2) z (by decide) a, Nat.le_of_not_lt fun z => nI_ge (a := 16) z hj b, rfl⟩
    · exact ⟨16, by decide, by decide, rfl⟩
    · exact ⟨2, by decide, by decide, rfl⟩
  unfold wpX_init
  refine hx_clamp c0' _ ?_
  refine hx_clamp c1' _ ?_
  refine hx_clamp c2' _ ?_
  refine hx_i249 _ ?_
  unfold wpY_init
  refine c0' (fun z => wY_init_127 (fun v => i_Rel 3 _ v) k1 k2 z 0 0 0 0 0 0 0 (fun _ => 0) (fun _ => 0) (fun _ => 0) (fun _ => 0) (fun _ => 0) (fun _ => 0) (fun _ => 0) (fun _ => 0) (fun _ => 0) (fun _ => 0) (fun _ => 0) (fun _ => 0) (fun _ => 0)) ?_
  refine c1' (fun z => wY_init_152 (fun v => i_Rel 3 _ v) k2 z (nI F) 0 0 0 0 0 0 (fun _ => 0) (fun _ => 0) (fun _ => 0) (fun _ => 0) (fun _ => 0) (fun _ => 0) (fun _ => 0) (fun _ => 0) (fun _ => 0) (fun _ => 0) (fun _ => 0) (fun _ => 0) (fun _ => 0)) ?_
  refine c2' (fun z => ∃ n, wY_init_182 (fun v => i_Rel 3 _ v) (nI F) r1 z 0 0 0 0 n 0 (fun _ => 0) (fun _ => 0) (fun _ => 0) (fun _ => 0) (fun _ => 0) (fun _ => 0) (fun _ => 0) (fun _ => 0) (fun _ => 0) (fun _ => 0) (fun _ => 0) (fun _ => 0) (fun _ => 0)) ?_
  refine hy_i182 _ ?_
  exact hv_in (F := F) _ _ _ _ _ _ _ _ _ _ _ _ _ _ _ _ _ _ _ _ _ _ _ _ _ _ _ _ _ _ _ _ _ _ _ _ _ _ _ _ ⟨hF2, rfl, hv_k0 (by omega), hv_k0 (by decide), fun _ _ => hv_k0 (by decide), fun i hi => hv_k0 (by unfold hv_bd; split <;> decide), fun j hj => ⟨rfl, rfl, rfl, rfl, rfl, rfl, rfl, rfl, rfl, rfl, rfl, rfl, rfl, rfl, rfl⟩, fun g hg _ => rfl, hv_i0M hF⟩
end

section
theorem pk_us {f : Nat → Int32} {k : Nat} {x : Int32} : upd f k x k = x := if_pos rfl
theorem pk_un {f : Nat → Int32} {k j : Nat} {x : Int32} (h : j ≠ k) : upd f k x j = f j := if_neg h
theorem pk_uLs {f : Nat → Int64} {k : Nat} {x : Int64} : vp_updL f k x k = x := if_pos rfl
theorem pk_uLn {f : Nat → Int64} {k j : Nat} {x : Int64} (h : j ≠ k) : vp_updL f k x j = f j := if_neg h
theorem pk_sub {a b : Nat} (h : b ≤ a) : nI a - nI b = nI (a - b) := by
  obtain ⟨c, rfl⟩ : ∃ c, a = c + b := ⟨a - b, by omega⟩
  rw [← nI_add, Int32.add_sub_cancel, Nat.add_sub_cancel]
theorem pk_m1 (n : Nat) : nI (n + 1) + (-1) = nI n := by
  rw [← nI_1, Int32.add_assoc, show (1 : Int32) + (-1) = 0 from rfl, Int32.add_zero]
theorem pk_mul (a b : Nat) : nI a * nI b = nI (a * b) := (Int32.ofNat_mul a b).symm
theorem pk_div {a d : Nat} (ha : a < 2 ^ 31) (h0 : 0 < d) (hd : d < 2 ^ 31) : nI a / nI d = nI (a / d) := by
  apply Int32.toInt_inj.mp
  rw [lg_idiv_nonneg (by rw [nI_toInt ha]; omega) (by rw [nI_toInt hd]; omega), nI_toInt ha, nI_toInt hd, nI_toInt (Nat.lt_of_le_of_lt (Nat.div_le_self a d) ha)]
  first | rfl | exact (Int.natCast_ediv _ _).symm
theorem pk_rem {a d : Nat} (ha : a < 2 ^ 31) (h0 : 0 < d) (hd : d < 2 ^ 31) : nI a - nI a / nI d * nI d = nI (a % d) := by
  rw [pk_div ha h0 hd, pk_mul, pk_sub (Nat.div_mul_le_self a d)]
  exact congrArg nI (by have := Nat.div_add_mod' a d; omega)
theorem pk_sub_toInt {a b : Nat} (ha : a < 2 ^ 30) (hb : b < 2 ^ 30) : (nI a - nI b).toInt = (a : Int) - b := by
  rw [Int32.toInt_sub, nI_toInt (by omega), nI_toInt (by omega)]
  exact Int.bmod_eq_of_le (by omega) (by omega)
theorem pk_sneg {a b : Nat} (hb : b < 2 ^ 30) (h : a < b) : nI a - nI b < 0 := by
  rw [Int32.lt_iff_toInt_lt, pk_sub_toInt (by omega) hb, show (0 : Int32).toInt = 0 from by decide]
  omega
theorem pk_ix (x : Int32) {n : Nat} (hn : n < 2 ^ 31) : x < 0 ∨ nI n ≤ x ∨ ∃ j : Nat, j < n ∧ x = nI j := by
  by_cases h : x < 0
  · exact Or.inl h
  · obtain ⟨j, hj, rfl⟩ := nI_of h
    by_cases h2 : j < n
    · exact Or.inr (Or.inr ⟨j, h2, rfl⟩)
    · exact Or.inr (Or.inl (nI_le (by omega) hj))
theorem pk_le {x y : Int32} {A B : Prop} (a b : Nat) (f : a ≤ b → A) (g : b < a → B) (hx : x = nI a := by rfl) (hy : y = nI b := by rfl) (ha : a < 2 ^ 31 := by omega) (hb : b < 2 ^ 31 := by omega) : (x ≤ y → A) ∧ (¬ x ≤ y → B) := by
  subst hx hy
  rw [nI_leI ha hb]
  exact ⟨f, fun z => g (by omega)⟩
theorem pk_lt {x y : Int32} {A B : Prop} (a b : Nat) (f : a < b → A) (g : b ≤ a → B) (hx : x = nI a := by rfl) (hy : y = nI b := by rfl) (ha : a < 2 ^ 31 := by omega) (hb : b < 2 ^ 31 := by omega) : (x < y → A) ∧ (¬ x < y → B) := by
  subst hx hy
  rw [nI_ltI ha hb]
  exact ⟨f, fun z => g (by omega)⟩
theorem pk_eq {x y : Int32} {A B : Prop} (a b : Nat) (f : a = b → A) (g : a ≠ b → B) (hx : x = nI a := by rfl) (hy : y = nI b := by rfl) (ha : a < 2 ^ 31 := by omega) (hb : b < 2 ^ 31 := by omega) : (x = y → A) ∧ (¬ x = y → B) := by
  subst hx hy
  rw [nI_eq ha hb]
  exact ⟨f, g⟩
theorem pk_in {x : Int32} (n N : Nat) (h : n < N) (hx : x = nI n := by rfl) (hN : N < 2 ^ 31 := by omega) : vp_in x N := by
  subst hx
  exact vp_in_nI h hN
theorem pk_cl {x : Int32} (n : Nat) (hx : x = nI n := by rfl) (h : n < 2 ^ 31 := by omega) : x.toNatClampNeg = n := by
  subst hx
  exact nI_clamp h
theorem pk_tn {n : Nat} (h : n < 2 ^ 32) : (nI n).toBitVec.toNat = n := Nat.mod_eq_of_lt h
theorem pk_and (x : Int32) {m : Int32} (k : Nat) (hm : m.toBitVec.toNat = 2 ^ k - 1) : x &&& m = nI (x.toBitVec.toNat % 2 ^ k) := by
  apply Int32.toBitVec_inj.mp
  apply BitVec.eq_of_toNat_eq
  rw [Int32.toBitVec_and, BitVec.toNat_and, hm, Nat.and_two_pow_sub_one_eq_mod]
  show _ = (BitVec.ofNat 32 _).toNat
  rw [BitVec.toNat_ofNat]
  exact (Nat.mod_eq_of_lt (Nat.lt_of_le_of_lt (Nat.mod_le _ _) x.toBitVec.isLt)).symm
theorem pk_andN {n : Nat} (h : n < 2 ^ 32) {m : Int32} (k : Nat) (hm : m.toBitVec.toNat = 2 ^ k - 1) : nI n &&& m = nI (n % 2 ^ k) := by
  rw [pk_and _ k hm, pk_tn h]
theorem pk_andE (x : Int32) {m : Int32} (k : Nat) (hm : m.toBitVec.toNat = 2 ^ k - 1) : ∃ j : Nat, j < 2 ^ k ∧ x &&& m = nI j := ⟨_, Nat.mod_lt _ (Nat.two_pow_pos k), pk_and x k hm⟩
theorem pk_andIn (x : Int32) {m : Int32} (k : Nat) (hm : m.toBitVec.toNat = 2 ^ k - 1) (hk : k ≤ 30) : vp_in (x &&& m) (2 ^ k) := by
  obtain ⟨j, hj, e⟩ := pk_andE x k hm
  rw [e]
  exact vp_in_nI hj (Nat.lt_of_le_of_lt (Nat.pow_le_pow_right (by decide) hk) (by decide))
theorem pk_shl (a s : Int32) (k : Nat) (hs : (s.toBitVec.smod 32).toNat = k) : (a <<< s).toBitVec.toNat = a.toBitVec.toNat * 2 ^ k % 2 ^ 32 := by
  show (a.toBitVec <<< (s.toBitVec.smod 32).toNat).toNat = _
  rw [hs, BitVec.toNat_shiftLeft, Nat.shiftLeft_eq]
theorem pk_shlN {n : Nat} (s : Int32) (k : Nat) (hs : (s.toBitVec.smod 32).toNat = k) (h : n * 2 ^ k < 2 ^ 32) : nI n <<< s = nI (n * 2 ^ k) := by
  apply Int32.toBitVec_inj.mp
  apply BitVec.eq_of_toNat_eq
  have hn : n < 2 ^ 32 := Nat.lt_of_le_of_lt (Nat.le_mul_of_pos_right n (Nat.two_pow_pos k)) h
  rw [pk_shl _ _ k hs, pk_tn hn, pk_tn h, Nat.mod_eq_of_lt h]
theorem pk_shr (a s : Int32) (k : Nat) (hs : (s.toBitVec.smod 32).toNat = k) : (a >>> s).toInt = a.toInt >>> k := by
  show (a.toBitVec.sshiftRight (s.toBitVec.smod 32).toNat).toInt = _
  rw [hs, BitVec.toInt_sshiftRight]
  rfl
theorem pk_shrN {n : Nat} (h : n < 2 ^ 31) (s : Int32) (k : Nat) (hs : (s.toBitVec.smod 32).toNat = k) : nI n >>> s = nI (n / 2 ^ k) := by
  apply Int32.toInt_inj.mp
  have h2 : n / 2 ^ k ≤ n := Nat.div_le_self _ _
  rw [pk_shr _ _ k hs, nI_toInt h, nI_toInt (by omega), Int.shiftRight_eq_div_pow]
  rfl
theorem pk_ushr (x s : Int32) (k : Nat) (hs : ((s.toUInt32 &&& Int32.toUInt32 31).toBitVec % 32).toNat = k) : (x.toUInt32 >>> (s.toUInt32 &&& Int32.toUInt32 31)).toInt32.toBitVec.toNat = x.toBitVec.toNat / 2 ^ k := by
  have e : (x.toUInt32 >>> (s.toUInt32 &&& Int32.toUInt32 31)).toInt32.toBitVec = x.toBitVec >>> k := by
    rw [← hs]
    exact UInt32.toBitVec_shiftRight _ _
  rw [e, BitVec.toNat_ushiftRight, Nat.shiftRight_eq_div_pow]
theorem pk_ushrN {n : Nat} (hn : n < 2 ^ 32) (s : Int32) (k : Nat) (hs : ((s.toUInt32 &&& Int32.toUInt32 31).toBitVec % 32).toNat = k) : ((nI n).toUInt32 >>> (s.toUInt32 &&& Int32.toUInt32 31)).toInt32 = nI (n / 2 ^ k) := by
  apply Int32.toBitVec_inj.mp
  apply BitVec.eq_of_toNat_eq
  rw [pk_ushr _ s k hs, pk_tn hn, pk_tn (Nat.lt_of_le_of_lt (Nat.div_le_self _ _) hn)]
theorem pk_nb (z : Int32) : narrow .byte (.int z.toInt8.toInt32) = .int z.toInt8.toInt32 := congrArg Value.int (by simp)
theorem pk_ns (z : Int32) : narrow .short (.int z.toInt16.toInt32) = .int z.toInt16.toInt32 := congrArg Value.int (by simp)
theorem pk_fb (r : Int32) : fits .byte (.int r.toInt8.toInt32) = true := by
  have ⟨a, b⟩ := lg_i2b_range r
  have h1 : (-128 : Int32).toInt = -128 := by decide
  have h2 : (127 : Int32).toInt = 127 := by decide
  simp only [fits, Bool.and_eq_true, decide_eq_true_eq, Int32.le_iff_toInt_le, h1, h2]
  omega
theorem pk_fs (r : Int32) : fits .short (.int r.toInt16.toInt32) = true := by
  have ⟨a, b⟩ := lg_i2s_range r
  have h1 : (-32768 : Int32).toInt = -32768 := by decide
  have h2 : (32767 : Int32).toInt = 32767 := by decide
  simp only [fits, Bool.and_eq_true, decide_eq_true_eq, Int32.le_iff_toInt_le, h1, h2]
  omega
theorem pk_charN {q : Nat} (hq : q < 65536) : narrow .char (.int (nI q)) = .int (nI q) ∧ fits .char (.int (nI q)) = true := by
  constructor
  · have e : (nI q).toUInt32.toUInt16.toUInt32.toInt32 = nI q := by
      apply Int32.toBitVec_inj.mp
      apply BitVec.eq_of_toNat_eq
      show (nI q).toUInt32.toUInt16.toUInt32.toNat = q % 2 ^ 32
      rw [UInt16.toNat_toUInt32, UInt32.toNat_toUInt16, show (nI q).toUInt32.toNat = q % 2 ^ 32 from rfl]
      omega
    exact congrArg Value.int e
  · have a : (0 : Int32) ≤ nI q := nI_pos' (by omega)
    have b : nI q ≤ 65535 := nI_le (b := 65535) (by omega) (by decide)
    show (decide ((0 : Int32) ≤ nI q) && decide (nI q ≤ 65535)) = true
    rw [decide_eq_true a, decide_eq_true b]
    rfl
theorem pk_char (x : Int32) : (x.toUInt32 % 65536).toInt32 = nI (x.toBitVec.toNat % 65536) := by
  apply Int32.toBitVec_inj.mp
  apply BitVec.eq_of_toNat_eq
  rw [pk_tn (by omega)]
  show (x.toUInt32 % 65536).toNat = _
  rw [UInt32.toNat_mod]
  rfl
theorem pk_nc (x : Int32) : narrow .char (.int (x.toUInt32 % 65536).toInt32) = .int (x.toUInt32 % 65536).toInt32 := by
  rw [pk_char]
  exact (pk_charN (Nat.mod_lt _ (by decide))).1
theorem pk_fc (x : Int32) : fits .char (.int (x.toUInt32 % 65536).toInt32) = true := by
  rw [pk_char]
  exact (pk_charN (Nat.mod_lt _ (by decide))).2
theorem pk_vb (z : Int32) : vp_nar .byte z.toInt8.toInt32 = z.toInt8.toInt32 := by rw [vp_nar_byte]; simp
theorem pk_vs (z : Int32) : vp_nar .short z.toInt16.toInt32 = z.toInt16.toInt32 := by rw [vp_nar_short]; simp
theorem pk_vc (z : Int32) : vp_nar .char (z.toUInt32 % 65536).toInt32 = (z.toUInt32 % 65536).toInt32 := Value.int.inj (pk_nc z)
def bt (x : Int32) (i : Nat) : Bool := x.toBitVec.getLsbD i
theorem b_ext {x y : Int32} (h : ∀ i, i < 32 → bt x i = bt y i) : x = y := Int32.toBitVec_inj.mp (BitVec.eq_of_getLsbD_eq (fun i hi => h i hi))
theorem b_or (x y : Int32) (i : Nat) : bt (x ||| y) i = (bt x i || bt y i) := by unfold bt; rw [Int32.toBitVec_or, BitVec.getLsbD_or]
theorem b_and (x y : Int32) (i : Nat) : bt (x &&& y) i = (bt x i && bt y i) := by unfold bt; rw [Int32.toBitVec_and, BitVec.getLsbD_and]
theorem b_xor (x y : Int32) (i : Nat) : bt (x ^^^ y) i = (bt x i ^^ bt y i) := by unfold bt; rw [Int32.toBitVec_xor, BitVec.getLsbD_xor]
theorem b_big {x : Int32} {i : Nat} (h : 32 ≤ i) : bt x i = false := BitVec.getLsbD_of_ge _ _ h
theorem b_255 (i : Nat) : bt 255 i = decide (i < 8) := by
  rcases Nat.lt_or_ge i 32 with h | h
  · exact (by decide +kernel : ∀ i, i < 32 → bt 255 i = decide (i < 8)) i h
  · rw [b_big h, decide_eq_false (by omega)]
theorem b_65535 (i : Nat) : bt 65535 i = decide (i < 16) := by
  rcases Nat.lt_or_ge i 32 with h | h
  · exact (by decide +kernel : ∀ i, i < 32 → bt 65535 i = decide (i < 16)) i h
  · rw [b_big h, decide_eq_false (by omega)]
theorem b_m1 : ∀ i, i < 32 → bt (-1) i = true := by decide +kernel
theorem b_0 (i : Nat) : bt 0 i = false := BitVec.getLsbD_zero
theorem s_l : ∀ n, n < 32 → ((nI n &&& 31).toBitVec.smod 32).toNat = n := by decide +kernel
theorem s_u : ∀ n, n < 32 → (((nI n).toUInt32 &&& Int32.toUInt32 31).toBitVec % 32).toNat = n := by decide +kernel
theorem b_shl (n : Nat) (hn : n < 32) (x : Int32) {i : Nat} (hi : i < 32) : bt (x <<< (nI n &&& 31)) i = (decide (n ≤ i) && bt x (i - n)) := by
  unfold bt
  rw [Int32.toBitVec_shiftLeft]
  show (x.toBitVec <<< ((nI n &&& 31).toBitVec.smod 32).toNat).getLsbD i = _
  rw [s_l n hn, BitVec.getLsbD_shiftLeft]
  rcases Nat.lt_or_ge i n with h | h
  · simp [h, Nat.not_le.mpr h]
  · simp [hi, h, Nat.not_lt.mpr h]
theorem b_ushr (n : Nat) (hn : n < 32) (x : Int32) (i : Nat) : bt ((x.toUInt32 >>> ((nI n).toUInt32 &&& Int32.toUInt32 31)).toInt32) i = bt x (n + i) := by
  show (x.toUInt32 >>> ((nI n).toUInt32 &&& Int32.toUInt32 31)).toBitVec.getLsbD i = x.toUInt32.toBitVec.getLsbD (n + i)
  rw [UInt32.toBitVec_shiftRight]
  show (x.toUInt32.toBitVec >>> (((nI n).toUInt32 &&& Int32.toUInt32 31).toBitVec % 32).toNat).getLsbD i = _
  rw [s_u n hn, BitVec.getLsbD_ushiftRight]
theorem b_sshr (n : Nat) (hn : n < 32) (x : Int32) {i : Nat} (hi : i < 32) : bt (x >>> (nI n &&& 31)) i = if n + i < 32 then bt x (n + i) else bt x 31 := by
  unfold bt
  rw [Int32.toBitVec_shiftRight]
  show (x.toBitVec.sshiftRight ((nI n &&& 31).toBitVec.smod 32).toNat).getLsbD i = _
  rw [s_l n hn, BitVec.getLsbD_sshiftRight, BitVec.msb_eq_getLsbD_last]
  simp [hi]
theorem b_shl8 (x : Int32) {i : Nat} (hi : i < 32) : bt (x <<< ((8 : Int32) &&& 31)) i = (decide (8 ≤ i) && bt x (i - 8)) := b_shl 8 (by omega) x hi
theorem b_shl16 (x : Int32) {i : Nat} (hi : i < 32) : bt (x <<< ((16 : Int32) &&& 31)) i = (decide (16 ≤ i) && bt x (i - 16)) := b_shl 16 (by omega) x hi
theorem b_shl24 (x : Int32) {i : Nat} (hi : i < 32) : bt (x <<< ((24 : Int32) &&& 31)) i = (decide (24 ≤ i) && bt x (i - 24)) := b_shl 24 (by omega) x hi
theorem b_sshr8 (x : Int32) {i : Nat} (hi : i < 32) : bt (x >>> ((8 : Int32) &&& 31)) i = if 8 + i < 32 then bt x (8 + i) else bt x 31 := b_sshr 8 (by omega) x hi
theorem nx_and (a b : Nat) : nI a &&& nI b = nI (a &&& b) := by
  apply Int32.toBitVec_inj.1
  show BitVec.ofNat 32 a &&& BitVec.ofNat 32 b = BitVec.ofNat 32 (a &&& b)
  apply BitVec.eq_of_getLsbD_eq
  intro i hi
  simp [hi]
end
section
/-! numbers, arrays of naturals, indices -/
def pd_F (f : Nat → Nat) : Nat → Int32 := fun i => nI (f i)
def pd_u (f : Nat → Nat) (k v : Nat) : Nat → Nat := fun j => if j = k then v else f j
theorem pd_us {f : Nat → Nat} {k v : Nat} : pd_u f k v k = v := if_pos rfl
theorem pd_un {f : Nat → Nat} {k v j : Nat} (h : j ≠ k) : pd_u f k v j = f j := if_neg h
theorem pd_uF0 (f : Nat → Nat) (k v : Nat) : upd (pd_F f) k (nI v) = pd_F (pd_u f k v) := by
  funext j
  show (if j = k then nI v else nI (f j)) = nI (if j = k then v else f j)
  by_cases h : j = k
  · rw [if_pos h, if_pos h]
  · rw [if_neg h, if_neg h]
theorem pd_uF {f : Nat → Nat} {e x : Int32} (k v : Nat) (he : e = nI k) (hk : k < 2 ^ 31) (hx : x = nI v) : upd (pd_F f) e.toNatClampNeg x = pd_F (pd_u f k v) := by
  rw [he, nI_clamp hk, hx]; exact pd_uF0 f k v
theorem pd_uR {a : Nat → Int32} {e x : Int32} (k : Nat) (he : e = nI k) (hk : k < 2 ^ 31) : upd a e.toNatClampNeg x = upd a k x := by
  rw [he, nI_clamp hk]
theorem pd_rF {f : Nat → Nat} {e : Int32} (k : Nat) (he : e = nI k) (hk : k < 2 ^ 31) : pd_F f e.toNatClampNeg = nI (f k) := by
  rw [he, nI_clamp hk]; rfl
theorem pd_rR {a : Nat → Int32} {e : Int32} (k : Nat) (he : e = nI k) (hk : k < 2 ^ 31) : a e.toNatClampNeg = a k := by
  rw [he, nI_clamp hk]
theorem pd_exI (x : Int32) : ∃ n, x = nI n := ⟨x.toBitVec.toNat, Int32.toBitVec_inj.mp (by show _ = BitVec.ofNat 32 _; simp)⟩
theorem pd_ex (a : Nat → Int32) : ∃ f, a = pd_F f := by
  refine ⟨fun i => (a i).toBitVec.toNat, ?_⟩
  funext i
  exact Int32.toBitVec_inj.mp (by show _ = BitVec.ofNat 32 _; simp)
theorem pd_x8 (p k : Nat) : nI p * 8 + nI k = nI (8 * p + k) := by
  rw [show (8 : Int32) = nI 8 from rfl, pk_mul, nI_add, Nat.mul_comm]
theorem pd_y8 (p k : Nat) : 8 * nI p + nI k = nI (8 * p + k) := by
  rw [show (8 : Int32) = nI 8 from rfl, pk_mul, nI_add]
theorem pd_x9 (p k : Nat) : nI p * 9 + nI k = nI (9 * p + k) := by
  rw [show (9 : Int32) = nI 9 from rfl, pk_mul, nI_add, Nat.mul_comm]
theorem pd_y9 (p k : Nat) : 9 * nI p + nI k = nI (9 * p + k) := by
  rw [show (9 : Int32) = nI 9 from rfl, pk_mul, nI_add]
theorem pd_x90 (p : Nat) : nI p * 9 = nI (9 * p) := by
  rw [show (9 : Int32) = nI 9 from rfl, pk_mul, Nat.mul_comm]
theorem pd_y90 (p : Nat) : 9 * nI p = nI (9 * p) := by
  rw [show (9 : Int32) = nI 9 from rfl, pk_mul]
theorem pd_x91 (p k : Nat) : nI p * 9 + nI k + 1 = nI (9 * p + k + 1) := by
  rw [pd_x9, nI_1]
theorem pd_y91 (p k : Nat) : 9 * nI p + nI k + 1 = nI (9 * p + k + 1) := by
  rw [pd_y9, nI_1]
theorem pd_x6 (p k : Nat) : nI p * 6 + nI k = nI (6 * p + k) := by
  rw [show (6 : Int32) = nI 6 from rfl, pk_mul, nI_add, Nat.mul_comm]
theorem pd_y6 (p k : Nat) : 6 * nI p + nI k = nI (6 * p + k) := by
  rw [show (6 : Int32) = nI 6 from rfl, pk_mul, nI_add]
theorem pd_x60 (p : Nat) : nI p * 6 = nI (6 * p) := by
  rw [show (6 : Int32) = nI 6 from rfl, pk_mul, Nat.mul_comm]
theorem pd_d1 {d : Nat} (h : 0 < d) : nI d - 1 = nI (d - 1) := by
  obtain ⟨m, rfl⟩ : ∃ m, d = m + 1 := ⟨d - 1, by omega⟩
  exact nI_pred m
theorem pd_sm (d : Nat) : nI d - 1 = nI d + (-1) := by
  rw [Int32.sub_eq_add_neg]
theorem pd_m1n : nI 0 + (-1) < 0 := by decide
theorem pd_m1p (k : Nat) (h : k < 2 ^ 31) : ¬ nI (k + 1) + (-1) < 0 := by
  rw [pk_m1]; exact nI_pos h
/-! operands of an instruction -/
theorem pd_oa {n : Nat} (h : n < 512) : nI n &&& 7 = nI (n % 8) := pk_andN (by omega) 3 (by decide)
theorem pd_oc {n : Nat} (h : n < 512) : nI n >>> ((6 : Int32) &&& 31) = nI (n / 64) := pk_shrN (by omega) _ 6 (by decide)
theorem pd_ob {n : Nat} (h : n < 512) : (nI n >>> ((3 : Int32) &&& 31)) &&& 7 = nI (n / 8 % 8) := by
  rw [pk_shrN (by omega) _ 3 (by decide)]
  exact pk_andN (by omega) 3 (by decide)
/-! small stores -/
theorem pd_nb0 : ∀ v, v < 128 → (nI v).toInt8.toInt32 = nI v := by decide +kernel
theorem pd_ns0 : ∀ v, v < 512 → (nI v).toInt16.toInt32 = nI v := by decide +kernel
theorem pd_nb {v : Nat} (h : v < 128) : vp_nar .byte (nI v).toInt8.toInt32 = nI v := by rw [pk_vb, pd_nb0 v h]
theorem pd_ns {v : Nat} (h : v < 512) : vp_nar .short (nI v).toInt16.toInt32 = nI v := by rw [pk_vs, pd_ns0 v h]
theorem pd_nbz : vp_nar .byte 0 = nI 0 := by rw [vp_nar_byte]; decide
theorem pd_nsz : vp_nar .short 0 = nI 0 := by rw [vp_nar_short]; decide
theorem pd_nz0 : vp_nar .boolean 0 = nI 0 := by decide
theorem pd_nz1 : vp_nar .boolean 1 = nI 1 := by decide
/-! bits -/
theorem pd_bt (n : Nat) {i : Nat} (hi : i < 32) : bt (nI n) i = n.testBit i := by
  show (BitVec.ofNat 32 n).getLsbD i = _
  rw [BitVec.getLsbD_ofNat]; simp [hi]
theorem pd_or (a b : Nat) : nI a ||| nI b = nI (a ||| b) := by
  apply b_ext
  intro i hi
  rw [b_or, pd_bt _ hi, pd_bt _ hi, pd_bt _ hi, Nat.testBit_or]
def pd_an (x a : Nat) : Nat := x ^^^ (x &&& a)
theorem pd_an_t (x a i : Nat) : (pd_an x a).testBit i = (x.testBit i && !a.testBit i) := by
  unfold pd_an
  rw [Nat.testBit_xor, Nat.testBit_and]
  cases x.testBit i <;> cases a.testBit i <;> rfl
theorem pd_ann (x a : Nat) : nI x &&& (nI a ^^^ (-1)) = nI (pd_an x a) := by
  apply b_ext
  intro i hi
  rw [b_and, b_xor, pd_bt _ hi, pd_bt _ hi, pd_bt _ hi, b_m1 i hi, pd_an_t]
  cases x.testBit i <;> cases a.testBit i <;> rfl
theorem pd_2p {j : Nat} (h : j < 31) : 2 ^ j < 2 ^ 31 := Nat.pow_lt_pow_right (by decide) h
theorem pd_sl {j : Nat} (h : j < 31) : (1 : Int32) <<< (nI j &&& 31) = nI (2 ^ j) := by
  have h2 := pd_2p h
  have e := pk_shlN (n := 1) (nI j &&& 31) j (s_l j (by omega)) (by omega)
  rw [Nat.one_mul] at e
  exact e
theorem pd_shl {x b : Nat} (hb : b < 32) (h : x * 2 ^ b < 2 ^ 32) : nI x <<< (nI b &&& 31) = nI (x <<< b) := by
  rw [pk_shlN _ b (s_l b hb) h, Nat.shiftLeft_eq]
theorem pd_mk {j : Nat} (h : j < 31) : ((1 : Int32) <<< (nI j &&& 31)) - 1 = nI (2 ^ j - 1) := by
  rw [pd_sl h]
  exact pk_sub (b := 1) Nat.one_le_two_pow
theorem pd_msk {j : Nat} (x : Nat) (h : j < 31) : nI x &&& (((1 : Int32) <<< (nI j &&& 31)) - 1) = nI (x % 2 ^ j) := by
  rw [pd_mk h, nx_and, Nat.and_two_pow_sub_one_eq_mod]
theorem pd_sh1 {x j : Nat} (hx : x < 2 ^ 31) (hj : j < 32) : (nI x >>> (nI j &&& 31)) &&& 1 = nI (x / 2 ^ j % 2) := by
  have hd : x / 2 ^ j ≤ x := Nat.div_le_self _ _
  rw [pk_shrN hx _ j (s_l j hj)]
  exact pk_andN (by omega) 1 (by decide)
theorem pd_b0 {x j : Nat} (hx : x < 2 ^ 31) (hj : j < 32) (h : x.testBit j = false) : (nI x >>> (nI j &&& 31)) &&& 1 = 0 := by
  rw [pd_sh1 hx hj, ← nI_0]
  rw [Nat.testBit_eq_decide_div_mod_eq, decide_eq_false_iff_not] at h
  exact congrArg nI (by omega)
theorem pd_b1 {x j : Nat} (hx : x < 2 ^ 31) (hj : j < 32) (h : x.testBit j = true) : (nI x >>> (nI j &&& 31)) &&& 1 = 1 := by
  rw [pd_sh1 hx hj]
  rw [Nat.testBit_eq_decide_div_mod_eq, decide_eq_true_eq] at h
  rw [h]; rfl
theorem pd_10 : ¬ (1 : Int32) = 0 := by decide
theorem pd_01 : ¬ (0 : Int32) = 1 := by decide
theorem pd_br0 {A B : Prop} {x j : Nat} (hx : x < 2 ^ 31) (hj : j < 32) (f : x.testBit j = false → A) (g : x.testBit j = true → B) : (((nI x >>> (nI j &&& 31)) &&& 1) = 0 → A) ∧ (¬ ((nI x >>> (nI j &&& 31)) &&& 1) = 0 → B) := by
  cases h : x.testBit j
  · exact br_t (pd_b0 hx hj h) (f h)
  · exact br_f (by rw [pd_b1 hx hj h]; exact pd_10) (g h)
theorem pd_br1 {A B : Prop} {x j : Nat} (hx : x < 2 ^ 31) (hj : j < 32) (f : x.testBit j = true → A) (g : x.testBit j = false → B) : (((nI x >>> (nI j &&& 31)) &&& 1) = 1 → A) ∧ (¬ ((nI x >>> (nI j &&& 31)) &&& 1) = 1 → B) := by
  cases h : x.testBit j
  · exact br_f (by rw [pd_b0 hx hj h]; exact pd_01) (g h)
  · exact br_t (pd_b1 hx hj h) (f h)
theorem pd_tst {x a : Nat} (hx : x < 2 ^ 31) : nI x &&& nI (2 ^ a) = 0 ↔ x.testBit a = false := by
  rw [nx_and]
  have h1 : x &&& 2 ^ a < 2 ^ 31 := Nat.lt_of_le_of_lt Nat.and_le_left hx
  rw [← nI_0, nI_eq h1 (by omega)]
  constructor
  · intro h
    have := congrArg (fun y => y.testBit a) h
    simpa [Nat.testBit_and, Nat.testBit_two_pow] using this
  · intro h
    apply Nat.eq_of_testBit_eq
    intro i
    rw [Nat.testBit_and, Nat.testBit_two_pow, Nat.zero_testBit]
    by_cases e : a = i
    · subst e; rw [h]; rfl
    · simp [e]
/-! sets of bits -/
def pd_le (x y : Nat) : Prop := ∀ r, x.testBit r = true → y.testBit r = true
theorem pd_le_r (x : Nat) : pd_le x x := fun _ h => h
theorem pd_le_t {x y z : Nat} (h : pd_le x y) (g : pd_le y z) : pd_le x z := fun r k => g r (h r k)
theorem pd_le_a {x y : Nat} (h : pd_le x y) (g : pd_le y x) : x = y := by
  apply Nat.eq_of_testBit_eq
  intro i
  cases hx : x.testBit i
  · cases hy : y.testBit i
    · rfl
    · rw [g i hy] at hx; cases hx
  · exact (h i hx).symm
theorem pd_le_0 (x : Nat) : pd_le 0 x := fun r h => by rw [Nat.zero_testBit] at h; cases h
theorem pd_le_or {x y z : Nat} (h : pd_le x z) (g : pd_le y z) : pd_le (x ||| y) z := fun r k => by
  rw [Nat.testBit_or, Bool.or_eq_true] at k
  exact k.elim (h r) (g r)
theorem pd_le_l (x y : Nat) : pd_le x (x ||| y) := fun r k => by rw [Nat.testBit_or, k]; rfl
theorem pd_le_rr (x y : Nat) : pd_le y (x ||| y) := fun r k => by rw [Nat.testBit_or, k]; exact Bool.or_true _
theorem pd_le_oo {x y x' y' : Nat} (h : pd_le x x') (g : pd_le y y') : pd_le (x ||| y) (x' ||| y') := pd_le_or (pd_le_t h (pd_le_l _ _)) (pd_le_t g (pd_le_rr _ _))
theorem pd_le_an {x y : Nat} (a : Nat) (h : pd_le x y) : pd_le (pd_an x a) (pd_an y a) := fun r k => by
  rw [pd_an_t, Bool.and_eq_true] at k ⊢
  exact ⟨h r k.1, k.2⟩
theorem pd_le_sh {x y : Nat} (b : Nat) (h : pd_le x y) : pd_le (x <<< b) (y <<< b) := fun r k => by
  rw [Nat.testBit_shiftLeft, Bool.and_eq_true] at k ⊢
  exact ⟨k.1, h _ k.2⟩
theorem pd_le_md {x y : Nat} (b : Nat) (h : pd_le x y) : pd_le (x % 2 ^ b) (y % 2 ^ b) := fun r k => by
  rw [Nat.testBit_mod_two_pow, Bool.and_eq_true] at k ⊢
  exact ⟨k.1, h _ k.2⟩
theorem pd_hi {x n i : Nat} (h : x < 2 ^ n) (hi : n ≤ i) : x.testBit i = false := Nat.testBit_lt_two_pow (Nat.lt_of_lt_of_le h (Nat.pow_le_pow_right (by decide) hi))
theorem pd_lo {x n i : Nat} (h : x < 2 ^ n) (hi : x.testBit i = true) : i < n := by
  rcases Nat.lt_or_ge i n with z | z
  · exact z
  · rw [pd_hi h z] at hi; cases hi
theorem pd_an_lt {x n : Nat} (a : Nat) (h : x < 2 ^ n) : pd_an x a < 2 ^ n := Nat.xor_lt_two_pow h (Nat.lt_of_le_of_lt Nat.and_le_left h)
theorem pd_2lt {i n : Nat} (h : i < n) : 2 ^ i < 2 ^ n := Nat.pow_lt_pow_right (by decide) h
theorem pd_two {i j : Nat} : (2 ^ i).testBit j = true ↔ i = j := by rw [Nat.testBit_two_pow, decide_eq_true_eq]
theorem pd_le_2 {i x : Nat} (h : x.testBit i = true) : pd_le (2 ^ i) x := fun r k => by rw [← pd_two.mp k]; exact h
theorem pd_ne_bit {x : Nat} (h : x ≠ 0) : ∃ i, x.testBit i = true := by
  refine Classical.byContradiction fun k => h ?_
  apply Nat.eq_of_testBit_eq
  intro i
  rw [Nat.zero_testBit]
  cases e : x.testBit i
  · rfl
  · exact absurd ⟨i, e⟩ k
/-! counts -/
def pd_cn (f : Nat → Bool) : Nat → Nat
  | 0 => 0
  | n + 1 => pd_cn f n + (f n).toNat
theorem pd_cn_le (f : Nat → Bool) : ∀ n, pd_cn f n ≤ n
  | 0 => Nat.le_refl 0
  | n + 1 => by
    have h := pd_cn_le f n
    have g : (f n).toNat ≤ 1 := by cases f n <;> decide
    show pd_cn f n + (f n).toNat ≤ n + 1
    omega
theorem pd_cn_mo {f g : Nat → Bool} : ∀ n, (∀ i, i < n → f i = true → g i = true) → pd_cn f n ≤ pd_cn g n
  | 0, _ => Nat.le_refl 0
  | n + 1, h => by
    have k := pd_cn_mo n (fun i hi => h i (by omega))
    have e : (f n).toNat ≤ (g n).toNat := by
      have := h n (by omega)
      cases hf : f n
      · exact Nat.zero_le _
      · rw [this hf]; exact Nat.le_refl _
    show pd_cn f n + (f n).toNat ≤ pd_cn g n + (g n).toNat
    omega
theorem pd_cn_lt {f g : Nat → Bool} {j : Nat} (hf : f j = false) (hg : g j = true) : ∀ n, j < n → (∀ i, i < n → f i = true → g i = true) → pd_cn f n < pd_cn g n
  | 0, hj, _ => absurd hj (by omega)
  | n + 1, hj, h => by
    show pd_cn f n + (f n).toNat < pd_cn g n + (g n).toNat
    rcases Nat.lt_or_ge j n with z | z
    · have k := pd_cn_lt hf hg n z (fun i hi => h i (by omega))
      have e : (f n).toNat ≤ (g n).toNat := by
        have := h n (by omega)
        cases hf : f n
        · exact Nat.zero_le _
        · rw [this hf]; exact Nat.le_refl _
      omega
    · have e : n = j := by omega
      subst e
      have k := pd_cn_mo n (fun i hi => h i (by omega))
      rw [hf, hg]
      show pd_cn f n + 0 < pd_cn g n + 1
      omega
theorem pd_cn_1 {f g : Nat → Bool} {j : Nat} : ∀ n, (∀ i, i < n → g i = true → f i = true ∨ i = j) → pd_cn g n ≤ pd_cn f n + (if j < n then 1 else 0)
  | 0, _ => Nat.zero_le _
  | n + 1, h => by
    have k := pd_cn_1 (f := f) (g := g) (j := j) n (fun i hi => h i (by omega))
    have g1 : (g n).toNat ≤ 1 := by cases g n <;> decide
    show pd_cn g n + (g n).toNat ≤ pd_cn f n + (f n).toNat + (if j < n + 1 then 1 else 0)
    by_cases e : n = j
    · subst e
      rw [if_neg (by omega)] at k
      rw [if_pos (by omega)]
      omega
    · have e2 : (g n).toNat ≤ (f n).toNat := by
        cases hg : g n
        · exact Nat.zero_le _
        · rcases h n (by omega) hg with z | z
          · rw [z]; exact Nat.le_refl _
          · exact absurd z e
      by_cases l : j < n
      · rw [if_pos l] at k; rw [if_pos (by omega)]; omega
      · rw [if_neg l] at k; rw [if_neg (by omega)]; omega
end
section
/-! what matters: plain laws -/
def pd_tg (nu : Nat → Int32) (i : Nat) : Nat := (nu i).toNatClampNeg
def pd_af (op : Nat → Nat) (nu : Nat → Int32) (L : Nat → Nat) (p k : Nat) : Nat :=
  if op (8 * p + k) = 7 then 0 else if op (8 * p + k) = 4 then L (9 * p + k + 1) ||| L (9 * p + pd_tg nu (8 * p + k)) else L (9 * p + k + 1)
def pd_bf (op pk : Nat → Nat) (nu : Nat → Int32) (E : Nat → Nat) (w : Bool) (x i : Nat) : Nat :=
  if op i ≤ 3 then (if op i ≠ 0 ∧ x.testBit (pk i % 8) = true then pd_an x (2 ^ (pk i % 8)) ||| (2 ^ (pk i / 8 % 8) ||| 2 ^ (pk i / 64)) else pd_an x (2 ^ (pk i % 8)))
  else if op i = 5 then pd_an x (2 ^ (pk i % 8)) ||| (E (pd_tg nu i) <<< (pk i / 8 % 8))
  else if op i = 7 then (if w = true then 2 ^ (pk i % 8) else 0)
  else x ||| 2 ^ (pk i % 8)
/-! the values by the kind of instruction -/
section
variable {op pk : Nat → Nat} {nu : Nat → Int32} {E : Nat → Nat} {w : Bool} {x i : Nat}
theorem pd_bf_n (h : op i ≤ 3) (g : ¬ (op i ≠ 0 ∧ x.testBit (pk i % 8) = true)) : pd_bf op pk nu E w x i = pd_an x (2 ^ (pk i % 8)) := (if_pos h).trans (if_neg g)
theorem pd_bf_y (h : op i ≤ 3) (g0 : op i ≠ 0) (g : x.testBit (pk i % 8) = true) : pd_bf op pk nu E w x i = pd_an x (2 ^ (pk i % 8)) ||| (2 ^ (pk i / 8 % 8) ||| 2 ^ (pk i / 64)) := (if_pos h).trans (if_pos ⟨g0, g⟩)
theorem pd_bf_5 (h : op i = 5) : pd_bf op pk nu E w x i = pd_an x (2 ^ (pk i % 8)) ||| (E (pd_tg nu i) <<< (pk i / 8 % 8)) := (if_neg (by omega)).trans (if_pos h)
theorem pd_bf_7 (h : op i = 7) (g : w = true) : pd_bf op pk nu E w x i = 2 ^ (pk i % 8) := (if_neg (by omega)).trans ((if_neg (by omega)).trans ((if_pos h).trans (if_pos g)))
theorem pd_bf_7n (h : op i = 7) (g : w = false) : pd_bf op pk nu E w x i = 0 := (if_neg (by omega)).trans ((if_neg (by omega)).trans ((if_pos h).trans (if_neg (by rw [g]; decide))))
theorem pd_bf_o (h3 : 3 < op i) (h5 : op i ≠ 5) (h7 : op i ≠ 7) : pd_bf op pk nu E w x i = x ||| 2 ^ (pk i % 8) := (if_neg (by omega)).trans ((if_neg h5).trans (if_neg h7))
end
def pd_ow (pr L : Nat → Nat) (q : Nat) : Nat := L (9 * q) % 2 ^ (pr q)
def pd_PG (c : Nat) (pr sz op pk : Nat → Nat) (nu : Nat → Int32) : Prop :=
  c ≤ 5 ∧ (∀ i, pr i ≤ 3) ∧ (∀ i, sz i ≤ 8) ∧ (∀ i, op i ≤ 7) ∧ (∀ i, pk i < 512) ∧ (∀ i, pk i % 8 < 6) ∧ (∀ i, 1 ≤ op i → op i ≤ 3 → pk i / 8 % 8 < 6 ∧ pk i / 64 < 6) ∧ (∀ i, op i = 4 → nu i = nI (pd_tg nu i) ∧ i % 8 < pd_tg nu i ∧ pd_tg nu i ≤ 8) ∧ (∀ p k, p < c → k < sz p → op (8 * p + k) = 5 → nu (8 * p + k) = nI (pd_tg nu (8 * p + k)) ∧ pd_tg nu (8 * p + k) < c ∧ pk (8 * p + k) / 8 % 8 + pr (pd_tg nu (8 * p + k)) ≤ 6)
section
variable {c : Nat} {pr sz op pk : Nat → Nat} {nu : Nat → Int32}
theorem pd_Gc (h : pd_PG c pr sz op pk nu) : c ≤ 5 := h.1
theorem pd_Gpr (h : pd_PG c pr sz op pk nu) (i : Nat) : pr i ≤ 3 := h.2.1 i
theorem pd_Gsz (h : pd_PG c pr sz op pk nu) (i : Nat) : sz i ≤ 8 := h.2.2.1 i
theorem pd_Gop (h : pd_PG c pr sz op pk nu) (i : Nat) : op i ≤ 7 := h.2.2.2.1 i
theorem pd_Gpk (h : pd_PG c pr sz op pk nu) (i : Nat) : pk i < 512 := h.2.2.2.2.1 i
theorem pd_Ga (h : pd_PG c pr sz op pk nu) (i : Nat) : pk i % 8 < 6 := h.2.2.2.2.2.1 i
theorem pd_Gbc (h : pd_PG c pr sz op pk nu) {i : Nat} (h1 : 1 ≤ op i) (h2 : op i ≤ 3) : pk i / 8 % 8 < 6 ∧ pk i / 64 < 6 := h.2.2.2.2.2.2.1 i h1 h2
theorem pd_G4 (h : pd_PG c pr sz op pk nu) {i : Nat} (h1 : op i = 4) : nu i = nI (pd_tg nu i) ∧ i % 8 < pd_tg nu i ∧ pd_tg nu i ≤ 8 := h.2.2.2.2.2.2.2.1 i h1
theorem pd_G4k (h : pd_PG c pr sz op pk nu) {p k : Nat} (hk : k < 8) (h1 : op (8 * p + k) = 4) : k < pd_tg nu (8 * p + k) ∧ pd_tg nu (8 * p + k) ≤ 8 := by
  have g := pd_G4 h h1
  exact ⟨by omega, g.2.2⟩
theorem pd_G5 (h : pd_PG c pr sz op pk nu) {p k : Nat} (hp : p < c) (hk : k < sz p) (h1 : op (8 * p + k) = 5) : nu (8 * p + k) = nI (pd_tg nu (8 * p + k)) ∧ pd_tg nu (8 * p + k) < c ∧ pk (8 * p + k) / 8 % 8 + pr (pd_tg nu (8 * p + k)) ≤ 6 := h.2.2.2.2.2.2.2.2 p k hp hk h1
theorem pd_af_mo (G : pd_PG c pr sz op pk nu) {L l : Nat → Nat} {p k : Nat} (hk : k < 8) (h : ∀ j, k < j → j ≤ 8 → pd_le (L (9 * p + j)) (l (9 * p + j))) : pd_le (pd_af op nu L p k) (pd_af op nu l p k) := by
  unfold pd_af
  by_cases h7 : op (8 * p + k) = 7
  · rw [if_pos h7, if_pos h7]; exact pd_le_r _
  · rw [if_neg h7, if_neg h7]
    by_cases h4 : op (8 * p + k) = 4
    · rw [if_pos h4, if_pos h4]
      have g := pd_G4k G hk h4
      exact pd_le_oo (h (k + 1) (by omega) (by omega)) (h _ g.1 g.2)
    · rw [if_neg h4, if_neg h4]
      exact h (k + 1) (by omega) (by omega)
theorem pd_af_eq (G : pd_PG c pr sz op pk nu) {L l : Nat → Nat} {p k : Nat} (hk : k < 8) (h : ∀ j, k < j → j ≤ 8 → L (9 * p + j) = l (9 * p + j)) : pd_af op nu L p k = pd_af op nu l p k :=
  pd_le_a (pd_af_mo G hk fun j a b => by rw [h j a b]; exact pd_le_r _) (pd_af_mo G hk fun j a b => by rw [h j a b]; exact pd_le_r _)
theorem pd_af_lt (G : pd_PG c pr sz op pk nu) {L : Nat → Nat} {p k : Nat} (hk : k < 8) (h : ∀ j, k < j → j ≤ 8 → L (9 * p + j) < 64) : pd_af op nu L p k < 64 := by
  unfold pd_af
  by_cases h7 : op (8 * p + k) = 7
  · rw [if_pos h7]; decide
  · rw [if_neg h7]
    by_cases h4 : op (8 * p + k) = 4
    · rw [if_pos h4]
      have g := pd_G4k G hk h4
      exact Nat.or_lt_two_pow (n := 6) (h (k + 1) (by omega) (by omega)) (h _ g.1 g.2)
    · rw [if_neg h4]
      exact h (k + 1) (by omega) (by omega)
theorem pd_bf_mo {E E' : Nat → Nat} {w w' : Bool} {x x' i : Nat} (hx : pd_le x x') (hE : op i = 5 → pd_le (E (pd_tg nu i)) (E' (pd_tg nu i))) (hw : w = true → w' = true) : pd_le (pd_bf op pk nu E w x i) (pd_bf op pk nu E' w' x' i) := by
  unfold pd_bf
  have ha := pd_le_an (2 ^ (pk i % 8)) hx
  by_cases h3 : op i ≤ 3
  · rw [if_pos h3, if_pos h3]
    by_cases c1 : op i ≠ 0 ∧ x.testBit (pk i % 8) = true
    · rw [if_pos c1, if_pos ⟨c1.1, hx _ c1.2⟩]
      exact pd_le_oo ha (pd_le_r _)
    · rw [if_neg c1]
      by_cases c2 : op i ≠ 0 ∧ x'.testBit (pk i % 8) = true
      · rw [if_pos c2]; exact pd_le_t ha (pd_le_l _ _)
      · rw [if_neg c2]; exact ha
  · rw [if_neg h3, if_neg h3]
    by_cases h5 : op i = 5
    · rw [if_pos h5, if_pos h5]
      exact pd_le_oo ha (pd_le_sh _ (hE h5))
    · rw [if_neg h5, if_neg h5]
      by_cases h7 : op i = 7
      · rw [if_pos h7, if_pos h7]
        cases w
        · rw [if_neg (by decide)]; exact pd_le_0 _
        · rw [hw rfl]; exact pd_le_r _
      · rw [if_neg h7, if_neg h7]
        exact pd_le_oo hx (pd_le_r _)
theorem pd_shb {e n b : Nat} (h : e < 2 ^ n) (hb : b + n ≤ 6) : e <<< b < 64 := by
  rw [Nat.shiftLeft_eq]
  have h1 : e * 2 ^ b < 2 ^ n * 2 ^ b := Nat.mul_lt_mul_of_pos_right h (Nat.two_pow_pos b)
  rw [← Nat.pow_add] at h1
  exact Nat.lt_of_lt_of_le h1 (Nat.pow_le_pow_right (n := 2) (by decide) (show n + b ≤ 6 by omega))
theorem pd_bf_lt (G : pd_PG c pr sz op pk nu) {E : Nat → Nat} {w : Bool} {x p k : Nat} (hp : p < c) (hk : k < sz p) (hx : x < 64) (hE : ∀ q, q < c → E q < 2 ^ pr q) : pd_bf op pk nu E w x (8 * p + k) < 64 := by
  unfold pd_bf
  have ha := pd_an_lt (n := 6) (2 ^ (pk (8 * p + k) % 8)) hx
  have h2 := pd_2lt (pd_Ga G (8 * p + k))
  by_cases h3 : op (8 * p + k) ≤ 3
  · rw [if_pos h3]
    by_cases c1 : op (8 * p + k) ≠ 0 ∧ x.testBit (pk (8 * p + k) % 8) = true
    · rw [if_pos c1]
      have g := pd_Gbc G (i := 8 * p + k) (by omega) h3
      exact Nat.or_lt_two_pow (n := 6) ha (Nat.or_lt_two_pow (pd_2lt g.1) (pd_2lt g.2))
    · rw [if_neg c1]; exact ha
  · rw [if_neg h3]
    by_cases h5 : op (8 * p + k) = 5
    · rw [if_pos h5]
      have g := pd_G5 G hp hk h5
      exact Nat.or_lt_two_pow (n := 6) ha (pd_shb (hE _ g.2.1) g.2.2)
    · rw [if_neg h5]
      by_cases h7 : op (8 * p + k) = 7
      · rw [if_pos h7]
        cases w
        · rw [if_neg (by decide)]; decide
        · rw [if_pos rfl]; exact h2
      · rw [if_neg h7]
        exact Nat.or_lt_two_pow (n := 6) hx h2
theorem pd_ow_lt (pr L : Nat → Nat) (q : Nat) : pd_ow pr L q < 2 ^ pr q := Nat.mod_lt _ (Nat.two_pow_pos _)
end
/-! closed and least -/
def pd_cl (c : Nat) (pr sz op pk : Nat → Nat) (nu : Nat → Int32) (L : Nat → Nat) (W : Nat → Bool) : Prop :=
  W 0 = true ∧ ∀ p k, p < c → k < sz p → pd_le (pd_bf op pk nu (pd_ow pr L) (W p) (pd_af op nu L p k) (8 * p + k)) (L (9 * p + k)) ∧ (op (8 * p + k) = 5 → (pd_af op nu L p k).testBit (pk (8 * p + k) % 8) = true → W (pd_tg nu (8 * p + k)) = true)
def pd_LC (sz op pk : Nat → Nat) (nu : Nat → Int32) (E : Nat → Nat) (w : Bool) (p : Nat) (l : Nat → Nat) : Prop :=
  ∀ k, k < sz p → pd_le (pd_bf op pk nu E w (pd_af op nu l p k) (8 * p + k)) (l (9 * p + k))
def pd_ls (c : Nat) (pr sz op pk : Nat → Nat) (nu : Nat → Int32) (L : Nat → Nat) (W : Nat → Bool) : Prop :=
  pd_cl c pr sz op pk nu L W ∧ (∀ p k, p < c → k ≤ 8 → L (9 * p + k) < 64) ∧ ∀ L' W', pd_cl c pr sz op pk nu L' W' → (∀ p k, p < c → k ≤ 8 → pd_le (L (9 * p + k)) (L' (9 * p + k))) ∧ (∀ q, q < 5 → W q = true → W' q = true)
def pd_R1 (op pk : Nat → Nat) (nu : Nat → Int32) (R x i : Nat) : Nat := if op i = 5 ∧ x.testBit (pk i % 8) = true then R ||| 2 ^ pd_tg nu i else R
def pd_Q1 (op pk : Nat → Nat) (nu : Nat → Int32) (R Q x i : Nat) : Nat := if (op i = 5 ∧ x.testBit (pk i % 8) = true) ∧ R.testBit (pd_tg nu i) = false then Q ||| 2 ^ pd_tg nu i else Q
theorem pd_R1_y {op pk : Nat → Nat} {nu : Nat → Int32} {R x i : Nat} (h : op i = 5) (g : x.testBit (pk i % 8) = true) : pd_R1 op pk nu R x i = R ||| 2 ^ pd_tg nu i := if_pos ⟨h, g⟩
theorem pd_R1_n {op pk : Nat → Nat} {nu : Nat → Int32} {R x i : Nat} (h : ¬ (op i = 5 ∧ x.testBit (pk i % 8) = true)) : pd_R1 op pk nu R x i = R := if_neg h
theorem pd_Q1_y {op pk : Nat → Nat} {nu : Nat → Int32} {R Q x i : Nat} (h : op i = 5) (g : x.testBit (pk i % 8) = true) : pd_Q1 op pk nu R Q x i = if R.testBit (pd_tg nu i) = false then Q ||| 2 ^ pd_tg nu i else Q := by
  unfold pd_Q1
  by_cases hr : R.testBit (pd_tg nu i) = false
  · rw [if_pos ⟨⟨h, g⟩, hr⟩, if_pos hr]
  · rw [if_neg (fun z => hr z.2), if_neg hr]
theorem pd_Q1_n {op pk : Nat → Nat} {nu : Nat → Int32} {R Q x i : Nat} (h : ¬ (op i = 5 ∧ x.testBit (pk i % 8) = true)) : pd_Q1 op pk nu R Q x i = Q := if_neg (fun z => h z.1)
def pd_I (c : Nat) (pr sz op pk : Nat → Nat) (nu : Nat → Int32) (L E : Nat → Nat) (R Q : Nat) : Prop :=
  Q < 2 ^ c ∧ R < 2 ^ c ∧ R.testBit 0 = true ∧ (∀ q, q < c → E q < 2 ^ pr q) ∧ (∀ p k, p < c → k ≤ 8 → L (9 * p + k) < 64) ∧
  (∀ L' W', pd_cl c pr sz op pk nu L' W' → (∀ q, q < c → pd_le (E q) (pd_ow pr L' q)) ∧ (∀ q, R.testBit q = true → W' q = true) ∧ (∀ p k, p < c → k ≤ 8 → pd_le (L (9 * p + k)) (L' (9 * p + k)))) ∧
  (∀ p, p < c → Q.testBit p = false → (∀ k, k < sz p → L (9 * p + k) = pd_bf op pk nu E (R.testBit p) (pd_af op nu L p k) (8 * p + k) ∧ (op (8 * p + k) = 5 → (pd_af op nu L p k).testBit (pk (8 * p + k) % 8) = true → R.testBit (pd_tg nu (8 * p + k)) = true)) ∧ E p = pd_ow pr L p) ∧
  (∀ p l, p < c → pd_LC sz op pk nu E (R.testBit p) p l → pd_le (E p) (pd_ow pr l p))
def pd_J (c : Nat) (pr sz op pk : Nat → Nat) (nu : Nat → Int32) (L0 E : Nat → Nat) (R0 Q0 p k : Nat) (L : Nat → Nat) (R Q : Nat) : Prop :=
  k ≤ sz p ∧
  (∀ j, sz p ≤ j → j ≤ 8 → L (9 * p + j) = 0) ∧
  (∀ i, i < 9 * p ∨ 9 * p + 8 < i → L i = L0 i) ∧
  (∀ j, k ≤ j → j < sz p → ∃ w : Bool, (R0.testBit p = true → w = true) ∧ (w = true → R.testBit p = true) ∧ L (9 * p + j) = pd_bf op pk nu E w (pd_af op nu L p j) (8 * p + j)) ∧
  (∀ j, k ≤ j → j < sz p → op (8 * p + j) = 5 → (pd_af op nu L p j).testBit (pk (8 * p + j) % 8) = true → R.testBit (pd_tg nu (8 * p + j)) = true) ∧
  (pd_le R0 R ∧ (∀ q, R.testBit q = true → R0.testBit q = false → Q.testBit q = true) ∧ pd_le Q0 Q) ∧
  (∀ j, k ≤ j → j ≤ 8 → L (9 * p + j) < 64) ∧ (R < 2 ^ c ∧ Q < 2 ^ c) ∧
  pd_cn (fun i => Q.testBit i) 5 + pd_cn (fun i => R0.testBit i) 5 ≤ pd_cn (fun i => Q0.testBit i) 5 + pd_cn (fun i => R.testBit i) 5 ∧
  (∀ L' W', pd_cl c pr sz op pk nu L' W' → (∀ q, q < c → pd_le (E q) (pd_ow pr L' q)) → (∀ q, R0.testBit q = true → W' q = true) → (∀ j, k ≤ j → j ≤ 8 → pd_le (L (9 * p + j)) (L' (9 * p + j))) ∧ (∀ q, R.testBit q = true → W' q = true))
section
variable {c : Nat} {pr sz op pk : Nat → Nat} {nu : Nat → Int32}
theorem pd_ls_u {L L' : Nat → Nat} {W W' : Nat → Bool} (h : pd_ls c pr sz op pk nu L W) (g : pd_ls c pr sz op pk nu L' W') : (∀ p k, p < c → k ≤ 8 → L (9 * p + k) = L' (9 * p + k)) ∧ (∀ q, q < 5 → W q = W' q) := by
  have a := h.2.2 _ _ g.1
  have b := g.2.2 _ _ h.1
  refine ⟨fun p k hp hk => pd_le_a (a.1 p k hp hk) (b.1 p k hp hk), fun q hq => ?_⟩
  have a2 := a.2 q hq
  have b2 := b.2 q hq
  cases e : W q
  · cases e' : W' q
    · rfl
    · rw [b2 e'] at e; cases e
  · exact (a2 e).symm
theorem pd_R1_le (R x i : Nat) : pd_le R (pd_R1 op pk nu R x i) := by
  unfold pd_R1
  by_cases h : op i = 5 ∧ x.testBit (pk i % 8) = true
  · rw [if_pos h]; exact pd_le_l _ _
  · rw [if_neg h]; exact pd_le_r _
theorem pd_Q1_le (R Q x i : Nat) : pd_le Q (pd_Q1 op pk nu R Q x i) := by
  unfold pd_Q1
  by_cases h : (op i = 5 ∧ x.testBit (pk i % 8) = true) ∧ R.testBit (pd_tg nu i) = false
  · rw [if_pos h]; exact pd_le_l _ _
  · rw [if_neg h]; exact pd_le_r _
theorem pd_or2 {R t q : Nat} (h : (R ||| 2 ^ t).testBit q = true) : R.testBit q = true ∨ t = q := by
  rw [Nat.testBit_or, Bool.or_eq_true, pd_two] at h
  exact h
theorem pd_or2' (R t : Nat) : (R ||| 2 ^ t).testBit t = true := by
  rw [Nat.testBit_or, Nat.testBit_two_pow_self, Bool.or_true]
/-- counts of waiting and of results under one step -/
theorem pd_RQ_cn {R Q x i : Nat} (ht : op i = 5 → pd_tg nu i < 5) : pd_cn (fun j => (pd_Q1 op pk nu R Q x i).testBit j) 5 + pd_cn (fun j => R.testBit j) 5 ≤ pd_cn (fun j => Q.testBit j) 5 + pd_cn (fun j => (pd_R1 op pk nu R x i).testBit j) 5 := by
  have hR := pd_cn_mo (f := fun j => R.testBit j) (g := fun j => (pd_R1 op pk nu R x i).testBit j) 5 (fun j _ h => pd_R1_le R x i j h)
  by_cases h : (op i = 5 ∧ x.testBit (pk i % 8) = true) ∧ R.testBit (pd_tg nu i) = false
  · have h1 : pd_Q1 op pk nu R Q x i = Q ||| 2 ^ pd_tg nu i := if_pos h
    have h2 : pd_R1 op pk nu R x i = R ||| 2 ^ pd_tg nu i := if_pos h.1
    have hq := pd_cn_1 (f := fun j => Q.testBit j) (g := fun j => (Q ||| 2 ^ pd_tg nu i).testBit j) (j := pd_tg nu i) 5 (fun j _ g => (pd_or2 g).imp id Eq.symm)
    have hr := pd_cn_lt (f := fun j => R.testBit j) (g := fun j => (R ||| 2 ^ pd_tg nu i).testBit j) (j := pd_tg nu i) h.2 (pd_or2' _ _) 5 (ht h.1.1) (fun j _ g => pd_le_l _ _ j g)
    rw [if_pos (ht h.1.1)] at hq
    rw [h1, h2]
    omega
  · have h1 : pd_Q1 op pk nu R Q x i = Q := if_neg h
    rw [h1]
    omega
theorem pd_J_s (G : pd_PG c pr sz op pk nu) {L0 E L : Nat → Nat} {R0 Q0 p k R Q : Nat} (hp : p < c) (hE : ∀ q, q < c → E q < 2 ^ pr q) (h : pd_J c pr sz op pk nu L0 E R0 Q0 p (k + 1) L R Q) : pd_J c pr sz op pk nu L0 E R0 Q0 p k (pd_u L (9 * p + k) (pd_bf op pk nu E (R.testBit p) (pd_af op nu L p k) (8 * p + k))) (pd_R1 op pk nu R (pd_af op nu L p k) (8 * p + k)) (pd_Q1 op pk nu R Q (pd_af op nu L p k) (8 * p + k)) := by
  obtain ⟨h1, h2, h3, h4, h5, ⟨h6, h7, h8⟩, h9, ⟨h10, h11⟩, h12, h13⟩ := h
  have hs := pd_Gsz G p
  have hks : k < sz p := h1
  have hc := pd_Gc G
  have hx : pd_af op nu L p k < 64 := pd_af_lt G (by omega) fun j a b => h9 j (by omega) b
  have hb : pd_bf op pk nu E (R.testBit p) (pd_af op nu L p k) (8 * p + k) < 64 := pd_bf_lt G hp hks hx hE
  have ht : op (8 * p + k) = 5 → pd_tg nu (8 * p + k) < c := fun z => (pd_G5 G hp hks z).2.1
  generalize hxe : pd_af op nu L p k = x at hx hb
  generalize hbe : pd_bf op pk nu E (R.testBit p) x (8 * p + k) = b at hb
  have hu : ∀ j, j ≠ k → pd_u L (9 * p + k) b (9 * p + j) = L (9 * p + j) := fun j hj => pd_un (by omega)
  have haf : ∀ j, k ≤ j → j < 8 → pd_af op nu (pd_u L (9 * p + k) b) p j = pd_af op nu L p j := fun j a b => pd_af_eq G b fun i hi _ => hu i (by omega)
  refine ⟨by omega, fun j a b => by rw [hu j (by omega)]; exact h2 j a b, fun i hi => by rw [pd_un (by omega)]; exact h3 i hi, ?_, ?_, ⟨pd_le_t h6 (pd_R1_le _ _ _), ?_, pd_le_t h8 (pd_Q1_le _ _ _ _)⟩, ?_, ⟨?_, ?_⟩, ?_, ?_⟩
  · intro j a b
    rw [haf j a (by omega)]
    by_cases e : j = k
    · subst e
      exact ⟨R.testBit p, h6 p, pd_R1_le _ _ _ p, by rw [pd_us, hxe, hbe]⟩
    · obtain ⟨w, w1, w2, w3⟩ := h4 j (by omega) b
      exact ⟨w, w1, fun z => pd_R1_le _ _ _ p (w2 z), by rw [hu j e]; exact w3⟩
  · intro j a b o t
    rw [haf j a (by omega)] at t
    by_cases e : j = k
    · subst e
      rw [hxe] at t
      have e1 : pd_R1 op pk nu R x (8 * p + j) = R ||| 2 ^ pd_tg nu (8 * p + j) := if_pos ⟨o, t⟩
      rw [e1]; exact pd_or2' _ _
    · exact pd_R1_le _ _ _ _ (h5 j (by omega) b o t)
  · intro q a b
    by_cases d : R.testBit q = true
    · exact pd_Q1_le _ _ _ _ q (h7 q d b)
    · have d' : R.testBit q = false := by cases z : R.testBit q <;> first | rfl | exact absurd z d
      by_cases cc : op (8 * p + k) = 5 ∧ x.testBit (pk (8 * p + k) % 8) = true
      · have e1 : pd_R1 op pk nu R x (8 * p + k) = R ||| 2 ^ pd_tg nu (8 * p + k) := if_pos cc
        rw [e1] at a
        rcases pd_or2 a with z | z
        · exact absurd z d
        · rw [← z] at d' ⊢
          have e2 : pd_Q1 op pk nu R Q x (8 * p + k) = Q ||| 2 ^ pd_tg nu (8 * p + k) := if_pos ⟨cc, d'⟩
          rw [e2]; exact pd_or2' _ _
      · have e1 : pd_R1 op pk nu R x (8 * p + k) = R := if_neg cc
        rw [e1] at a; exact absurd a d
  · intro j a b'
    by_cases e : j = k
    · subst e; rw [pd_us]; exact hb
    · rw [hu j e]; exact h9 j (by omega) b'
  · unfold pd_R1
    by_cases cc : op (8 * p + k) = 5 ∧ x.testBit (pk (8 * p + k) % 8) = true
    · rw [if_pos cc]; exact Nat.or_lt_two_pow h10 (pd_2lt (ht cc.1))
    · rw [if_neg cc]; exact h10
  · unfold pd_Q1
    by_cases cc : (op (8 * p + k) = 5 ∧ x.testBit (pk (8 * p + k) % 8) = true) ∧ R.testBit (pd_tg nu (8 * p + k)) = false
    · rw [if_pos cc]; exact Nat.or_lt_two_pow h11 (pd_2lt (ht cc.1.1))
    · rw [if_neg cc]; exact h11
  · have g := pd_RQ_cn (op := op) (pk := pk) (nu := nu) (R := R) (Q := Q) (x := x) (i := 8 * p + k) (fun z => Nat.lt_of_lt_of_le (ht z) hc)
    omega
  · intro L' W' cl hE' hR'
    obtain ⟨s1, s2⟩ := h13 L' W' cl hE' hR'
    have c1 := cl.2 p k hp hks
    have ax : pd_le x (pd_af op nu L' p k) := by
      rw [← hxe]; exact pd_af_mo G (by omega) fun j a b => s1 j (by omega) b
    refine ⟨fun j a b' => ?_, fun q a => ?_⟩
    · by_cases e : j = k
      · subst e
        rw [pd_us, ← hbe]
        exact pd_le_t (pd_bf_mo ax (fun z => hE' _ (ht z)) (s2 p)) c1.1
      · rw [hu j e]; exact s1 j (by omega) b'
    · by_cases cc : op (8 * p + k) = 5 ∧ x.testBit (pk (8 * p + k) % 8) = true
      · have e1 : pd_R1 op pk nu R x (8 * p + k) = R ||| 2 ^ pd_tg nu (8 * p + k) := if_pos cc
        rw [e1] at a
        rcases pd_or2 a with z | z
        · exact s2 q z
        · rw [← z]; exact c1.2 cc.1 (ax _ cc.2)
      · have e1 : pd_R1 op pk nu R x (8 * p + k) = R := if_neg cc
        rw [e1] at a; exact s2 q a
/-- a family that is computed from the end on lies below every locally closed one -/
theorem pd_low (G : pd_PG c pr sz op pk nu) {E E' L l : Nat → Nat} {w : Bool} {p : Nat} (hp : p < c) (hE : ∀ q, q < c → pd_le (E q) (E' q)) (h0 : ∀ j, sz p ≤ j → j ≤ 8 → L (9 * p + j) = 0) (h : ∀ j, j < sz p → ∃ v : Bool, (v = true → w = true) ∧ L (9 * p + j) = pd_bf op pk nu E v (pd_af op nu L p j) (8 * p + j)) (hl : pd_LC sz op pk nu E' w p l) : ∀ d j, j + d = 8 → pd_le (L (9 * p + j)) (l (9 * p + j)) := by
  have key : ∀ d j, j + d = 8 → ∀ i, j ≤ i → i ≤ 8 → pd_le (L (9 * p + i)) (l (9 * p + i)) := by
    intro d
    induction d with
    | zero =>
      intro j hj i a b
      have hs := pd_Gsz G p
      rw [h0 i (by omega) b]; exact pd_le_0 _
    | succ d ih =>
      intro j hj i a b
      rcases Nat.lt_or_ge j i with z | z
      · exact ih (j + 1) (by omega) i z b
      · have e : i = j := by omega
        subst e
        rcases Nat.lt_or_ge i (sz p) with y | y
        · obtain ⟨v, v1, v2⟩ := h i y
          rw [v2]
          exact pd_le_t (pd_bf_mo (pd_af_mo G (by omega) fun j a b => ih (i + 1) (by omega) j a b) (fun z => hE _ (pd_G5 G hp y z).2.1) v1) (hl i y)
        · rw [h0 i y b]; exact pd_le_0 _
  intro d j hj
  exact key d j hj j (Nat.le_refl j) (by omega)
/-- the main invariant is kept by a look at p -/
theorem pd_I_s (G : pd_PG c pr sz op pk nu) {L0 E L : Nat → Nat} {R0 Qa p R Q Q' : Nat} (hp : p < c) (I : pd_I c pr sz op pk nu L0 E R0 Qa) (J : pd_J c pr sz op pk nu L0 E R0 (pd_an Qa (2 ^ p)) p 0 L R Q) (hQ : pd_le Q Q') (hQc : Q' < 2 ^ c) (hC : ¬ pd_ow pr L p = E p → ∀ q k, q < c → k < sz q → op (8 * q + k) = 5 → pd_tg nu (8 * q + k) = p → Q'.testBit q = true) : pd_I c pr sz op pk nu L (pd_u E p (pd_ow pr L p)) R Q' ∧ pd_le (E p) (pd_ow pr L p) := by
  obtain ⟨i1, i2, i3, i4, i5, i6, i7, i8⟩ := I
  obtain ⟨h1, h2, h3, h4, h5, ⟨h6, h7, h8⟩, h9, ⟨h10, h11⟩, h12, h13⟩ := J
  have hs := pd_Gsz G p
  have hgrow : pd_le (E p) (pd_ow pr L p) := by
    refine i8 p L hp fun k hk => ?_
    obtain ⟨w, w1, w2, w3⟩ := h4 k (by omega) hk
    rw [w3]
    exact pd_bf_mo (pd_le_r _) (fun _ => pd_le_r _) w1
  have hEE : ∀ q, pd_le (E q) (pd_u E p (pd_ow pr L p) q) := fun q => by
    by_cases e : q = p
    · subst e; rw [pd_us]; exact hgrow
    · rw [pd_un e]; exact pd_le_r _
  have hoth : ∀ q k, q ≠ p → k ≤ 8 → L (9 * q + k) = L0 (9 * q + k) := fun q k hq hk => h3 _ (by omega)
  have hafo : ∀ q k, q ≠ p → k < 8 → pd_af op nu L q k = pd_af op nu L0 q k := fun q k hq hk => pd_af_eq G hk fun j _ b => hoth q j hq b
  refine ⟨⟨hQc, h10, h6 0 i3, ?_, ?_, ?_, ?_, ?_⟩, hgrow⟩
  · intro q hq
    by_cases e : q = p
    · subst e; rw [pd_us]; exact pd_ow_lt _ _ _
    · rw [pd_un e]; exact i4 q hq
  · intro q k hq hk
    by_cases e : q = p
    · subst e; exact h9 k (by omega) hk
    · rw [hoth q k e hk]; exact i5 q k hq hk
  · intro L' W' cl
    obtain ⟨a1, a2, a3⟩ := i6 L' W' cl
    obtain ⟨b1, b2⟩ := h13 L' W' cl a1 a2
    refine ⟨fun q hq => ?_, b2, fun q k hq hk => ?_⟩
    · by_cases e : q = p
      · subst e; rw [pd_us]; exact pd_le_md _ (b1 0 (by omega) (by omega))
      · rw [pd_un e]; exact a1 q hq
    · by_cases e : q = p
      · subst e; exact b1 k (by omega) hk
      · rw [hoth q k e hk]; exact a3 q k hq hk
  · intro q hq hn
    have hqQ : Q.testBit q = false := by
      cases z : Q.testBit q
      · rfl
      · rw [hQ q z] at hn; cases hn
    have hRq : R.testBit q = R0.testBit q := by
      cases z : R.testBit q
      · cases y : R0.testBit q
        · rfl
        · rw [h6 q y] at z; cases z
      · cases y : R0.testBit q
        · rw [h7 q z y] at hqQ; cases hqQ
        · rfl
    -- the parameters of those that q calls are as they were
    have hcal : ∀ k, k < sz q → op (8 * q + k) = 5 → pd_u E p (pd_ow pr L p) (pd_tg nu (8 * q + k)) = E (pd_tg nu (8 * q + k)) := by
      intro k hk ho
      by_cases e : pd_tg nu (8 * q + k) = p
      · by_cases e2 : pd_ow pr L p = E p
        · rw [e, pd_us, e2]
        · rw [hC e2 q k hq hk ho e] at hn; cases hn
      · exact pd_un e
    have hbf : ∀ k w x, k < sz q → pd_bf op pk nu (pd_u E p (pd_ow pr L p)) w x (8 * q + k) = pd_bf op pk nu E w x (8 * q + k) := fun k w x hk =>
      pd_le_a (pd_bf_mo (pd_le_r _) (fun z => by rw [hcal k hk z]; exact pd_le_r _) (fun z => z)) (pd_bf_mo (pd_le_r _) (fun z => by rw [hcal k hk z]; exact pd_le_r _) (fun z => z))
    by_cases e : q = p
    · subst e
      refine ⟨fun k hk => ⟨?_, fun o t => h5 k (by omega) hk o t⟩, pd_us⟩
      obtain ⟨w, w1, w2, w3⟩ := h4 k (by omega) hk
      rw [hbf k _ _ hk, w3]
      have ew : w = R.testBit q := by
        cases z : R.testBit q
        · cases y : w
          · rfl
          · rw [w2 y] at z; cases z
        · rw [hRq] at z; exact w1 z
      rw [ew]
    · have hqa : Qa.testBit q = false := by
        cases z : Qa.testBit q
        · rfl
        · have : (pd_an Qa (2 ^ p)).testBit q = true := by
            rw [pd_an_t, z, Nat.testBit_two_pow, decide_eq_false (fun y => e y.symm)]; rfl
          rw [h8 q this] at hqQ; cases hqQ
      obtain ⟨o1, o2⟩ := i7 q hq hqa
      have hsq := pd_Gsz G q
      refine ⟨fun k hk => ?_, ?_⟩
      · obtain ⟨o3, o4⟩ := o1 k hk
        rw [hbf k _ _ hk, hoth q k e (by omega), hafo q k e (by omega), hRq]
        exact ⟨o3, fun o t => h6 _ (o4 o t)⟩
      · rw [pd_un e, o2]
        show L0 (9 * q + 0) % _ = L (9 * q + 0) % _
        rw [hoth q 0 e (by omega)]
  · intro q l hq hl
    by_cases e : q = p
    · subst e
      rw [pd_us]
      refine pd_le_md _ (pd_low G hq (fun q _ => hEE q) h2 (fun j hj => ?_) hl 8 0 (by omega))
      obtain ⟨w, w1, w2, w3⟩ := h4 j (by omega) hj
      exact ⟨w, w2, w3⟩
    · rw [pd_un e]
      refine i8 q l hq fun k hk => pd_le_t (pd_bf_mo (pd_le_r _) (fun _ => hEE _) (h6 q)) (hl k hk)
/-- nothing waits: the least solution -/
theorem pd_I_e (G : pd_PG c pr sz op pk nu) {L E : Nat → Nat} {R : Nat} (I : pd_I c pr sz op pk nu L E R 0) : pd_ls c pr sz op pk nu L (fun q => R.testBit q) ∧ ∀ q, q < c → E q = pd_ow pr L q := by
  obtain ⟨i1, i2, i3, i4, i5, i6, i7, i8⟩ := I
  have hE : ∀ q, q < c → E q = pd_ow pr L q := fun q hq => (i7 q hq (Nat.zero_testBit q)).2
  refine ⟨⟨⟨i3, fun p k hp hk => ?_⟩, i5, fun L' W' cl => ?_⟩, hE⟩
  · obtain ⟨a, b⟩ := (i7 p hp (Nat.zero_testBit p)).1 k hk
    refine ⟨?_, b⟩
    rw [a]
    exact pd_bf_mo (pd_le_r _) (fun z => by rw [hE _ (pd_G5 G hp hk z).2.1]; exact pd_le_r _) (fun z => z)
  · obtain ⟨a1, a2, a3⟩ := i6 L' W' cl
    exact ⟨a3, fun q _ => a2 q⟩
theorem pd_I_0 {L E : Nat → Nat} (h0 : 0 < c) (hL : ∀ p k, p < c → k ≤ 8 → L (9 * p + k) = 0) (hE : ∀ q, q < c → E q = 0) : pd_I c pr sz op pk nu L E 1 (2 ^ c - 1) := by
  have h1 := Nat.two_pow_pos c
  have hb : ∀ q, q < c → (2 ^ c - 1).testBit q = true := fun q hq => by
    rw [Nat.testBit_two_pow_sub_one, decide_eq_true hq]
  refine ⟨by omega, pd_2lt (i := 0) h0, by decide, fun q hq => by rw [hE q hq]; exact Nat.two_pow_pos _, fun p k hp hk => by rw [hL p k hp hk]; decide, fun L' W' cl => ⟨fun q hq => by rw [hE q hq]; exact pd_le_0 _, fun q h => ?_, fun p k hp hk => by rw [hL p k hp hk]; exact pd_le_0 _⟩, fun p hp h => ?_, fun p l hp _ => by rw [hE p hp]; exact pd_le_0 _⟩
  · have : q = 0 := by
      have := pd_lo (n := 1) (by decide) h
      omega
    rw [this]; exact cl.1
  · rw [hb p hp] at h; cases h
end
end
section
/-! X: the walk of one look -/
section
variable {c R Q : Nat} {pr sz op pk L E : Nat → Nat} {nu : Nat → Int32} {kn de st va sc oc : Int32} {mt nk ru av rg ou : Nat → Int32}
theorem pd_xgw_l {post : Int32 → Prop} (hQ : Q < 32) (h0 : Q ≠ 0) (K : ∀ p, p < 5 → Q.testBit p = true → post (nI p)) : ∀ j n, j < 5 → j < n → (∀ i, j < i → i < 5 → Q.testBit i = false) → wX_greatestWaiting_2 post (nI c) kn (nI R) (nI Q) de st va sc oc (pd_F pr) (pd_F sz) (pd_F op) (pd_F pk) nu (pd_F L) (pd_F E) mt nk ru av rg ou n (nI j) := by
  intro j
  induction j with
  | zero =>
    intro n h5 hn ha
    obtain ⟨m, rfl⟩ : ∃ m, n = m + 1 := ⟨n - 1, by omega⟩
    refine br_t (show nI 0 ≤ 0 from by decide) ?_
    obtain ⟨i, hi⟩ := pd_ne_bit h0
    have i5 : i < 5 := pd_lo hQ hi
    have e : i = 0 := by
      rcases Nat.lt_or_ge 0 i with z | z
      · rw [ha i z i5] at hi; cases hi
      · omega
    subst e
    exact K 0 (by omega) hi
  | succ j ih =>
    intro n h5 hn ha
    obtain ⟨m, rfl⟩ : ∃ m, n = m + 1 := ⟨n - 1, by omega⟩
    refine br_f (nI_nle (by omega) (by omega)) (pd_br0 (by omega) (by omega) (fun hb => nm_r (pk_m1 j) (ih m (by omega) (by omega) ?_)) (fun hb => K (j + 1) h5 hb))
    intro i a b
    by_cases e : i = j + 1
    · subst e; exact hb
    · exact ha i (by omega) b
theorem pd_xgw {post : Int32 → Prop} (hQ : Q < 32) (h0 : Q ≠ 0) (K : ∀ p, p < 5 → Q.testBit p = true → post (nI p)) : wpX_greatestWaiting post (nI c, kn, nI R, nI Q, de, st, va, sc, oc, pd_F pr, pd_F sz, pd_F op, pd_F pk, nu, pd_F L, pd_F E, mt, nk, ru, av, rg, ou) :=
  Exists.intro 5 (pd_xgw_l hQ h0 K 4 5 (by omega) (by omega) (fun i a b => absurd a (by omega)))
theorem pd_xaf {post : Int32 → Prop} {p k : Nat} (G : pd_PG c pr sz op pk nu) (hp : p < 5) (hk : k < 8) (h : post (nI (pd_af op nu L p k))) : wpX_liveAfter post (nI c, kn, nI R, nI Q, de, st, va, sc, oc, pd_F pr, pd_F sz, pd_F op, pd_F pk, nu, pd_F L, pd_F E, mt, nk, ru, av, rg, ou) (nI p) (nI k) := by
  have o7 := pd_Gop G (8 * p + k)
  have i8 : nI p * 8 + nI k = nI (8 * p + k) := pd_x8 p k
  refine And.intro (pk_in (8 * p + k) 40 (by omega) i8) (nm_r (e' := nI (op (8 * p + k))) (pd_rF _ i8 (by omega)) (pk_eq (op (8 * p + k)) 7 (fun h7 => ?_) (fun h7 => And.intro (pk_in (9 * p + k + 1) 45 (by omega) (pd_x91 p k)) (nm_r (e' := nI (L (9 * p + k + 1))) (pd_rF _ (pd_x91 p k) (by omega)) (pk_eq (op (8 * p + k)) 4 (fun h4 => ?_) (fun h4 => ?_))))))
  · have e : pd_af op nu L p k = 0 := if_pos h7
    rw [e] at h; exact h
  · have g := pd_G4 G h4
    have i9 : nI p * 9 + nu (nI p * 8 + nI k).toNatClampNeg = nI (9 * p + pd_tg nu (8 * p + k)) := by
      rw [pd_rR (a := nu) (8 * p + k) i8 (by omega)]
      exact (congrArg (fun y => nI p * 9 + y) g.1).trans (pd_x9 _ _)
    refine And.intro (pk_in (8 * p + k) 40 (by omega) i8) (And.intro (pk_in (9 * p + pd_tg nu (8 * p + k)) 45 (by omega) i9) (nm_r (e' := nI (pd_af op nu L p k)) ?_ h))
    rw [pd_rF _ i9 (by omega), pd_or]
    exact congrArg nI ((if_neg h7).trans (if_pos h4)).symm
  · have e : pd_af op nu L p k = L (9 * p + k + 1) := (if_neg h7).trans (if_neg h4)
    rw [e] at h; exact h
theorem pd_xwr {post : SX → Prop} {t : Nat} (hR : R < 32) (ht : t < 5) (h : post (nI c, kn, nI (R ||| 2 ^ t), nI (if R.testBit t = false then Q ||| 2 ^ t else Q), de, st, va, sc, oc, pd_F pr, pd_F sz, pd_F op, pd_F pk, nu, pd_F L, pd_F E, mt, nk, ru, av, rg, ou)) : wpX_wantResult post (nI c, kn, nI R, nI Q, de, st, va, sc, oc, pd_F pr, pd_F sz, pd_F op, pd_F pk, nu, pd_F L, pd_F E, mt, nk, ru, av, rg, ou) (nI t) := by
  refine pd_br0 (by omega) (by omega) (fun hb => nm_r (e' := nI (R ||| 2 ^ t)) ?_ (nm_r (e' := nI (Q ||| 2 ^ t)) ?_ ?_)) (fun hb => ?_)
  · rw [pd_sl (by omega), pd_or]
  · rw [pd_sl (by omega), pd_or]
  · rw [if_pos hb] at h; exact h
  · have e : R ||| 2 ^ t = R := pd_le_a (pd_le_or (pd_le_r _) (pd_le_2 hb)) (pd_le_l _ _)
    rw [if_neg (by rw [hb]; decide), e] at h; exact h
theorem pd_x106 {post : Int32 → SX → Prop} {x a i t : Nat} (hi : i < 40) (hpk : pk i < 512) (hn : nu i = nI t) (ht : t < 5) (hb : E t <<< (pk i / 8 % 8) < 64) (h : post (nI (pd_an x a ||| (E t <<< (pk i / 8 % 8)))) (nI c, kn, nI R, nI Q, de, st, va, sc, oc, pd_F pr, pd_F sz, pd_F op, pd_F pk, nu, pd_F L, pd_F E, mt, nk, ru, av, rg, ou)) : wX_liveBefore_106 post (nI x) (nI i) (nI a) (nI c) kn (nI R) (nI Q) de st va sc oc (pd_F pr) (pd_F sz) (pd_F op) (pd_F pk) nu (pd_F L) (pd_F E) mt nk ru av rg ou := by
  have hn' : nu (nI i).toNatClampNeg = nI t := (pd_rR i rfl (by omega)).trans hn
  refine And.intro (pk_in i 40 hi) (And.intro (pk_in t 5 ht hn') (And.intro (pk_in i 40 hi) ?_))
  rw [hn', nI_clamp (show t < 2 ^ 31 by omega), nI_clamp (show i < 2 ^ 31 by omega)]
  have e : nI (E t) <<< (((nI (pk i) >>> ((3 : Int32) &&& 31)) &&& 7) &&& 31) = nI (E t <<< (pk i / 8 % 8)) := by
    rw [pd_ob hpk]
    refine pd_shl (by omega) ?_
    rw [← Nat.shiftLeft_eq]
    omega
  show post ((nI x &&& (nI a ^^^ (-1))) ||| (nI (E t) <<< (((nI (pk i) >>> ((3 : Int32) &&& 31)) &&& 7) &&& 31))) _
  rw [e, pd_ann, pd_or]
  exact h
theorem pd_xsrc {post : Int32 → Prop} {i : Nat} (hi : i < 40) (hpk : pk i < 512) (h : post (nI (2 ^ (pk i / 8 % 8) ||| 2 ^ (pk i / 64)))) : wpX_sources post (nI c, kn, nI R, nI Q, de, st, va, sc, oc, pd_F pr, pd_F sz, pd_F op, pd_F pk, nu, pd_F L, pd_F E, mt, nk, ru, av, rg, ou) (nI i) := by
  refine And.intro (pk_in i 40 hi) (And.intro (pk_in i 40 hi) ?_)
  rw [pd_rF i rfl (by omega), pd_ob hpk, pd_oc hpk, pd_sl (by omega), pd_sl (by omega), pd_or]
  exact h
theorem pd_x43 {post : Int32 → SX → Prop} {x p k : Nat} {z : Int32} (G : pd_PG c pr sz op pk nu) (hp : p < c) (hk : k < sz p) (hR : R < 32) (hE : ∀ q, q < c → E q < 2 ^ pr q) (hz : (z = 0 ∧ x.testBit (pk (8 * p + k) % 8) = false) ∨ (z = 1 ∧ x.testBit (pk (8 * p + k) % 8) = true)) (h : post (nI (pd_bf op pk nu E (R.testBit p) x (8 * p + k))) (nI c, kn, nI (pd_R1 op pk nu R x (8 * p + k)), nI (pd_Q1 op pk nu R Q x (8 * p + k)), de, st, va, sc, oc, pd_F pr, pd_F sz, pd_F op, pd_F pk, nu, pd_F L, pd_F E, mt, nk, ru, av, rg, ou)) : wX_liveBefore_43 post (nI p) (nI x) (nI (8 * p + k)) (nI (2 ^ (pk (8 * p + k) % 8))) (nI (op (8 * p + k))) z (nI c) kn (nI R) (nI Q) de st va sc oc (pd_F pr) (pd_F sz) (pd_F op) (pd_F pk) nu (pd_F L) (pd_F E) mt nk ru av rg ou := by
  have hc := pd_Gc G
  have hs := pd_Gsz G p
  have o7 := pd_Gop G (8 * p + k)
  have hpk := pd_Gpk G (8 * p + k)
  have h5g : op (8 * p + k) = 5 → nu (8 * p + k) = nI (pd_tg nu (8 * p + k)) ∧ pd_tg nu (8 * p + k) < c ∧ E (pd_tg nu (8 * p + k)) <<< (pk (8 * p + k) / 8 % 8) < 64 := fun h5 => by
    have g := pd_G5 G hp hk h5
    exact ⟨g.1, g.2.1, pd_shb (hE _ g.2.1) g.2.2⟩
  refine pk_lt 3 (op (8 * p + k)) (fun h3 => pk_eq (op (8 * p + k)) 5 (fun h5 => ?_) (fun h5 => pk_eq (op (8 * p + k)) 7 (fun h7 => ?_) (fun h7 => ?_))) (fun h3 => nm_r (e' := nI (pd_an x (2 ^ (pk (8 * p + k) % 8)))) (pd_ann _ _) ?_)
  · have g := h5g h5
    rw [pd_bf_5 h5] at h
    rcases hz with ⟨rfl, hb⟩ | ⟨rfl, hb⟩
    · have hn : ¬ (op (8 * p + k) = 5 ∧ x.testBit (pk (8 * p + k) % 8) = true) := fun z => by rw [hb] at z; exact absurd z.2 (by decide)
      rw [pd_R1_n hn, pd_Q1_n hn] at h
      exact br_t rfl (pd_x106 (by omega) hpk g.1 (by omega) g.2.2 h)
    · rw [pd_R1_y h5 hb, pd_Q1_y h5 hb] at h
      refine br_f pd_10 (And.intro (pk_in (8 * p + k) 40 (by omega)) ?_)
      rw [pd_rR (a := nu) (8 * p + k) rfl (by omega), g.1]
      exact pd_xwr hR (by omega) (pd_x106 (by omega) hpk g.1 (by omega) g.2.2 h)
  · have hn : ¬ (op (8 * p + k) = 5 ∧ x.testBit (pk (8 * p + k) % 8) = true) := fun z => h5 z.1
    rw [pd_R1_n hn, pd_Q1_n hn] at h
    refine pd_br0 (by omega) (by omega) (fun hb => ?_) (fun hb => ?_)
    · rw [pd_bf_7n h7 hb] at h; exact h
    · rw [pd_bf_7 h7 hb] at h; exact h
  · have hn : ¬ (op (8 * p + k) = 5 ∧ x.testBit (pk (8 * p + k) % 8) = true) := fun z => h5 z.1
    rw [pd_R1_n hn, pd_Q1_n hn, pd_bf_o h3 h5 h7] at h
    rw [pd_or]; exact h
  · have hn : ¬ (op (8 * p + k) = 5 ∧ x.testBit (pk (8 * p + k) % 8) = true) := fun z => absurd z.1 (by omega)
    rw [pd_R1_n hn, pd_Q1_n hn] at h
    rcases hz with ⟨rfl, hb⟩ | ⟨rfl, hb⟩
    · rw [pd_bf_n h3 (fun z => by rw [hb] at z; exact absurd z.2 (by decide))] at h
      exact br_t rfl h
    · refine br_f pd_10 (pk_eq (op (8 * p + k)) 0 (fun h0 => ?_) (fun h0 => ?_))
      · rw [pd_bf_n h3 (fun z => z.1 h0)] at h; exact h
      · rw [pd_bf_y h3 h0 hb] at h
        refine pd_xsrc (by omega) hpk ?_
        rw [pd_or]; exact h
theorem pd_xbf {post : Int32 → SX → Prop} {x p k : Nat} (G : pd_PG c pr sz op pk nu) (hp : p < c) (hk : k < sz p) (hR : R < 32) (hx : x < 64) (hE : ∀ q, q < c → E q < 2 ^ pr q) (h : post (nI (pd_bf op pk nu E (R.testBit p) x (8 * p + k))) (nI c, kn, nI (pd_R1 op pk nu R x (8 * p + k)), nI (pd_Q1 op pk nu R Q x (8 * p + k)), de, st, va, sc, oc, pd_F pr, pd_F sz, pd_F op, pd_F pk, nu, pd_F L, pd_F E, mt, nk, ru, av, rg, ou)) : wpX_liveBefore post (nI c, kn, nI R, nI Q, de, st, va, sc, oc, pd_F pr, pd_F sz, pd_F op, pd_F pk, nu, pd_F L, pd_F E, mt, nk, ru, av, rg, ou) (nI p) (nI k) (nI x) := by
  have hc := pd_Gc G
  have hs := pd_Gsz G p
  have hpk := pd_Gpk G (8 * p + k)
  have ha := pd_Ga G (8 * p + k)
  refine nm_r (e' := nI (8 * p + k)) (pd_x8 p k) (And.intro (pk_in (8 * p + k) 40 (by omega)) (nm_r (e' := nI (2 ^ (pk (8 * p + k) % 8))) ?_ (And.intro (pk_in (8 * p + k) 40 (by omega)) (nm_r (e' := nI (op (8 * p + k))) (pd_rF _ rfl (by omega)) ?_))))
  · rw [pd_rF (8 * p + k) rfl (by omega), pd_oa hpk, pd_sl (by omega)]
  · cases hb : x.testBit (pk (8 * p + k) % 8)
    · exact br_t ((pd_tst (by omega)).mpr hb) (pd_x43 G hp hk hR hE (Or.inl ⟨rfl, hb⟩) h)
    · exact br_f (fun z => by rw [(pd_tst (by omega)).mp z] at hb; cases hb) (pd_x43 G hp hk hR hE (Or.inr ⟨rfl, hb⟩) h)
/-! who calls p -/
theorem pd_xco_i {post : Int32 → Prop} {J4 : Int32 → Int32 → Prop} {p i : Nat} (G : pd_PG c pr sz op pk nu) (hi : i < c) (K : ∀ C, C < 2 ^ c → (∀ q j, q < i + 1 → j < sz q → op (8 * q + j) = 5 → nu (8 * q + j) = nI p → C.testBit q = true) → J4 (nI C) (nI (i + 1))) : ∀ d k n C, k + d = sz i → d < n → C < 2 ^ c → (∀ q j, q < i → j < sz q → op (8 * q + j) = 5 → nu (8 * q + j) = nI p → C.testBit q = true) → (∀ j, j < k → op (8 * i + j) = 5 → nu (8 * i + j) = nI p → C.testBit i = true) → wX_callersOf_15 post J4 (nI p) (nI i) (nI c) kn (nI R) (nI Q) de st va sc oc (pd_F pr) (pd_F sz) (pd_F op) (pd_F pk) nu (pd_F L) (pd_F E) mt nk ru av rg ou n (nI C) (nI k) := by
  have hc := pd_Gc G
  have hs := pd_Gsz G i
  have st1 : ∀ (k C : Nat), (∀ j, j < k → op (8 * i + j) = 5 → nu (8 * i + j) = nI p → C.testBit i = true) → (op (8 * i + k) = 5 → nu (8 * i + k) = nI p → C.testBit i = true) → (∀ j, j < k + 1 → op (8 * i + j) = 5 → nu (8 * i + j) = nI p → C.testBit i = true) := by
    intro k C h g j hj
    by_cases e : j = k
    · subst e; exact g
    · exact h j (by omega)
  intro d
  induction d with
  | zero =>
    intro k n C hk hn hC h1 h2
    obtain ⟨m, rfl⟩ : ∃ m, n = m + 1 := ⟨n - 1, by omega⟩
    refine And.intro (pk_in i 5 (by omega)) (pk_le (sz i) k (fun h => nm_r (nI_1 i) (K C hC ?_)) (fun h => absurd h (by omega)) (pd_rF i rfl (by omega)))
    intro q j a b
    by_cases e : q = i
    · subst e; exact h2 j (by omega)
    · exact h1 q j (by omega) b
  | succ d ih =>
    intro k n C hk hn hC h1 h2
    obtain ⟨m, rfl⟩ : ∃ m, n = m + 1 := ⟨n - 1, by omega⟩
    have o7 := pd_Gop G (8 * i + k)
    have i8 := pd_x8 i k
    refine And.intro (pk_in i 5 (by omega)) (pk_le (sz i) k (fun h => absurd h (by omega)) (fun h => And.intro (pk_in (8 * i + k) 40 (by omega) i8) (pk_eq (op (8 * i + k)) 5 (fun h5 => And.intro (pk_in (8 * i + k) 40 (by omega) i8) (br_c (fun hn => ?_) (fun hn => ?_))) (fun h5 => ?_) (pd_rF _ i8 (by omega)))) (pd_rF i rfl (by omega)))
    · refine nm_r (e' := nI (C ||| 2 ^ i)) (by rw [pd_sl (by omega), pd_or]) (nm_r (nI_1 k) (ih (k + 1) m _ (by omega) (by omega) (Nat.or_lt_two_pow hC (pd_2lt hi)) ?_ ?_))
      · intro q j a b o n'
        exact pd_le_l _ _ q (h1 q j a b o n')
      · exact st1 k _ (fun j a o n' => pd_le_l _ _ i (h2 j a o n')) (fun _ _ => pd_or2' _ _)
    · rw [pd_rR (a := nu) _ i8 (by omega)] at hn
      exact nm_r (nI_1 k) (ih (k + 1) m _ (by omega) (by omega) hC h1 (st1 k _ h2 (fun _ z => absurd z hn)))
    · exact nm_r (nI_1 k) (ih (k + 1) m _ (by omega) (by omega) hC h1 (st1 k _ h2 (fun z => absurd z h5)))
theorem pd_xco_o {post : Int32 → Prop} {p : Nat} (G : pd_PG c pr sz op pk nu) (K : ∀ C, C < 2 ^ c → (∀ q j, q < c → j < sz q → op (8 * q + j) = 5 → nu (8 * q + j) = nI p → C.testBit q = true) → post (nI C)) : ∀ d i n C, i + d = c → d < n → C < 2 ^ c → (∀ q j, q < i → j < sz q → op (8 * q + j) = 5 → nu (8 * q + j) = nI p → C.testBit q = true) → wX_callersOf_4 post (nI p) (nI c) kn (nI R) (nI Q) de st va sc oc (pd_F pr) (pd_F sz) (pd_F op) (pd_F pk) nu (pd_F L) (pd_F E) mt nk ru av rg ou n (nI C) (nI i) := by
  have hc := pd_Gc G
  intro d
  induction d with
  | zero =>
    intro i n C hi hn hC h1
    obtain ⟨m, rfl⟩ : ∃ m, n = m + 1 := ⟨n - 1, by omega⟩
    have e : i = c := by omega
    subst e
    exact pk_le i i (fun _ => K C hC h1) (fun z => absurd z (by omega))
  | succ d ih =>
    intro i n C hi hn hC h1
    obtain ⟨m, rfl⟩ : ∃ m, n = m + 1 := ⟨n - 1, by omega⟩
    have hs := pd_Gsz G i
    exact pk_le c i (fun z => absurd z (by omega)) (fun _ => Exists.intro 9 (pd_xco_i G (by omega) (fun C' a b => ih (i + 1) m C' (by omega) (by omega) a b) (sz i) 0 9 C (by omega) (by omega) hC h1 (fun j a => absurd a (by omega))))
theorem pd_xco {post : Int32 → Prop} {p : Nat} (G : pd_PG c pr sz op pk nu) (K : ∀ C, C < 2 ^ c → (∀ q j, q < c → j < sz q → op (8 * q + j) = 5 → nu (8 * q + j) = nI p → C.testBit q = true) → post (nI C)) : wpX_callersOf post (nI c, kn, nI R, nI Q, de, st, va, sc, oc, pd_F pr, pd_F sz, pd_F op, pd_F pk, nu, pd_F L, pd_F E, mt, nk, ru, av, rg, ou) (nI p) :=
  Exists.intro 6 (pd_xco_o G K c 0 6 0 (by omega) (by have := pd_Gc G; omega) (Nat.two_pow_pos c) (fun q j a => absurd a (by omega)))
end
section
variable {c R0 Q0 : Nat} {pr sz op pk L0 E : Nat → Nat} {nu : Nat → Int32} {kn de st va sc oc : Int32} {mt nk ru av rg ou : Nat → Int32}
theorem pd_xlk {post : SX → Prop} {p : Nat} (G : pd_PG c pr sz op pk nu) (hp : p < c) (hE : ∀ q, q < c → E q < 2 ^ pr q)
    (K1 : ∀ L R Q, pd_J c pr sz op pk nu L0 E R0 Q0 p 0 L R Q → pd_ow pr L p = E p → post (nI c, kn, nI R, nI Q, de, st, va, sc, oc, pd_F pr, pd_F sz, pd_F op, pd_F pk, nu, pd_F L, pd_F E, mt, nk, ru, av, rg, ou))
    (K2 : ∀ L R Q C, pd_J c pr sz op pk nu L0 E R0 Q0 p 0 L R Q → ¬ pd_ow pr L p = E p → C < 2 ^ c → (∀ q j, q < c → j < sz q → op (8 * q + j) = 5 → nu (8 * q + j) = nI p → C.testBit q = true) → post (nI c, kn, nI R, nI (Q ||| C), de, st, va, sc, oc, pd_F pr, pd_F sz, pd_F op, pd_F pk, nu, pd_F L, pd_F (pd_u E p (pd_ow pr L p)), mt, nk, ru, av, rg, ou)) :
    ∀ k n L R Q, k < n → pd_J c pr sz op pk nu L0 E R0 Q0 p k L R Q → wX_look_40 post (nI p) n (nI k + (-1)) (nI c) kn (nI R) (nI Q) de st va sc oc (pd_F pr) (pd_F sz) (pd_F op) (pd_F pk) nu (pd_F L) (pd_F E) mt nk ru av rg ou := by
  have hc := pd_Gc G
  have hs := pd_Gsz G p
  have hpr := pd_Gpr G p
  intro k
  induction k with
  | zero =>
    intro n L R Q hn J
    obtain ⟨m, rfl⟩ : ∃ m, n = m + 1 := ⟨n - 1, by omega⟩
    have hEp := hE p hp
    have h8 : ∀ y, y < 2 ^ pr p → y < 8 := fun y hy => Nat.lt_of_lt_of_le hy (Nat.pow_le_pow_right (n := 2) (by decide) hpr)
    have hE8 := h8 _ hEp
    have hO8 := h8 _ (pd_ow_lt pr L p)
    refine br_t pd_m1n (And.intro (pk_in (9 * p) 45 (by omega) (pd_x90 p)) (And.intro (pk_in p 5 (by omega)) (nm_r (e' := nI (pd_ow pr L p)) ?_ (And.intro (pk_in p 5 (by omega)) (pk_eq (pd_ow pr L p) (E p) (fun h => K1 L R Q J h) (fun h => And.intro (pk_in p 5 (by omega)) (nm_r (e' := pd_F (pd_u E p (pd_ow pr L p))) (pd_uF p _ rfl (by omega) (pd_nb (by omega))) (pd_xco G fun C hC hc' => nm_r (e' := nI (Q ||| C)) (pd_or _ _) (K2 L R Q C J h hC hc')))) rfl (pd_rF p rfl (by omega)))))))
    rw [pd_rF (9 * p) (pd_x90 p) (by omega), pd_rF p rfl (by omega), pd_msk _ (by omega)]
    rfl
  | succ k ih =>
    intro n L R Q hn J
    obtain ⟨m, rfl⟩ : ∃ m, n = m + 1 := ⟨n - 1, by omega⟩
    have hks : k < sz p := J.1
    have h9 := J.2.2.2.2.2.2.1
    have hRQ := J.2.2.2.2.2.2.2.1
    have hx : pd_af op nu L p k < 64 := pd_af_lt G (by omega) fun j a b => h9 j (by omega) b
    have hb : pd_bf op pk nu E (R.testBit p) (pd_af op nu L p k) (8 * p + k) < 64 := pd_bf_lt G hp hks hx hE
    have h32 : 2 ^ c ≤ 32 := Nat.pow_le_pow_right (n := 2) (j := 5) (by decide) hc
    refine br_f (pd_m1p k (by omega)) ?_
    rw [pk_m1]
    refine pd_xaf G (by omega) (by omega) (pd_xbf G hp hks (by omega) hx hE ?_)
    exact And.intro (pk_in (9 * p + k) 45 (by omega) (pd_x9 p k)) (nm_r (e' := pd_F (pd_u L (9 * p + k) (pd_bf op pk nu E (R.testBit p) (pd_af op nu L p k) (8 * p + k)))) (pd_uF _ _ (pd_x9 p k) (by omega) (pd_nb (by omega))) (nm_e (ih m _ _ _ (by omega) (pd_J_s G hp hE J))))
theorem pd_xl7 {post : SX → Prop} {p R Q : Nat} (G : pd_PG c pr sz op pk nu) (hp : p < c)
    (K : ∀ L, (∀ j, sz p ≤ j → j ≤ 8 → L (9 * p + j) = 0) → (∀ i, i < 9 * p ∨ 9 * p + 8 < i → L i = L0 i) → wX_look_40 post (nI p) (sz p + 1) (nI (sz p) + (-1)) (nI c) kn (nI R) (nI Q) de st va sc oc (pd_F pr) (pd_F sz) (pd_F op) (pd_F pk) nu (pd_F L) (pd_F E) mt nk ru av rg ou) :
    ∀ d j n L, j + d = 9 → d < n → sz p ≤ j → (∀ i, sz p ≤ i → i < j → L (9 * p + i) = 0) → (∀ i, i < 9 * p ∨ 9 * p + 8 < i → L i = L0 i) → wX_look_7 post (nI p) (nI c) kn (nI R) (nI Q) de st va sc oc n (nI j) (pd_F pr) (pd_F sz) (pd_F op) (pd_F pk) nu (pd_F L) (pd_F E) mt nk ru av rg ou := by
  have hc := pd_Gc G
  have hs := pd_Gsz G p
  intro d
  induction d with
  | zero =>
    intro j n L hj hn hsj h1 h2
    obtain ⟨m, rfl⟩ : ∃ m, n = m + 1 := ⟨n - 1, by omega⟩
    refine pk_le 9 j (fun _ => And.intro (pk_in p 5 (by omega)) (nm_r (e' := nI (sz p) + (-1)) ?_ (Exists.intro (sz p + 1) (K L (fun i a b => h1 i a (by omega)) h2)))) (fun z => absurd z (by omega))
    rw [pd_rF p rfl (by omega), pd_sm]
  | succ d ih =>
    intro j n L hj hn hsj h1 h2
    obtain ⟨m, rfl⟩ : ∃ m, n = m + 1 := ⟨n - 1, by omega⟩
    refine pk_le 9 j (fun z => absurd z (by omega)) (fun _ => And.intro (pk_in (9 * p + j) 45 (by omega) (pd_x9 p j)) (nm_r (e' := pd_F (pd_u L (9 * p + j) 0)) (pd_uF _ _ (pd_x9 p j) (by omega) pd_nbz) (nm_r (nI_1 j) (ih (j + 1) m _ (by omega) (by omega) (by omega) ?_ ?_))))
    · intro i a b
      by_cases e : i = j
      · subst e; exact pd_us
      · rw [pd_un (by omega)]; exact h1 i a (by omega)
    · intro i hi
      rw [pd_un (by omega)]; exact h2 i hi
theorem pd_J_0 {p : Nat} (G : pd_PG c pr sz op pk nu) (hR : R0 < 2 ^ c) (hQ : Q0 < 2 ^ c) {L : Nat → Nat} (h1 : ∀ j, sz p ≤ j → j ≤ 8 → L (9 * p + j) = 0) (h2 : ∀ i, i < 9 * p ∨ 9 * p + 8 < i → L i = L0 i) : pd_J c pr sz op pk nu L0 E R0 Q0 p (sz p) L R0 Q0 :=
  ⟨Nat.le_refl _, h1, h2, fun j a b => absurd a (by omega), fun j a b => absurd a (by omega), ⟨pd_le_r _, fun q a b => (by rw [a] at b; cases b), pd_le_r _⟩, fun j a b => by rw [h1 j a b]; decide, ⟨hR, hQ⟩, Nat.le_refl _, fun L' W' _ _ hW => ⟨fun j a b => by rw [h1 j a b]; exact pd_le_0 _, hW⟩⟩
theorem pd_xlook {post : SX → Prop} {p : Nat} (G : pd_PG c pr sz op pk nu) (hp : p < c) (hE : ∀ q, q < c → E q < 2 ^ pr q) (hR : R0 < 2 ^ c) (hQ : Q0 < 2 ^ c)
    (K1 : ∀ L R Q, pd_J c pr sz op pk nu L0 E R0 Q0 p 0 L R Q → pd_ow pr L p = E p → post (nI c, kn, nI R, nI Q, de, st, va, sc, oc, pd_F pr, pd_F sz, pd_F op, pd_F pk, nu, pd_F L, pd_F E, mt, nk, ru, av, rg, ou))
    (K2 : ∀ L R Q C, pd_J c pr sz op pk nu L0 E R0 Q0 p 0 L R Q → ¬ pd_ow pr L p = E p → C < 2 ^ c → (∀ q j, q < c → j < sz q → op (8 * q + j) = 5 → nu (8 * q + j) = nI p → C.testBit q = true) → post (nI c, kn, nI R, nI (Q ||| C), de, st, va, sc, oc, pd_F pr, pd_F sz, pd_F op, pd_F pk, nu, pd_F L, pd_F (pd_u E p (pd_ow pr L p)), mt, nk, ru, av, rg, ou)) :
    wpX_look post (nI c, kn, nI R0, nI Q0, de, st, va, sc, oc, pd_F pr, pd_F sz, pd_F op, pd_F pk, nu, pd_F L0, pd_F E, mt, nk, ru, av, rg, ou) (nI p) := by
  have hc := pd_Gc G
  have hs := pd_Gsz G p
  refine And.intro (pk_in p 5 (by omega)) (nm_r (e' := nI (sz p)) (pd_rF p rfl (by omega)) (Exists.intro 10 ?_))
  exact pd_xl7 (R := R0) (Q := Q0) G hp (fun L h1 h2 => pd_xlk G hp hE K1 K2 (sz p) (sz p + 1) L R0 Q0 (by omega) (pd_J_0 G hR hQ h1 h2)) (9 - sz p) (sz p) 10 L0 (by omega) (by omega) (Nat.le_refl _) (fun i a b => absurd a (by omega)) (fun i _ => rfl)
end
end
section
/-! X: all of learn -/
def pd_en (E : Nat → Nat) : Nat := pd_cn (fun j => (E (j / 3)).testBit (j % 3)) 15
def pd_cb (Q : Nat) : Nat := pd_cn (fun j => Q.testBit j) 5
def pd_kp (op pk : Nat → Nat) (nu : Nat → Int32) (L : Nat → Nat) (p j : Nat) : Prop := 3 < op (8 * p + j) ∨ (pd_af op nu L p j).testBit (pk (8 * p + j) % 8) = true
def pd_NK (sz op pk : Nat → Nat) (nu : Nat → Int32) (L NK : Nat → Nat) (p : Nat) : Prop := ∀ k, k ≤ 8 → k ≤ NK (9 * p + k) ∧ NK (9 * p + k) ≤ 8 ∧ ∀ j, k ≤ j → j < NK (9 * p + k) → j < sz p ∧ ¬ pd_kp op pk nu L p j
def pd_MS (sz op pk : Nat → Nat) (nu : Nat → Int32) (L M : Nat → Nat) (p : Nat) : Prop := ∀ j, (M p).testBit j = true ↔ j < sz p ∧ pd_kp op pk nu L p j
def pd_KN (c : Nat) (pr sz op pk : Nat → Nat) (nu : Nat → Int32) (R : Nat) (E M NK : Nat → Nat) : Prop := ∃ L, R < 32 ∧ pd_ls c pr sz op pk nu L (fun q => R.testBit q) ∧ (∀ q, q < c → E q = pd_ow pr L q) ∧ (∀ p, p < c → pd_MS sz op pk nu L M p) ∧ (∀ p, p < c → pd_NK sz op pk nu L NK p)
/-- the cut at k: positions from k on are done -/
def pd_CJ (sz op pk : Nat → Nat) (nu : Nat → Int32) (L NK0 : Nat → Nat) (p k S nx : Nat) (NK : Nat → Nat) : Prop :=
  k ≤ sz p ∧ k ≤ nx ∧ nx ≤ sz p ∧ (∀ j, k ≤ j → j < nx → ¬ pd_kp op pk nu L p j) ∧ S < 256 ∧ (∀ j, S.testBit j = true ↔ k ≤ j ∧ j < sz p ∧ pd_kp op pk nu L p j) ∧
  (∀ j, k ≤ j → j ≤ 8 → j ≤ NK (9 * p + j) ∧ NK (9 * p + j) ≤ 8 ∧ ∀ i, j ≤ i → i < NK (9 * p + j) → i < sz p ∧ ¬ pd_kp op pk nu L p i) ∧ (∀ i, i < 9 * p ∨ 9 * p + 8 < i → NK i = NK0 i)
section
variable {c R Q : Nat} {pr sz op pk L E : Nat → Nat} {nu : Nat → Int32} {kn de st va sc oc : Int32} {ru av rg ou : Nat → Int32}
theorem pd_CJ_k {NK0 NK : Nat → Nat} {p k S nx : Nat} (h8 : sz p ≤ 8) (hk : pd_kp op pk nu L p k) (h : pd_CJ sz op pk nu L NK0 p (k + 1) S nx NK) : pd_CJ sz op pk nu L NK0 p k (S ||| 2 ^ k) k (pd_u NK (9 * p + k) k) := by
  obtain ⟨h1, h2, h3, h4, h5, h6, h7, h9⟩ := h
  refine ⟨by omega, Nat.le_refl _, by omega, fun j a b => absurd a (by omega), Nat.or_lt_two_pow (n := 8) h5 (pd_2lt (by omega)), fun j => ?_, fun j a b => ?_, fun i hi => by rw [pd_un (by omega)]; exact h9 i hi⟩
  · constructor
    · intro z
      rcases pd_or2 z with y | y
      · have := (h6 j).mp y
        exact ⟨by omega, this.2⟩
      · subst y; exact ⟨Nat.le_refl _, by omega, hk⟩
    · intro z
      by_cases e : j = k
      · subst e; exact pd_or2' _ _
      · exact pd_le_l _ _ j ((h6 j).mpr ⟨by omega, z.2⟩)
  · by_cases e : j = k
    · subst e; rw [pd_us]; exact ⟨Nat.le_refl _, b, fun i a b => absurd a (by omega)⟩
    · rw [pd_un (by omega)]; exact h7 j (by omega) b
theorem pd_CJ_n {NK0 NK : Nat → Nat} {p k S nx : Nat} (h8 : sz p ≤ 8) (hk : ¬ pd_kp op pk nu L p k) (h : pd_CJ sz op pk nu L NK0 p (k + 1) S nx NK) : pd_CJ sz op pk nu L NK0 p k S nx (pd_u NK (9 * p + k) nx) := by
  obtain ⟨h1, h2, h3, h4, h5, h6, h7, h9⟩ := h
  have h4' : ∀ j, k ≤ j → j < nx → ¬ pd_kp op pk nu L p j := fun j a b => by
    by_cases e : j = k
    · subst e; exact hk
    · exact h4 j (by omega) b
  refine ⟨by omega, by omega, h3, h4', h5, fun j => ?_, fun j a b => ?_, fun i hi => by rw [pd_un (by omega)]; exact h9 i hi⟩
  · rw [h6 j]
    constructor
    · intro z; exact ⟨by omega, z.2⟩
    · intro z
      by_cases e : j = k
      · subst e; exact absurd z.2.2 hk
      · exact ⟨by omega, z.2⟩
  · by_cases e : j = k
    · subst e; rw [pd_us]; exact ⟨by omega, by omega, fun i a b => ⟨by omega, h4' i a b⟩⟩
    · rw [pd_un (by omega)]; exact h7 j (by omega) b
theorem pd_xcut_l {post : SX → Prop} {p : Nat} {NK0 M : Nat → Nat} (G : pd_PG c pr sz op pk nu) (hp : p < c) (hL : ∀ k, k ≤ 8 → L (9 * p + k) < 64)
    (K : ∀ S nx NK, pd_CJ sz op pk nu L NK0 p 0 S nx NK → post (nI c, kn, nI R, nI Q, de, st, va, sc, oc, pd_F pr, pd_F sz, pd_F op, pd_F pk, nu, pd_F L, pd_F E, pd_F (pd_u M p S), pd_F NK, ru, av, rg, ou)) :
    ∀ k n S nx NK, k < n → pd_CJ sz op pk nu L NK0 p k S nx NK → wX_cut_55 post (nI p) (nI c) kn (nI R) (nI Q) de st va sc oc n (nI S) (nI nx) (nI k + (-1)) (pd_F pr) (pd_F sz) (pd_F op) (pd_F pk) nu (pd_F L) (pd_F E) (pd_F M) (pd_F NK) ru av rg ou := by
  have hc := pd_Gc G
  have hs := pd_Gsz G p
  intro k
  induction k with
  | zero =>
    intro n S nx NK hn J
    obtain ⟨m, rfl⟩ : ∃ m, n = m + 1 := ⟨n - 1, by omega⟩
    have hS := J.2.2.2.2.1
    exact br_t pd_m1n (And.intro (pk_in p 5 (by omega)) (nm_r (e' := pd_F (pd_u M p S)) (pd_uF p S rfl (by omega) (pd_ns (by omega))) (K S nx NK J)))
  | succ k ih =>
    intro n S nx NK hn J
    obtain ⟨m, rfl⟩ : ∃ m, n = m + 1 := ⟨n - 1, by omega⟩
    have hks : k < sz p := J.1
    have hnx := J.2.2.1
    have o7 := pd_Gop G (8 * p + k)
    have hpk := pd_Gpk G (8 * p + k)
    have hx : pd_af op nu L p k < 64 := pd_af_lt G (by omega) fun j a b => hL j b
    have kept : pd_kp op pk nu L p k → wX_cut_107 post (wX_cut_55 post (nI p) (nI c) kn (nI R) (nI Q) de st va sc oc m) (nI p) (nI S) (nI k) (nI c) kn (nI R) (nI Q) de st va sc oc (pd_F pr) (pd_F sz) (pd_F op) (pd_F pk) nu (pd_F L) (pd_F E) (pd_F M) (pd_F NK) ru av rg ou := fun hk =>
      nm_r (e' := nI (S ||| 2 ^ k)) (by rw [pd_sl (by omega), pd_or]) (And.intro (pk_in (9 * p + k) 45 (by omega) (pd_x9 p k)) (nm_r (e' := pd_F (pd_u NK (9 * p + k) k)) (pd_uF _ _ (pd_x9 p k) (by omega) (pd_nb (by omega))) (nm_e (ih m _ _ _ (by omega) (pd_CJ_k hs hk J)))))
    refine br_f (pd_m1p k (by omega)) ?_
    rw [pk_m1]
    refine nm_r (e' := nI (8 * p + k)) (pd_x8 p k) (pd_xaf G (by omega) (by omega) (And.intro (pk_in (8 * p + k) 40 (by omega)) (pk_lt 3 (op (8 * p + k)) (fun h3 => kept (Or.inl h3)) (fun h3 => And.intro (pk_in (8 * p + k) 40 (by omega)) ?_) rfl (pd_rF _ rfl (by omega)))))
    rw [pd_rF (8 * p + k) rfl (by omega), pd_oa hpk]
    refine pd_br0 (by omega) (by omega) (fun hb => ?_) (fun hb => kept (Or.inr hb))
    have hk : ¬ pd_kp op pk nu L p k := fun z => z.elim (fun y => by omega) (fun y => by rw [hb] at y; cases y)
    exact And.intro (pk_in (9 * p + k) 45 (by omega) (pd_x9 p k)) (nm_r (e' := pd_F (pd_u NK (9 * p + k) nx)) (pd_uF _ _ (pd_x9 p k) (by omega) (pd_nb (by omega))) (nm_e (ih m _ _ _ (by omega) (pd_CJ_n hs hk J))))
theorem pd_m1lt {k s : Nat} (h : k ≤ s) (hs : s < 2 ^ 31) : nI k + (-1) < nI s := by
  cases k with
  | zero =>
    rw [Int32.lt_iff_toInt_lt, nI_toInt hs, show (nI 0 + (-1)).toInt = -1 from by decide]
    omega
  | succ k => rw [pk_m1]; exact nI_lt (by omega) hs
theorem pd_m1ge {k s : Nat} (h : s ≤ k) (hk : k < 2 ^ 31) : ¬ nI (k + 1) + (-1) < nI s := by
  rw [pk_m1]; exact nI_nlt h hk
theorem pd_xc13 {post : SX → Prop} {p : Nat} {NK0 M : Nat → Nat} (G : pd_PG c pr sz op pk nu) (hp : p < c) (hL : ∀ k, k ≤ 8 → L (9 * p + k) < 64)
    (K : ∀ S nx NK, pd_CJ sz op pk nu L NK0 p 0 S nx NK → post (nI c, kn, nI R, nI Q, de, st, va, sc, oc, pd_F pr, pd_F sz, pd_F op, pd_F pk, nu, pd_F L, pd_F E, pd_F (pd_u M p S), pd_F NK, ru, av, rg, ou)) :
    ∀ d k n NK, k = sz p + d → k ≤ 9 → d < n → (∀ j, k ≤ j → j ≤ 8 → NK (9 * p + j) = j) → (∀ i, i < 9 * p ∨ 9 * p + 8 < i → NK i = NK0 i) → wX_cut_13 post (nI p) (nI 0) (nI (sz p)) (nI c) kn (nI R) (nI Q) de st va sc oc n (nI k + (-1)) (pd_F pr) (pd_F sz) (pd_F op) (pd_F pk) nu (pd_F L) (pd_F E) (pd_F M) (pd_F NK) ru av rg ou := by
  have hc := pd_Gc G
  have hs := pd_Gsz G p
  intro d
  induction d with
  | zero =>
    intro k n NK hk h9 hn h1 h2
    obtain ⟨m, rfl⟩ : ∃ m, n = m + 1 := ⟨n - 1, by omega⟩
    refine And.intro (pk_in p 5 (by omega)) (br_t ?_ (And.intro (pk_in p 5 (by omega)) (nm_r (e' := nI (sz p) + (-1)) ?_ (Exists.intro (sz p + 1) (pd_xcut_l G hp hL K (sz p) (sz p + 1) 0 (sz p) NK (by omega) ?_)))))
    · rw [pd_rF p rfl (by omega)]; exact pd_m1lt (by omega) (by omega)
    · rw [pd_rF p rfl (by omega), pd_sm]
    · refine ⟨Nat.le_refl _, Nat.le_refl _, Nat.le_refl _, fun j a b => absurd a (by omega), by omega, fun j => ?_, fun j a b => ?_, h2⟩
      · rw [Nat.zero_testBit]
        exact ⟨fun z => (by cases z), fun z => absurd z.1 (by omega)⟩
      · rw [h1 j (by omega) b]; exact ⟨Nat.le_refl _, b, fun i a b => absurd a (by omega)⟩
  | succ d ih =>
    intro k n NK hk h9 hn h1 h2
    obtain ⟨m, rfl⟩ : ∃ m, n = m + 1 := ⟨n - 1, by omega⟩
    obtain ⟨k, rfl⟩ : ∃ k', k = k' + 1 := ⟨k - 1, by omega⟩
    refine And.intro (pk_in p 5 (by omega)) (br_f ?_ ?_)
    · rw [pd_rF p rfl (by omega)]; exact pd_m1ge (by omega) (by omega)
    · rw [pk_m1]
      refine And.intro (pk_in (9 * p + k) 45 (by omega) (pd_x9 p k)) (nm_r (e' := pd_F (pd_u NK (9 * p + k) k)) (pd_uF _ _ (pd_x9 p k) (by omega) (pd_nb (by omega))) (nm_e (ih k m _ (by omega) (by omega) (by omega) ?_ ?_)))
      · intro j a b
        by_cases e : j = k
        · subst e; exact pd_us
        · rw [pd_un (by omega)]; exact h1 j (by omega) b
      · intro i hi
        rw [pd_un (by omega)]; exact h2 i hi
theorem pd_xcut {post : SX → Prop} {p : Nat} {NK M : Nat → Nat} (G : pd_PG c pr sz op pk nu) (hp : p < c) (hL : ∀ k, k ≤ 8 → L (9 * p + k) < 64)
    (K : ∀ S nx NK', pd_CJ sz op pk nu L NK p 0 S nx NK' → post (nI c, kn, nI R, nI Q, de, st, va, sc, oc, pd_F pr, pd_F sz, pd_F op, pd_F pk, nu, pd_F L, pd_F E, pd_F (pd_u M p S), pd_F NK', ru, av, rg, ou)) : wpX_cut post (nI c, kn, nI R, nI Q, de, st, va, sc, oc, pd_F pr, pd_F sz, pd_F op, pd_F pk, nu, pd_F L, pd_F E, pd_F M, pd_F NK, ru, av, rg, ou) (nI p) := by
  have hc := pd_Gc G
  have hs := pd_Gsz G p
  exact And.intro (pk_in p 5 (by omega)) (nm_r (e' := nI (sz p)) (pd_rF p rfl (by omega)) (Exists.intro 10 (pd_xc13 G hp hL K (9 - sz p) 9 10 NK (by omega) (by omega) (by omega) (fun j a b => absurd a (by omega)) (fun i _ => rfl))))
theorem pd_x126 {post : SX → Prop} (G : pd_PG c pr sz op pk nu) (hL : ∀ p k, p < c → k ≤ 8 → L (9 * p + k) < 64)
    (K : ∀ M NK, (∀ p, p < c → pd_MS sz op pk nu L M p) → (∀ p, p < c → pd_NK sz op pk nu L NK p) → post (nI c, kn, nI R, nI Q, de, st, va, sc, oc, pd_F pr, pd_F sz, pd_F op, pd_F pk, nu, pd_F L, pd_F E, pd_F M, pd_F NK, ru, av, rg, ou)) :
    ∀ d i n M NK, i + d = c → d < n → (∀ p, p < i → pd_MS sz op pk nu L M p) → (∀ p, p < i → pd_NK sz op pk nu L NK p) → wX_learn_126 post n (nI i) (nI c) kn (nI R) (nI Q) de st va sc oc (pd_F pr) (pd_F sz) (pd_F op) (pd_F pk) nu (pd_F L) (pd_F E) (pd_F M) (pd_F NK) ru av rg ou := by
  have hc := pd_Gc G
  intro d
  induction d with
  | zero =>
    intro i n M NK hi hn h1 h2
    obtain ⟨m, rfl⟩ : ∃ m, n = m + 1 := ⟨n - 1, by omega⟩
    have e : i = c := by omega
    subst e
    exact pk_le i i (fun _ => K M NK h1 h2) (fun z => absurd z (by omega))
  | succ d ih =>
    intro i n M NK hi hn h1 h2
    obtain ⟨m, rfl⟩ : ∃ m, n = m + 1 := ⟨n - 1, by omega⟩
    refine pk_le c i (fun z => absurd z (by omega)) (fun _ => pd_xcut G (by omega) (fun k hk => hL i k (by omega) hk) (fun S nx NK' J => nm_r (nI_1 i) (ih (i + 1) m _ NK' (by omega) (by omega) ?_ ?_)))
    · obtain ⟨j1, j2, j3, j4, j5, j6, j7, j9⟩ := J
      intro p hp j
      by_cases e : p = i
      · subst e
        rw [pd_us, j6 j]
        exact ⟨fun z => z.2, fun z => ⟨by omega, z⟩⟩
      · rw [pd_un e]; exact h1 p (by omega) j
    · obtain ⟨j1, j2, j3, j4, j5, j6, j7, j9⟩ := J
      intro p hp k hk
      by_cases e : p = i
      · subst e; exact j7 k (by omega) hk
      · rw [j9 _ (by omega)]; exact h2 p (by omega) k hk
theorem pd_x80 {post : SX → Prop} {M NK : Nat → Nat} (G : pd_PG c pr sz op pk nu)
    (K : ∀ L E R, pd_ls c pr sz op pk nu L (fun q => R.testBit q) → R < 32 → (∀ q, q < c → E q = pd_ow pr L q) → wX_learn_126 post 6 (nI 0) (nI c) kn (nI R) (nI 0) de st va sc oc (pd_F pr) (pd_F sz) (pd_F op) (pd_F pk) nu (pd_F L) (pd_F E) (pd_F M) (pd_F NK) ru av rg ou) :
    ∀ n r L E R Q, pd_I c pr sz op pk nu L E R Q → r + pd_cb Q ≤ pd_cb R + 5 * pd_en E + 5 → 400 < n + r → wX_learn_80 post n (nI r) (nI c) kn (nI R) (nI Q) de st va sc oc (pd_F pr) (pd_F sz) (pd_F op) (pd_F pk) nu (pd_F L) (pd_F E) (pd_F M) (pd_F NK) ru av rg ou := by
  have hc := pd_Gc G
  have h32 : 2 ^ c ≤ 32 := Nat.pow_le_pow_right (n := 2) (j := 5) (by decide) hc
  intro n
  induction n with
  | zero =>
    intro r L E R Q I hr hn
    have a : pd_cb R ≤ 5 := pd_cn_le _ _
    have b : pd_en E ≤ 15 := pd_cn_le _ _
    omega
  | succ n ih =>
    intro r L E R Q I hr hn
    have a : pd_cb R ≤ 5 := pd_cn_le _ _
    have b : pd_en E ≤ 15 := pd_cn_le _ _
    have hQ : Q < 32 := Nat.lt_of_lt_of_le I.1 h32
    have hR : R < 32 := Nat.lt_of_lt_of_le I.2.1 h32
    refine pk_le 400 r (fun z => absurd z (by omega)) (fun _ => pk_eq Q 0 (fun h => ?_) (fun h => pd_xgw hQ h (fun p hp5 hpQ => ?_)))
    · subst h
      obtain ⟨e1, e2⟩ := pd_I_e G I
      exact Exists.intro 6 (K L E R e1 hR e2)
    · have hp : p < c := pd_lo I.1 hpQ
      have hQ0 : pd_an Q (2 ^ p) < 2 ^ c := pd_an_lt _ I.1
      have hcb : pd_cb (pd_an Q (2 ^ p)) < pd_cb Q := pd_cn_lt (j := p) (by show (pd_an Q (2 ^ p)).testBit p = false; rw [pd_an_t, Nat.testBit_two_pow_self]; simp) hpQ 5 hp5 (fun j _ z => by
        have z' : (pd_an Q (2 ^ p)).testBit j = true := z
        rw [pd_an_t, Bool.and_eq_true] at z'; exact z'.1)
      refine nm_r (e' := nI (pd_an Q (2 ^ p))) (by rw [pd_sl (by omega), pd_ann]) (pd_xlook G hp I.2.2.2.1 I.2.1 hQ0 (fun L' R' Q' J h => ?_) (fun L' R' Q' C J h hC hcc => ?_))
      · obtain ⟨s1, s2⟩ := pd_I_s G hp I J (pd_le_r _) J.2.2.2.2.2.2.2.1.2 (fun z => absurd h z)
        have e : pd_u E p (pd_ow pr L' p) = E := by
          funext q
          by_cases e : q = p
          · subst e; rw [pd_us, h]
          · exact pd_un e
        rw [e] at s1
        have hJ : pd_cb Q' + pd_cb R ≤ pd_cb (pd_an Q (2 ^ p)) + pd_cb R' := J.2.2.2.2.2.2.2.2.1
        exact nm_r (nI_1 r) (ih (r + 1) L' E R' Q' s1 (by omega) (by omega))
      · obtain ⟨s1, s2⟩ := pd_I_s G hp I J (pd_le_l Q' C) (Nat.or_lt_two_pow J.2.2.2.2.2.2.2.1.2 hC) (fun _ q k hq hk ho ht => pd_le_rr Q' C q (hcc q k hq hk ho (by rw [(pd_G5 G hq hk ho).1, ht])))
        have hRR : pd_cb R ≤ pd_cb R' := pd_cn_mo 5 (fun j _ z => J.2.2.2.2.2.1.1 j z)
        have hq5 : pd_cb (Q' ||| C) ≤ 5 := pd_cn_le _ _
        have hpr := pd_Gpr G p
        -- a parameter of p that is new
        have hnew : ∃ t, (E p).testBit t = false ∧ (pd_ow pr L' p).testBit t = true := by
          refine Classical.byContradiction fun k => h (pd_le_a (fun t z => ?_) s2)
          cases y : (E p).testBit t
          · exact absurd ⟨t, y, z⟩ k
          · rfl
        obtain ⟨t, t1, t2⟩ := hnew
        have ht : t < 3 := Nat.lt_of_lt_of_le (pd_lo (pd_ow_lt pr L' p) t2) hpr
        have hen : pd_en E < pd_en (pd_u E p (pd_ow pr L' p)) := by
          have d1 : (3 * p + t) / 3 = p := by omega
          have d2 : (3 * p + t) % 3 = t := by omega
          refine pd_cn_lt (j := 3 * p + t) ?_ ?_ 15 (by omega) (fun j _ z => ?_)
          · show (E ((3 * p + t) / 3)).testBit ((3 * p + t) % 3) = false
            rw [d1, d2]; exact t1
          · show (pd_u E p (pd_ow pr L' p) ((3 * p + t) / 3)).testBit ((3 * p + t) % 3) = true
            rw [d1, d2, pd_us]; exact t2
          · show (pd_u E p (pd_ow pr L' p) (j / 3)).testBit (j % 3) = true
            by_cases e : j / 3 = p
            · rw [e, pd_us]
              refine s2 _ ?_
              rw [← e]; exact z
            · rw [pd_un e]; exact z
        exact nm_r (nI_1 r) (ih (r + 1) L' _ R' _ s1 (by omega) (by omega))
theorem pd_x36 {post : SX → Prop} {NK : Nat → Nat} (K : ∀ E M, (∀ q, q < 5 → E q = 0) → wX_learn_80 post 500 (nI 0) (nI c) kn 1 (((1 : Int32) <<< (nI c &&& 31)) - 1) de st va sc oc (pd_F pr) (pd_F sz) (pd_F op) (pd_F pk) nu (pd_F L) (pd_F E) (pd_F M) (pd_F NK) ru av rg ou) :
    ∀ d i n E M, i + d = 5 → d < n → (∀ q, q < i → E q = 0) → wX_learn_36 post (nI c) kn (nI R) (nI Q) de st va sc oc n (nI i) (pd_F pr) (pd_F sz) (pd_F op) (pd_F pk) nu (pd_F L) (pd_F E) (pd_F M) (pd_F NK) ru av rg ou := by
  intro d
  induction d with
  | zero =>
    intro i n E M hi hn h1
    obtain ⟨m, rfl⟩ : ∃ m, n = m + 1 := ⟨n - 1, by omega⟩
    exact pk_le 5 i (fun _ => nm_e (Exists.intro 500 (K E M (fun q hq => h1 q (by omega))))) (fun z => absurd z (by omega))
  | succ d ih =>
    intro i n E M hi hn h1
    obtain ⟨m, rfl⟩ : ∃ m, n = m + 1 := ⟨n - 1, by omega⟩
    refine pk_le 5 i (fun z => absurd z (by omega)) (fun _ => And.intro (pk_in i 5 (by omega)) (nm_r (e' := pd_F (pd_u E i 0)) (pd_uF i 0 rfl (by omega) pd_nbz) (And.intro (pk_in i 5 (by omega)) (nm_r (e' := pd_F (pd_u M i 0)) (pd_uF i 0 rfl (by omega) pd_nsz) (nm_r (nI_1 i) (ih (i + 1) m _ _ (by omega) (by omega) ?_))))))
    intro q hq
    by_cases e : q = i
    · subst e; exact pd_us
    · rw [pd_un e]; exact h1 q (by omega)
theorem pd_x15 {post : SX → Prop} {M NK : Nat → Nat} (K : ∀ L, (∀ q, q < 45 → L q = 0) → wX_learn_36 post (nI c) kn (nI R) (nI Q) de st va sc oc 6 (nI 0) (pd_F pr) (pd_F sz) (pd_F op) (pd_F pk) nu (pd_F L) (pd_F E) (pd_F M) (pd_F NK) ru av rg ou) :
    ∀ d i n L, i + d = 45 → d < n → (∀ q, q < i → L q = 0) → wX_learn_15 post (nI c) kn (nI R) (nI Q) de st va sc oc n (nI i) (pd_F pr) (pd_F sz) (pd_F op) (pd_F pk) nu (pd_F L) (pd_F E) (pd_F M) (pd_F NK) ru av rg ou := by
  intro d
  induction d with
  | zero =>
    intro i n L hi hn h1
    obtain ⟨m, rfl⟩ : ∃ m, n = m + 1 := ⟨n - 1, by omega⟩
    exact pk_le 45 i (fun _ => Exists.intro 6 (K L (fun q hq => h1 q (by omega)))) (fun z => absurd z (by omega))
  | succ d ih =>
    intro i n L hi hn h1
    obtain ⟨m, rfl⟩ : ∃ m, n = m + 1 := ⟨n - 1, by omega⟩
    refine pk_le 45 i (fun z => absurd z (by omega)) (fun _ => And.intro (pk_in i 45 (by omega)) (nm_r (e' := pd_F (pd_u L i 0)) (pd_uF i 0 rfl (by omega) pd_nbz) (nm_r (nI_1 i) (ih (i + 1) m _ (by omega) (by omega) ?_))))
    intro q hq
    by_cases e : q = i
    · subst e; exact pd_us
    · rw [pd_un e]; exact h1 q (by omega)
theorem pd_xlearn {post : SX → Prop} {M NK : Nat → Nat} (G : pd_PG c pr sz op pk nu) (h0 : 0 < c) (hk : ¬ kn = 0 → pd_KN c pr sz op pk nu R E M NK)
    (K : ∀ kn R Q L E M NK, ¬ kn = 0 → pd_KN c pr sz op pk nu R E M NK → post (nI c, kn, nI R, nI Q, de, st, va, sc, oc, pd_F pr, pd_F sz, pd_F op, pd_F pk, nu, pd_F L, pd_F E, pd_F M, pd_F NK, ru, av, rg, ou)) : wpX_learn post (nI c, kn, nI R, nI Q, de, st, va, sc, oc, pd_F pr, pd_F sz, pd_F op, pd_F pk, nu, pd_F L, pd_F E, pd_F M, pd_F NK, ru, av, rg, ou) := by
  have hc := pd_Gc G
  refine br_c (fun _ => Exists.intro 46 ?_) (fun h => K kn R Q L E M NK h (hk h))
  refine pd_x15 (fun L' hL => pd_x36 (fun E' M' hE => ?_) 5 0 6 E M (by omega) (by omega) (fun q a => absurd a (by omega))) 45 0 46 L (by omega) (by omega) (fun q a => absurd a (by omega))
  rw [pd_mk (by omega)]
  refine pd_x80 G (fun L2 E2 R2 hls hR2 hE2 => ?_) 500 0 L' E' 1 (2 ^ c - 1) (pd_I_0 h0 (fun p k hp hk => hL _ (by omega)) (fun q hq => hE q (by omega))) ?_ (by omega)
  · exact pd_x126 G hls.2.1 (fun M3 NK3 hM hN => K 1 R2 0 L2 E2 M3 NK3 pd_10 ⟨L2, hR2, hls, hE2, hM, hN⟩) c 0 6 M' NK (by omega) (by omega) (fun p a => absurd a (by omega)) (fun p a => absurd a (by omega))
  · have : pd_cb (2 ^ c - 1) ≤ 5 := pd_cn_le _ _
    omega
end
end
section
/-! Y: collect -/
def pd_qa (pk : Nat → Nat) (i : Nat) : Nat := pk i % 8
def pd_qb (pk : Nat → Nat) (i : Nat) : Nat := pk i / 8 % 8
def pd_qc (pk : Nat → Nat) (i : Nat) : Nat := pk i / 64
theorem pd_ra {pk : Nat → Nat} {e : Int32} (k : Nat) (he : e = nI k) (hk : k < 2 ^ 31) : pd_F (pd_qa pk) e.toNatClampNeg = nI (pk k % 8) := pd_rF k he hk
theorem pd_rb {pk : Nat → Nat} {e : Int32} (k : Nat) (he : e = nI k) (hk : k < 2 ^ 31) : pd_F (pd_qb pk) e.toNatClampNeg = nI (pk k / 8 % 8) := pd_rF k he hk
theorem pd_rc {pk : Nat → Nat} {e : Int32} (k : Nat) (he : e = nI k) (hk : k < 2 ^ 31) : pd_F (pd_qc pk) e.toNatClampNeg = nI (pk k / 64) := pd_rF k he hk
def pd_wb (W : Nat → Nat) (q : Nat) : Bool := decide (W q ≠ 0)
theorem pd_wb1 {W : Nat → Nat} {q : Nat} : pd_wb W q = true ↔ W q ≠ 0 := decide_eq_true_iff
theorem pd_wb0 {W : Nat → Nat} {q : Nat} (h : W q = 0) : pd_wb W q = false := decide_eq_false (fun z => z h)
def pd_yc (L W : Nat → Nat) : Nat := pd_cn (fun j => if j < 240 then (L (9 * (j / 48) + j / 6 % 8)).testBit (j % 6) else pd_wb W (j - 240)) 245
def pd_ca (pr op pk : Nat → Nat) (nu : Nat → Int32) (L W : Nat → Nat) (p k : Nat) : Prop := pd_le (pd_bf op pk nu (pd_ow pr L) (pd_wb W p) (pd_af op nu L p k) (8 * p + k)) (L (9 * p + k)) ∧ (op (8 * p + k) = 5 → (pd_af op nu L p k).testBit (pk (8 * p + k) % 8) = true → pd_wb W (pd_tg nu (8 * p + k)) = true)
def pd_YS (c : Nat) (pr sz op pk : Nat → Nat) (nu : Nat → Int32) (L W : Nat → Nat) : Prop :=
  W 0 ≠ 0 ∧ (∀ q, q < 5 → W q ≤ 1) ∧ (∀ p k, p < c → k ≤ 8 → L (9 * p + k) < 64) ∧ ∀ L' W', pd_cl c pr sz op pk nu L' W' → (∀ p k, p < c → k ≤ 8 → pd_le (L (9 * p + k)) (L' (9 * p + k))) ∧ (∀ q, q < 5 → pd_wb W q = true → W' q = true)
/-- what an add does -/
def pd_L1 (pr op pk : Nat → Nat) (nu : Nat → Int32) (L W : Nat → Nat) (p k : Nat) : Nat := L (9 * p + k) ||| pd_bf op pk nu (pd_ow pr L) (pd_wb W p) (pd_af op nu L p k) (8 * p + k)
def pd_wn (op pk : Nat → Nat) (nu : Nat → Int32) (L W : Nat → Nat) (p k : Nat) : Prop := (op (8 * p + k) = 5 ∧ (pd_af op nu L p k).testBit (pk (8 * p + k) % 8) = true) ∧ W (pd_tg nu (8 * p + k)) = 0
section
variable {c : Nat} {pr sz op pk L W : Nat → Nat} {nu : Nat → Int32} {ca va dn sd de : Int32} {sa po ps rg : Nat → Int32}
theorem pd_yaf {post : Int32 → Prop} {p k : Nat} (G : pd_PG c pr sz op pk nu) (hp : p < 5) (hk : k < 8) (h : post (nI (pd_af op nu L p k))) : wpY_after post (nI c, ca, va, dn, sd, de, pd_F pr, pd_F sz, pd_F op, pd_F (pd_qa pk), pd_F (pd_qb pk), pd_F (pd_qc pk), nu, sa, po, ps, rg, pd_F L, pd_F W) (nI p) (nI k) := by
  have o7 := pd_Gop G (8 * p + k)
  refine nm_r (e' := nI (8 * p + k)) (pd_y8 p k) (And.intro (pk_in (8 * p + k) 40 (by omega)) (pk_eq (op (8 * p + k)) 7 (fun h7 => ?_) (fun h7 => And.intro (pk_in (9 * p + k + 1) 45 (by omega) (pd_y91 p k)) (And.intro (pk_in (8 * p + k) 40 (by omega)) (pk_eq (op (8 * p + k)) 4 (fun h4 => ?_) (fun h4 => ?_) (pd_rF _ rfl (by omega))))) (pd_rF _ rfl (by omega))))
  · have e : pd_af op nu L p k = 0 := if_pos h7
    rw [e] at h; exact h
  · have g := pd_G4 G h4
    have i9 : 9 * nI p + nu (nI (8 * p + k)).toNatClampNeg = nI (9 * p + pd_tg nu (8 * p + k)) := by
      rw [pd_rR (a := nu) (8 * p + k) rfl (by omega)]
      exact (congrArg (fun y => 9 * nI p + y) g.1).trans (pd_y9 _ _)
    refine And.intro (pk_in (8 * p + k) 40 (by omega)) (And.intro (pk_in (9 * p + pd_tg nu (8 * p + k)) 45 (by omega) i9) ?_)
    rw [pd_rF _ i9 (by omega), pd_rF _ (pd_y91 p k) (by omega), pd_or]
    have e : pd_af op nu L p k = L (9 * p + k + 1) ||| L (9 * p + pd_tg nu (8 * p + k)) := (if_neg h7).trans (if_pos h4)
    rw [e] at h; exact h
  · have e : pd_af op nu L p k = L (9 * p + k + 1) := (if_neg h7).trans (if_neg h4)
    rw [e] at h
    rw [pd_rF _ (pd_y91 p k) (by omega)]
    show post (nI (L (9 * p + k + 1)) ||| nI 0)
    rw [pd_or, Nat.or_zero]; exact h
theorem pd_y158 {post : Int32 → Prop} {x a y : Nat} (h : post (nI (pd_an x a ||| y))) : wY_before_158 post (nI x) (nI a) (nI y) (nI c) ca va dn sd de (pd_F pr) (pd_F sz) (pd_F op) (pd_F (pd_qa pk)) (pd_F (pd_qb pk)) (pd_F (pd_qc pk)) nu sa po ps rg (pd_F L) (pd_F W) := by
  show post ((nI x &&& (nI a ^^^ (-1))) ||| nI y)
  rw [pd_ann, pd_or]; exact h
theorem pd_ybf {post : Int32 → Prop} {p k : Nat} (G : pd_PG c pr sz op pk nu) (hp : p < c) (hk : k < sz p) (hL : ∀ j, j ≤ 8 → L (9 * p + j) < 64) (hW : W p ≤ 1) (h : post (nI (pd_bf op pk nu (pd_ow pr L) (pd_wb W p) (pd_af op nu L p k) (8 * p + k)))) : wpY_before post (nI c, ca, va, dn, sd, de, pd_F pr, pd_F sz, pd_F op, pd_F (pd_qa pk), pd_F (pd_qb pk), pd_F (pd_qc pk), nu, sa, po, ps, rg, pd_F L, pd_F W) (nI p) (nI k) := by
  have hc := pd_Gc G
  have hs := pd_Gsz G p
  have o7 := pd_Gop G (8 * p + k)
  have hpk := pd_Gpk G (8 * p + k)
  have ha := pd_Ga G (8 * p + k)
  have hx : pd_af op nu L p k < 64 := pd_af_lt G (by omega) fun j _ b => hL j b
  have hor0 : ∀ y : Nat, y ||| 0 = y := Nat.or_zero
  unfold pd_bf at h
  refine nm_r (e' := nI (8 * p + k)) (pd_y8 p k) (And.intro (pk_in (8 * p + k) 40 (by omega)) (nm_r (e' := nI (op (8 * p + k))) (pd_rF _ rfl (by omega)) (pd_yaf G (by omega) (by omega) (And.intro (pk_in (8 * p + k) 40 (by omega)) (nm_r (e' := nI (2 ^ (pk (8 * p + k) % 8))) ?_ (pk_eq (op (8 * p + k)) 4 (fun h4 => ?_) (fun h4 => pk_eq (op (8 * p + k)) 6 (fun h6 => ?_) (fun h6 => pk_eq (op (8 * p + k)) 7 (fun h7 => And.intro (pk_in p 5 (by omega)) ?_) (fun h7 => pk_eq (op (8 * p + k)) 5 (fun h5 => ?_) (fun h5 => pk_eq (op (8 * p + k)) 0 (fun h0 => ?_) (fun h0 => ?_)))))))))))
  · rw [pd_ra (8 * p + k) rfl (by omega), pd_sl (by omega)]
  · rw [if_neg (show ¬ op (8 * p + k) ≤ 3 by omega), if_neg (by omega), if_neg (by omega)] at h
    rw [pd_or]; exact h
  · rw [if_neg (show ¬ op (8 * p + k) ≤ 3 by omega), if_neg (by omega), if_neg (by omega)] at h
    rw [pd_or]; exact h
  · rw [if_neg (show ¬ op (8 * p + k) ≤ 3 by omega), if_neg (by omega), if_pos h7] at h
    refine pk_eq (W p) 0 (fun z => ?_) (fun z => ?_) (pd_rF p rfl (by omega))
    · rw [if_neg (by rw [pd_wb0 z]; decide)] at h; exact h
    · rw [if_pos (pd_wb1.mpr z)] at h; exact h
  · rw [if_neg (show ¬ op (8 * p + k) ≤ 3 by omega), if_pos h5] at h
    have g := pd_G5 G hp hk h5
    have hq := pd_Gpr G (pd_tg nu (8 * p + k))
    have hE := pd_shb (pd_ow_lt pr L (pd_tg nu (8 * p + k))) g.2.2
    generalize pd_tg nu (8 * p + k) = t at g hq hE h
    refine And.intro (pk_in (8 * p + k) 40 (by omega)) (nm_r (e' := nI t) ((pd_rR _ rfl (by omega)).trans g.1) (And.intro (pk_in (9 * t) 45 (by omega) (pd_y90 t)) (And.intro (pk_in t 5 (by omega)) (And.intro (pk_in (8 * p + k) 40 (by omega)) (nm_r (e' := nI (pd_ow pr L t <<< (pk (8 * p + k) / 8 % 8))) ?_ (pd_y158 h))))))
    rw [pd_rF (9 * t) (pd_y90 t) (by omega), pd_rF t rfl (by omega), pd_rb (8 * p + k) rfl (by omega), pd_msk _ (by omega)]
    refine pd_shl (by omega) ?_
    rw [← Nat.shiftLeft_eq]
    have hE' : (L (9 * t) % 2 ^ pr t) <<< (pk (8 * p + k) / 8 % 8) < 64 := hE
    omega
  · rw [if_pos (show op (8 * p + k) ≤ 3 by omega), if_neg (fun z => z.1 h0)] at h
    refine pd_y158 (y := 0) ?_
    rw [hor0]; exact h
  · rw [if_pos (show op (8 * p + k) ≤ 3 by omega)] at h
    cases hb : (pd_af op nu L p k).testBit (pk (8 * p + k) % 8)
    · rw [if_neg (fun z => by rw [hb] at z; exact absurd z.2 (by decide))] at h
      refine br_t ((pd_tst (by omega)).mpr hb) (pd_y158 (y := 0) ?_)
      rw [hor0]; exact h
    · rw [if_pos ⟨h0, hb⟩] at h
      have g := pd_Gbc G (i := 8 * p + k) (by omega) (by omega)
      refine br_f (fun z => by rw [(pd_tst (by omega)).mp z] at hb; cases hb) (And.intro (pk_in (8 * p + k) 40 (by omega)) (And.intro (pk_in (8 * p + k) 40 (by omega)) (nm_r (e' := nI (2 ^ (pk (8 * p + k) / 8 % 8) ||| 2 ^ (pk (8 * p + k) / 64))) ?_ (pd_y158 h))))
      rw [pd_rb (8 * p + k) rfl (by omega), pd_rc (8 * p + k) rfl (by omega), pd_sl (by omega), pd_sl (by omega), pd_or]
theorem pd_nz (z : Int32) (h : z = 0 ∨ z = 1) : narrow .boolean (.int z) = .int z := by
  rcases h with rfl | rfl <;> rfl
theorem pd_y39 {post : Int32 → SY → Prop} {p k v : Nat} {z : Int32} (G : pd_PG c pr sz op pk nu) (hp : p < c) (hk : k < sz p) (hL : ∀ j, j ≤ 8 → L (9 * p + j) < 64) (hW : ∀ q, q < 5 → W q ≤ 1) (hz : z = 0 ∨ z = 1)
    (K1 : pd_wn op pk nu L W p k → post 1 (nI c, ca, va, dn, sd, de, pd_F pr, pd_F sz, pd_F op, pd_F (pd_qa pk), pd_F (pd_qb pk), pd_F (pd_qc pk), nu, sa, po, ps, rg, pd_F (pd_u L (9 * p + k) v), pd_F (pd_u W (pd_tg nu (8 * p + k)) 1)))
    (K0 : ¬ pd_wn op pk nu L W p k → post z (nI c, ca, va, dn, sd, de, pd_F pr, pd_F sz, pd_F op, pd_F (pd_qa pk), pd_F (pd_qb pk), pd_F (pd_qc pk), nu, sa, po, ps, rg, pd_F (pd_u L (9 * p + k) v), pd_F W)) : wY_add_39 post (nI p) (nI k) (nI v) z (nI c) ca va dn sd de (pd_F pr) (pd_F sz) (pd_F op) (pd_F (pd_qa pk)) (pd_F (pd_qb pk)) (pd_F (pd_qc pk)) nu sa po ps rg (pd_F L) (pd_F W) := by
  have hc := pd_Gc G
  have hs := pd_Gsz G p
  have o7 := pd_Gop G (8 * p + k)
  have ha := pd_Ga G (8 * p + k)
  have hx : pd_af op nu L p k < 64 := pd_af_lt G (by omega) fun j _ b => hL j b
  have hxe : pd_af op nu (pd_u L (9 * p + k) v) p k = pd_af op nu L p k := pd_af_eq G (by omega) fun j a _ => pd_un (by omega)
  refine And.intro (pk_in (9 * p + k) 45 (by omega) (pd_y9 p k)) (nm_r (e' := pd_F (pd_u L (9 * p + k) v)) (pd_uF _ _ (pd_y9 p k) (by omega) rfl) (nm_r (e' := nI (8 * p + k)) (pd_y8 p k) (And.intro (pk_in (8 * p + k) 40 (by omega)) (pk_eq (op (8 * p + k)) 5 (fun h5 => pd_yaf G (by omega) (by omega) (And.intro (pk_in (8 * p + k) 40 (by omega)) ?_)) (fun h5 => And.intro (pd_nz z hz) (K0 (fun y => h5 y.1.1))) (pd_rF _ rfl (by omega))))))
  have g := pd_G5 G hp hk h5
  have hn : nu (nI (8 * p + k)).toNatClampNeg = nI (pd_tg nu (8 * p + k)) := (pd_rR _ rfl (by omega)).trans g.1
  rw [hxe, pd_ra (8 * p + k) rfl (by omega)]
  have hWt := hW (pd_tg nu (8 * p + k)) (by omega)
  refine pd_br1 (by omega) (by omega) (fun hb => And.intro (pk_in (8 * p + k) 40 (by omega)) (And.intro (pk_in (pd_tg nu (8 * p + k)) 5 (by omega) hn) (pk_eq (W (pd_tg nu (8 * p + k))) 0 (fun h0 => And.intro (pk_in (8 * p + k) 40 (by omega)) (And.intro (pk_in (pd_tg nu (8 * p + k)) 5 (by omega) hn) (nm_r (e' := pd_F (pd_u W (pd_tg nu (8 * p + k)) 1)) (pd_uF _ 1 hn (by omega) pd_nz1) (K1 ⟨⟨h5, hb⟩, h0⟩)))) (fun h0 => And.intro (pd_nz z hz) (K0 (fun y => h0 y.2))) (pd_rF _ hn (by omega))))) (fun hb => And.intro (pd_nz z hz) (K0 (fun y => by have y2 := y.1.2; rw [hb] at y2; cases y2)))
theorem pd_yadd {post : Int32 → SY → Prop} {p k : Nat} (G : pd_PG c pr sz op pk nu) (hp : p < c) (hk : k < sz p) (hL : ∀ j, j ≤ 8 → L (9 * p + j) < 64) (hW : ∀ q, q < 5 → W q ≤ 1)
    (K1 : pd_wn op pk nu L W p k → post 1 (nI c, ca, va, dn, sd, de, pd_F pr, pd_F sz, pd_F op, pd_F (pd_qa pk), pd_F (pd_qb pk), pd_F (pd_qc pk), nu, sa, po, ps, rg, pd_F (pd_u L (9 * p + k) (pd_L1 pr op pk nu L W p k)), pd_F (pd_u W (pd_tg nu (8 * p + k)) 1)))
    (K2 : ¬ pd_wn op pk nu L W p k → ¬ pd_L1 pr op pk nu L W p k = L (9 * p + k) → post 1 (nI c, ca, va, dn, sd, de, pd_F pr, pd_F sz, pd_F op, pd_F (pd_qa pk), pd_F (pd_qb pk), pd_F (pd_qc pk), nu, sa, po, ps, rg, pd_F (pd_u L (9 * p + k) (pd_L1 pr op pk nu L W p k)), pd_F W))
    (K0 : ¬ pd_wn op pk nu L W p k → pd_L1 pr op pk nu L W p k = L (9 * p + k) → post 0 (nI c, ca, va, dn, sd, de, pd_F pr, pd_F sz, pd_F op, pd_F (pd_qa pk), pd_F (pd_qb pk), pd_F (pd_qc pk), nu, sa, po, ps, rg, pd_F L, pd_F W)) : wpY_add post (nI c, ca, va, dn, sd, de, pd_F pr, pd_F sz, pd_F op, pd_F (pd_qa pk), pd_F (pd_qb pk), pd_F (pd_qc pk), nu, sa, po, ps, rg, pd_F L, pd_F W) (nI p) (nI k) := by
  have hc := pd_Gc G
  have hs := pd_Gsz G p
  have hx : pd_af op nu L p k < 64 := pd_af_lt G (by omega) fun j _ b => hL j b
  have hb := pd_bf_lt (w := pd_wb W p) G hp hk hx (fun q _ => pd_ow_lt pr L q)
  have hLk := hL k (by omega)
  have h1 : pd_L1 pr op pk nu L W p k < 64 := Nat.or_lt_two_pow (n := 6) hLk hb
  refine And.intro (pk_in (9 * p + k) 45 (by omega) (pd_y9 p k)) (pd_ybf G hp hk hL (hW p (by omega)) (nm_r (e' := nI (pd_L1 pr op pk nu L W p k)) ?_ (And.intro (pk_in (9 * p + k) 45 (by omega) (pd_y9 p k)) (pk_eq (pd_L1 pr op pk nu L W p k) (L (9 * p + k)) (fun h => pd_y39 G hp hk hL hW (Or.inl rfl) K1 (fun n => ?_)) (fun h => pd_y39 G hp hk hL hW (Or.inr rfl) K1 (fun n => K2 n h)) rfl (pd_rF _ (pd_y9 p k) (by omega))))))
  · rw [pd_rF _ (pd_y9 p k) (by omega), pd_or]; rfl
  · have e : pd_u L (9 * p + k) (pd_L1 pr op pk nu L W p k) = L := by
      funext j
      by_cases e : j = 9 * p + k
      · subst e; rw [pd_us, h]
      · exact pd_un e
    rw [e]; exact K0 n h
/-! what an add keeps -/
theorem pd_ow_mo {l : Nat → Nat} {q : Nat} (h : pd_le (L (9 * q)) (l (9 * q))) : pd_le (pd_ow pr L q) (pd_ow pr l q) := pd_le_md _ h
theorem pd_YS_L (G : pd_PG c pr sz op pk nu) {p k : Nat} (hp : p < c) (hk : k < sz p) (S : pd_YS c pr sz op pk nu L W) : pd_YS c pr sz op pk nu (pd_u L (9 * p + k) (pd_L1 pr op pk nu L W p k)) W := by
  obtain ⟨s1, s2, s3, s4⟩ := S
  have hc := pd_Gc G
  have hs := pd_Gsz G p
  have hx : pd_af op nu L p k < 64 := pd_af_lt G (by omega) fun j _ b => s3 p j hp b
  have hb := pd_bf_lt (w := pd_wb W p) G hp hk hx (fun q _ => pd_ow_lt pr L q)
  refine ⟨s1, s2, fun q j hq hj => ?_, fun L' W' cl => ?_⟩
  · by_cases e : 9 * q + j = 9 * p + k
    · rw [e, pd_us]; exact Nat.or_lt_two_pow (n := 6) (s3 p k hp (by omega)) hb
    · rw [pd_un e]; exact s3 q j hq hj
  · obtain ⟨a1, a2⟩ := s4 L' W' cl
    refine ⟨fun q j hq hj => ?_, a2⟩
    by_cases e : 9 * q + j = 9 * p + k
    · have e1 : q = p := by omega
      have e2 : j = k := by omega
      subst e1 e2
      rw [pd_us]
      refine pd_le_or (a1 q j hp hj) (pd_le_t (pd_bf_mo (pd_af_mo G (by omega) fun i _ b => a1 q i hp b) (fun z => pd_le_md _ ?_) (a2 q (by omega))) (cl.2 q j hp hk).1)
      exact a1 (pd_tg nu (8 * q + j)) 0 (pd_G5 G hp hk z).2.1 (by omega)
    · rw [pd_un e]; exact a1 q j hq hj
theorem pd_YS_W (G : pd_PG c pr sz op pk nu) {p k : Nat} (hp : p < c) (hk : k < sz p) (S : pd_YS c pr sz op pk nu L W) (h : pd_wn op pk nu L W p k) : pd_YS c pr sz op pk nu L (pd_u W (pd_tg nu (8 * p + k)) 1) := by
  obtain ⟨s1, s2, s3, s4⟩ := S
  have hc := pd_Gc G
  have hs := pd_Gsz G p
  refine ⟨?_, fun q hq => ?_, s3, fun L' W' cl => ?_⟩
  · by_cases e : 0 = pd_tg nu (8 * p + k)
    · rw [← e, pd_us]; decide
    · rw [pd_un e]; exact s1
  · by_cases e : q = pd_tg nu (8 * p + k)
    · rw [e, pd_us]; exact Nat.le_refl 1
    · rw [pd_un e]; exact s2 q hq
  · obtain ⟨a1, a2⟩ := s4 L' W' cl
    refine ⟨a1, fun q hq z => ?_⟩
    by_cases e : q = pd_tg nu (8 * p + k)
    · rw [e]
      exact (cl.2 p k hp hk).2 h.1.1 (pd_af_mo G (by omega) (fun i _ b => a1 p i hp b) _ h.1.2)
    · rw [pd_wb1, pd_un e] at z
      exact a2 q hq (pd_wb1.mpr z)
theorem pd_yc_L (p k v : Nat) (hp : p < 5) (hk : k < 8) (hle : pd_le (L (9 * p + k)) v) : pd_yc L W ≤ pd_yc (pd_u L (9 * p + k) v) W ∧ (v < 64 → v ≠ L (9 * p + k) → pd_yc L W < pd_yc (pd_u L (9 * p + k) v) W) := by
  have mo : ∀ j, j < 245 → (if j < 240 then (L (9 * (j / 48) + j / 6 % 8)).testBit (j % 6) else pd_wb W (j - 240)) = true → (if j < 240 then (pd_u L (9 * p + k) v (9 * (j / 48) + j / 6 % 8)).testBit (j % 6) else pd_wb W (j - 240)) = true := by
    intro j hj h
    by_cases a : j < 240
    · rw [if_pos a] at h ⊢
      by_cases e : 9 * (j / 48) + j / 6 % 8 = 9 * p + k
      · rw [e] at h ⊢
        rw [pd_us]; exact hle _ h
      · rw [pd_un e]; exact h
    · rw [if_neg a] at h ⊢; exact h
  refine ⟨pd_cn_mo 245 mo, fun hv hne => ?_⟩
  have hnew : ∃ t, (L (9 * p + k)).testBit t = false ∧ v.testBit t = true := by
    refine Classical.byContradiction fun z => hne (pd_le_a (fun t y => ?_) hle)
    cases x : (L (9 * p + k)).testBit t
    · exact absurd ⟨t, x, y⟩ z
    · rfl
  obtain ⟨t, t1, t2⟩ := hnew
  have ht : t < 6 := pd_lo (n := 6) hv t2
  have d1 : (48 * p + 6 * k + t) / 48 = p := by omega
  have d2 : (48 * p + 6 * k + t) / 6 % 8 = k := by omega
  have d3 : (48 * p + 6 * k + t) % 6 = t := by omega
  refine pd_cn_lt (j := 48 * p + 6 * k + t) ?_ ?_ 245 (by omega) mo
  · show (if 48 * p + 6 * k + t < 240 then (L (9 * ((48 * p + 6 * k + t) / 48) + (48 * p + 6 * k + t) / 6 % 8)).testBit ((48 * p + 6 * k + t) % 6) else pd_wb W (48 * p + 6 * k + t - 240)) = false
    rw [if_pos (by omega), d1, d2, d3]; exact t1
  · show (if 48 * p + 6 * k + t < 240 then (pd_u L (9 * p + k) v (9 * ((48 * p + 6 * k + t) / 48) + (48 * p + 6 * k + t) / 6 % 8)).testBit ((48 * p + 6 * k + t) % 6) else pd_wb W (48 * p + 6 * k + t - 240)) = true
    rw [if_pos (by omega), d1, d2, d3, pd_us]; exact t2
theorem pd_yc_W {t : Nat} (ht : t < 5) (h : W t = 0) : pd_yc L W < pd_yc L (pd_u W t 1) := by
  refine pd_cn_lt (j := 240 + t) ?_ ?_ 245 (by omega) (fun j hj z => ?_)
  · show (if 240 + t < 240 then (L (9 * ((240 + t) / 48) + (240 + t) / 6 % 8)).testBit ((240 + t) % 6) else pd_wb W (240 + t - 240)) = false
    rw [if_neg (by omega), Nat.add_sub_cancel_left]; exact pd_wb0 h
  · show (if 240 + t < 240 then (L (9 * ((240 + t) / 48) + (240 + t) / 6 % 8)).testBit ((240 + t) % 6) else pd_wb (pd_u W t 1) (240 + t - 240)) = true
    rw [if_neg (by omega), Nat.add_sub_cancel_left, pd_wb1, pd_us]; decide
  · show (if j < 240 then (L (9 * (j / 48) + j / 6 % 8)).testBit (j % 6) else pd_wb (pd_u W t 1) (j - 240)) = true
    have z' : (if j < 240 then (L (9 * (j / 48) + j / 6 % 8)).testBit (j % 6) else pd_wb W (j - 240)) = true := z
    by_cases a : j < 240
    · rw [if_pos a] at z' ⊢; exact z'
    · rw [if_neg a] at z' ⊢
      rw [pd_wb1] at z' ⊢
      by_cases e : j - 240 = t
      · rw [e, pd_us]; decide
      · rw [pd_un e]; exact z'
end
section
variable {c : Nat} {pr sz op pk L0 W0 : Nat → Nat} {nu : Nat → Int32} {ca va dn sd de : Int32} {sa po ps rg : Nat → Int32}
/-- the pass at j: cells from j on are done; z says whether anything was added -/
def pd_P (c : Nat) (pr sz op pk : Nat → Nat) (nu : Nat → Int32) (L0 W0 : Nat → Nat) (j : Nat) (z : Int32) (L W : Nat → Nat) : Prop :=
  pd_YS c pr sz op pk nu L W ∧ ((z = 0 ∧ (L = L0 ∧ W = W0) ∧ ∀ p k, p < c → k < sz p → j ≤ 8 * p + k → pd_ca pr op pk nu L W p k) ∨ (z = 1 ∧ pd_yc L0 W0 < pd_yc L W))
theorem pd_y115 {post : SY → Prop} {J53 J69 : Int32 → Int32 → Int32 → Int32 → Int32 → Int32 → Int32 → Int32 → (Nat → Int32) → (Nat → Int32) → (Nat → Int32) → (Nat → Int32) → (Nat → Int32) → (Nat → Int32) → (Nat → Int32) → (Nat → Int32) → (Nat → Int32) → (Nat → Int32) → (Nat → Int32) → (Nat → Int32) → (Nat → Int32) → Prop} {z x2 : Int32} {j : Nat} {L W : Nat → Nat} (hz : z = 0 ∨ z = 1) (h : J69 z (nI j + (-1)) (nI c) ca va dn sd de (pd_F pr) (pd_F sz) (pd_F op) (pd_F (pd_qa pk)) (pd_F (pd_qb pk)) (pd_F (pd_qc pk)) nu sa po ps rg (pd_F L) (pd_F W)) : wY_collect_115 post J53 J69 z x2 (nI j) (nI c) ca va dn sd de (pd_F pr) (pd_F sz) (pd_F op) (pd_F (pd_qa pk)) (pd_F (pd_qb pk)) (pd_F (pd_qc pk)) nu sa po ps rg (pd_F L) (pd_F W) := by
  rcases hz with rfl | rfl
  · exact br_t rfl (nm_e h)
  · exact br_f pd_10 (nm_e h)
theorem pd_y69 {post : SY → Prop} {J53 : Int32 → Int32 → Int32 → Int32 → Int32 → Int32 → Int32 → Int32 → (Nat → Int32) → (Nat → Int32) → (Nat → Int32) → (Nat → Int32) → (Nat → Int32) → (Nat → Int32) → (Nat → Int32) → (Nat → Int32) → (Nat → Int32) → (Nat → Int32) → (Nat → Int32) → (Nat → Int32) → (Nat → Int32) → Prop} {t : Nat} (G : pd_PG c pr sz op pk nu)
    (K : ∀ z L W, pd_P c pr sz op pk nu L0 W0 0 z L W → J53 z (nI (t + 1)) (nI c) ca va dn sd de (pd_F pr) (pd_F sz) (pd_F op) (pd_F (pd_qa pk)) (pd_F (pd_qb pk)) (pd_F (pd_qc pk)) nu sa po ps rg (pd_F L) (pd_F W)) :
    ∀ j n z L W, j ≤ 40 → j < n → pd_P c pr sz op pk nu L0 W0 j z L W → wY_collect_69 post J53 (nI t) n z (nI j + (-1)) (nI c) ca va dn sd de (pd_F pr) (pd_F sz) (pd_F op) (pd_F (pd_qa pk)) (pd_F (pd_qb pk)) (pd_F (pd_qc pk)) nu sa po ps rg (pd_F L) (pd_F W) := by
  have hc := pd_Gc G
  intro j
  induction j with
  | zero =>
    intro n z L W _ hn I
    obtain ⟨m, rfl⟩ : ∃ m, n = m + 1 := ⟨n - 1, by omega⟩
    exact br_t pd_m1n (nm_r (nI_1 t) (K z L W I))
  | succ j ih =>
    intro n z L W hj hn I
    obtain ⟨m, rfl⟩ : ∃ m, n = m + 1 := ⟨n - 1, by omega⟩
    have ed : nI j / 8 = nI (j / 8) := pk_div (d := 8) (by omega) (by omega) (by omega)
    have er : nI j - nI j / 8 * 8 = nI (j % 8) := pk_rem (d := 8) (by omega) (by omega) (by omega)
    have hs := pd_Gsz G (j / 8)
    have h80 : ¬ (8 : Int32) = 0 := by decide
    have hz : z = 0 ∨ z = 1 := I.2.imp (fun a => a.1) (fun a => a.1)
    have S := I.1
    -- a cell without an instruction
    have skip : (∀ p k, p < c → k < sz p → ¬ j = 8 * p + k) → wY_collect_69 post J53 (nI t) m z (nI j + (-1)) (nI c) ca va dn sd de (pd_F pr) (pd_F sz) (pd_F op) (pd_F (pd_qa pk)) (pd_F (pd_qb pk)) (pd_F (pd_qc pk)) nu sa po ps rg (pd_F L) (pd_F W) := fun hno => by
      refine ih m z L W (by omega) (by omega) ⟨S, I.2.imp (fun a => ⟨a.1, a.2.1, fun p k hp hk hle => a.2.2 p k hp hk ?_⟩) id⟩
      have := hno p k hp hk
      omega
    refine br_f (pd_m1p j (by omega)) ?_
    rw [pk_m1]
    refine And.intro h80 (pk_le c (j / 8) (fun h => pd_y115 hz (skip fun p k hp hk e => ?_)) (fun h => And.intro h80 (And.intro h80 (And.intro (pk_in (j / 8) 5 (by omega) ed) (pk_le (sz (j / 8)) (j % 8) (fun h2 => pd_y115 hz (skip fun p k hp hk e => ?_)) (fun h2 => And.intro h80 (And.intro h80 ?_)) (pd_rF _ ed (by omega)) er)))) rfl ed)
    · have := pd_Gsz G p
      have e1 : j / 8 = p := by omega
      omega
    · have := pd_Gsz G p
      have e1 : j / 8 = p := by omega
      have e2 : j % 8 = k := by omega
      rw [e1, e2] at h2
      omega
    · rw [er, ed]
      have hcell : 8 * (j / 8) + j % 8 = j := by omega
      have hp : j / 8 < c := h
      have hk : j % 8 < sz (j / 8) := h2
      generalize j / 8 = p at hcell hp hk
      generalize j % 8 = k at hcell hk
      have hsp := pd_Gsz G p
      have hL : ∀ i, i ≤ 8 → L (9 * p + i) < 64 := fun i hi => S.2.2.1 p i hp hi
      have hW := S.2.1
      have hx : pd_af op nu L p k < 64 := pd_af_lt G (by omega) fun i _ b => hL i b
      have hb := pd_bf_lt (w := pd_wb W p) G hp hk hx (fun q _ => pd_ow_lt pr L q)
      have h1 : pd_L1 pr op pk nu L W p k < 64 := Nat.or_lt_two_pow (n := 6) (hL k (by omega)) hb
      have hle : pd_le (L (9 * p + k)) (pd_L1 pr op pk nu L W p k) := pd_le_l _ _
      have c1 := pd_yc_L (W := W) p k (pd_L1 pr op pk nu L W p k) (by omega) (by omega) hle
      have hold : pd_yc L0 W0 ≤ pd_yc L W := by
        rcases I.2 with a | a
        · rw [a.2.1.1, a.2.1.2]; exact Nat.le_refl _
        · omega
      have haf : pd_af op nu (pd_u L (9 * p + k) (pd_L1 pr op pk nu L W p k)) p k = pd_af op nu L p k := pd_af_eq G (by omega) fun i a _ => pd_un (by omega)
      refine pd_yadd G hp hk hL hW (fun hw => ?_) (fun hw hne => ?_) (fun hw he => ?_)
      · have S1 := pd_YS_L G hp hk S
        have hw' : pd_wn op pk nu (pd_u L (9 * p + k) (pd_L1 pr op pk nu L W p k)) W p k := by
          unfold pd_wn; rw [haf]; exact hw
        have S2 := pd_YS_W G hp hk S1 hw'
        have c2 := pd_yc_W (L := pd_u L (9 * p + k) (pd_L1 pr op pk nu L W p k)) (W := W) (t := pd_tg nu (8 * p + k)) (by have := (pd_G5 G hp hk hw.1.1).2.1; omega) hw.2
        exact br_f pd_10 (nm_e (ih m 1 _ _ (by omega) (by omega) ⟨S2, Or.inr ⟨rfl, by omega⟩⟩))
      · have c2 := c1.2 h1 hne
        exact br_f pd_10 (nm_e (ih m 1 _ _ (by omega) (by omega) ⟨pd_YS_L G hp hk S, Or.inr ⟨rfl, by omega⟩⟩))
      · refine br_t rfl (pd_y115 hz (ih m z L W (by omega) (by omega) ⟨S, I.2.imp (fun a => ⟨a.1, a.2.1, fun p' k' hp' hk' hle' => ?_⟩) id⟩))
        by_cases e : 8 * p' + k' = j
        · have := pd_Gsz G p'
          have e1 : p' = p := by omega
          have e2 : k' = k := by omega
          subst e1 e2
          refine ⟨?_, fun o b => ?_⟩
          · rw [← he]; exact pd_le_rr _ _
          · rw [pd_wb1]; exact fun y => hw ⟨⟨o, b⟩, y⟩
        · exact a.2.2 p' k' hp' hk' (by omega)
end
section
variable {c : Nat} {pr sz op pk : Nat → Nat} {nu : Nat → Int32} {ca va dn sd de : Int32} {sa po ps rg : Nat → Int32}
theorem pd_y53 {post : SY → Prop} (G : pd_PG c pr sz op pk nu)
    (K : ∀ L W, pd_ls c pr sz op pk nu L (pd_wb W) → (∀ q, q < 5 → W q ≤ 1) → post (nI c, ca, va, dn, sd, de, pd_F pr, pd_F sz, pd_F op, pd_F (pd_qa pk), pd_F (pd_qb pk), pd_F (pd_qc pk), nu, sa, po, ps, rg, pd_F L, pd_F W)) :
    ∀ n t z L W, 250 < n + t → pd_YS c pr sz op pk nu L W → ((z = 0 ∧ (∀ p k, p < c → k < sz p → pd_ca pr op pk nu L W p k)) ∨ (z = 1 ∧ t ≤ pd_yc L W)) → t ≤ 246 → wY_collect_53 post n z (nI t) (nI c) ca va dn sd de (pd_F pr) (pd_F sz) (pd_F op) (pd_F (pd_qa pk)) (pd_F (pd_qb pk)) (pd_F (pd_qc pk)) nu sa po ps rg (pd_F L) (pd_F W) := by
  intro n
  induction n with
  | zero => intro t z L W hn S hz ht; omega
  | succ n ih =>
    intro t z L W hn S hz ht
    have b : pd_yc L W ≤ 245 := pd_cn_le _ _
    refine pk_le 250 t (fun h => absurd h (by omega)) (fun _ => ?_)
    rcases hz with ⟨rfl, hcl⟩ | ⟨rfl, ht'⟩
    · exact br_t rfl (K L W ⟨⟨pd_wb1.mpr S.1, hcl⟩, S.2.2.1, S.2.2.2⟩ S.2.1)
    · refine br_f pd_10 (Exists.intro 41 (pd_y69 (L0 := L) (W0 := W) G (fun z L' W' P => ih (t + 1) z L' W' (by omega) P.1 ?_ (by omega)) 40 41 0 L W (by omega) (by omega) ⟨S, Or.inl ⟨rfl, ⟨rfl, rfl⟩, fun p k hp hk hle => ?_⟩⟩))
      · exact P.2.imp (fun a => ⟨a.1, fun p k hp hk => a.2.2 p k hp hk (Nat.zero_le _)⟩) (fun a => ⟨a.1, by omega⟩)
      · have := pd_Gsz G p
        have := pd_Gc G
        omega
theorem pd_y23 {post : SY → Prop} {L : Nat → Nat} (K : ∀ W, (∀ q, q < 5 → W q = if q = 0 then 1 else 0) → wY_collect_53 post 300 1 (nI 0) (nI c) ca va dn sd de (pd_F pr) (pd_F sz) (pd_F op) (pd_F (pd_qa pk)) (pd_F (pd_qb pk)) (pd_F (pd_qc pk)) nu sa po ps rg (pd_F L) (pd_F W)) :
    ∀ d i n W, i + d = 5 → d < n → (∀ q, q < i → W q = if q = 0 then 1 else 0) → wY_collect_23 post (nI c) ca va dn sd de n (nI i) (pd_F pr) (pd_F sz) (pd_F op) (pd_F (pd_qa pk)) (pd_F (pd_qb pk)) (pd_F (pd_qc pk)) nu sa po ps rg (pd_F L) (pd_F W) := by
  intro d
  induction d with
  | zero =>
    intro i n W hi hn h1
    obtain ⟨m, rfl⟩ : ∃ m, n = m + 1 := ⟨n - 1, by omega⟩
    exact pk_le 5 i (fun _ => Exists.intro 300 (K W (fun q hq => h1 q (by omega)))) (fun z => absurd z (by omega))
  | succ d ih =>
    intro i n W hi hn h1
    obtain ⟨m, rfl⟩ : ∃ m, n = m + 1 := ⟨n - 1, by omega⟩
    refine pk_le 5 i (fun z => absurd z (by omega)) (fun _ => pk_eq i 0 (fun h0 => And.intro (pk_in i 5 (by omega)) (nm_r (e' := pd_F (pd_u W i 1)) (pd_uF i 1 rfl (by omega) pd_nz1) (nm_r (nI_1 i) (ih (i + 1) m _ (by omega) (by omega) ?_)))) (fun h0 => And.intro (pk_in i 5 (by omega)) (nm_r (e' := pd_F (pd_u W i 0)) (pd_uF i 0 rfl (by omega) pd_nz0) (nm_r (nI_1 i) (ih (i + 1) m _ (by omega) (by omega) ?_)))))
    · intro q hq
      by_cases e : q = i
      · subst e; rw [pd_us, if_pos h0]
      · rw [pd_un e]; exact h1 q (by omega)
    · intro q hq
      by_cases e : q = i
      · subst e; rw [pd_us, if_neg h0]
      · rw [pd_un e]; exact h1 q (by omega)
theorem pd_y2 {post : SY → Prop} {W : Nat → Nat} (K : ∀ L, (∀ q, q < 45 → L q = 0) → wY_collect_23 post (nI c) ca va dn sd de 6 (nI 0) (pd_F pr) (pd_F sz) (pd_F op) (pd_F (pd_qa pk)) (pd_F (pd_qb pk)) (pd_F (pd_qc pk)) nu sa po ps rg (pd_F L) (pd_F W)) :
    ∀ d i n L, i + d = 45 → d < n → (∀ q, q < i → L q = 0) → wY_collect_2 post (nI c) ca va dn sd de n (nI i) (pd_F pr) (pd_F sz) (pd_F op) (pd_F (pd_qa pk)) (pd_F (pd_qb pk)) (pd_F (pd_qc pk)) nu sa po ps rg (pd_F L) (pd_F W) := by
  intro d
  induction d with
  | zero =>
    intro i n L hi hn h1
    obtain ⟨m, rfl⟩ : ∃ m, n = m + 1 := ⟨n - 1, by omega⟩
    exact pk_le 45 i (fun _ => Exists.intro 6 (K L (fun q hq => h1 q (by omega)))) (fun z => absurd z (by omega))
  | succ d ih =>
    intro i n L hi hn h1
    obtain ⟨m, rfl⟩ : ∃ m, n = m + 1 := ⟨n - 1, by omega⟩
    refine pk_le 45 i (fun z => absurd z (by omega)) (fun _ => And.intro (pk_in i 45 (by omega)) (nm_r (e' := pd_F (pd_u L i 0)) (pd_uF i 0 rfl (by omega) rfl) (nm_r (nI_1 i) (ih (i + 1) m _ (by omega) (by omega) ?_))))
    intro q hq
    by_cases e : q = i
    · subst e; exact pd_us
    · rw [pd_un e]; exact h1 q (by omega)
theorem pd_ycol {post : SY → Prop} {L W : Nat → Nat} (G : pd_PG c pr sz op pk nu) (K : ∀ L W, pd_ls c pr sz op pk nu L (pd_wb W) → (∀ q, q < 5 → W q ≤ 1) → post (nI c, ca, va, dn, sd, de, pd_F pr, pd_F sz, pd_F op, pd_F (pd_qa pk), pd_F (pd_qb pk), pd_F (pd_qc pk), nu, sa, po, ps, rg, pd_F L, pd_F W)) : wpY_collect post (nI c, ca, va, dn, sd, de, pd_F pr, pd_F sz, pd_F op, pd_F (pd_qa pk), pd_F (pd_qb pk), pd_F (pd_qc pk), nu, sa, po, ps, rg, pd_F L, pd_F W) := by
  have hc := pd_Gc G
  refine Exists.intro 46 (pd_y2 (fun L' hL => pd_y23 (fun W' hW => ?_) 5 0 6 W (by omega) (by omega) (fun q a => absurd a (by omega))) 45 0 46 L (by omega) (by omega) (fun q a => absurd a (by omega)))
  refine pd_y53 G K 300 0 1 L' W' (by omega) ⟨by rw [hW 0 (by omega)]; decide, fun q hq => ?_, fun p k hp hk => by rw [hL _ (by omega)]; decide, fun L2 W2 cl => ⟨fun p k hp hk => by rw [hL _ (by omega)]; exact pd_le_0 _, fun q hq z => ?_⟩⟩ (Or.inr ⟨rfl, Nat.zero_le _⟩) (by omega)
  · rw [hW q hq]
    by_cases e : q = 0
    · rw [if_pos e]; exact Nat.le_refl 1
    · rw [if_neg e]; exact Nat.zero_le 1
  · by_cases e : q = 0
    · rw [e]; exact cl.1
    · rw [pd_wb1, hW q hq, if_neg e] at z
      exact absurd rfl z
end
end
section
/-! X: the walk of one round of a run -/
def pd_z (rg : Nat → Int32) (d i : Nat) : Nat → Int32 := fun j => if 6 * d ≤ j ∧ j < 6 * d + i then 0 else rg j
def pd_pt (rg : Nat → Int32) (e fr b n : Nat) : Nat → Int32 := fun i => if (b ≤ i ∧ i < b + n) ∧ e.testBit (i - b) = true then rg (fr + (i - b)) else rg i
def pd_val (op pk : Nat → Nat) (nu rg : Nat → Int32) (f i : Nat) : Int32 := if op i = 0 then nu i else if op i = 1 then rg (6 * f + pk i / 8 % 8) + rg (6 * f + pk i / 64) else if op i = 2 then rg (6 * f + pk i / 8 % 8) - rg (6 * f + pk i / 64) else if rg (6 * f + pk i / 64) ≤ rg (6 * f + pk i / 8 % 8) then 0 else 1
theorem pd_z0 (rg : Nat → Int32) (d : Nat) : pd_z rg d 0 = rg := by
  funext j
  exact if_neg (by omega)
theorem pd_zs (rg : Nat → Int32) (d i : Nat) : upd (pd_z rg d i) (6 * d + i) 0 = pd_z rg d (i + 1) := by
  funext j
  show (if j = 6 * d + i then 0 else if 6 * d ≤ j ∧ j < 6 * d + i then 0 else rg j) = (if 6 * d ≤ j ∧ j < 6 * d + (i + 1) then 0 else rg j)
  by_cases h : j = 6 * d + i
  · rw [if_pos h, if_pos (by omega)]
  · rw [if_neg h]
    by_cases g : 6 * d ≤ j ∧ j < 6 * d + i
    · rw [if_pos g, if_pos (by omega)]
    · rw [if_neg g, if_neg (by omega)]
theorem pd_pt0 (rg : Nat → Int32) (e fr b : Nat) : pd_pt rg e fr b 0 = rg := by
  funext j
  exact if_neg (by omega)
theorem pd_pt1 {rg : Nat → Int32} {e fr b n : Nat} (h : e.testBit n = true) (hf : fr + n < b) : upd (pd_pt rg e fr b n) (b + n) (pd_pt rg e fr b n (fr + n)) = pd_pt rg e fr b (n + 1) := by
  have e1 : pd_pt rg e fr b n (fr + n) = rg (fr + n) := if_neg (by omega)
  rw [e1]
  funext j
  show (if j = b + n then rg (fr + n) else if (b ≤ j ∧ j < b + n) ∧ e.testBit (j - b) = true then rg (fr + (j - b)) else rg j) = (if (b ≤ j ∧ j < b + (n + 1)) ∧ e.testBit (j - b) = true then rg (fr + (j - b)) else rg j)
  by_cases h1 : j = b + n
  · have h2 : j - b = n := by omega
    rw [if_pos h1, h2, if_pos ⟨by omega, h⟩]
  · rw [if_neg h1]
    by_cases g : (b ≤ j ∧ j < b + n) ∧ e.testBit (j - b) = true
    · rw [if_pos g, if_pos ⟨by omega, g.2⟩]
    · rw [if_neg g, if_neg (fun z => g ⟨by omega, z.2⟩)]
theorem pd_pt2 {rg : Nat → Int32} {e fr b n : Nat} (h : e.testBit n = false) : pd_pt rg e fr b n = pd_pt rg e fr b (n + 1) := by
  funext j
  show (if (b ≤ j ∧ j < b + n) ∧ e.testBit (j - b) = true then rg (fr + (j - b)) else rg j) = (if (b ≤ j ∧ j < b + (n + 1)) ∧ e.testBit (j - b) = true then rg (fr + (j - b)) else rg j)
  by_cases h1 : j = b + n
  · have h2 : j - b = n := by omega
    rw [h2, if_neg (fun z => by rw [h] at z; exact absurd z.2 (by decide)), if_neg (fun z => by rw [h] at z; exact absurd z.2 (by decide))]
  · by_cases g : (b ≤ j ∧ j < b + n) ∧ e.testBit (j - b) = true
    · rw [if_pos g, if_pos ⟨by omega, g.2⟩]
    · rw [if_neg g, if_neg (fun z => g ⟨by omega, z.2⟩)]
/-- a state is a tuple -/
theorem pd_tu {post q : SX → Prop} (hq : ∀ (f1 f2 f3 f4 f5 f6 f7 f8 f9 : Int32) (a1 a2 a3 a4 a5 a6 a7 a8 a9 a10 a11 a12 a13 : Nat → Int32), post (f1, f2, f3, f4, f5, f6, f7, f8, f9, a1, a2, a3, a4, a5, a6, a7, a8, a9, a10, a11, a12, a13) → q (f1, f2, f3, f4, f5, f6, f7, f8, f9, a1, a2, a3, a4, a5, a6, a7, a8, a9, a10, a11, a12, a13)) : ∀ (u : SX), post u → q u
  | (f1, f2, f3, f4, f5, f6, f7, f8, f9, a1, a2, a3, a4, a5, a6, a7, a8, a9, a10, a11, a12, a13), h => hq f1 f2 f3 f4 f5 f6 f7 f8 f9 a1 a2 a3 a4 a5 a6 a7 a8 a9 a10 a11 a12 a13 h
section
variable {c d s oc : Nat} {pr sz op pk E NK ru av : Nat → Nat} {nu lv mt rg ou : Nat → Int32} {kn re wa st va : Int32}
theorem pd_xop_l {post : SX → Prop} (hd : d < 10) (K : post (nI c, kn, re, wa, nI (d + 1), st, va, nI s, nI oc, pd_F pr, pd_F sz, pd_F op, pd_F pk, nu, lv, pd_F E, mt, pd_F NK, pd_F ru, pd_F av, pd_z rg d 6, ou)) : ∀ j i n, i + j = 6 → j < n → wX_open_13 post (nI c) kn re wa (nI d) st va (nI s) (nI oc) n (nI i) (pd_F pr) (pd_F sz) (pd_F op) (pd_F pk) nu lv (pd_F E) mt (pd_F NK) (pd_F ru) (pd_F av) (pd_z rg d i) ou := by
  intro j
  induction j with
  | zero =>
    intro i n hi hn
    obtain ⟨m, rfl⟩ : ∃ m, n = m + 1 := ⟨n - 1, by omega⟩
    have e : i = 6 := by omega
    subst e
    exact pk_le 6 6 (fun _ => nm_r (nI_1 d) K) (fun z => absurd z (by omega))
  | succ j ih =>
    intro i n hi hn
    obtain ⟨m, rfl⟩ : ∃ m, n = m + 1 := ⟨n - 1, by omega⟩
    refine pk_le 6 i (fun z => absurd z (by omega)) (fun _ => And.intro (pk_in (6 * d + i) 60 (by omega) (pd_x6 d i)) (nm_r (e' := pd_z rg d (i + 1)) ?_ (nm_r (nI_1 i) (ih (i + 1) m (by omega) (by omega)))))
    rw [pd_uR (6 * d + i) (pd_x6 d i) (by omega), pd_zs]
theorem pd_xop {post : SX → Prop} {q : Nat} (hd : d < 10) (hq : q < 5) (K : post (nI c, kn, re, wa, nI (d + 1), st, va, nI s, nI oc, pd_F pr, pd_F sz, pd_F op, pd_F pk, nu, lv, pd_F E, mt, pd_F NK, pd_F (pd_u ru d q), pd_F av, pd_z rg d 6, ou)) : wpX_open post (nI c, kn, re, wa, nI d, st, va, nI s, nI oc, pd_F pr, pd_F sz, pd_F op, pd_F pk, nu, lv, pd_F E, mt, pd_F NK, pd_F ru, pd_F av, rg, ou) (nI q) := by
  refine And.intro (pk_in d 10 hd) (nm_r (e' := pd_F (pd_u ru d q)) (pd_uF d q rfl (by omega) (pd_nb (by omega))) (Exists.intro 7 ?_))
  have h := pd_xop_l (c := c) (s := s) (oc := oc) (pr := pr) (sz := sz) (op := op) (pk := pk) (E := E) (NK := NK) (ru := pd_u ru d q) (av := av) (nu := nu) (lv := lv) (mt := mt) (rg := rg) (ou := ou) (kn := kn) (re := re) (wa := wa) (st := st) (va := va) hd K 6 0 7 (by omega) (by omega)
  rw [pd_z0] at h
  exact h
theorem pd_xgo {post : SX → Prop} {p k : Nat} (hd : d < 10) (hp : ru d = p) (hp5 : p < 5) (hk : k ≤ 8) (hm1 : k ≤ NK (9 * p + k)) (hm2 : NK (9 * p + k) ≤ 8) (hs : s ≤ 150)
    (K1 : s + (NK (9 * p + k) - k) ≤ 150 → post (nI c, kn, re, wa, nI (d + 1), st, va, nI (s + (NK (9 * p + k) - k)), nI oc, pd_F pr, pd_F sz, pd_F op, pd_F pk, nu, lv, pd_F E, mt, pd_F NK, pd_F ru, pd_F (pd_u av d (NK (9 * p + k))), rg, ou))
    (K2 : 150 < s + (NK (9 * p + k) - k) → post (nI c, kn, re, wa, nI (d + 1), 2, va, nI 150, nI oc, pd_F pr, pd_F sz, pd_F op, pd_F pk, nu, lv, pd_F E, mt, pd_F NK, pd_F ru, pd_F (pd_u av d (NK (9 * p + k))), rg, ou)) : wpX_goTo post (nI c, kn, re, wa, nI (d + 1), st, va, nI s, nI oc, pd_F pr, pd_F sz, pd_F op, pd_F pk, nu, lv, pd_F E, mt, pd_F NK, pd_F ru, pd_F av, rg, ou) (nI k) := by
  have ed : nI (d + 1) - 1 = nI d := nI_pred d
  have i9 := pd_x9 p k
  generalize hm : NK (9 * p + k) = m at hm1 hm2 K1 K2
  refine And.intro (pk_in d 10 (by omega) ed) (nm_r (e' := nI p) ((pd_rF _ ed (by omega)).trans (congrArg nI hp)) (And.intro (pk_in (9 * p + k) 45 (by omega) i9) (nm_r (e' := nI m) ((pd_rF _ i9 (by omega)).trans (congrArg nI hm)) (nm_r (e' := nI (s + (m - k))) ?_ (And.intro (pk_in d 10 (by omega) ed) (nm_r (e' := pd_F (pd_u av d m)) (pd_uF _ _ ed (by omega) (pd_nb (by omega))) (pk_le (s + (m - k)) 150 K1 K2)))))))
  rw [pk_sub hm1, nI_add]
theorem pd_xcl0 {post : SX → Prop} {v : Int32} (h : post (nI c, kn, re, wa, nI 0, 1, v, nI s, nI oc, pd_F pr, pd_F sz, pd_F op, pd_F pk, nu, lv, pd_F E, mt, pd_F NK, pd_F ru, pd_F av, rg, ou)) : wpX_close post (nI c, kn, re, wa, nI 1, st, va, nI s, nI oc, pd_F pr, pd_F sz, pd_F op, pd_F pk, nu, lv, pd_F E, mt, pd_F NK, pd_F ru, pd_F av, rg, ou) v := by
  refine nm_r (e' := nI 0) (nI_pred 0) (br_t rfl h)
theorem pd_xcl1 {post : SX → Prop} {v : Int32} {u1 : SX} {p k : Nat} (hpk : ∀ i, pk i < 512) (ha : ∀ i, pk i % 8 < 6) (hd : d + 2 ≤ 10) (hp : ru d = p) (hk : av d = k) (hp5 : p < 5) (hk8 : k < 8)
    (hgo : ∀ q : SX → Prop, q u1 → wpX_goTo q (nI c, kn, re, wa, nI (d + 1), st, va, nI s, nI oc, pd_F pr, pd_F sz, pd_F op, pd_F pk, nu, lv, pd_F E, mt, pd_F NK, pd_F ru, pd_F av, upd rg (6 * d + pk (8 * p + k) % 8) v, ou) (nI (k + 1))) (h : post u1) : wpX_close post (nI c, kn, re, wa, nI (d + 2), st, va, nI s, nI oc, pd_F pr, pd_F sz, pd_F op, pd_F pk, nu, lv, pd_F E, mt, pd_F NK, pd_F ru, pd_F av, rg, ou) v := by
  have e1 : nI (d + 1) - 1 = nI d := nI_pred d
  have a6 := ha (8 * p + k)
  have ea : (nI d * 6) + (pd_F pk (nI (8 * p + k)).toNatClampNeg &&& 7) = nI (6 * d + pk (8 * p + k) % 8) := by
    rw [pd_rF _ rfl (by omega), pd_oa (hpk _), pd_x6]
  refine nm_r (e' := nI (d + 1)) (nI_pred (d + 1)) (br_f (nI_ne0 (by omega) (by omega)) ?_)
  rw [e1]
  refine And.intro (pk_in d 10 (by omega)) (nm_r (e' := nI k) ((pd_rF d rfl (by omega)).trans (congrArg nI hk)) (And.intro (pk_in d 10 (by omega)) (nm_r (e' := nI (8 * p + k)) ?_ (And.intro (pk_in (8 * p + k) 40 (by omega)) (And.intro (pk_in (6 * d + pk (8 * p + k) % 8) 60 (by omega) ea) (nm_r (e' := upd rg (6 * d + pk (8 * p + k) % 8) v) (pd_uR _ ea (by omega)) ?_))))))
  · rw [pd_rF d rfl (by omega), hp, pd_x8]
  · rw [nI_1]
    exact hgo _ (pd_tu (fun _ _ _ _ _ _ _ _ _ _ _ _ _ _ _ _ _ _ _ _ _ _ h => h) u1 h)
theorem pd_xwk {post : SX → Prop} {f i : Nat} (G : pd_PG c pr sz op pk nu) (hi : i < 40) (hf : f < 10) (h3 : op i ≤ 3) (h : post (nI c, kn, re, wa, nI d, st, va, nI s, nI oc, pd_F pr, pd_F sz, pd_F op, pd_F pk, nu, lv, pd_F E, mt, pd_F NK, pd_F ru, pd_F av, upd rg (6 * f + pk i % 8) (pd_val op pk nu rg f i), ou)) : wpX_work post (nI c, kn, re, wa, nI d, st, va, nI s, nI oc, pd_F pr, pd_F sz, pd_F op, pd_F pk, nu, lv, pd_F E, mt, pd_F NK, pd_F ru, pd_F av, rg, ou) (nI i) (nI (6 * f + pk i % 8)) (nI (6 * f)) := by
  have hpk := pd_Gpk G i
  have ha := pd_Ga G i
  have eu : ∀ x : Int32, upd rg (nI (6 * f + pk i % 8)).toNatClampNeg x = upd rg (6 * f + pk i % 8) x := fun x => pd_uR _ rfl (by omega)
  have ia : vp_in (nI (6 * f + pk i % 8)) 60 := vp_in_nI (by omega) (by omega)
  have ii : vp_in (nI i) 40 := pk_in i 40 hi
  have eo : pd_F op (nI i).toNatClampNeg = nI (op i) := pd_rF i rfl (by omega)
  unfold pd_val at h
  refine And.intro ii (pk_eq (op i) 0 (fun h0 => ?_) (fun h0 => ?_) eo)
  · rw [if_pos h0] at h
    refine And.intro ii (And.intro ia (nm_r (e' := upd rg (6 * f + pk i % 8) (nu i)) ?_ h))
    rw [eu, pd_rR (a := nu) i rfl (by omega)]
  · have g := pd_Gbc G (i := i) (by omega) h3
    have eb : nI (6 * f) + ((pd_F pk (nI i).toNatClampNeg >>> ((3 : Int32) &&& 31)) &&& 7) = nI (6 * f + pk i / 8 % 8) := by
      rw [pd_rF i rfl (by omega), pd_ob hpk, nI_add]
    have ec : nI (6 * f) + (pd_F pk (nI i).toNatClampNeg >>> ((6 : Int32) &&& 31)) = nI (6 * f + pk i / 64) := by
      rw [pd_rF i rfl (by omega), pd_oc hpk, nI_add]
    rw [if_neg h0] at h
    refine And.intro ii (And.intro (pk_in _ 60 (by omega) eb) (nm_r (e' := rg (6 * f + pk i / 8 % 8)) (pd_rR _ eb (by omega)) (And.intro ii (And.intro (pk_in _ 60 (by omega) ec) (nm_r (e' := rg (6 * f + pk i / 64)) (pd_rR _ ec (by omega)) (And.intro ii (pk_eq (op i) 1 (fun h1 => ?_) (fun h1 => And.intro ii (pk_eq (op i) 2 (fun h2 => ?_) (fun h2 => ?_) eo)) eo)))))))
    · rw [if_pos h1] at h
      exact And.intro ia (nm_r (eu _) h)
    · rw [if_neg h1, if_pos h2] at h
      exact And.intro ia (nm_r (eu _) h)
    · rw [if_neg h1, if_neg h2] at h
      refine br_c (fun z => ?_) (fun z => ?_)
      · rw [if_pos z] at h
        exact And.intro ia (nm_r (eu _) h)
      · rw [if_neg z] at h
        exact And.intro ia (nm_r (eu _) h)
theorem pd_xca_l {post : SX → Prop} {u1 : SX} {q fr b : Nat} (hq : q < 5) (hpr : pr q ≤ 3) (hb : b + 6 ≤ 60) (hf : fr + pr q ≤ b) (hE : E q < 2 ^ pr q)
    (hgo : ∀ q' : SX → Prop, q' u1 → wpX_goTo q' (nI c, kn, re, wa, nI d, st, va, nI s, nI oc, pd_F pr, pd_F sz, pd_F op, pd_F pk, nu, lv, pd_F E, mt, pd_F NK, pd_F ru, pd_F av, pd_pt rg (E q) fr b (pr q), ou) (nI 0)) (h : post u1) :
    ∀ j i n, i + j = pr q → j < n → wX_call_18 post (nI q) (nI fr) (nI b) (nI c) kn re wa (nI d) st va (nI s) (nI oc) n (nI i) (pd_F pr) (pd_F sz) (pd_F op) (pd_F pk) nu lv (pd_F E) mt (pd_F NK) (pd_F ru) (pd_F av) (pd_pt rg (E q) fr b i) ou := by
  have hE8 : E q < 8 := Nat.lt_of_lt_of_le hE (Nat.pow_le_pow_right (n := 2) (by decide) hpr)
  have ep : pd_F pr (nI q).toNatClampNeg = nI (pr q) := pd_rF q rfl (by omega)
  intro j
  induction j with
  | zero =>
    intro i n hi hn
    obtain ⟨m, rfl⟩ : ∃ m, n = m + 1 := ⟨n - 1, by omega⟩
    have e : i = pr q := by omega
    subst e
    exact And.intro (pk_in q 5 hq) (pk_le (pr q) (pr q) (fun _ => hgo _ (pd_tu (fun _ _ _ _ _ _ _ _ _ _ _ _ _ _ _ _ _ _ _ _ _ _ h => h) u1 h)) (fun z => absurd z (by omega)) ep)
  | succ j ih =>
    intro i n hi hn
    obtain ⟨m, rfl⟩ : ∃ m, n = m + 1 := ⟨n - 1, by omega⟩
    refine And.intro (pk_in q 5 hq) (pk_le (pr q) i (fun z => absurd z (by omega)) (fun _ => And.intro (pk_in q 5 hq) ?_) ep)
    rw [pd_rF q rfl (by omega)]
    refine pd_br0 (by omega) (by omega) (fun hb => nm_r (nI_1 i) ?_) (fun hb => And.intro (pk_in (fr + i) 60 (by omega) (nI_add _ _)) (And.intro (pk_in (b + i) 60 (by omega) (nI_add _ _)) (nm_r (e' := pd_pt rg (E q) fr b (i + 1)) ?_ (nm_r (nI_1 i) (ih (i + 1) m (by omega) (by omega))))))
    · rw [pd_pt2 hb]; exact ih (i + 1) m (by omega) (by omega)
    · rw [pd_uR (b + i) (nI_add _ _) (by omega), pd_rR (a := pd_pt rg (E q) fr b i) (fr + i) (nI_add _ _) (by omega), pd_pt1 hb (by omega)]
theorem pd_xca {post : SX → Prop} {u1 : SX} {q fr : Nat} (hq : q < 5) (hpr : pr q ≤ 3) (hd : d < 10) (hf : fr + pr q ≤ 6 * d) (hE : E q < 2 ^ pr q)
    (hgo : ∀ q' : SX → Prop, q' u1 → wpX_goTo q' (nI c, kn, re, wa, nI (d + 1), st, va, nI s, nI oc, pd_F pr, pd_F sz, pd_F op, pd_F pk, nu, lv, pd_F E, mt, pd_F NK, pd_F (pd_u ru d q), pd_F av, pd_pt (pd_z rg d 6) (E q) fr (6 * d) (pr q), ou) (nI 0)) (h : post u1) : wpX_call post (nI c, kn, re, wa, nI d, st, va, nI s, nI oc, pd_F pr, pd_F sz, pd_F op, pd_F pk, nu, lv, pd_F E, mt, pd_F NK, pd_F ru, pd_F av, rg, ou) (nI q) (nI fr) := by
  refine pd_xop hd hq ?_
  refine nm_r (e' := nI (6 * d)) ?_ (Exists.intro 5 ?_)
  · have e1 : nI (d + 1) - 1 = nI d := nI_pred d
    rw [e1, pd_x60]
  · have g := pd_xca_l (c := c) (d := d + 1) (s := s) (oc := oc) (pr := pr) (sz := sz) (op := op) (pk := pk) (E := E) (NK := NK) (ru := pd_u ru d q) (av := av) (nu := nu) (lv := lv) (mt := mt) (rg := pd_z rg d 6) (ou := ou) (kn := kn) (re := re) (wa := wa) (st := st) (va := va) hq hpr (b := 6 * d) (by omega) hf hE hgo h (pr q) 0 5 (by omega) (by omega)
    rw [pd_pt0] at g
    exact g
theorem pd_xpo {post : SX → Prop} {v : Int32} (ho : oc ≤ 1000) (h : post (nI c, kn, re, wa, nI d, st, va, nI s, nI (oc + 1), pd_F pr, pd_F sz, pd_F op, pd_F pk, nu, lv, pd_F E, mt, pd_F NK, pd_F ru, pd_F av, rg, if oc < 16 then upd ou oc v else ou)) : wpX_putOut post (nI c, kn, re, wa, nI d, st, va, nI s, nI oc, pd_F pr, pd_F sz, pd_F op, pd_F pk, nu, lv, pd_F E, mt, pd_F NK, pd_F ru, pd_F av, rg, ou) v := by
  refine pk_le 16 oc (fun h1 => nm_r (nI_1 oc) ?_) (fun h1 => And.intro (pk_in oc 16 h1) (nm_r (e' := upd ou oc v) (pd_uR oc rfl (by omega)) (nm_r (nI_1 oc) ?_)))
  · rw [if_neg (by omega)] at h; exact h
  · rw [if_pos h1] at h; exact h
/-! a round -/
theorem pd_xcy {post : SX → Prop} {u1 : SX} {p k : Nat} (G : pd_PG c pr sz op pk nu) (hd : d < 10) (hp : p < c) (hk : k < sz p) (ho : oc ≤ 1000)
    (K3 : op (8 * p + k) ≤ 3 → ∀ q : SX → Prop, q u1 → wpX_goTo q (nI c, kn, re, wa, nI (d + 1), st, va, nI s, nI oc, pd_F pr, pd_F sz, pd_F op, pd_F pk, nu, lv, pd_F E, mt, pd_F NK, pd_F ru, pd_F av, upd rg (6 * d + pk (8 * p + k) % 8) (pd_val op pk nu rg d (8 * p + k)), ou) (nI (k + 1)))
    (K4 : op (8 * p + k) = 4 → rg (6 * d + pk (8 * p + k) % 8) = 0 → ∀ q : SX → Prop, q u1 → wpX_goTo q (nI c, kn, re, wa, nI (d + 1), st, va, nI s, nI oc, pd_F pr, pd_F sz, pd_F op, pd_F pk, nu, lv, pd_F E, mt, pd_F NK, pd_F ru, pd_F av, rg, ou) (nI (pd_tg nu (8 * p + k))))
    (K4' : op (8 * p + k) = 4 → ¬ rg (6 * d + pk (8 * p + k) % 8) = 0 → ∀ q : SX → Prop, q u1 → wpX_goTo q (nI c, kn, re, wa, nI (d + 1), st, va, nI s, nI oc, pd_F pr, pd_F sz, pd_F op, pd_F pk, nu, lv, pd_F E, mt, pd_F NK, pd_F ru, pd_F av, rg, ou) (nI (k + 1)))
    (K5 : op (8 * p + k) = 5 → ∀ q : SX → Prop, q u1 → wpX_call q (nI c, kn, re, wa, nI (d + 1), st, va, nI s, nI oc, pd_F pr, pd_F sz, pd_F op, pd_F pk, nu, lv, pd_F E, mt, pd_F NK, pd_F ru, pd_F av, rg, ou) (nI (pd_tg nu (8 * p + k))) (nI (6 * d + pk (8 * p + k) / 8 % 8)))
    (K6 : op (8 * p + k) = 6 → ∀ q : SX → Prop, q u1 → wpX_goTo q (nI c, kn, re, wa, nI (d + 1), st, va, nI s, nI (oc + 1), pd_F pr, pd_F sz, pd_F op, pd_F pk, nu, lv, pd_F E, mt, pd_F NK, pd_F ru, pd_F av, rg, if oc < 16 then upd ou oc (rg (6 * d + pk (8 * p + k) % 8)) else ou) (nI (k + 1)))
    (K7 : op (8 * p + k) = 7 → ∀ q : SX → Prop, q u1 → wpX_close q (nI c, kn, re, wa, nI (d + 1), st, va, nI s, nI oc, pd_F pr, pd_F sz, pd_F op, pd_F pk, nu, lv, pd_F E, mt, pd_F NK, pd_F ru, pd_F av, rg, ou) (rg (6 * d + pk (8 * p + k) % 8)))
    (h : post u1) : wpX_carry post (nI c, kn, re, wa, nI (d + 1), st, va, nI s, nI oc, pd_F pr, pd_F sz, pd_F op, pd_F pk, nu, lv, pd_F E, mt, pd_F NK, pd_F ru, pd_F av, rg, ou) (nI (8 * p + k)) (nI k) := by
  have hc := pd_Gc G
  have hs := pd_Gsz G p
  have o7 := pd_Gop G (8 * p + k)
  have hpk := pd_Gpk G (8 * p + k)
  have ha := pd_Ga G (8 * p + k)
  have e1 : nI (d + 1) - 1 = nI d := nI_pred d
  have hu : ∀ q : SX → Prop, (∀ (f1 f2 f3 f4 f5 f6 f7 f8 f9 : Int32) (a1 a2 a3 a4 a5 a6 a7 a8 a9 a10 a11 a12 a13 : Nat → Int32), post (f1, f2, f3, f4, f5, f6, f7, f8, f9, a1, a2, a3, a4, a5, a6, a7, a8, a9, a10, a11, a12, a13) → q (f1, f2, f3, f4, f5, f6, f7, f8, f9, a1, a2, a3, a4, a5, a6, a7, a8, a9, a10, a11, a12, a13)) → q u1 := fun q hq => pd_tu hq u1 h
  have ii : vp_in (nI (8 * p + k)) 40 := vp_in_nI (by omega) (by omega)
  have ia : vp_in (nI (6 * d + pk (8 * p + k) % 8)) 60 := vp_in_nI (by omega) (by omega)
  have eo : pd_F op (nI (8 * p + k)).toNatClampNeg = nI (op (8 * p + k)) := pd_rF _ rfl (by omega)
  have er : rg (nI (6 * d + pk (8 * p + k) % 8)).toNatClampNeg = rg (6 * d + pk (8 * p + k) % 8) := pd_rR _ rfl (by omega)
  refine nm_r (e' := nI (6 * d)) (by rw [e1, pd_x60]) (And.intro ii (nm_r (e' := nI (6 * d + pk (8 * p + k) % 8)) (by rw [pd_rF _ rfl (by omega), pd_oa hpk, nI_add]) (And.intro ii (pk_lt 3 (op (8 * p + k)) (fun h3 => And.intro ii (pk_eq (op (8 * p + k)) 4 (fun h4 => And.intro ia (br_c (fun hz => And.intro ii ?_) (fun hz => ?_))) (fun h4 => And.intro ii (pk_eq (op (8 * p + k)) 5 (fun h5 => And.intro ii (And.intro ii ?_)) (fun h5 => And.intro ii (pk_eq (op (8 * p + k)) 6 (fun h6 => And.intro ia ?_) (fun h6 => And.intro ia ?_) eo)) eo)) eo)) (fun h3 => ?_) rfl eo))))
  · rw [er] at hz
    rw [pd_rR (a := nu) (8 * p + k) rfl (by omega), (pd_G4 G h4).1]
    exact K4 h4 hz _ (hu _ (fun _ _ _ _ _ _ _ _ _ _ _ _ _ _ _ _ _ _ _ _ _ _ h => h))
  · rw [er] at hz
    rw [nI_1]
    exact K4' h4 hz _ (hu _ (fun _ _ _ _ _ _ _ _ _ _ _ _ _ _ _ _ _ _ _ _ _ _ h => h))
  · rw [pd_rR (a := nu) (8 * p + k) rfl (by omega), (pd_G5 G hp hk h5).1, pd_rF (8 * p + k) rfl (by omega), pd_ob hpk, nI_add]
    exact K5 h5 _ (hu _ (fun _ _ _ _ _ _ _ _ _ _ _ _ _ _ _ _ _ _ _ _ _ _ h => h))
  · rw [er]
    refine pd_xpo ho ?_
    rw [nI_1]
    exact K6 h6 _ (hu _ (fun _ _ _ _ _ _ _ _ _ _ _ _ _ _ _ _ _ _ _ _ _ _ h => h))
  · rw [er]
    exact K7 (by omega) _ (hu _ (fun _ _ _ _ _ _ _ _ _ _ _ _ _ _ _ _ _ _ _ _ _ _ h => h))
  · refine pd_xwk G (by omega) hd h3 ?_
    rw [nI_1]
    exact K3 h3 _ (hu _ (fun _ _ _ _ _ _ _ _ _ _ _ _ _ _ _ _ _ _ _ _ _ _ h => h))
theorem pd_xad {post : SX → Prop} {u1 : SX} {p k : Nat} (hd : d < 10) (hp : ru d = p) (hk : av d = k) (hp5 : p < 5) (hk8 : k ≤ 8) (hsz : sz p ≤ 8) (hop : ∀ i, op i ≤ 7) (hs : s ≤ 150)
    (K0 : sz p ≤ k → ∀ q : SX → Prop, q u1 → wpX_close q (nI c, kn, re, wa, nI (d + 1), st, va, nI s, nI oc, pd_F pr, pd_F sz, pd_F op, pd_F pk, nu, lv, pd_F E, mt, pd_F NK, pd_F ru, pd_F av, rg, ou) 0)
    (K1 : k < sz p → 150 ≤ s → ∀ q : SX → Prop, q u1 → q (nI c, kn, re, wa, nI (d + 1), 2, va, nI s, nI oc, pd_F pr, pd_F sz, pd_F op, pd_F pk, nu, lv, pd_F E, mt, pd_F NK, pd_F ru, pd_F av, rg, ou))
    (K2 : k < sz p → s < 150 → op (8 * p + k) = 5 → 9 ≤ d → ∀ q : SX → Prop, q u1 → q (nI c, kn, re, wa, nI (d + 1), 3, va, nI s, nI oc, pd_F pr, pd_F sz, pd_F op, pd_F pk, nu, lv, pd_F E, mt, pd_F NK, pd_F ru, pd_F av, rg, ou))
    (K3 : k < sz p → s < 150 → (op (8 * p + k) = 5 → d < 9) → ∀ q : SX → Prop, q u1 → wpX_carry q (nI c, kn, re, wa, nI (d + 1), st, va, nI (s + 1), nI oc, pd_F pr, pd_F sz, pd_F op, pd_F pk, nu, lv, pd_F E, mt, pd_F NK, pd_F ru, pd_F av, rg, ou) (nI (8 * p + k)) (nI k))
    (h : post u1) : wpX_advance post (nI c, kn, re, wa, nI (d + 1), st, va, nI s, nI oc, pd_F pr, pd_F sz, pd_F op, pd_F pk, nu, lv, pd_F E, mt, pd_F NK, pd_F ru, pd_F av, rg, ou) := by
  have e1 : nI (d + 1) - 1 = nI d := nI_pred d
  have o7 := hop (8 * p + k)
  have id : vp_in (nI (d + 1) - 1) 10 := pk_in d 10 hd e1
  have hu : ∀ q : SX → Prop, (∀ (f1 f2 f3 f4 f5 f6 f7 f8 f9 : Int32) (a1 a2 a3 a4 a5 a6 a7 a8 a9 a10 a11 a12 a13 : Nat → Int32), post (f1, f2, f3, f4, f5, f6, f7, f8, f9, a1, a2, a3, a4, a5, a6, a7, a8, a9, a10, a11, a12, a13) → q (f1, f2, f3, f4, f5, f6, f7, f8, f9, a1, a2, a3, a4, a5, a6, a7, a8, a9, a10, a11, a12, a13)) → q u1 := fun q hq => pd_tu hq u1 h
  refine And.intro id (nm_r (e' := nI p) ((pd_rF d e1 (by omega)).trans (congrArg nI hp)) (And.intro id (nm_r (e' := nI k) ((pd_rF d e1 (by omega)).trans (congrArg nI hk)) (And.intro (pk_in p 5 hp5) (pk_lt k (sz p) (fun h => nm_r (e' := nI (8 * p + k)) (pd_x8 p k) (pk_lt s 150 (fun h1 => And.intro (pk_in (8 * p + k) 40 (by omega)) (pk_eq (op (8 * p + k)) 5 (fun h5 => pk_lt (d + 1) 10 (fun h2 => nm_r (nI_1 s) ?_) (fun h2 => K2 h h1 h5 (by omega) _ ‹post u1›)) (fun h5 => nm_r (nI_1 s) ?_) (pd_rF _ rfl (by omega)))) (fun h1 => K1 h h1 _ ‹post u1›))) (fun h => ?_) rfl (pd_rF p rfl (by omega)))))))
  · exact K3 h h1 (fun _ => by omega) _ (hu _ (fun _ _ _ _ _ _ _ _ _ _ _ _ _ _ _ _ _ _ _ _ _ _ h => h))
  · exact K3 h h1 (fun z => absurd z h5) _ (hu _ (fun _ _ _ _ _ _ _ _ _ _ _ _ _ _ _ _ _ _ _ _ _ _ h => h))
  · exact K0 h _ (hu _ (fun _ _ _ _ _ _ _ _ _ _ _ _ _ _ _ _ _ _ _ _ _ _ h => h))
end
end
section
/-! Y: the walk of one turn of a run -/
def pd_py (rq : Nat → Int32) (n fr b j : Nat) : Nat → Int32 := fun i => if b ≤ i ∧ i < b + j then (if i - b < n then rq (fr + (i - b)) else 0) else rq i
theorem pd_py0 (rq : Nat → Int32) (n fr b : Nat) : pd_py rq n fr b 0 = rq := by
  funext j
  exact if_neg (by omega)
theorem pd_py1 {rq : Nat → Int32} {n fr b j : Nat} (h : j < n) (hf : fr + j < b) : upd (pd_py rq n fr b j) (b + j) (pd_py rq n fr b j (fr + j)) = pd_py rq n fr b (j + 1) := by
  have e1 : pd_py rq n fr b j (fr + j) = rq (fr + j) := if_neg (by omega)
  rw [e1]
  funext i
  show (if i = b + j then rq (fr + j) else if b ≤ i ∧ i < b + j then (if i - b < n then rq (fr + (i - b)) else 0) else rq i) = (if b ≤ i ∧ i < b + (j + 1) then (if i - b < n then rq (fr + (i - b)) else 0) else rq i)
  by_cases h1 : i = b + j
  · have h2 : i - b = j := by omega
    rw [if_pos h1, h2, if_pos (by omega), if_pos h]
  · rw [if_neg h1]
    by_cases g : b ≤ i ∧ i < b + j
    · rw [if_pos g, if_pos (show b ≤ i ∧ i < b + (j + 1) by omega)]
    · rw [if_neg g, if_neg (show ¬ (b ≤ i ∧ i < b + (j + 1)) by omega)]
theorem pd_py2 {rq : Nat → Int32} {n fr b j : Nat} (h : n ≤ j) : upd (pd_py rq n fr b j) (b + j) 0 = pd_py rq n fr b (j + 1) := by
  funext i
  show (if i = b + j then 0 else if b ≤ i ∧ i < b + j then (if i - b < n then rq (fr + (i - b)) else 0) else rq i) = (if b ≤ i ∧ i < b + (j + 1) then (if i - b < n then rq (fr + (i - b)) else 0) else rq i)
  by_cases h1 : i = b + j
  · have h2 : i - b = j := by omega
    rw [if_pos h1, h2, if_pos (by omega), if_neg (by omega)]
  · rw [if_neg h1]
    by_cases g : b ≤ i ∧ i < b + j
    · rw [if_pos g, if_pos (show b ≤ i ∧ i < b + (j + 1) by omega)]
    · rw [if_neg g, if_neg (show ¬ (b ≤ i ∧ i < b + (j + 1)) by omega)]
section
variable {c d s oc : Nat} {pr sz op pk po ps : Nat → Nat} {nu lv wn rq ou : Nat → Int32} {ca va : Int32}
theorem pd_yen0 {post : SY → Prop} {v : Int32} (h : post (nI c, 1, v, nI s, nI oc, nI 0, pd_F pr, pd_F sz, pd_F op, pd_F (pd_qa pk), pd_F (pd_qb pk), pd_F (pd_qc pk), nu, ou, pd_F po, pd_F ps, rq, lv, wn)) : wpY_end post (nI c, ca, va, nI s, nI oc, nI 1, pd_F pr, pd_F sz, pd_F op, pd_F (pd_qa pk), pd_F (pd_qb pk), pd_F (pd_qc pk), nu, ou, pd_F po, pd_F ps, rq, lv, wn) v :=
  nm_r (e' := nI 0) (nI_pred 0) (br_t rfl h)
theorem pd_yen1 {post : SY → Prop} {v : Int32} {p k : Nat} (ha : ∀ i, pk i % 8 < 6) (hd : d + 2 ≤ 10) (hp : po d = p) (hk : ps d = k) (hp5 : p < 5) (hk8 : k < 8)
    (h : post (nI c, ca, va, nI s, nI oc, nI (d + 1), pd_F pr, pd_F sz, pd_F op, pd_F (pd_qa pk), pd_F (pd_qb pk), pd_F (pd_qc pk), nu, ou, pd_F po, pd_F (pd_u ps d (k + 1)), upd rq (6 * d + pk (8 * p + k) % 8) v, lv, wn)) : wpY_end post (nI c, ca, va, nI s, nI oc, nI (d + 2), pd_F pr, pd_F sz, pd_F op, pd_F (pd_qa pk), pd_F (pd_qb pk), pd_F (pd_qc pk), nu, ou, pd_F po, pd_F ps, rq, lv, wn) v := by
  have a6 := ha (8 * p + k)
  have id : vp_in (nI d) 10 := pk_in d 10 (by omega)
  have ek : pd_F ps (nI d).toNatClampNeg = nI k := (pd_rF d rfl (by omega)).trans (congrArg nI hk)
  have ea : 6 * nI d + pd_F (pd_qa pk) (nI (8 * p + k)).toNatClampNeg = nI (6 * d + pk (8 * p + k) % 8) := by
    rw [pd_ra _ rfl (by omega), pd_y6]
  refine nm_r (e' := nI (d + 1)) (nI_pred (d + 1)) (br_f (nI_ne0 (by omega) (by omega)) (nm_r (e' := nI d) (nI_pred d) (And.intro id (And.intro id (nm_r (e' := nI (8 * p + k)) ?_ (And.intro (pk_in (8 * p + k) 40 (by omega)) (And.intro (pk_in (6 * d + pk (8 * p + k) % 8) 60 (by omega) ea) (nm_r (e' := upd rq (6 * d + pk (8 * p + k) % 8) v) (pd_uR _ ea (by omega)) (And.intro id (And.intro id (nm_r (e' := pd_F (pd_u ps d (k + 1))) (pd_uF d (k + 1) rfl (by omega) (by rw [ek, nI_1])) h)))))))))))
  rw [ek, pd_rF d rfl (by omega), hp, pd_y8]
theorem pd_yca_l {post : SY → Prop} {i f t : Nat} (hi : i < 40) (hf : f = d) (hd : d < 9) (ht : t < 5) (hpr : pr t ≤ 3) (hb : pk i / 8 % 8 + pr t ≤ 6)
    (K : post (nI c, ca, va, nI s, nI oc, nI (d + 2), pd_F pr, pd_F sz, pd_F op, pd_F (pd_qa pk), pd_F (pd_qb pk), pd_F (pd_qc pk), nu, ou, pd_F po, pd_F ps, pd_py rq (pr t) (6 * f + pk i / 8 % 8) (6 * (d + 1)) 6, lv, wn)) :
    ∀ j x n, x + j = 6 → j < n → wY_call_30 post (nI i) (nI f) (nI t) (nI c) ca va (nI s) (nI oc) (nI (d + 1)) n (nI x) (pd_F pr) (pd_F sz) (pd_F op) (pd_F (pd_qa pk)) (pd_F (pd_qb pk)) (pd_F (pd_qc pk)) nu ou (pd_F po) (pd_F ps) (pd_py rq (pr t) (6 * f + pk i / 8 % 8) (6 * (d + 1)) x) lv wn := by
  intro j
  induction j with
  | zero =>
    intro x n hx hn
    obtain ⟨m, rfl⟩ : ∃ m, n = m + 1 := ⟨n - 1, by omega⟩
    have e : x = 6 := by omega
    subst e
    exact pk_le 6 6 (fun _ => nm_r (nI_1 (d + 1)) K) (fun z => absurd z (by omega))
  | succ j ih =>
    intro x n hx hn
    obtain ⟨m, rfl⟩ : ∃ m, n = m + 1 := ⟨n - 1, by omega⟩
    have e1 : 6 * nI (d + 1) + nI x = nI (6 * (d + 1) + x) := pd_y6 _ _
    have e2 : 6 * nI f + pd_F (pd_qb pk) (nI i).toNatClampNeg + nI x = nI (6 * f + pk i / 8 % 8 + x) := by
      rw [pd_rb i rfl (by omega), pd_y6, nI_add]
    refine pk_le 6 x (fun z => absurd z (by omega)) (fun _ => And.intro (pk_in t 5 ht) (pk_le (pr t) x (fun h => And.intro (pk_in (6 * (d + 1) + x) 60 (by omega) e1) (nm_r (e' := pd_py rq (pr t) (6 * f + pk i / 8 % 8) (6 * (d + 1)) (x + 1)) ?_ (nm_r (nI_1 x) (ih (x + 1) m (by omega) (by omega))))) (fun h => And.intro (pk_in i 40 hi) (And.intro (pk_in (6 * f + pk i / 8 % 8 + x) 60 (by omega) e2) (And.intro (pk_in (6 * (d + 1) + x) 60 (by omega) e1) (nm_r (e' := pd_py rq (pr t) (6 * f + pk i / 8 % 8) (6 * (d + 1)) (x + 1)) ?_ (nm_r (nI_1 x) (ih (x + 1) m (by omega) (by omega))))))) (pd_rF t rfl (by omega))))
    · rw [pd_uR _ e1 (by omega), pd_py2 h]
    · rw [pd_uR _ e1 (by omega), pd_rR (a := pd_py rq (pr t) (6 * f + pk i / 8 % 8) (6 * (d + 1)) x) _ e2 (by omega), pd_py1 h (by omega)]
theorem pd_yca {post : SY → Prop} {i t : Nat} (hi : i < 40) (hd : d < 9) (ht : t < 5) (hpr : pr t ≤ 3) (hb : pk i / 8 % 8 + pr t ≤ 6) (hn : nu i = nI t)
    (K : post (nI c, ca, va, nI s, nI oc, nI (d + 2), pd_F pr, pd_F sz, pd_F op, pd_F (pd_qa pk), pd_F (pd_qb pk), pd_F (pd_qc pk), nu, ou, pd_F (pd_u po (d + 1) t), pd_F (pd_u ps (d + 1) 0), pd_py rq (pr t) (6 * d + pk i / 8 % 8) (6 * (d + 1)) 6, lv, wn)) : wpY_call post (nI c, ca, va, nI s, nI oc, nI (d + 1), pd_F pr, pd_F sz, pd_F op, pd_F (pd_qa pk), pd_F (pd_qb pk), pd_F (pd_qc pk), nu, ou, pd_F po, pd_F ps, rq, lv, wn) (nI i) (nI d) := by
  refine And.intro (pk_in i 40 hi) (nm_r (e' := nI t) ((pd_rR i rfl (by omega)).trans hn) (And.intro (pk_in (d + 1) 10 (by omega)) (nm_r (e' := pd_F (pd_u po (d + 1) t)) (pd_uF _ _ rfl (by omega) rfl) (And.intro (pk_in (d + 1) 10 (by omega)) (nm_r (e' := pd_F (pd_u ps (d + 1) 0)) (pd_uF _ _ rfl (by omega) rfl) (Exists.intro 7 ?_))))))
  have g := pd_yca_l (c := c) (d := d) (s := s) (oc := oc) (pr := pr) (sz := sz) (op := op) (pk := pk) (po := pd_u po (d + 1) t) (ps := pd_u ps (d + 1) 0) (nu := nu) (lv := lv) (wn := wn) (rq := rq) (ou := ou) (ca := ca) (va := va) (f := d) hi rfl hd ht hpr hb K 6 0 7 (by omega) (by omega)
  rw [pd_py0] at g
  exact g
theorem pd_y253 {post : SY → Prop} {i x7 : Nat} {x4 : Int32} (hd : d < 10) (hop : op i ≤ 7) (h5 : op i ≠ 5) (h7 : op i ≠ 7) (h : post (nI c, ca, va, nI s, nI oc, nI (d + 1), pd_F pr, pd_F sz, pd_F op, pd_F (pd_qa pk), pd_F (pd_qb pk), pd_F (pd_qc pk), nu, ou, pd_F po, pd_F (pd_u ps d x7), rq, lv, wn)) : wY_carryOut_253 post (nI i) (nI d) (nI (op i)) x4 (nI x7) (nI c) ca va (nI s) (nI oc) (nI (d + 1)) (pd_F pr) (pd_F sz) (pd_F op) (pd_F (pd_qa pk)) (pd_F (pd_qb pk)) (pd_F (pd_qc pk)) nu ou (pd_F po) (pd_F ps) rq lv wn :=
  pk_eq (op i) 5 (fun z => absurd z h5) (fun _ => pk_eq (op i) 7 (fun z => absurd z h7) (fun _ => And.intro (pk_in d 10 hd) (nm_r (e' := pd_F (pd_u ps d x7)) (pd_uF _ _ rfl (by omega) rfl) h)))
/-- the instruction at cell i of the newest activation d, which stands at k -/
theorem pd_yco {post : SY → Prop} {p k : Nat} {v1 : SY} (G : pd_PG c pr sz op pk nu) (hp : p < c) (hk : k < sz p) (hd : d < 10) (hps : ps d = k) (ho : oc ≤ 1000) (hd5 : op (8 * p + k) = 5 → d < 9)
    (K3 : op (8 * p + k) ≤ 3 → ∀ q : SY → Prop, q v1 → q (nI c, ca, va, nI s, nI oc, nI (d + 1), pd_F pr, pd_F sz, pd_F op, pd_F (pd_qa pk), pd_F (pd_qb pk), pd_F (pd_qc pk), nu, ou, pd_F po, pd_F (pd_u ps d (k + 1)), upd rq (6 * d + pk (8 * p + k) % 8) (pd_val op pk nu rq d (8 * p + k)), lv, wn))
    (K4 : op (8 * p + k) = 4 → rq (6 * d + pk (8 * p + k) % 8) = 0 → ∀ q : SY → Prop, q v1 → q (nI c, ca, va, nI s, nI oc, nI (d + 1), pd_F pr, pd_F sz, pd_F op, pd_F (pd_qa pk), pd_F (pd_qb pk), pd_F (pd_qc pk), nu, ou, pd_F po, pd_F (pd_u ps d (pd_tg nu (8 * p + k))), rq, lv, wn))
    (K4' : op (8 * p + k) = 4 → ¬ rq (6 * d + pk (8 * p + k) % 8) = 0 → ∀ q : SY → Prop, q v1 → q (nI c, ca, va, nI s, nI oc, nI (d + 1), pd_F pr, pd_F sz, pd_F op, pd_F (pd_qa pk), pd_F (pd_qb pk), pd_F (pd_qc pk), nu, ou, pd_F po, pd_F (pd_u ps d (k + 1)), rq, lv, wn))
    (K5 : op (8 * p + k) = 5 → ∀ q : SY → Prop, q v1 → q (nI c, ca, va, nI s, nI oc, nI (d + 2), pd_F pr, pd_F sz, pd_F op, pd_F (pd_qa pk), pd_F (pd_qb pk), pd_F (pd_qc pk), nu, ou, pd_F (pd_u po (d + 1) (pd_tg nu (8 * p + k))), pd_F (pd_u ps (d + 1) 0), pd_py rq (pr (pd_tg nu (8 * p + k))) (6 * d + pk (8 * p + k) / 8 % 8) (6 * (d + 1)) 6, lv, wn))
    (K6 : op (8 * p + k) = 6 → ∀ q : SY → Prop, q v1 → q (nI c, ca, va, nI s, nI (oc + 1), nI (d + 1), pd_F pr, pd_F sz, pd_F op, pd_F (pd_qa pk), pd_F (pd_qb pk), pd_F (pd_qc pk), nu, if oc < 16 then upd ou oc (rq (6 * d + pk (8 * p + k) % 8)) else ou, pd_F po, pd_F (pd_u ps d (k + 1)), rq, lv, wn))
    (K7 : op (8 * p + k) = 7 → ∀ q : SY → Prop, q v1 → wpY_end q (nI c, ca, va, nI s, nI oc, nI (d + 1), pd_F pr, pd_F sz, pd_F op, pd_F (pd_qa pk), pd_F (pd_qb pk), pd_F (pd_qc pk), nu, ou, pd_F po, pd_F ps, rq, lv, wn) (rq (6 * d + pk (8 * p + k) % 8)))
    (h : post v1) : wpY_carryOut post (nI c, ca, va, nI s, nI oc, nI (d + 1), pd_F pr, pd_F sz, pd_F op, pd_F (pd_qa pk), pd_F (pd_qb pk), pd_F (pd_qc pk), nu, ou, pd_F po, pd_F ps, rq, lv, wn) (nI (8 * p + k)) (nI d) := by
  have hc := pd_Gc G
  have hs := pd_Gsz G p
  have o7 := pd_Gop G (8 * p + k)
  have ha := pd_Ga G (8 * p + k)
  have hu : ∀ q : SY → Prop, (∀ (f1 f2 f3 f4 f5 f6 : Int32) (a1 a2 a3 a4 a5 a6 a7 a8 a9 a10 a11 a12 a13 : Nat → Int32), post (f1, f2, f3, f4, f5, f6, a1, a2, a3, a4, a5, a6, a7, a8, a9, a10, a11, a12, a13) → q (f1, f2, f3, f4, f5, f6, a1, a2, a3, a4, a5, a6, a7, a8, a9, a10, a11, a12, a13)) → q v1 := fun q hq => by
    obtain ⟨f1, f2, f3, f4, f5, f6, a1, a2, a3, a4, a5, a6, a7, a8, a9, a10, a11, a12, a13⟩ := v1
    exact hq _ _ _ _ _ _ _ _ _ _ _ _ _ _ _ _ _ _ _ h
  have ii : vp_in (nI (8 * p + k)) 40 := vp_in_nI (by omega) (by omega)
  have ia : vp_in (nI (6 * d + pk (8 * p + k) % 8)) 60 := vp_in_nI (by omega) (by omega)
  have id : vp_in (nI d) 10 := pk_in d 10 hd
  have ek : pd_F ps (nI d).toNatClampNeg + 1 = nI (k + 1) := by rw [pd_rF d rfl (by omega), hps, nI_1]
  have er : rq (nI (6 * d + pk (8 * p + k) % 8)).toNatClampNeg = rq (6 * d + pk (8 * p + k) % 8) := pd_rR _ rfl (by omega)
  have eu : ∀ x : Int32, upd rq (nI (6 * d + pk (8 * p + k) % 8)).toNatClampNeg x = upd rq (6 * d + pk (8 * p + k) % 8) x := fun x => pd_uR _ rfl (by omega)
  -- the walk behind the reading of b and c
  have h82 : ∀ x5 z0 : Int32, (1 ≤ op (8 * p + k) → op (8 * p + k) ≤ 3 → x5 = rq (6 * d + pk (8 * p + k) / 8 % 8) ∧ z0 = rq (6 * d + pk (8 * p + k) / 64)) → wY_carryOut_82 post (nI (8 * p + k)) (nI d) (nI (op (8 * p + k))) (nI (6 * d + pk (8 * p + k) % 8)) x5 z0 (nI c) ca va (nI s) (nI oc) (nI (d + 1)) (pd_F pr) (pd_F sz) (pd_F op) (pd_F (pd_qa pk)) (pd_F (pd_qb pk)) (pd_F (pd_qc pk)) nu ou (pd_F po) (pd_F ps) rq lv wn := by
    intro x5 z0 hbc
    have K3' := K3
    unfold pd_val at K3'
    refine And.intro id (nm_r (e' := nI (k + 1)) ek (pk_eq (op (8 * p + k)) 0 (fun h0 => ?_) (fun h0 => pk_eq (op (8 * p + k)) 1 (fun h1 => ?_) (fun h1 => pk_eq (op (8 * p + k)) 2 (fun h2 => ?_) (fun h2 => pk_eq (op (8 * p + k)) 3 (fun h3 => ?_) (fun h3 => pk_eq (op (8 * p + k)) 4 (fun h4 => ?_) (fun h4 => pk_eq (op (8 * p + k)) 6 (fun h6 => ?_) (fun h6 => pk_eq (op (8 * p + k)) 5 (fun h5 => ?_) (fun h5 => pk_eq (op (8 * p + k)) 7 (fun h7 => ?_) (fun h7 => absurd h7 (by omega)))))))))))
    · rw [if_pos h0] at K3'
      refine And.intro ii (And.intro ia (nm_r (e' := upd rq (6 * d + pk (8 * p + k) % 8) (nu (8 * p + k))) ?_ (pd_y253 hd o7 (by omega) (by omega) (K3' (by omega) _ h))))
      rw [eu, pd_rR (a := nu) (8 * p + k) rfl (by omega)]
    · obtain ⟨rfl, rfl⟩ := hbc (by omega) (by omega)
      rw [if_neg h0, if_pos h1] at K3'
      exact And.intro ia (nm_r (eu _) (pd_y253 hd o7 (by omega) (by omega) (K3' (by omega) _ h)))
    · obtain ⟨rfl, rfl⟩ := hbc (by omega) (by omega)
      rw [if_neg h0, if_neg h1, if_pos h2] at K3'
      exact And.intro ia (nm_r (eu _) (pd_y253 hd o7 (by omega) (by omega) (K3' (by omega) _ h)))
    · obtain ⟨rfl, rfl⟩ := hbc (by omega) (by omega)
      rw [if_neg h0, if_neg h1, if_neg h2] at K3'
      refine br_c (fun hz => ?_) (fun hz => ?_)
      · rw [if_pos hz] at K3'
        exact And.intro ia (nm_r (eu _) (pd_y253 hd o7 (by omega) (by omega) (K3' (by omega) _ h)))
      · rw [if_neg hz] at K3'
        exact And.intro ia (nm_r (eu _) (pd_y253 hd o7 (by omega) (by omega) (K3' (by omega) _ h)))
    · refine And.intro ia ?_
      rw [er]
      refine br_c (fun hz => And.intro ii ?_) (fun hz => pd_y253 hd o7 (by omega) (by omega) (K4' h4 hz _ h))
      rw [pd_rR (a := nu) (8 * p + k) rfl (by omega), (pd_G4 G h4).1]
      exact pd_y253 hd o7 (by omega) (by omega) (K4 h4 hz _ h)
    · refine pk_le 16 oc (fun h1 => nm_r (nI_1 oc) (pd_y253 hd o7 (by omega) (by omega) ?_)) (fun h1 => And.intro ia (And.intro (pk_in oc 16 h1) (nm_r (e' := upd ou oc (rq (6 * d + pk (8 * p + k) % 8))) ?_ (nm_r (nI_1 oc) (pd_y253 hd o7 (by omega) (by omega) ?_)))))
      · have z := K6 h6 _ h
        rw [if_neg (by omega)] at z; exact z
      · rw [er, pd_uR oc rfl (by omega)]
      · have z := K6 h6 _ h
        rw [if_pos h1] at z; exact z
    · have g := pd_G5 G hp hk h5
      have hpr := pd_Gpr G (pd_tg nu (8 * p + k))
      exact pd_yca (by omega) (hd5 h5) (by omega) hpr g.2.2 g.1 (K5 h5 _ (hu _ (fun _ _ _ _ _ _ _ _ _ _ _ _ _ _ _ _ _ _ _ h => h)))
    · refine And.intro ia ?_
      rw [er]
      exact K7 h7 _ (hu _ (fun _ _ _ _ _ _ _ _ _ _ _ _ _ _ _ _ _ _ _ h => h))
  refine And.intro ii (nm_r (e' := nI (op (8 * p + k))) (pd_rF _ rfl (by omega)) (And.intro ii (nm_r (e' := nI (6 * d + pk (8 * p + k) % 8)) (by rw [pd_ra _ rfl (by omega), pd_y6]) (pk_lt (op (8 * p + k)) 1 (fun h1 => pk_lt (op (8 * p + k)) 1 (fun _ => h82 _ _ (fun a b => absurd a (by omega))) (fun z => absurd z (by omega))) (fun h1 => pk_lt 3 (op (8 * p + k)) (fun h3 => pk_lt (op (8 * p + k)) 1 (fun z => absurd z (by omega)) (fun _ => pk_lt 3 (op (8 * p + k)) (fun _ => h82 _ _ (fun a b => absurd b (by omega))) (fun z => absurd z (by omega)))) (fun h3 => ?_))))))
  have g := pd_Gbc G h1 h3
  have eb : 6 * nI d + pd_F (pd_qb pk) (nI (8 * p + k)).toNatClampNeg = nI (6 * d + pk (8 * p + k) / 8 % 8) := by
    rw [pd_rb _ rfl (by omega), pd_y6]
  have ec : 6 * nI d + pd_F (pd_qc pk) (nI (8 * p + k)).toNatClampNeg = nI (6 * d + pk (8 * p + k) / 64) := by
    rw [pd_rc _ rfl (by omega), pd_y6]
  exact And.intro ii (And.intro (pk_in _ 60 (by omega) eb) (pk_lt (op (8 * p + k)) 1 (fun z => absurd z (by omega)) (fun _ => pk_lt 3 (op (8 * p + k)) (fun z => absurd z (by omega)) (fun _ => And.intro ii (And.intro (pk_in _ 60 (by omega) ec) (h82 _ _ (fun _ _ => ⟨pd_rR _ eb (by omega), pd_rR _ ec (by omega)⟩)))))))
theorem pd_ylk {post : SY → Prop} {p k : Nat} {v1 : SY} (hd : d < 10) (hp : po d = p) (hk : ps d = k) (hp5 : p < 5) (hk8 : k ≤ 8) (hsz : sz p ≤ 8) (hop : ∀ i, op i ≤ 7) (hs : s ≤ 150)
    (K0 : sz p ≤ k → ∀ q : SY → Prop, q v1 → wpY_end q (nI c, ca, va, nI s, nI oc, nI (d + 1), pd_F pr, pd_F sz, pd_F op, pd_F (pd_qa pk), pd_F (pd_qb pk), pd_F (pd_qc pk), nu, ou, pd_F po, pd_F ps, rq, lv, wn) 0)
    (K1 : k < sz p → 150 ≤ s → ∀ q : SY → Prop, q v1 → q (nI c, 2, va, nI s, nI oc, nI (d + 1), pd_F pr, pd_F sz, pd_F op, pd_F (pd_qa pk), pd_F (pd_qb pk), pd_F (pd_qc pk), nu, ou, pd_F po, pd_F ps, rq, lv, wn))
    (K2 : k < sz p → s < 150 → op (8 * p + k) = 5 → 9 ≤ d → ∀ q : SY → Prop, q v1 → q (nI c, 3, va, nI s, nI oc, nI (d + 1), pd_F pr, pd_F sz, pd_F op, pd_F (pd_qa pk), pd_F (pd_qb pk), pd_F (pd_qc pk), nu, ou, pd_F po, pd_F ps, rq, lv, wn))
    (K3 : k < sz p → s < 150 → (op (8 * p + k) = 5 → d < 9) → ∀ q : SY → Prop, q v1 → wpY_carryOut q (nI c, ca, va, nI (s + 1), nI oc, nI (d + 1), pd_F pr, pd_F sz, pd_F op, pd_F (pd_qa pk), pd_F (pd_qb pk), pd_F (pd_qc pk), nu, ou, pd_F po, pd_F ps, rq, lv, wn) (nI (8 * p + k)) (nI d))
    (h : post v1) : wpY_look post (nI c, ca, va, nI s, nI oc, nI (d + 1), pd_F pr, pd_F sz, pd_F op, pd_F (pd_qa pk), pd_F (pd_qb pk), pd_F (pd_qc pk), nu, ou, pd_F po, pd_F ps, rq, lv, wn) := by
  have o7 := hop (8 * p + k)
  have id : vp_in (nI d) 10 := pk_in d 10 hd
  have hu : ∀ q : SY → Prop, (∀ (f1 f2 f3 f4 f5 f6 : Int32) (a1 a2 a3 a4 a5 a6 a7 a8 a9 a10 a11 a12 a13 : Nat → Int32), post (f1, f2, f3, f4, f5, f6, a1, a2, a3, a4, a5, a6, a7, a8, a9, a10, a11, a12, a13) → q (f1, f2, f3, f4, f5, f6, a1, a2, a3, a4, a5, a6, a7, a8, a9, a10, a11, a12, a13)) → q v1 := fun q hq => by
    obtain ⟨f1, f2, f3, f4, f5, f6, a1, a2, a3, a4, a5, a6, a7, a8, a9, a10, a11, a12, a13⟩ := v1
    exact hq _ _ _ _ _ _ _ _ _ _ _ _ _ _ _ _ _ _ _ h
  have e8 := pd_y8 p k
  refine nm_r (e' := nI d) (nI_pred d) (And.intro id (nm_r (e' := nI p) ((pd_rF d rfl (by omega)).trans (congrArg nI hp)) (And.intro id (nm_r (e' := nI k) ((pd_rF d rfl (by omega)).trans (congrArg nI hk)) (br_f (nI_pos (by omega)) (And.intro (pk_in p 5 hp5) (pk_lt k (sz p) (fun h => pk_lt s 150 (fun h1 => And.intro (pk_in (8 * p + k) 40 (by omega) e8) (pk_eq (op (8 * p + k)) 5 (fun h5 => pk_lt (d + 1) 10 (fun h2 => nm_r (nI_1 s) ?_) (fun h2 => K2 h h1 h5 (by omega) _ ‹post v1›)) (fun h5 => nm_r (nI_1 s) ?_) (pd_rF _ e8 (by omega)))) (fun h1 => K1 h h1 _ ‹post v1›)) (fun h => ?_) rfl (pd_rF p rfl (by omega)))))))))
  · rw [e8]
    exact K3 h h1 (fun _ => by omega) _ (hu _ (fun _ _ _ _ _ _ _ _ _ _ _ _ _ _ _ _ _ _ _ h => h))
  · rw [e8]
    exact K3 h h1 (fun z => absurd z h5) _ (hu _ (fun _ _ _ _ _ _ _ _ _ _ _ _ _ _ _ _ _ _ _ h => h))
  · exact K0 h _ (hu _ (fun _ _ _ _ _ _ _ _ _ _ _ _ _ _ _ _ _ _ _ h => h))
end
end
section
/-! both sides at the heads of their rounds: one outcome -/
def pd_rx (post : Int32 → SX → Prop) (n : Nat) (x : Int32) : SX → Prop
  | (f1, f2, f3, f4, f5, f6, f7, f8, f9, a1, a2, a3, a4, a5, a6, a7, a8, a9, a10, a11, a12, a13) => wX_run_113 post n x f1 f2 f3 f4 f5 f6 f7 f8 f9 a1 a2 a3 a4 a5 a6 a7 a8 a9 a10 a11 a12 a13
def pd_ry (post : Int32 → SY → Prop) (n : Nat) (x : Int32) : SY → Prop
  | (f1, f2, f3, f4, f5, f6, a1, a2, a3, a4, a5, a6, a7, a8, a9, a10, a11, a12, a13) => wY_run_93 post n x f1 f2 f3 f4 f5 f6 a1 a2 a3 a4 a5 a6 a7 a8 a9 a10 a11 a12 a13
def pd_O (Φ : Int32 → SX → SY → Prop) (mx my : Nat) (u : SX) (v : SY) : Prop :=
  ∃ (st : Int32) (u' : SX) (v' : SY), Φ st u' v' ∧ (∀ (post : Int32 → SX → Prop) (n r : Nat), r + mx ≤ 400 → mx < n → post st u' → pd_rx post n (nI r) u) ∧ (∀ (post : Int32 → SY → Prop) (n r : Nat), r + my ≤ 400 → my < n → post st v' → pd_ry post n (nI r) v)
theorem pd_O_m {Φ : Int32 → SX → SY → Prop} {mx my mx' my' : Nat} {u : SX} {v : SY} (h : pd_O Φ mx my u v) (hx : mx ≤ mx') (hy : my ≤ my') : pd_O Φ mx' my' u v := by
  obtain ⟨st, u', v', h1, h2, h3⟩ := h
  exact ⟨st, u', v', h1, fun post n r a b => h2 post n r (by omega) (by omega), fun post n r a b => h3 post n r (by omega) (by omega)⟩
theorem pd_tv {post q : SY → Prop} (hq : ∀ (f1 f2 f3 f4 f5 f6 : Int32) (a1 a2 a3 a4 a5 a6 a7 a8 a9 a10 a11 a12 a13 : Nat → Int32), post (f1, f2, f3, f4, f5, f6, a1, a2, a3, a4, a5, a6, a7, a8, a9, a10, a11, a12, a13) → q (f1, f2, f3, f4, f5, f6, a1, a2, a3, a4, a5, a6, a7, a8, a9, a10, a11, a12, a13)) : ∀ (u : SY), post u → q u
  | (f1, f2, f3, f4, f5, f6, a1, a2, a3, a4, a5, a6, a7, a8, a9, a10, a11, a12, a13), h => hq f1 f2 f3 f4 f5 f6 a1 a2 a3 a4 a5 a6 a7 a8 a9 a10 a11 a12 a13 h
/-- the activation on top: procedure, the reference's position k, the live registers alike -/
def pd_T (c : Nat) (L ru po ps : Nat → Nat) (rg rq : Nat → Int32) (d k : Nat) : Prop := ru d < c ∧ po d = ru d ∧ ps d = k ∧ k ≤ 8 ∧ ∀ r, r < 6 → (L (9 * ru d + k)).testBit r = true → rg (6 * d + r) = rq (6 * d + r)
/-- the activations below: each stands at a CALL of the one above -/
def pd_B (c : Nat) (sz op pk : Nat → Nat) (nu : Nat → Int32) (L ru av po ps : Nat → Nat) (rg rq : Nat → Int32) (d : Nat) : Prop :=
  ∀ f, f < d → ru f < c ∧ av f < sz (ru f) ∧ op (8 * ru f + av f) = 5 ∧ pd_tg nu (8 * ru f + av f) = ru (f + 1) ∧ po f = ru f ∧ ps f = av f ∧ ∀ r, r < 6 → r ≠ pk (8 * ru f + av f) % 8 → (L (9 * ru f + av f + 1)).testBit r = true → rg (6 * f + r) = rq (6 * f + r)
def pd_D (sz op pk : Nat → Nat) (nu : Nat → Int32) (L : Nat → Nat) (p k m : Nat) : Prop := ∀ i, k ≤ i → i < m → i < sz p ∧ ¬ pd_kp op pk nu L p i
theorem pd_B_c {c : Nat} {sz op pk : Nat → Nat} {nu : Nat → Int32} {L ru av po ps ru' av' po' ps' : Nat → Nat} {rg rq rg' rq' : Nat → Int32} {d : Nat} (B : pd_B c sz op pk nu L ru av po ps rg rq d) (h1 : ∀ f, f ≤ d → ru' f = ru f) (h2 : ∀ f, f < d → av' f = av f ∧ po' f = po f ∧ ps' f = ps f) (h3 : ∀ i, i < 6 * d → rg' i = rg i ∧ rq' i = rq i) : pd_B c sz op pk nu L ru' av' po' ps' rg' rq' d := by
  intro f hf
  obtain ⟨b1, b2, b3, b4, b5, b6, b7⟩ := B f hf
  obtain ⟨e1, e2, e3⟩ := h2 f hf
  rw [h1 f (by omega), h1 (f + 1) (by omega), e1, e2, e3]
  refine ⟨b1, b2, b3, b4, b5, b6, fun r hr hn hl => ?_⟩
  rw [(h3 (6 * f + r) (by omega)).1, (h3 (6 * f + r) (by omega)).2]
  exact b7 r hr hn hl
section
variable {c d s oc : Nat} {pr sz op pk E NK ru av po ps L : Nat → Nat} {nu lv mt rg ou ly wn rq : Nat → Int32} {kn re wa : Int32} {Φ : Int32 → SX → SY → Prop} {W : Nat → Bool}
theorem pd_O_x {mx my : Nat} {u1 : SX} {v : SY} (h : pd_O Φ mx my u1 v) (hx : ∀ q : SX → Prop, q u1 → wpX_advance q (nI c, kn, re, wa, nI (d + 1), 0, 0, nI s, nI oc, pd_F pr, pd_F sz, pd_F op, pd_F pk, nu, lv, pd_F E, mt, pd_F NK, pd_F ru, pd_F av, rg, ou)) : pd_O Φ (mx + 1) my (nI c, kn, re, wa, nI (d + 1), 0, 0, nI s, nI oc, pd_F pr, pd_F sz, pd_F op, pd_F pk, nu, lv, pd_F E, mt, pd_F NK, pd_F ru, pd_F av, rg, ou) v := by
  obtain ⟨st, u', v', h1, h2, h3⟩ := h
  refine ⟨st, u', v', h1, fun post n r a b hp => ?_, h3⟩
  obtain ⟨m, rfl⟩ : ∃ m, n = m + 1 := ⟨n - 1, by omega⟩
  have g := h2 post m (r + 1) (by omega) (by omega) hp
  refine pk_le 400 r (fun z => absurd z (by omega)) (fun _ => br_t rfl (hx _ ?_))
  obtain ⟨f1, f2, f3, f4, f5, f6, f7, f8, f9, a1, a2, a3, a4, a5, a6, a7, a8, a9, a10, a11, a12, a13⟩ := u1
  exact nm_r (nI_1 r) g
theorem pd_O_y {mx my : Nat} {u : SX} {v1 : SY} (h : pd_O Φ mx my u v1) (hy : ∀ q : SY → Prop, q v1 → wpY_look q (nI c, 0, 0, nI s, nI oc, nI (d + 1), pd_F pr, pd_F sz, pd_F op, pd_F (pd_qa pk), pd_F (pd_qb pk), pd_F (pd_qc pk), nu, ou, pd_F po, pd_F ps, rq, ly, wn)) : pd_O Φ mx (my + 1) u (nI c, 0, 0, nI s, nI oc, nI (d + 1), pd_F pr, pd_F sz, pd_F op, pd_F (pd_qa pk), pd_F (pd_qb pk), pd_F (pd_qc pk), nu, ou, pd_F po, pd_F ps, rq, ly, wn) := by
  obtain ⟨st, u', v', h1, h2, h3⟩ := h
  refine ⟨st, u', v', h1, h2, fun post n r a b hp => ?_⟩
  obtain ⟨m, rfl⟩ : ∃ m, n = m + 1 := ⟨n - 1, by omega⟩
  have g := h3 post m (r + 1) (by omega) (by omega) hp
  refine pk_le 400 r (fun z => absurd z (by omega)) (fun _ => br_t rfl (hy _ ?_))
  obtain ⟨f1, f2, f3, f4, f5, f6, a1, a2, a3, a4, a5, a6, a7, a8, a9, a10, a11, a12, a13⟩ := v1
  exact nm_r (nI_1 r) g
theorem pd_O_f {st va va' : Int32} {f5 g6 g3 g4 : Int32} {a10 a11 : Nat → Int32} {x8 x9 : Int32} (hst : ¬ st = 0) (h : Φ st (nI c, kn, re, wa, f5, st, va, x8, x9, pd_F pr, pd_F sz, pd_F op, pd_F pk, nu, lv, pd_F E, mt, pd_F NK, pd_F ru, pd_F av, rg, a10) (nI c, st, va', g3, g4, g6, pd_F pr, pd_F sz, pd_F op, pd_F (pd_qa pk), pd_F (pd_qb pk), pd_F (pd_qc pk), nu, a11, pd_F po, pd_F ps, rq, ly, wn)) : pd_O Φ 0 0 (nI c, kn, re, wa, f5, st, va, x8, x9, pd_F pr, pd_F sz, pd_F op, pd_F pk, nu, lv, pd_F E, mt, pd_F NK, pd_F ru, pd_F av, rg, a10) (nI c, st, va', g3, g4, g6, pd_F pr, pd_F sz, pd_F op, pd_F (pd_qa pk), pd_F (pd_qb pk), pd_F (pd_qc pk), nu, a11, pd_F po, pd_F ps, rq, ly, wn) := by
  refine ⟨st, _, _, h, fun post n r a b hp => ?_, fun post n r a b hp => ?_⟩
  · obtain ⟨m, rfl⟩ : ∃ m, n = m + 1 := ⟨n - 1, by omega⟩
    exact br_c (fun _ => hp) (fun _ => br_f hst hp)
  · obtain ⟨m, rfl⟩ : ∃ m, n = m + 1 := ⟨n - 1, by omega⟩
    exact br_c (fun _ => hp) (fun _ => br_f hst hp)
/-- one dead or live instruction of the reference that only computes -/
theorem pd_yw {p k : Nat} (G : pd_PG c pr sz op pk nu) (hd : d < 10) (hp : po d = p) (hk : ps d = k) (hpc : p < c) (hks : k < sz p) (h3 : op (8 * p + k) ≤ 3) (hs : s < 150) (ho : oc ≤ 1000) : ∀ q : SY → Prop, q (nI c, 0, 0, nI (s + 1), nI oc, nI (d + 1), pd_F pr, pd_F sz, pd_F op, pd_F (pd_qa pk), pd_F (pd_qb pk), pd_F (pd_qc pk), nu, ou, pd_F po, pd_F (pd_u ps d (k + 1)), upd rq (6 * d + pk (8 * p + k) % 8) (pd_val op pk nu rq d (8 * p + k)), ly, wn) → wpY_look q (nI c, 0, 0, nI s, nI oc, nI (d + 1), pd_F pr, pd_F sz, pd_F op, pd_F (pd_qa pk), pd_F (pd_qb pk), pd_F (pd_qc pk), nu, ou, pd_F po, pd_F ps, rq, ly, wn) := by
  have hc := pd_Gc G
  have h8 := pd_Gsz G p
  intro q hq
  refine pd_ylk hd hp hk (by omega) (by omega) h8 (pd_Gop G) (by omega) (fun z => absurd z (by omega)) (fun _ z => absurd z (by omega)) (fun _ _ z => absurd z (by omega)) (fun _ _ _ q' hq' => ?_) hq
  exact pd_yco G hpc hks hd hk ho (fun z => absurd z (by omega)) (fun _ _ z => z) (fun z => absurd z (by omega)) (fun z => absurd z (by omega)) (fun z => absurd z (by omega)) (fun z => absurd z (by omega)) (fun z => absurd z (by omega)) hq'
/-- X is tired already: Y goes on over what is dead until it is tired too -/
theorem pd_tl {u : SX} {p m : Nat} (G : pd_PG c pr sz op pk nu) (hd : d < 10) (hpc : p < c) (hp : po d = p) (hm : m ≤ 8) (ho : oc ≤ 1000)
    (hf : ∀ (ps : Nat → Nat) (rq : Nat → Int32), pd_O Φ 0 0 u (nI c, 2, 0, nI 150, nI oc, nI (d + 1), pd_F pr, pd_F sz, pd_F op, pd_F (pd_qa pk), pd_F (pd_qb pk), pd_F (pd_qc pk), nu, ou, pd_F po, pd_F ps, rq, ly, wn)) :
    ∀ e s k ps rq, s + e = 150 → ps d = k → pd_D sz op pk nu L p k m → 150 < s + (m - k) → pd_O Φ 0 (e + 1) u (nI c, 0, 0, nI s, nI oc, nI (d + 1), pd_F pr, pd_F sz, pd_F op, pd_F (pd_qa pk), pd_F (pd_qb pk), pd_F (pd_qc pk), nu, ou, pd_F po, pd_F ps, rq, ly, wn) := by
  have hc := pd_Gc G
  have h8 := pd_Gsz G p
  intro e
  induction e with
  | zero =>
    intro s k ps rq hs hk D hl
    have e1 : s = 150 := by omega
    subst e1
    have hks := (D k (Nat.le_refl _) (by omega)).1
    refine pd_O_y (hf ps rq) (fun q hq => pd_ylk hd hp hk (by omega) (by omega) h8 (pd_Gop G) (by omega) (fun z => absurd z (by omega)) (fun _ _ _ z => z) (fun _ z => absurd z (by omega)) (fun _ z => absurd z (by omega)) hq)
  | succ e ih =>
    intro s k ps rq hs hk D hl
    obtain ⟨hks, hkp⟩ := D k (Nat.le_refl _) (by omega)
    have h3 : op (8 * p + k) ≤ 3 := by
      rcases Nat.lt_or_ge 3 (op (8 * p + k)) with z | z
      · exact absurd (Or.inl z) hkp
      · exact z
    exact pd_O_y (ih (s + 1) (k + 1) _ _ (by omega) pd_us (fun i a b => D i (by omega) b) (by omega)) (pd_yw G hd hp hk hpc hks h3 (by omega) ho)
end
end
section
/-! the run: X and Y in lockstep, Y behind X by what is dead -/
def pd_IH (c : Nat) (kn re wa : Int32) (pr sz op pk E NK L : Nat → Nat) (nu lv mt ly wn : Nat → Int32) (Φ : Int32 → SX → SY → Prop) (N : Nat) : Prop :=
  ∀ (d s sy oc k j : Nat) (ru av po ps : Nat → Nat) (rg rq ou : Nat → Int32), 2 * (150 - s) + d < N → d < 10 → s ≤ 150 → sy + j = s → oc ≤ s → ru 0 = 0 → pd_T c L ru po ps rg rq d k → pd_B c sz op pk nu L ru av po ps rg rq d → av d = k + j → k + j ≤ 8 → pd_D sz op pk nu L (ru d) k (k + j) → pd_O Φ (2 * (150 - s) + d + 2) (2 * (150 - sy) + d + 2) (nI c, kn, re, wa, nI (d + 1), 0, 0, nI s, nI oc, pd_F pr, pd_F sz, pd_F op, pd_F pk, nu, lv, pd_F E, mt, pd_F NK, pd_F ru, pd_F av, rg, ou) (nI c, 0, 0, nI sy, nI oc, nI (d + 1), pd_F pr, pd_F sz, pd_F op, pd_F (pd_qa pk), pd_F (pd_qb pk), pd_F (pd_qc pk), nu, ou, pd_F po, pd_F ps, rq, ly, wn)
def pd_FI (c : Nat) (kn re wa : Int32) (pr sz op pk E NK : Nat → Nat) (nu lv mt ly wn : Nat → Int32) (Φ : Int32 → SX → SY → Prop) : Prop :=
  ∀ (st va f5 g6 : Int32) (s oc : Nat) (ru av po ps : Nat → Nat) (rg rq ou : Nat → Int32), Φ st (nI c, kn, re, wa, f5, st, va, nI s, nI oc, pd_F pr, pd_F sz, pd_F op, pd_F pk, nu, lv, pd_F E, mt, pd_F NK, pd_F ru, pd_F av, rg, ou) (nI c, st, va, nI s, nI oc, g6, pd_F pr, pd_F sz, pd_F op, pd_F (pd_qa pk), pd_F (pd_qb pk), pd_F (pd_qc pk), nu, ou, pd_F po, pd_F ps, rq, ly, wn)
section
variable {c : Nat} {pr sz op pk E NK L : Nat → Nat} {nu lv mt ly wn : Nat → Int32} {kn re wa : Int32} {Φ : Int32 → SX → SY → Prop} {W : Nat → Bool}
theorem pd_af_l {p k : Nat} (h7 : op (8 * p + k) ≠ 7) (h4 : op (8 * p + k) ≠ 4) : pd_af op nu L p k = L (9 * p + k + 1) := (if_neg h7).trans (if_neg h4)
theorem pd_ant {x a r : Nat} (h : x.testBit r = true) (hr : r ≠ a) : (pd_an x (2 ^ a)).testBit r = true := by
  rw [pd_an_t, h, Nat.testBit_two_pow, decide_eq_false (fun z => hr z.symm)]; rfl
theorem pd_bf_an {E' : Nat → Nat} {w : Bool} {x i : Nat} (h : op i ≤ 3) : pd_le (pd_an x (2 ^ (pk i % 8))) (pd_bf op pk nu E' w x i) := by
  by_cases g : op i ≠ 0 ∧ x.testBit (pk i % 8) = true
  · rw [pd_bf_y h g.1 g.2]; exact pd_le_l _ _
  · rw [pd_bf_n h g]; exact pd_le_r _
theorem pd_gt {N d s oc k : Nat} {ru av po ps : Nat → Nat} {rg rq ou : Nat → Int32} (G : pd_PG c pr sz op pk nu) (hNK : ∀ p, p < c → pd_NK sz op pk nu L NK p) (hF : pd_FI c kn re wa pr sz op pk E NK nu lv mt ly wn Φ) (IH : pd_IH c kn re wa pr sz op pk E NK L nu lv mt ly wn Φ N)
    (hN : 2 * (150 - s) + d < N) (hd : d < 10) (hs : s ≤ 150) (ho : oc ≤ s) (h0 : ru 0 = 0) (T : pd_T c L ru po ps rg rq d k) (B : pd_B c sz op pk nu L ru av po ps rg rq d) :
    ∃ u1 : SX, (∀ q : SX → Prop, q u1 → wpX_goTo q (nI c, kn, re, wa, nI (d + 1), 0, 0, nI s, nI oc, pd_F pr, pd_F sz, pd_F op, pd_F pk, nu, lv, pd_F E, mt, pd_F NK, pd_F ru, pd_F av, rg, ou) (nI k)) ∧ pd_O Φ (2 * (150 - s) + d + 2) (2 * (150 - s) + d + 2) u1 (nI c, 0, 0, nI s, nI oc, nI (d + 1), pd_F pr, pd_F sz, pd_F op, pd_F (pd_qa pk), pd_F (pd_qb pk), pd_F (pd_qc pk), nu, ou, pd_F po, pd_F ps, rq, ly, wn) := by
  have hc := pd_Gc G
  have T' := T
  obtain ⟨t1, t2, t3, t4, t5⟩ := T
  obtain ⟨n1, n2, n3⟩ := hNK (ru d) t1 k t4
  rcases Nat.lt_or_ge 150 (s + (NK (9 * ru d + k) - k)) with hg | hg
  · refine ⟨(nI c, kn, re, wa, nI (d + 1), 2, 0, nI 150, nI oc, pd_F pr, pd_F sz, pd_F op, pd_F pk, nu, lv, pd_F E, mt, pd_F NK, pd_F ru, pd_F (pd_u av d (NK (9 * ru d + k))), rg, ou), fun q hq => pd_xgo hd rfl (by omega) t4 n1 n2 hs (fun z => absurd z (by omega)) (fun _ => hq), ?_⟩
    exact pd_O_m (pd_tl G hd t1 t2 n2 (by omega) (fun ps rq => pd_O_f (by decide) (hF 2 0 _ _ 150 oc ru _ po ps rg rq ou)) (150 - s) s k ps rq (by omega) t3 n3 hg) (Nat.zero_le _) (by omega)
  · refine ⟨(nI c, kn, re, wa, nI (d + 1), 0, 0, nI (s + (NK (9 * ru d + k) - k)), nI oc, pd_F pr, pd_F sz, pd_F op, pd_F pk, nu, lv, pd_F E, mt, pd_F NK, pd_F ru, pd_F (pd_u av d (NK (9 * ru d + k))), rg, ou), fun q hq => pd_xgo hd rfl (by omega) t4 n1 n2 hs (fun _ => hq) (fun z => absurd z (by omega)), ?_⟩
    have e : k + (NK (9 * ru d + k) - k) = NK (9 * ru d + k) := by omega
    refine pd_O_m (IH d (s + (NK (9 * ru d + k) - k)) s oc k (NK (9 * ru d + k) - k) ru (pd_u av d (NK (9 * ru d + k))) po ps rg rq ou (by omega) hd hg rfl (by omega) h0 T' (pd_B_c B (fun f _ => rfl) (fun f hf => ⟨pd_un (by omega), rfl, rfl⟩) (fun i _ => ⟨rfl, rfl⟩)) (by rw [pd_us, e]) (by omega) (by rw [e]; exact n3)) (by omega) (Nat.le_refl _)
theorem pd_clo {N d s oc : Nat} {vx vy : Int32} {ru av po ps : Nat → Nat} {rg rq ou : Nat → Int32} (G : pd_PG c pr sz op pk nu) (LS : pd_ls c pr sz op pk nu L W) (hNK : ∀ p, p < c → pd_NK sz op pk nu L NK p) (hF : pd_FI c kn re wa pr sz op pk E NK nu lv mt ly wn Φ) (IH : pd_IH c kn re wa pr sz op pk E NK L nu lv mt ly wn Φ N)
    (hN : 2 * (150 - s) + d < N + 1) (hd : d < 10) (hs : s ≤ 150) (ho : oc ≤ s) (h0 : ru 0 = 0) (B : pd_B c sz op pk nu L ru av po ps rg rq d) (hv : W (ru d) = true → vx = vy) :
    ∃ (u1 : SX) (v1 : SY), (∀ q : SX → Prop, q u1 → wpX_close q (nI c, kn, re, wa, nI (d + 1), 0, 0, nI s, nI oc, pd_F pr, pd_F sz, pd_F op, pd_F pk, nu, lv, pd_F E, mt, pd_F NK, pd_F ru, pd_F av, rg, ou) vx) ∧ (∀ q : SY → Prop, q v1 → wpY_end q (nI c, 0, 0, nI s, nI oc, nI (d + 1), pd_F pr, pd_F sz, pd_F op, pd_F (pd_qa pk), pd_F (pd_qb pk), pd_F (pd_qc pk), nu, ou, pd_F po, pd_F ps, rq, ly, wn) vy) ∧ pd_O Φ (2 * (150 - s) + d + 1) (2 * (150 - s) + d + 1) u1 v1 := by
  have hc := pd_Gc G
  cases d with
  | zero =>
    have e : vx = vy := hv (by rw [h0]; exact LS.1.1)
    subst e
    exact ⟨(nI c, kn, re, wa, nI 0, 1, vx, nI s, nI oc, pd_F pr, pd_F sz, pd_F op, pd_F pk, nu, lv, pd_F E, mt, pd_F NK, pd_F ru, pd_F av, rg, ou), (nI c, 1, vx, nI s, nI oc, nI 0, pd_F pr, pd_F sz, pd_F op, pd_F (pd_qa pk), pd_F (pd_qb pk), pd_F (pd_qc pk), nu, ou, pd_F po, pd_F ps, rq, ly, wn), fun q h => pd_xcl0 h, fun q h => pd_yen0 h, pd_O_m (pd_O_f (by decide) (hF 1 vx _ _ s oc ru av po ps rg rq ou)) (Nat.zero_le _) (Nat.zero_le _)⟩
  | succ e =>
    obtain ⟨b1, b2, b3, b4, b5, b6, b7⟩ := B e (by omega)
    have h8 := pd_Gsz G (ru e)
    have hA := pd_Ga G (8 * ru e + av e)
    have T' : pd_T c L ru po (pd_u ps e (av e + 1)) (upd rg (6 * e + pk (8 * ru e + av e) % 8) vx) (upd rq (6 * e + pk (8 * ru e + av e) % 8) vy) e (av e + 1) := by
      refine ⟨b1, b5, pd_us, by omega, fun r hr hl => ?_⟩
      by_cases er : r = pk (8 * ru e + av e) % 8
      · subst er
        rw [pk_us, pk_us]
        refine hv ?_
        rw [← b4]
        exact (LS.1.2 (ru e) (av e) b1 b2).2 b3 (by rw [pd_af_l (by omega) (by omega)]; exact hl)
      · rw [pk_un (by omega), pk_un (by omega)]
        exact b7 r hr er hl
    have B' : pd_B c sz op pk nu L ru av po (pd_u ps e (av e + 1)) (upd rg (6 * e + pk (8 * ru e + av e) % 8) vx) (upd rq (6 * e + pk (8 * ru e + av e) % 8) vy) e :=
      pd_B_c (fun f hf => B f (by omega)) (fun f _ => rfl) (fun f hf => ⟨rfl, rfl, pd_un (by omega)⟩) (fun i hi => ⟨pk_un (by omega), pk_un (by omega)⟩)
    obtain ⟨u1, hgo, hO⟩ := pd_gt (ou := ou) G hNK hF IH (by omega) (by omega) hs ho h0 T' B'
    exact ⟨u1, (nI c, 0, 0, nI s, nI oc, nI (e + 1), pd_F pr, pd_F sz, pd_F op, pd_F (pd_qa pk), pd_F (pd_qb pk), pd_F (pd_qc pk), nu, ou, pd_F po, pd_F (pd_u ps e (av e + 1)), upd rq (6 * e + pk (8 * ru e + av e) % 8) vy, ly, wn), fun q h => pd_xcl1 (pd_Gpk G) (pd_Ga G) (by omega) rfl rfl (by omega) (by omega) hgo h, fun q h => pd_yen1 (pd_Ga G) (by omega) b5 b6 (by omega) (by omega) h, pd_O_m hO (by omega) (by omega)⟩
theorem pd_ins {d s oc mx my p k : Nat} {u1 : SX} {v1 : SY} {ru av po ps : Nat → Nat} {rg rq ou : Nat → Int32} (G : pd_PG c pr sz op pk nu) (hd : d < 10) (hr : ru d = p) (hav : av d = k) (hpo : po d = p) (hps : ps d = k) (hp : p < c) (hk : k < sz p) (hs : s < 150) (h5 : op (8 * p + k) = 5 → d < 9)
    (hx : ∀ q : SX → Prop, q u1 → wpX_carry q (nI c, kn, re, wa, nI (d + 1), 0, 0, nI (s + 1), nI oc, pd_F pr, pd_F sz, pd_F op, pd_F pk, nu, lv, pd_F E, mt, pd_F NK, pd_F ru, pd_F av, rg, ou) (nI (8 * p + k)) (nI k)) (hy : ∀ q : SY → Prop, q v1 → wpY_carryOut q (nI c, 0, 0, nI (s + 1), nI oc, nI (d + 1), pd_F pr, pd_F sz, pd_F op, pd_F (pd_qa pk), pd_F (pd_qb pk), pd_F (pd_qc pk), nu, ou, pd_F po, pd_F ps, rq, ly, wn) (nI (8 * p + k)) (nI d)) (hO : pd_O Φ mx my u1 v1) : pd_O Φ (mx + 1) (my + 1) (nI c, kn, re, wa, nI (d + 1), 0, 0, nI s, nI oc, pd_F pr, pd_F sz, pd_F op, pd_F pk, nu, lv, pd_F E, mt, pd_F NK, pd_F ru, pd_F av, rg, ou) (nI c, 0, 0, nI s, nI oc, nI (d + 1), pd_F pr, pd_F sz, pd_F op, pd_F (pd_qa pk), pd_F (pd_qb pk), pd_F (pd_qc pk), nu, ou, pd_F po, pd_F ps, rq, ly, wn) := by
  have hc := pd_Gc G
  have h8 := pd_Gsz G p
  refine pd_O_y (pd_O_x hO (fun q hq => ?_)) (fun q hq => ?_)
  · exact pd_xad hd hr hav (by omega) (by omega) h8 (pd_Gop G) (by omega) (fun z => absurd z (by omega)) (fun _ z => absurd z (by omega)) (fun _ _ o z => absurd (h5 o) (by omega)) (fun _ _ _ => hx) hq
  · exact pd_ylk hd hpo hps (by omega) (by omega) h8 (pd_Gop G) (by omega) (fun z => absurd z (by omega)) (fun _ z => absurd z (by omega)) (fun _ _ o z => absurd (h5 o) (by omega)) (fun _ _ _ => hy) hq
theorem pd_val_e {d p k : Nat} {w : Bool} {rg rq : Nat → Int32} (G : pd_PG c pr sz op pk nu) (h3 : op (8 * p + k) ≤ 3) (hx : (pd_af op nu L p k).testBit (pk (8 * p + k) % 8) = true) (cl : pd_le (pd_bf op pk nu (pd_ow pr L) w (pd_af op nu L p k) (8 * p + k)) (L (9 * p + k))) (t5 : ∀ r, r < 6 → (L (9 * p + k)).testBit r = true → rg (6 * d + r) = rq (6 * d + r)) : pd_val op pk nu rg d (8 * p + k) = pd_val op pk nu rq d (8 * p + k) := by
  unfold pd_val
  by_cases h0 : op (8 * p + k) = 0
  · rw [if_pos h0, if_pos h0]
  · have g := pd_Gbc G (i := 8 * p + k) (by omega) h3
    rw [pd_bf_y h3 h0 hx] at cl
    have eb := t5 _ g.1 (cl _ (pd_le_rr _ _ _ (pd_le_l _ _ _ Nat.testBit_two_pow_self)))
    have ec := t5 _ g.2 (cl _ (pd_le_rr _ _ _ (pd_le_rr _ _ _ Nat.testBit_two_pow_self)))
    rw [eb, ec]
theorem pd_st0 {N d s oc k : Nat} {ru av po ps : Nat → Nat} {rg rq ou : Nat → Int32} (G : pd_PG c pr sz op pk nu) (LS : pd_ls c pr sz op pk nu L W) (hE : ∀ q, q < c → E q = pd_ow pr L q) (hNK : ∀ p, p < c → pd_NK sz op pk nu L NK p) (hF : pd_FI c kn re wa pr sz op pk E NK nu lv mt ly wn Φ) (IH : pd_IH c kn re wa pr sz op pk E NK L nu lv mt ly wn Φ N)
    (hN : 2 * (150 - s) + d < N + 1) (hd : d < 10) (hs : s ≤ 150) (ho : oc ≤ s) (h0 : ru 0 = 0) (T : pd_T c L ru po ps rg rq d k) (B : pd_B c sz op pk nu L ru av po ps rg rq d) (hav : av d = k) : pd_O Φ (2 * (150 - s) + d + 2) (2 * (150 - s) + d + 2) (nI c, kn, re, wa, nI (d + 1), 0, 0, nI s, nI oc, pd_F pr, pd_F sz, pd_F op, pd_F pk, nu, lv, pd_F E, mt, pd_F NK, pd_F ru, pd_F av, rg, ou) (nI c, 0, 0, nI s, nI oc, nI (d + 1), pd_F pr, pd_F sz, pd_F op, pd_F (pd_qa pk), pd_F (pd_qb pk), pd_F (pd_qc pk), nu, ou, pd_F po, pd_F ps, rq, ly, wn) := by
  have hc := pd_Gc G
  have h8 := pd_Gsz G (ru d)
  have o7 := pd_Gop G (8 * ru d + k)
  have hA := pd_Ga G (8 * ru d + k)
  obtain ⟨t1, t2, t3, t4, t5⟩ := T
  rcases Nat.lt_or_ge k (sz (ru d)) with hk | hk
  · rcases Nat.lt_or_ge s 150 with hs1 | hs1
    · have cl := LS.1.2 (ru d) k t1 hk
      rcases Nat.lt_or_ge 3 (op (8 * ru d + k)) with h3 | h3
      · by_cases h5 : op (8 * ru d + k) = 5
        · rcases Nat.lt_or_ge d 9 with h9 | h9
          · -- CALL
            have g := pd_G5 G t1 hk h5
            have hpr := pd_Gpr G (pd_tg nu (8 * ru d + k))
            have hEq := hE _ g.2.1
            have hElt := pd_ow_lt pr L (pd_tg nu (8 * ru d + k))
            rw [pd_bf_5 h5, pd_af_l (by omega) (by omega)] at cl
            generalize hq : pd_tg nu (8 * ru d + k) = q at g hpr hEq hElt cl
            generalize hb : pk (8 * ru d + k) / 8 % 8 = b at g cl
            have T' : pd_T c L (pd_u ru (d + 1) q) (pd_u po (d + 1) q) (pd_u ps (d + 1) 0) (pd_pt (pd_z rg (d + 1) 6) (E q) (6 * d + b) (6 * (d + 1)) (pr q)) (pd_py rq (pr q) (6 * d + b) (6 * (d + 1)) 6) (d + 1) 0 := by
              refine ⟨by rw [pd_us]; exact g.2.1, by rw [pd_us, pd_us], pd_us, by omega, fun r hr hl => ?_⟩
              rw [pd_us] at hl
              have er : 6 * (d + 1) + r - 6 * (d + 1) = r := by omega
              have ey : pd_py rq (pr q) (6 * d + b) (6 * (d + 1)) 6 (6 * (d + 1) + r) = if r < pr q then rq (6 * d + b + r) else 0 := by
                refine (if_pos (by omega)).trans ?_
                rw [er]
              have ez : pd_z rg (d + 1) 6 (6 * (d + 1) + r) = 0 := if_pos (by omega)
              rw [ey]
              rcases Nat.lt_or_ge r (pr q) with hrp | hrp
              · have hbit : (E q).testBit r = true := by
                  rw [hEq]
                  show (L (9 * q) % 2 ^ pr q).testBit r = true
                  rw [Nat.testBit_mod_two_pow, decide_eq_true hrp]
                  exact hl
                have ex : pd_pt (pd_z rg (d + 1) 6) (E q) (6 * d + b) (6 * (d + 1)) (pr q) (6 * (d + 1) + r) = pd_z rg (d + 1) 6 (6 * d + b + r) := by
                  refine (if_pos ⟨by omega, by rw [er]; exact hbit⟩).trans ?_
                  rw [er]
                have ez2 : pd_z rg (d + 1) 6 (6 * d + b + r) = rg (6 * d + b + r) := if_neg (by omega)
                rw [ex, ez2, if_pos hrp, Nat.add_assoc]
                refine t5 (b + r) (by omega) (cl.1 _ (pd_le_rr _ _ _ ?_))
                rw [Nat.testBit_shiftLeft, decide_eq_true (show b + r ≥ b by omega), Nat.add_sub_cancel_left, ← hEq, hbit]
                rfl
              · have hbit : (E q).testBit r = false := by
                  rw [hEq]; exact pd_hi hElt hrp
                have ex : pd_pt (pd_z rg (d + 1) 6) (E q) (6 * d + b) (6 * (d + 1)) (pr q) (6 * (d + 1) + r) = pd_z rg (d + 1) 6 (6 * (d + 1) + r) := if_neg (fun z => by have z2 := z.2; rw [er, hbit] at z2; cases z2)
                rw [ex, ez, if_neg (by omega)]
            have hlow : ∀ i, i < 6 * (d + 1) → pd_pt (pd_z rg (d + 1) 6) (E q) (6 * d + b) (6 * (d + 1)) (pr q) i = rg i ∧ pd_py rq (pr q) (6 * d + b) (6 * (d + 1)) 6 i = rq i := fun i hi => by
              have e1 : pd_pt (pd_z rg (d + 1) 6) (E q) (6 * d + b) (6 * (d + 1)) (pr q) i = pd_z rg (d + 1) 6 i := if_neg (fun z => absurd z.1.1 (by omega))
              have e2 : pd_z rg (d + 1) 6 i = rg i := if_neg (by omega)
              exact ⟨e1.trans e2, if_neg (by omega)⟩
            have B' : pd_B c sz op pk nu L (pd_u ru (d + 1) q) av (pd_u po (d + 1) q) (pd_u ps (d + 1) 0) (pd_pt (pd_z rg (d + 1) 6) (E q) (6 * d + b) (6 * (d + 1)) (pr q)) (pd_py rq (pr q) (6 * d + b) (6 * (d + 1)) 6) (d + 1) := by
              intro f hf
              by_cases e : f = d
              · subst e
                have e1 : pd_u ru (f + 1) q f = ru f := pd_un (by omega)
                have e2 : pd_u po (f + 1) q f = po f := pd_un (by omega)
                have e3 : pd_u ps (f + 1) 0 f = ps f := pd_un (by omega)
                rw [e1, e2, e3, pd_us, hav]
                refine ⟨t1, hk, h5, hq, t2, t3, fun r hr hn hl => ?_⟩
                rw [(hlow (6 * f + r) (by omega)).1, (hlow (6 * f + r) (by omega)).2]
                exact t5 r hr (cl.1 _ (pd_le_l _ _ _ (pd_ant hl hn)))
              · exact pd_B_c B (fun f hf => pd_un (by omega)) (fun f hf => ⟨rfl, pd_un (by omega), pd_un (by omega)⟩) (fun i hi => hlow i (by omega)) f (by omega)
            obtain ⟨u1, hgo, hO⟩ := pd_gt (s := s + 1) (oc := oc) (ou := ou) G hNK hF IH (by omega) (by omega) (by omega) (by omega) (by rw [pd_un (by omega)]; exact h0) T' B'
            refine pd_O_m (pd_ins (v1 := (nI c, 0, 0, nI (s + 1), nI oc, nI (d + 2), pd_F pr, pd_F sz, pd_F op, pd_F (pd_qa pk), pd_F (pd_qb pk), pd_F (pd_qc pk), nu, ou, pd_F (pd_u po (d + 1) q), pd_F (pd_u ps (d + 1) 0), pd_py rq (pr q) (6 * d + b) (6 * (d + 1)) 6, ly, wn)) G hd rfl hav t2 t3 t1 hk hs1 (fun _ => h9) (fun q' hq' => ?_) (fun q' hq' => ?_) hO) (by omega) (by omega)
            · refine pd_xcy G hd t1 hk (by omega) (fun z => absurd z (by omega)) (fun z => absurd z (by omega)) (fun z => absurd z (by omega)) (fun _ q2 hq2 => ?_) (fun z => absurd z (by omega)) (fun z => absurd z (by omega)) hq'
              rw [hq, hb]
              exact pd_xca (by omega) hpr (by omega) (by omega) (by rw [hEq]; exact hElt) hgo hq2
            · refine pd_yco G t1 hk hd t3 (by omega) (fun _ => h9) (fun z => absurd z (by omega)) (fun z => absurd z (by omega)) (fun z => absurd z (by omega)) (fun _ q2 hq2 => ?_) (fun z => absurd z (by omega)) (fun z => absurd z (by omega)) hq'
              rw [hq, hb]; exact hq2
          · -- too deep
            refine pd_O_m (pd_O_y (pd_O_x (u1 := (nI c, kn, re, wa, nI (d + 1), 3, 0, nI s, nI oc, pd_F pr, pd_F sz, pd_F op, pd_F pk, nu, lv, pd_F E, mt, pd_F NK, pd_F ru, pd_F av, rg, ou)) (v := (nI c, 3, 0, nI s, nI oc, nI (d + 1), pd_F pr, pd_F sz, pd_F op, pd_F (pd_qa pk), pd_F (pd_qb pk), pd_F (pd_qc pk), nu, ou, pd_F po, pd_F ps, rq, ly, wn)) (pd_O_f (by decide) (hF 3 0 _ _ s oc ru av po ps rg rq ou)) (fun q hq => ?_)) (fun q hq => ?_)) (by omega) (by omega)
            · exact pd_xad hd rfl hav (by omega) (by omega) h8 (pd_Gop G) (by omega) (fun z => absurd z (by omega)) (fun _ z => absurd z (by omega)) (fun _ _ _ _ _ z => z) (fun _ _ z => absurd (z h5) (by omega)) hq
            · exact pd_ylk hd t2 t3 (by omega) (by omega) h8 (pd_Gop G) (by omega) (fun z => absurd z (by omega)) (fun _ z => absurd z (by omega)) (fun _ _ _ _ _ z => z) (fun _ _ z => absurd (z h5) (by omega)) hq
        · by_cases h7 : op (8 * ru d + k) = 7
          · -- BACK
            have hv : W (ru d) = true → rg (6 * d + pk (8 * ru d + k) % 8) = rq (6 * d + pk (8 * ru d + k) % 8) := fun hw => by
              rw [pd_bf_7 h7 hw] at cl
              exact t5 _ hA (cl.1 _ Nat.testBit_two_pow_self)
            obtain ⟨u1, v1, hx, hy, hO⟩ := pd_clo (s := s + 1) (oc := oc) (ou := ou) G LS hNK hF IH (by omega) hd (by omega) (by omega) h0 B hv
            refine pd_O_m (pd_ins G hd rfl hav t2 t3 t1 hk hs1 (fun z => absurd z h5) (fun q' hq' => ?_) (fun q' hq' => ?_) hO) (by omega) (by omega)
            · exact pd_xcy G hd t1 hk (by omega) (fun z => absurd z (by omega)) (fun z => absurd z (by omega)) (fun z => absurd z (by omega)) (fun z => absurd z (by omega)) (fun z => absurd z (by omega)) (fun _ => hx) hq'
            · exact pd_yco G t1 hk hd t3 (by omega) (fun z => absurd z h5) (fun z => absurd z (by omega)) (fun z => absurd z (by omega)) (fun z => absurd z (by omega)) (fun z => absurd z (by omega)) (fun z => absurd z (by omega)) (fun _ => hy) hq'
          · -- FORK, OUT
            rw [pd_bf_o h3 h5 h7] at cl
            have ea := t5 _ hA (cl.1 _ (pd_le_rr _ _ _ Nat.testBit_two_pow_self))
            have hx : pd_le (pd_af op nu L (ru d) k) (L (9 * ru d + k)) := pd_le_t (pd_le_l _ _) cl.1
            by_cases h4 : op (8 * ru d + k) = 4
            · have g := pd_G4k G (p := ru d) (k := k) (by omega) h4
              have eaf : pd_af op nu L (ru d) k = L (9 * ru d + k + 1) ||| L (9 * ru d + pd_tg nu (8 * ru d + k)) := (if_neg h7).trans (if_pos h4)
              rw [eaf] at hx
              by_cases hz : rg (6 * d + pk (8 * ru d + k) % 8) = 0
              · have T' : pd_T c L ru po (pd_u ps d (pd_tg nu (8 * ru d + k))) rg rq d (pd_tg nu (8 * ru d + k)) := ⟨t1, t2, pd_us, g.2, fun r hr hl => t5 r hr (hx _ (pd_le_rr _ _ _ hl))⟩
                have B' : pd_B c sz op pk nu L ru av po (pd_u ps d (pd_tg nu (8 * ru d + k))) rg rq d := pd_B_c B (fun f _ => rfl) (fun f hf => ⟨rfl, rfl, pd_un (by omega)⟩) (fun i _ => ⟨rfl, rfl⟩)
                obtain ⟨u1, hgo, hO⟩ := pd_gt (s := s + 1) (oc := oc) (ou := ou) G hNK hF IH (by omega) hd (by omega) (by omega) h0 T' B'
                refine pd_O_m (pd_ins G hd rfl hav t2 t3 t1 hk hs1 (fun z => absurd z h5) (fun q' hq' => ?_) (fun q' hq' => ?_) hO) (by omega) (by omega)
                · exact pd_xcy G hd t1 hk (by omega) (fun z => absurd z (by omega)) (fun _ _ => hgo) (fun _ z => absurd hz z) (fun z => absurd z (by omega)) (fun z => absurd z (by omega)) (fun z => absurd z (by omega)) hq'
                · exact pd_yco G t1 hk hd t3 (by omega) (fun z => absurd z h5) (fun z => absurd z (by omega)) (fun _ _ _ z => z) (fun _ z => absurd (ea ▸ hz) z) (fun z => absurd z (by omega)) (fun z => absurd z (by omega)) (fun z => absurd z (by omega)) hq'
              · have T' : pd_T c L ru po (pd_u ps d (k + 1)) rg rq d (k + 1) := ⟨t1, t2, pd_us, by omega, fun r hr hl => t5 r hr (hx _ (pd_le_l _ _ _ hl))⟩
                have B' : pd_B c sz op pk nu L ru av po (pd_u ps d (k + 1)) rg rq d := pd_B_c B (fun f _ => rfl) (fun f hf => ⟨rfl, rfl, pd_un (by omega)⟩) (fun i _ => ⟨rfl, rfl⟩)
                obtain ⟨u1, hgo, hO⟩ := pd_gt (s := s + 1) (oc := oc) (ou := ou) G hNK hF IH (by omega) hd (by omega) (by omega) h0 T' B'
                refine pd_O_m (pd_ins G hd rfl hav t2 t3 t1 hk hs1 (fun z => absurd z h5) (fun q' hq' => ?_) (fun q' hq' => ?_) hO) (by omega) (by omega)
                · exact pd_xcy G hd t1 hk (by omega) (fun z => absurd z (by omega)) (fun _ z => absurd z hz) (fun _ _ => hgo) (fun z => absurd z (by omega)) (fun z => absurd z (by omega)) (fun z => absurd z (by omega)) hq'
                · exact pd_yco G t1 hk hd t3 (by omega) (fun z => absurd z h5) (fun z => absurd z (by omega)) (fun _ z => absurd z (fun y => hz (ea.trans y))) (fun _ _ _ z => z) (fun z => absurd z (by omega)) (fun z => absurd z (by omega)) (fun z => absurd z (by omega)) hq'
            · have h6 : op (8 * ru d + k) = 6 := by omega
              rw [pd_af_l h7 h4] at hx
              have T' : pd_T c L ru po (pd_u ps d (k + 1)) rg rq d (k + 1) := ⟨t1, t2, pd_us, by omega, fun r hr hl => t5 r hr (hx _ hl)⟩
              have B' : pd_B c sz op pk nu L ru av po (pd_u ps d (k + 1)) rg rq d := pd_B_c B (fun f _ => rfl) (fun f hf => ⟨rfl, rfl, pd_un (by omega)⟩) (fun i _ => ⟨rfl, rfl⟩)
              obtain ⟨u1, hgo, hO⟩ := pd_gt (s := s + 1) (oc := oc + 1) (ou := if oc < 16 then upd ou oc (rg (6 * d + pk (8 * ru d + k) % 8)) else ou) G hNK hF IH (by omega) hd (by omega) (by omega) h0 T' B'
              refine pd_O_m (pd_ins G hd rfl hav t2 t3 t1 hk hs1 (fun z => absurd z h5) (fun q' hq' => ?_) (fun q' hq' => ?_) hO) (by omega) (by omega)
              · exact pd_xcy G hd t1 hk (by omega) (fun z => absurd z (by omega)) (fun z => absurd z (by omega)) (fun z => absurd z (by omega)) (fun z => absurd z (by omega)) (fun _ => hgo) (fun z => absurd z (by omega)) hq'
              · refine pd_yco G t1 hk hd t3 (by omega) (fun z => absurd z h5) (fun z => absurd z (by omega)) (fun z => absurd z (by omega)) (fun z => absurd z (by omega)) (fun z => absurd z (by omega)) (fun _ q2 hq2 => ?_) (fun z => absurd z (by omega)) hq'
                rw [← ea]; exact hq2
      · -- SET, ADD, SUB, LESS
        have eaf := pd_af_l (op := op) (nu := nu) (L := L) (p := ru d) (k := k) (by omega) (by omega)
        have T' : pd_T c L ru po (pd_u ps d (k + 1)) (upd rg (6 * d + pk (8 * ru d + k) % 8) (pd_val op pk nu rg d (8 * ru d + k))) (upd rq (6 * d + pk (8 * ru d + k) % 8) (pd_val op pk nu rq d (8 * ru d + k))) d (k + 1) := by
          refine ⟨t1, t2, pd_us, by omega, fun r hr hl => ?_⟩
          by_cases e : r = pk (8 * ru d + k) % 8
          · subst e
            rw [pk_us, pk_us]
            exact pd_val_e G h3 (by rw [eaf]; exact hl) cl.1 t5
          · rw [pk_un (by omega), pk_un (by omega)]
            exact t5 r hr (cl.1 _ (pd_bf_an h3 _ (pd_ant (by rw [eaf]; exact hl) e)))
        have B' : pd_B c sz op pk nu L ru av po (pd_u ps d (k + 1)) (upd rg (6 * d + pk (8 * ru d + k) % 8) (pd_val op pk nu rg d (8 * ru d + k))) (upd rq (6 * d + pk (8 * ru d + k) % 8) (pd_val op pk nu rq d (8 * ru d + k))) d :=
          pd_B_c B (fun f _ => rfl) (fun f hf => ⟨rfl, rfl, pd_un (by omega)⟩) (fun i hi => ⟨pk_un (by omega), pk_un (by omega)⟩)
        obtain ⟨u1, hgo, hO⟩ := pd_gt (s := s + 1) (oc := oc) (ou := ou) G hNK hF IH (by omega) hd (by omega) (by omega) h0 T' B'
        refine pd_O_m (pd_ins G hd rfl hav t2 t3 t1 hk hs1 (fun z => absurd z (by omega)) (fun q' hq' => ?_) (fun q' hq' => ?_) hO) (by omega) (by omega)
        · exact pd_xcy G hd t1 hk (by omega) (fun _ => hgo) (fun z => absurd z (by omega)) (fun z => absurd z (by omega)) (fun z => absurd z (by omega)) (fun z => absurd z (by omega)) (fun z => absurd z (by omega)) hq'
        · exact pd_yco G t1 hk hd t3 (by omega) (fun z => absurd z (by omega)) (fun _ _ z => z) (fun z => absurd z (by omega)) (fun z => absurd z (by omega)) (fun z => absurd z (by omega)) (fun z => absurd z (by omega)) (fun z => absurd z (by omega)) hq'
    · -- tired
      refine pd_O_m (pd_O_y (pd_O_x (u1 := (nI c, kn, re, wa, nI (d + 1), 2, 0, nI s, nI oc, pd_F pr, pd_F sz, pd_F op, pd_F pk, nu, lv, pd_F E, mt, pd_F NK, pd_F ru, pd_F av, rg, ou)) (v := (nI c, 2, 0, nI s, nI oc, nI (d + 1), pd_F pr, pd_F sz, pd_F op, pd_F (pd_qa pk), pd_F (pd_qb pk), pd_F (pd_qc pk), nu, ou, pd_F po, pd_F ps, rq, ly, wn)) (pd_O_f (by decide) (hF 2 0 _ _ s oc ru av po ps rg rq ou)) (fun q hq => ?_)) (fun q hq => ?_)) (by omega) (by omega)
      · exact pd_xad hd rfl hav (by omega) (by omega) h8 (pd_Gop G) (by omega) (fun z => absurd z (by omega)) (fun _ _ _ z => z) (fun _ z => absurd z (by omega)) (fun _ z => absurd z (by omega)) hq
      · exact pd_ylk hd t2 t3 (by omega) (by omega) h8 (pd_Gop G) (by omega) (fun z => absurd z (by omega)) (fun _ _ _ z => z) (fun _ z => absurd z (by omega)) (fun _ z => absurd z (by omega)) hq
  · -- the end of the procedure
    obtain ⟨u1, v1, hx, hy, hO⟩ := pd_clo (vx := 0) (vy := 0) (s := s) (oc := oc) (ou := ou) G LS hNK hF IH hN hd hs ho h0 B (fun _ => rfl)
    refine pd_O_m (pd_O_y (pd_O_x hO (fun q hq => ?_)) (fun q hq => ?_)) (by omega) (by omega)
    · exact pd_xad hd rfl hav (by omega) (by omega) h8 (pd_Gop G) (by omega) (fun _ => hx) (fun z => absurd z (by omega)) (fun z => absurd z (by omega)) (fun z => absurd z (by omega)) hq
    · exact pd_ylk hd t2 t3 (by omega) (by omega) h8 (pd_Gop G) (by omega) (fun _ => hy) (fun z => absurd z (by omega)) (fun z => absurd z (by omega)) (fun z => absurd z (by omega)) hq
theorem pd_lag {d s oc mx : Nat} {ru av po : Nat → Nat} {rg ou : Nat → Int32} (G : pd_PG c pr sz op pk nu) (LS : pd_ls c pr sz op pk nu L W) (hd : d < 10) (hs : s ≤ 150) (ho : oc ≤ s)
    (Z : ∀ (k : Nat) (ps : Nat → Nat) (rq : Nat → Int32), pd_T c L ru po ps rg rq d k → pd_B c sz op pk nu L ru av po ps rg rq d → av d = k → pd_O Φ mx (2 * (150 - s) + d + 2) (nI c, kn, re, wa, nI (d + 1), 0, 0, nI s, nI oc, pd_F pr, pd_F sz, pd_F op, pd_F pk, nu, lv, pd_F E, mt, pd_F NK, pd_F ru, pd_F av, rg, ou) (nI c, 0, 0, nI s, nI oc, nI (d + 1), pd_F pr, pd_F sz, pd_F op, pd_F (pd_qa pk), pd_F (pd_qb pk), pd_F (pd_qc pk), nu, ou, pd_F po, pd_F ps, rq, ly, wn)) :
    ∀ (j sy k : Nat) (ps : Nat → Nat) (rq : Nat → Int32), sy + j = s → pd_T c L ru po ps rg rq d k → pd_B c sz op pk nu L ru av po ps rg rq d → av d = k + j → k + j ≤ 8 → pd_D sz op pk nu L (ru d) k (k + j) → pd_O Φ mx (2 * (150 - sy) + d + 2) (nI c, kn, re, wa, nI (d + 1), 0, 0, nI s, nI oc, pd_F pr, pd_F sz, pd_F op, pd_F pk, nu, lv, pd_F E, mt, pd_F NK, pd_F ru, pd_F av, rg, ou) (nI c, 0, 0, nI sy, nI oc, nI (d + 1), pd_F pr, pd_F sz, pd_F op, pd_F (pd_qa pk), pd_F (pd_qb pk), pd_F (pd_qc pk), nu, ou, pd_F po, pd_F ps, rq, ly, wn) := by
  have hc := pd_Gc G
  intro j
  induction j with
  | zero =>
    intro sy k ps rq hsy T B hav hk8 D
    have e : sy = s := by omega
    subst e
    exact Z k ps rq T B (by omega)
  | succ j ih =>
    intro sy k ps rq hsy T B hav hk8 D
    obtain ⟨t1, t2, t3, t4, t5⟩ := T
    obtain ⟨hk, hkp⟩ := D k (Nat.le_refl _) (by omega)
    have hA := pd_Ga G (8 * ru d + k)
    have h3 : op (8 * ru d + k) ≤ 3 := by
      rcases Nat.lt_or_ge 3 (op (8 * ru d + k)) with z | z
      · exact absurd (Or.inl z) hkp
      · exact z
    have eaf := pd_af_l (op := op) (nu := nu) (L := L) (p := ru d) (k := k) (by omega) (by omega)
    have cl := (LS.1.2 (ru d) k t1 hk).1
    have T' : pd_T c L ru po (pd_u ps d (k + 1)) rg (upd rq (6 * d + pk (8 * ru d + k) % 8) (pd_val op pk nu rq d (8 * ru d + k))) d (k + 1) := by
      refine ⟨t1, t2, pd_us, by omega, fun r hr hl => ?_⟩
      have hl' : (pd_af op nu L (ru d) k).testBit r = true := by rw [eaf]; exact hl
      have e : r ≠ pk (8 * ru d + k) % 8 := fun z => hkp (Or.inr (by rw [← z]; exact hl'))
      rw [pk_un (by omega)]
      exact t5 r hr (cl _ (pd_bf_an h3 _ (pd_ant hl' e)))
    have B' : pd_B c sz op pk nu L ru av po (pd_u ps d (k + 1)) rg (upd rq (6 * d + pk (8 * ru d + k) % 8) (pd_val op pk nu rq d (8 * ru d + k))) d :=
      pd_B_c B (fun f _ => rfl) (fun f hf => ⟨rfl, rfl, pd_un (by omega)⟩) (fun i hi => ⟨rfl, pk_un (by omega)⟩)
    exact pd_O_m (pd_O_y (ih (sy + 1) (k + 1) _ _ (by omega) T' B' (by omega) (by omega) (fun i a b => D i (by omega) (by omega))) (pd_yw G hd t2 t3 t1 hk h3 (by omega) (by omega))) (Nat.le_refl _) (by omega)
theorem pd_all (G : pd_PG c pr sz op pk nu) (LS : pd_ls c pr sz op pk nu L W) (hE : ∀ q, q < c → E q = pd_ow pr L q) (hNK : ∀ p, p < c → pd_NK sz op pk nu L NK p) (hF : pd_FI c kn re wa pr sz op pk E NK nu lv mt ly wn Φ) : ∀ N, pd_IH c kn re wa pr sz op pk E NK L nu lv mt ly wn Φ N := by
  intro N
  induction N with
  | zero => intro d s sy oc k j ru av po ps rg rq ou hN; omega
  | succ N ih =>
    intro d s sy oc k j ru av po ps rg rq ou hN hd hs hj ho h0 T B hav hk8 D
    exact pd_lag G LS hd hs ho (fun k ps rq T B h => pd_st0 G LS hE hNK hF ih hN hd hs ho h0 T B h) j sy k ps rq hj T B hav hk8 D
end
end
section
/-! the relation -/
/-- one program, one outcome; what X knows is what the least solution shows -/
def i_Rel (k : Nat) (u : SX) (v : SY) : Prop :=
  ∀ P : SX → SY → Prop, (∀ (c R : Nat) (kn wa de st va sc oc dy : Int32) (pr sz op pk E M NK : Nat → Nat) (nu lv ru av rg ou po ps rq ly wn : Nat → Int32), pd_PG c pr sz op pk nu → (¬ kn = 0 → pd_KN c pr sz op pk nu R E M NK) → P (nI c, kn, nI R, wa, de, st, va, sc, oc, pd_F pr, pd_F sz, pd_F op, pd_F pk, nu, lv, pd_F E, pd_F M, pd_F NK, ru, av, rg, ou) (nI c, st, va, sc, oc, dy, pd_F pr, pd_F sz, pd_F op, pd_F (pd_qa pk), pd_F (pd_qb pk), pd_F (pd_qc pk), nu, ou, po, ps, rq, ly, wn)) → P u v
theorem pd_el {k : Nat} {u : SX} {v : SY} (I : i_Rel k u v) {P : SX → SY → Prop} (h : ∀ (c R : Nat) (kn wa de st va sc oc dy : Int32) (pr sz op pk E M NK : Nat → Nat) (nu lv ru av rg ou po ps rq ly wn : Nat → Int32), pd_PG c pr sz op pk nu → (¬ kn = 0 → pd_KN c pr sz op pk nu R E M NK) → P (nI c, kn, nI R, wa, de, st, va, sc, oc, pd_F pr, pd_F sz, pd_F op, pd_F pk, nu, lv, pd_F E, pd_F M, pd_F NK, ru, av, rg, ou) (nI c, st, va, sc, oc, dy, pd_F pr, pd_F sz, pd_F op, pd_F (pd_qa pk), pd_F (pd_qb pk), pd_F (pd_qc pk), nu, ou, po, ps, rq, ly, wn)) : P u v := I P h
section
variable {c R : Nat} {kn wa de st va sc oc dy : Int32} {pr sz op pk E M NK : Nat → Nat} {nu lv ru av rg ou po ps rq ly wn : Nat → Int32}
theorem pd_in {k : Nat} (G : pd_PG c pr sz op pk nu) (K : ¬ kn = 0 → pd_KN c pr sz op pk nu R E M NK) : i_Rel k (nI c, kn, nI R, wa, de, st, va, sc, oc, pd_F pr, pd_F sz, pd_F op, pd_F pk, nu, lv, pd_F E, pd_F M, pd_F NK, ru, av, rg, ou) (nI c, st, va, sc, oc, dy, pd_F pr, pd_F sz, pd_F op, pd_F (pd_qa pk), pd_F (pd_qb pk), pd_F (pd_qc pk), nu, ou, po, ps, rq, ly, wn) :=
  fun _ h => h c R kn wa de st va sc oc dy pr sz op pk E M NK nu lv ru av rg ou po ps rq ly wn G K
/-! declared -/
theorem pd_xde {post : Int32 → Prop} {p : Nat} (hp : p < c) (hc : c ≤ 5) (h : post 1) : wpX_declared post (nI c, kn, nI R, wa, de, st, va, sc, oc, pd_F pr, pd_F sz, pd_F op, pd_F pk, nu, lv, pd_F E, pd_F M, pd_F NK, ru, av, rg, ou) (nI p) := br_f (nI_pos (by omega)) (pk_le c p (fun z => absurd z (by omega)) (fun _ => h))
theorem pd_xdn {post : Int32 → Prop} {x : Int32} (hx : x < 0 ∨ nI c ≤ x) (h : post 0) : wpX_declared post (nI c, kn, nI R, wa, de, st, va, sc, oc, pd_F pr, pd_F sz, pd_F op, pd_F pk, nu, lv, pd_F E, pd_F M, pd_F NK, ru, av, rg, ou) x := by
  refine br_c (fun _ => h) (fun z => br_t (hx.resolve_left z) h)
theorem pd_yde {post : Int32 → Prop} {p : Nat} (hp : p < c) (hc : c ≤ 5) (h : post 1) : wpY_declared post (nI c, st, va, sc, oc, dy, pd_F pr, pd_F sz, pd_F op, pd_F (pd_qa pk), pd_F (pd_qb pk), pd_F (pd_qc pk), nu, ou, po, ps, rq, ly, wn) (nI p) := br_f (nI_pos (by omega)) (pk_le c p (fun z => absurd z (by omega)) (fun _ => h))
theorem pd_ydn {post : Int32 → Prop} {x : Int32} (hx : x < 0 ∨ nI c ≤ x) (h : post 0) : wpY_declared post (nI c, st, va, sc, oc, dy, pd_F pr, pd_F sz, pd_F op, pd_F (pd_qa pk), pd_F (pd_qb pk), pd_F (pd_qc pk), nu, ou, po, ps, rq, ly, wn) x := by
  refine br_c (fun _ => h) (fun z => br_t (hx.resolve_left z) h)
theorem pd_dec (x : Int32) {c : Nat} (hc : c ≤ 5) : (x < 0 ∨ nI c ≤ x) ∨ ∃ p, p < c ∧ x = nI p := by
  rcases pk_ix x (n := c) (by omega) with h | h | h
  · exact Or.inl (Or.inl h)
  · exact Or.inl (Or.inr h)
  · exact Or.inr h
end
theorem pd_01' : ¬ (1 : Int32) = 0 := by decide
theorem pd_qau (pk : Nat → Nat) (i w : Nat) : pd_F (pd_qa (pd_u pk i w)) = pd_F (pd_u (pd_qa pk) i (w % 8)) := by
  funext j
  show nI ((if j = i then w else pk j) % 8) = nI (if j = i then w % 8 else pk j % 8)
  by_cases h : j = i
  · rw [if_pos h, if_pos h]
  · rw [if_neg h, if_neg h]
theorem pd_qbu (pk : Nat → Nat) (i w : Nat) : pd_F (pd_qb (pd_u pk i w)) = pd_F (pd_u (pd_qb pk) i (w / 8 % 8)) := by
  funext j
  show nI ((if j = i then w else pk j) / 8 % 8) = nI (if j = i then w / 8 % 8 else pk j / 8 % 8)
  by_cases h : j = i
  · rw [if_pos h, if_pos h]
  · rw [if_neg h, if_neg h]
theorem pd_qcu (pk : Nat → Nat) (i w : Nat) : pd_F (pd_qc (pd_u pk i w)) = pd_F (pd_u (pd_qc pk) i (w / 64)) := by
  funext j
  show nI ((if j = i then w else pk j) / 64) = nI (if j = i then w / 64 else pk j / 64)
  by_cases h : j = i
  · rw [if_pos h, if_pos h]
  · rw [if_neg h, if_neg h]
/-! what emit accepts -/
def pd_ok (c : Nat) (pr sz : Nat → Nat) (p o w : Nat) (n : Int32) : Prop :=
  w % 8 < 6 ∧ (1 ≤ o → o ≤ 3 → w / 8 % 8 < 6 ∧ w / 64 < 6) ∧ (o = 4 → ∃ t, n = nI t ∧ sz p < t ∧ t ≤ 8) ∧ (o = 5 → ∃ t, n = nI t ∧ t < c ∧ w / 8 % 8 + pr t ≤ 6)
section
variable {c R : Nat} {kn wa de st va sc oc dy : Int32} {pr sz op pk E M NK : Nat → Nat} {nu lv ru av rg ou po ps rq ly wn : Nat → Int32}
theorem pd_x51 {post : Int32 → Prop} {p o w : Nat} {n : Int32} (G : pd_PG c pr sz op pk nu) (hp : p < c) (ho : o ≤ 7) (hw : w < 512) (ha : w % 8 < 6) (hno : ¬ (1 ≤ o ∧ o ≤ 3)) (K1 : pd_ok c pr sz p o w n → post 1) (K0 : ¬ pd_ok c pr sz p o w n → post 0) : wX_numbersOk_51 post (nI p) (nI o) n (nI (w / 8 % 8)) (nI c) kn (nI R) wa de st va sc oc (pd_F pr) (pd_F sz) (pd_F op) (pd_F pk) nu lv (pd_F E) (pd_F M) (pd_F NK) ru av rg ou := by
  have hc := pd_Gc G
  have hs := pd_Gsz G p
  have es : pd_F sz (nI p).toNatClampNeg = nI (sz p) := pd_rF p rfl (by omega)
  refine pk_eq o 4 (fun h4 => And.intro (pk_in p 5 (by omega)) ?_) (fun h4 => pk_eq o 5 (fun h5 => ?_) (fun h5 => K1 ⟨ha, fun a b => absurd ⟨a, b⟩ hno, fun z => absurd z h4, fun z => absurd z h5⟩))
  · rcases pk_ix n (n := 9) (by omega) with h | h | ⟨t, ht, rfl⟩
    · refine br_t ?_ (K0 (fun z => ?_))
      · rw [es]; exact Int32.le_of_lt (Int32.lt_of_lt_of_le h (nI_pos' (by omega)))
      · obtain ⟨t, rfl, _⟩ := z.2.2.1 h4
        exact nI_pos (by omega) h
    · have h8 : (8 : Int32) < n := Int32.lt_of_lt_of_le (show (8 : Int32) < nI 9 by decide) h
      have hK : post 0 := K0 (fun z => by
        obtain ⟨t, rfl, _, t2⟩ := z.2.2.1 h4
        exact nI_ge (a := t) (b := 9) (by omega) (by omega) h)
      exact br_c (fun _ => hK) (fun _ => br_t h8 hK)
    · refine pk_le t (sz p) (fun h => K0 (fun z => ?_)) (fun h => pk_lt 8 t (fun h8 => absurd h8 (by omega)) (fun h8 => K1 ⟨ha, fun a b => absurd ⟨a, b⟩ hno, fun _ => ⟨t, rfl, h, h8⟩, fun z => absurd z (by omega)⟩)) rfl es
      obtain ⟨t', e, t1, t2⟩ := z.2.2.1 h4
      have := (nI_eq (by omega) (by omega)).mp e
      omega
  · rcases pd_dec n hc with h | ⟨t, ht, rfl⟩
    · refine pd_xdn h (br_t rfl (K0 (fun z => ?_)))
      obtain ⟨t, rfl, t1, _⟩ := z.2.2.2 h5
      rcases h with h | h
      · exact nI_pos (by omega) h
      · exact nI_ge t1 (by omega) h
    · have hpr := pd_Gpr G t
      refine pd_xde ht hc (br_f pd_01' (And.intro (pk_in t 5 (by omega)) (pk_lt 6 (w / 8 % 8 + pr t) (fun h => K0 (fun z => ?_)) (fun h => K1 ⟨ha, fun a b => absurd ⟨a, b⟩ hno, fun z => absurd z h4, fun _ => ⟨t, rfl, ht, h⟩⟩) rfl (by rw [pd_rF t rfl (by omega), nI_add]))))
      obtain ⟨t', e, t1, t2⟩ := z.2.2.2 h5
      have := (nI_eq (by omega) (by omega)).mp e
      subst this
      omega
theorem pd_xok {post : Int32 → Prop} {p o w : Nat} {n : Int32} (G : pd_PG c pr sz op pk nu) (hp : p < c) (ho : o ≤ 7) (hw : w < 512) (K1 : pd_ok c pr sz p o w n → post 1) (K0 : ¬ pd_ok c pr sz p o w n → post 0) : wpX_numbersOk post (nI c, kn, nI R, wa, de, st, va, sc, oc, pd_F pr, pd_F sz, pd_F op, pd_F pk, nu, lv, pd_F E, pd_F M, pd_F NK, ru, av, rg, ou) (nI p) (nI o) (nI w) n := by
  refine nm_r (e' := nI (w / 8 % 8)) (pd_ob hw) (pk_lt (w % 8) 6 (fun ha => pk_lt o 1 (fun h1 => pd_x51 G hp ho hw ha (by omega) K1 K0) (fun h1 => pk_lt 3 o (fun h3 => pd_x51 G hp ho hw ha (by omega) K1 K0) (fun h3 => pk_le 6 (w / 8 % 8) (fun hb => K0 (fun z => absurd (z.2.1 h1 h3).1 (by omega))) (fun hb => pk_le 6 (w / 64) (fun hc => K0 (fun z => absurd (z.2.1 h1 h3).2 (by omega))) (fun hc => K1 ⟨ha, fun _ _ => ⟨hb, hc⟩, fun z => absurd z (by omega), fun z => absurd z (by omega)⟩) rfl (pd_oc hw))))) (fun ha => K0 (fun z => absurd z.1 (by omega))) (pd_oa hw))
theorem pd_y73 {post : Int32 → Prop} {p o w : Nat} {n : Int32} (G : pd_PG c pr sz op pk nu) (hp : p < c) (ho : o ≤ 7) (hw : w < 512) (ha : w % 8 < 6) (hbc : 1 ≤ o → o ≤ 3 → w / 8 % 8 < 6 ∧ w / 64 < 6) (K1 : pd_ok c pr sz p o w n → post 0) (K0 : ¬ pd_ok c pr sz p o w n → post 1) : wY_bad_73 post (nI p) (nI o) n (nI (w / 8 % 8)) (nI c) st va sc oc dy (pd_F pr) (pd_F sz) (pd_F op) (pd_F (pd_qa pk)) (pd_F (pd_qb pk)) (pd_F (pd_qc pk)) nu ou po ps rq ly wn := by
  have hc := pd_Gc G
  have hs := pd_Gsz G p
  have es : pd_F sz (nI p).toNatClampNeg = nI (sz p) := pd_rF p rfl (by omega)
  refine pk_eq o 4 (fun h4 => And.intro (pk_in p 5 (by omega)) ?_) (fun h4 => pk_eq o 5 (fun h5 => ?_) (fun h5 => K1 ⟨ha, hbc, fun z => absurd z h4, fun z => absurd z h5⟩))
  · rcases pk_ix n (n := 9) (by omega) with h | h | ⟨t, ht, rfl⟩
    · refine br_t ?_ (K0 (fun z => ?_))
      · rw [es]; exact Int32.le_of_lt (Int32.lt_of_lt_of_le h (nI_pos' (by omega)))
      · obtain ⟨t, rfl, _⟩ := z.2.2.1 h4
        exact nI_pos (by omega) h
    · have h8 : (8 : Int32) < n := Int32.lt_of_lt_of_le (show (8 : Int32) < nI 9 by decide) h
      have hK : post 1 := K0 (fun z => by
        obtain ⟨t, rfl, _, t2⟩ := z.2.2.1 h4
        exact nI_ge (a := t) (b := 9) (by omega) (by omega) h)
      exact br_c (fun _ => hK) (fun _ => br_f (Int32.not_le.mpr h8) hK)
    · refine pk_le t (sz p) (fun h => K0 (fun z => ?_)) (fun h => pk_le t 8 (fun h8 => K1 ⟨ha, hbc, fun _ => ⟨t, rfl, h, h8⟩, fun z => absurd z (by omega)⟩) (fun h8 => absurd h8 (by omega))) rfl es
      obtain ⟨t', e, t1, t2⟩ := z.2.2.1 h4
      have := (nI_eq (by omega) (by omega)).mp e
      omega
  · rcases pd_dec n hc with h | ⟨t, ht, rfl⟩
    · refine pd_ydn h (br_t rfl (K0 (fun z => ?_)))
      obtain ⟨t, rfl, t1, _⟩ := z.2.2.2 h5
      rcases h with h | h
      · exact nI_pos (by omega) h
      · exact nI_ge t1 (by omega) h
    · have hpr := pd_Gpr G t
      refine pd_yde ht hc (br_f pd_01' (And.intro (pk_in t 5 (by omega)) (pk_le (w / 8 % 8 + pr t) 6 (fun h => K1 ⟨ha, hbc, fun z => absurd z h4, fun _ => ⟨t, rfl, ht, h⟩⟩) (fun h => K0 (fun z => ?_)) (by rw [pd_rF t rfl (by omega), nI_add]))))
      obtain ⟨t', e, t1, t2⟩ := z.2.2.2 h5
      have := (nI_eq (by omega) (by omega)).mp e
      subst this
      omega
theorem pd_yok {post : Int32 → Prop} {p o w : Nat} {n : Int32} (G : pd_PG c pr sz op pk nu) (hp : p < c) (ho : o ≤ 7) (hw : w < 512) (K1 : pd_ok c pr sz p o w n → post 0) (K0 : ¬ pd_ok c pr sz p o w n → post 1) : wpY_bad post (nI c, st, va, sc, oc, dy, pd_F pr, pd_F sz, pd_F op, pd_F (pd_qa pk), pd_F (pd_qb pk), pd_F (pd_qc pk), nu, ou, po, ps, rq, ly, wn) (nI p) (nI o) (nI w) n := by
  have hc := pd_Gc G
  unfold wpY_bad
  refine pd_yde hp hc ?_
  refine br_f pd_01' (br_f (nI_pos (n := o) (by omega)) (pk_lt 7 o (fun z => absurd z (by omega)) (fun _ => br_f (nI_pos (n := w) (by omega)) (pk_le w 511 (fun _ => nm_r (e' := nI (w / 8 % 8)) (pd_ob hw) ?_) (fun z => absurd z (by omega))))))
  refine pk_lt 5 (w % 8) (fun ha => K0 (fun z => absurd z.1 (by omega))) (fun ha => pk_lt o 1 (fun h1 => pd_y73 G hp ho hw (by omega) (fun z => absurd z (by omega)) K1 K0) (fun h1 => pk_lt 3 o (fun h3 => pd_y73 G hp ho hw (by omega) (fun _ z => absurd z (by omega)) K1 K0) (fun h3 => pk_lt 5 (w / 8 % 8) (fun hb => K0 (fun z => absurd (z.2.1 h1 h3).1 (by omega))) (fun hb => pk_le (w / 64) 5 (fun hc => pd_y73 G hp ho hw (by omega) (fun _ _ => ⟨by omega, by omega⟩) K1 K0) (fun hc => K0 (fun z => absurd (z.2.1 h1 h3).2 (by omega))) (pd_oc hw))))) rfl (pd_oa hw)
/-- the program with one more instruction -/
theorem pd_PG_e {p o w : Nat} {n : Int32} (G : pd_PG c pr sz op pk nu) (hp : p < c) (h8 : sz p < 8) (ho : o ≤ 7) (hw : w < 512) (h : pd_ok c pr sz p o w n) : pd_PG c pr (pd_u sz p (sz p + 1)) (pd_u op (8 * p + sz p) o) (pd_u pk (8 * p + sz p) w) (upd nu (8 * p + sz p) n) := by
  obtain ⟨g1, g2, g3, g4, g5, g6, g7, g8, g9⟩ := G
  obtain ⟨k1, k2, k3, k4⟩ := h
  have tgs : ∀ t, n = nI t → t < 2 ^ 31 → pd_tg (upd nu (8 * p + sz p) n) (8 * p + sz p) = t := fun t e ht => by
    show (upd nu (8 * p + sz p) n (8 * p + sz p)).toNatClampNeg = t
    rw [pk_us, e, nI_clamp ht]
  have tgn : ∀ i, i ≠ 8 * p + sz p → pd_tg (upd nu (8 * p + sz p) n) i = pd_tg nu i := fun i hi => by
    show (upd nu (8 * p + sz p) n i).toNatClampNeg = (nu i).toNatClampNeg
    rw [pk_un hi]
  refine ⟨g1, g2, fun i => ?_, fun i => ?_, fun i => ?_, fun i => ?_, fun i => ?_, fun i => ?_, fun q k hq hk => ?_⟩
  · by_cases e : i = p
    · subst e; rw [pd_us]; omega
    · rw [pd_un e]; exact g3 i
  · by_cases e : i = 8 * p + sz p
    · rw [e, pd_us]; exact ho
    · rw [pd_un e]; exact g4 i
  · by_cases e : i = 8 * p + sz p
    · rw [e, pd_us]; exact hw
    · rw [pd_un e]; exact g5 i
  · by_cases e : i = 8 * p + sz p
    · rw [e, pd_us]; exact k1
    · rw [pd_un e]; exact g6 i
  · by_cases e : i = 8 * p + sz p
    · rw [e, pd_us, pd_us]; exact k2
    · rw [pd_un e, pd_un e]; exact g7 i
  · by_cases e : i = 8 * p + sz p
    · rw [e, pd_us]
      intro o4
      obtain ⟨t, t1, t2, t3⟩ := k3 o4
      rw [tgs t t1 (by omega), pk_us]
      exact ⟨t1, by omega, t3⟩
    · rw [pd_un e, tgn i e, pk_un e]; exact g8 i
  · by_cases e : 8 * q + k = 8 * p + sz p
    · have hk8 : k < 9 := by
        by_cases e2 : q = p
        · subst e2; rw [pd_us] at hk; omega
        · rw [pd_un e2] at hk
          have := g3 q
          omega
      rw [e, pd_us, pd_us]
      intro o5
      obtain ⟨t, t1, t2, t3⟩ := k4 o5
      rw [tgs t t1 (by omega), pk_us]
      exact ⟨t1, t2, t3⟩
    · have hk' : k < sz q := by
        by_cases e2 : q = p
        · subst e2; rw [pd_us] at hk; omega
        · rw [pd_un e2] at hk; exact hk
      rw [pd_un e, pd_un e, tgn _ e, pk_un e]
      exact g9 q k hq hk'
theorem pd_PG_d {p : Nat} (G : pd_PG c pr sz op pk nu) : pd_PG c pr (pd_u sz p (sz p - 1)) op pk nu := by
  obtain ⟨g1, g2, g3, g4, g5, g6, g7, g8, g9⟩ := G
  refine ⟨g1, g2, fun i => ?_, g4, g5, g6, g7, g8, fun q k hq hk => ?_⟩
  · by_cases e : i = p
    · subst e
      have := g3 i
      rw [pd_us]; omega
    · rw [pd_un e]; exact g3 i
  · refine g9 q k hq ?_
    by_cases e : q = p
    · subst e; rw [pd_us] at hk; omega
    · rw [pd_un e] at hk; exact hk
theorem pd_PG_n {j : Nat} (G : pd_PG c pr sz op pk nu) (hc : c < 5) (hj : j ≤ 3) : pd_PG (c + 1) (pd_u pr c j) (pd_u sz c 0) op pk nu := by
  obtain ⟨g1, g2, g3, g4, g5, g6, g7, g8, g9⟩ := G
  refine ⟨by omega, fun i => ?_, fun i => ?_, g4, g5, g6, g7, g8, fun q k hq hk ho => ?_⟩
  · by_cases e : i = c
    · rw [e, pd_us]; exact hj
    · rw [pd_un e]; exact g2 i
  · by_cases e : i = c
    · rw [e, pd_us]; omega
    · rw [pd_un e]; exact g3 i
  · by_cases e : q = c
    · rw [e, pd_us] at hk; omega
    · rw [pd_un e] at hk
      obtain ⟨a, b, d⟩ := g9 q k (by omega) hk ho
      exact ⟨a, by omega, by rw [pd_un (by omega)]; exact d⟩
theorem pd_PG_0 (G : pd_PG c pr sz op pk nu) : pd_PG 0 pr sz op pk nu := by
  obtain ⟨g1, g2, g3, g4, g5, g6, g7, g8, g9⟩ := G
  exact ⟨by omega, g2, g3, g4, g5, g6, g7, g8, fun q k hq => absurd hq (by omega)⟩
end
end
section
/-! the beginning of a run -/
def pd_iv (p : Nat) (x y z : Int32) (i : Nat) : Int32 := if i < p then (if i = 0 then x else if i = 1 then y else z) else 0
def pd_ri (rq : Nat → Int32) (p : Nat) (x y z : Int32) (i : Nat) : Nat → Int32 := fun j => if j < i then pd_iv p x y z j else rq j
theorem pd_ri0 (rq : Nat → Int32) (p : Nat) (x y z : Int32) : pd_ri rq p x y z 0 = rq := by
  funext j
  exact if_neg (by omega)
theorem pd_ris (rq : Nat → Int32) (p : Nat) (x y z : Int32) (i : Nat) : upd (pd_ri rq p x y z i) i (pd_iv p x y z i) = pd_ri rq p x y z (i + 1) := by
  funext j
  show (if j = i then pd_iv p x y z i else if j < i then pd_iv p x y z j else rq j) = (if j < i + 1 then pd_iv p x y z j else rq j)
  by_cases h : j = i
  · subst h; rw [if_pos rfl, if_pos (by omega)]
  · rw [if_neg h]
    by_cases g : j < i
    · rw [if_pos g, if_pos (by omega)]
    · rw [if_neg g, if_neg (by omega)]
def pd_rx0 (rg : Nat → Int32) (p : Nat) (x y z : Int32) : Nat → Int32 := upd (upd (upd (pd_z rg 0 6) 0 (if p ≤ 0 then 0 else x)) 1 (if p ≤ 1 then 0 else y)) 2 (if p ≤ 2 then 0 else z)
theorem pd_rxy (rg rq : Nat → Int32) {p : Nat} (x y z : Int32) (hp : p ≤ 3) {r : Nat} (hr : r < 6) : pd_rx0 rg p x y z (6 * 0 + r) = pd_ri rq p x y z 6 (6 * 0 + r) := by
  rw [show 6 * 0 + r = r by omega]
  have e1 : pd_ri rq p x y z 6 r = pd_iv p x y z r := if_pos hr
  rw [e1]
  unfold pd_rx0 pd_iv
  by_cases h2 : r = 2
  · subst h2
    rw [pk_us]
    by_cases g : p ≤ 2
    · rw [if_pos g, if_neg (by omega)]
    · rw [if_neg g, if_pos (by omega), if_neg (by omega), if_neg (by omega)]
  · rw [pk_un h2]
    by_cases h1 : r = 1
    · subst h1
      rw [pk_us]
      by_cases g : p ≤ 1
      · rw [if_pos g, if_neg (by omega)]
      · rw [if_neg g, if_pos (by omega), if_neg (by omega), if_pos rfl]
    · rw [pk_un h1]
      by_cases h0 : r = 0
      · subst h0
        rw [pk_us]
        by_cases g : p ≤ 0
        · rw [if_pos g, if_neg (by omega)]
        · rw [if_neg g, if_pos (by omega), if_pos rfl]
      · rw [pk_un h0, if_neg (by omega)]
        exact if_pos (by omega)
section
variable {c R : Nat} {kn wa de st va sc oc dy : Int32} {pr sz op pk E M NK : Nat → Nat} {nu lv ru av rg ou po ps rq ly wn : Nat → Int32}
theorem pd_x104 {post : Int32 → SX → Prop} {z : Int32} {u1 : SX} (hgo : ∀ q : SX → Prop, q u1 → wpX_goTo q (nI c, kn, nI R, wa, de, st, va, sc, oc, pd_F pr, pd_F sz, pd_F op, pd_F pk, nu, lv, pd_F E, pd_F M, pd_F NK, ru, av, upd rg 2 z, ou) (nI 0)) (h : pd_rx post 401 (nI 0) u1) : wX_run_104 post z 2 (nI c) kn (nI R) wa de st va sc oc (pd_F pr) (pd_F sz) (pd_F op) (pd_F pk) nu lv (pd_F E) (pd_F M) (pd_F NK) ru av rg ou := by
  refine And.intro (pk_in 2 60 (by omega)) (nm_r (e' := upd rg 2 z) (pd_uR 2 rfl (by omega)) (hgo _ ?_))
  obtain ⟨f1, f2, f3, f4, f5, f6, f7, f8, f9, a1, a2, a3, a4, a5, a6, a7, a8, a9, a10, a11, a12, a13⟩ := u1
  exact Exists.intro 401 h
theorem pd_x83 {post : Int32 → SX → Prop} {y z : Int32} {u1 : SX} (hp : pr 0 ≤ 3) (hgo : ∀ q : SX → Prop, q u1 → wpX_goTo q (nI c, kn, nI R, wa, de, st, va, sc, oc, pd_F pr, pd_F sz, pd_F op, pd_F pk, nu, lv, pd_F E, pd_F M, pd_F NK, ru, av, upd (upd rg 1 y) 2 (if pr 0 ≤ 2 then 0 else z), ou) (nI 0)) (h : pd_rx post 401 (nI 0) u1) : wX_run_83 post z y 1 (nI c) kn (nI R) wa de st va sc oc (pd_F pr) (pd_F sz) (pd_F op) (pd_F pk) nu lv (pd_F E) (pd_F M) (pd_F NK) ru av rg ou := by
  refine And.intro (pk_in 1 60 (by omega)) (nm_r (e' := upd rg 1 y) (pd_uR 1 rfl (by omega)) (pk_le (pr 0) 2 (fun g => pd_x104 (fun q hq => ?_) h) (fun g => pd_x104 (fun q hq => ?_) h)))
  · have w := hgo q hq
    rw [if_pos g] at w; exact w
  · have w := hgo q hq
    rw [if_neg (by omega)] at w; exact w
theorem pd_x62 {post : Int32 → SX → Prop} {x y z : Int32} {u1 : SX} (hp : pr 0 ≤ 3) (hgo : ∀ q : SX → Prop, q u1 → wpX_goTo q (nI c, kn, nI R, wa, de, st, va, sc, oc, pd_F pr, pd_F sz, pd_F op, pd_F pk, nu, lv, pd_F E, pd_F M, pd_F NK, ru, av, upd (upd (upd rg 0 x) 1 (if pr 0 ≤ 1 then 0 else y)) 2 (if pr 0 ≤ 2 then 0 else z), ou) (nI 0)) (h : pd_rx post 401 (nI 0) u1) : wX_run_62 post y z x 0 (nI c) kn (nI R) wa de st va sc oc (pd_F pr) (pd_F sz) (pd_F op) (pd_F pk) nu lv (pd_F E) (pd_F M) (pd_F NK) ru av rg ou := by
  refine And.intro (pk_in 0 60 (by omega)) (nm_r (e' := upd rg 0 x) (pd_uR 0 rfl (by omega)) (pk_le (pr 0) 1 (fun g => pd_x83 hp (fun q hq => ?_) h) (fun g => pd_x83 hp (fun q hq => ?_) h)))
  · have w := hgo q hq
    rw [if_pos g] at w; exact w
  · have w := hgo q hq
    rw [if_neg (show ¬ pr 0 ≤ 1 by omega)] at w; exact w
theorem pd_y35 {post : Int32 → SY → Prop} {x y z : Int32} (hp : pr 0 ≤ 3) (K : pd_ry post 401 (nI 0) (nI c, st, va, sc, oc, dy, pd_F pr, pd_F sz, pd_F op, pd_F (pd_qa pk), pd_F (pd_qb pk), pd_F (pd_qc pk), nu, ou, po, ps, pd_ri rq (pr 0) x y z 6, ly, wn)) :
    ∀ j i n, i + j = 6 → j < n → wY_run_35 post x y z (nI c) st va sc oc dy n (nI i) (pd_F pr) (pd_F sz) (pd_F op) (pd_F (pd_qa pk)) (pd_F (pd_qb pk)) (pd_F (pd_qc pk)) nu ou po ps (pd_ri rq (pr 0) x y z i) ly wn := by
  intro j
  induction j with
  | zero =>
    intro i n hi hn
    obtain ⟨m, rfl⟩ : ∃ m, n = m + 1 := ⟨n - 1, by omega⟩
    have e : i = 6 := by omega
    subst e
    exact pk_le 6 6 (fun _ => Exists.intro 401 K) (fun z => absurd z (by omega))
  | succ j ih =>
    intro i n hi hn
    obtain ⟨m, rfl⟩ : ∃ m, n = m + 1 := ⟨n - 1, by omega⟩
    have stp : ∀ v : Int32, v = pd_iv (pr 0) x y z i → upd (pd_ri rq (pr 0) x y z i) (nI i).toNatClampNeg v = pd_ri rq (pr 0) x y z (i + 1) := fun v hv => by
      rw [pd_uR i rfl (by omega), hv, pd_ris]
    have nxt := ih (i + 1) m (by omega) (by omega)
    have ii : vp_in (nI i) 60 := vp_in_nI (by omega) (by omega)
    unfold pd_iv at stp
    refine pk_le 6 i (fun z => absurd z (by omega)) (fun _ => pk_lt i (pr 0) (fun g => pk_eq i 0 (fun g0 => And.intro ii (nm_r (stp _ ?_) (nm_r (nI_1 i) nxt))) (fun g0 => pk_eq i 1 (fun g1 => And.intro ii (nm_r (stp _ ?_) (nm_r (nI_1 i) nxt))) (fun g1 => And.intro ii (nm_r (stp _ ?_) (nm_r (nI_1 i) nxt))))) (fun g => And.intro ii (nm_r (stp _ ?_) (nm_r (nI_1 i) nxt))))
    · rw [if_pos g, if_pos g0]
    · rw [if_pos g, if_neg g0, if_pos g1]
    · rw [if_pos g, if_neg g0, if_neg g1]
    · rw [if_neg (by omega)]
theorem pd_yrun {post : Int32 → SY → Prop} {x y z : Int32} {po ps : Nat → Nat} (hc : 0 < c) (hc5 : c ≤ 5) (hp : pr 0 ≤ 3) (K : pd_ry post 401 (nI 0) (nI c, 0, 0, 0, 0, 1, pd_F pr, pd_F sz, pd_F op, pd_F (pd_qa pk), pd_F (pd_qb pk), pd_F (pd_qc pk), nu, ou, pd_F (pd_u po 0 0), pd_F (pd_u ps 0 0), pd_ri rq (pr 0) x y z 6, ly, wn)) : wpY_run post (nI c, st, va, sc, oc, dy, pd_F pr, pd_F sz, pd_F op, pd_F (pd_qa pk), pd_F (pd_qb pk), pd_F (pd_qc pk), nu, ou, pd_F po, pd_F ps, rq, ly, wn) x y z := by
  refine pk_eq c 0 (fun h => absurd h (by omega)) (fun _ => ?_)
  refine nm_r (e' := pd_F (pd_u po 0 0)) (pd_uF0 po 0 0) (nm_r (e' := pd_F (pd_u ps 0 0)) (pd_uF0 ps 0 0) (Exists.intro 7 ?_))
  have h := pd_y35 hp K 6 0 7 (by omega) (by omega)
  rw [pd_ri0] at h
  exact h
end
section
variable {c R : Nat} {kn wa de st va sc oc dy : Int32} {pr sz op pk E M NK ru av po ps : Nat → Nat} {nu lv rg ou rq ly wn : Nat → Int32}
/-- a run from a state in which what matters is known -/
theorem pd_run1 {k : Nat} {x y z : Int32} (G : pd_PG c pr sz op pk nu) (hc : 0 < c) (hkn : ¬ kn = 0) (KN : pd_KN c pr sz op pk nu R E M NK) :
    wpX_open (fun u => match u with | (f1, f2, f3, f4, f5, f6, f7, f8, f9, a1, a2, a3, a4, a5, a6, a7, a8, a9, a10, a11, a12, a13) => ((a1 0 ≤ 0 → wX_run_62 (fun r u' => wpY_run (fun r' v' => r' = r ∧ i_Rel k u' v') (nI c, st, va, sc, oc, dy, pd_F pr, pd_F sz, pd_F op, pd_F (pd_qa pk), pd_F (pd_qb pk), pd_F (pd_qc pk), nu, ou, pd_F po, pd_F ps, rq, ly, wn) x y z) y z 0 0 f1 f2 f3 f4 f5 f6 f7 f8 f9 a1 a2 a3 a4 a5 a6 a7 a8 a9 a10 a11 a12 a13) ∧ (¬ a1 0 ≤ 0 → wX_run_62 (fun r u' => wpY_run (fun r' v' => r' = r ∧ i_Rel k u' v') (nI c, st, va, sc, oc, dy, pd_F pr, pd_F sz, pd_F op, pd_F (pd_qa pk), pd_F (pd_qb pk), pd_F (pd_qc pk), nu, ou, pd_F po, pd_F ps, rq, ly, wn) x y z) y z x 0 f1 f2 f3 f4 f5 f6 f7 f8 f9 a1 a2 a3 a4 a5 a6 a7 a8 a9 a10 a11 a12 a13)))
      (nI c, kn, nI R, wa, 0, 0, 0, 0, 0, pd_F pr, pd_F sz, pd_F op, pd_F pk, nu, lv, pd_F E, pd_F M, pd_F NK, pd_F ru, pd_F av, rg, ou) 0 := by
  have hc5 := pd_Gc G
  have hp := pd_Gpr G 0
  have KN' := KN
  obtain ⟨L, hR, LS, hE, hM, hNK⟩ := KN
  have hF : pd_FI c kn (nI R) wa pr sz op pk E NK nu lv (pd_F M) ly wn (fun _ u' v' => i_Rel k u' v') := fun _ _ _ _ _ _ _ _ _ _ _ _ _ => pd_in G (fun _ => KN')
  have IH := pd_all G LS hE hNK hF 400
  have T : pd_T c L (pd_u ru 0 0) (pd_u po 0 0) (pd_u ps 0 0) (pd_rx0 rg (pr 0) x y z) (pd_ri rq (pr 0) x y z 6) 0 0 := ⟨by rw [pd_us]; exact hc, by rw [pd_us, pd_us], pd_us, by omega, fun r hr _ => pd_rxy rg rq x y z hp hr⟩
  have B : pd_B c sz op pk nu L (pd_u ru 0 0) av (pd_u po 0 0) (pd_u ps 0 0) (pd_rx0 rg (pr 0) x y z) (pd_ri rq (pr 0) x y z 6) 0 := fun f hf => absurd hf (by omega)
  obtain ⟨u1, hgo, hO⟩ := pd_gt (s := 0) (oc := 0) (ou := ou) G hNK hF IH (by omega) (by omega) (by omega) (by omega) pd_us T B
  obtain ⟨st', u', v', hR', hX, hY⟩ := hO
  have hrx : pd_rx (fun r u' => wpY_run (fun r' v' => r' = r ∧ i_Rel k u' v') (nI c, st, va, sc, oc, dy, pd_F pr, pd_F sz, pd_F op, pd_F (pd_qa pk), pd_F (pd_qb pk), pd_F (pd_qc pk), nu, ou, pd_F po, pd_F ps, rq, ly, wn) x y z) 401 (nI 0) u1 :=
    hX _ 401 0 (by omega) (by omega) (pd_yrun hc hc5 hp (hY _ 401 0 (by omega) (by omega) ⟨rfl, hR'⟩))
  refine pd_xop (d := 0) (s := 0) (oc := 0) (q := 0) (by omega) (by omega) ?_
  refine pk_le (pr 0) 0 (fun g => pd_x62 hp (fun q hq => ?_) hrx) (fun g => pd_x62 hp (fun q hq => ?_) hrx)
  · have w := hgo q hq
    unfold pd_rx0 at w
    rw [if_pos g] at w; exact w
  · have w := hgo q hq
    unfold pd_rx0 at w
    rw [if_neg (show ¬ pr 0 ≤ 0 by omega)] at w; exact w
end
end
section
/-! the methods on tuples -/
section
variable {c R : Nat} {kn wa de st va sc oc dy : Int32} {pr sz op pk E M NK : Nat → Nat} {nu lv ru av rg ou po ps rq ly wn : Nat → Int32}
theorem pd_m_declare {k : Nat} {v1 : Int32} (G : pd_PG c pr sz op pk nu) (K : ¬ kn = 0 → pd_KN c pr sz op pk nu R E M NK) : wpX_declare (fun r u' => wpY_declare (fun r' v' => r' = r ∧ i_Rel k u' v') (nI c, st, va, sc, oc, dy, pd_F pr, pd_F sz, pd_F op, pd_F (pd_qa pk), pd_F (pd_qb pk), pd_F (pd_qc pk), nu, ou, po, ps, rq, ly, wn) v1) (nI c, kn, nI R, wa, de, st, va, sc, oc, pd_F pr, pd_F sz, pd_F op, pd_F pk, nu, lv, pd_F E, pd_F M, pd_F NK, ru, av, rg, ou) v1 := by
  have hc := pd_Gc G
  by_cases h0 : v1 < 0
  · exact br_t h0 (br_t h0 ⟨rfl, pd_in G K⟩)
  · by_cases h3 : v1 ≤ 3
    · obtain ⟨j, hj, rfl⟩ := nI_of2 (n := 3) (by decide) h0 h3
      refine br_f h0 (br_t h3 (pk_lt c 5 (fun h5 => And.intro (pk_in c 5 h5) (nm_r (e' := pd_F (pd_u pr c j)) (pd_uF c j rfl (by omega) (pd_nb (by omega))) (And.intro (pk_in c 5 h5) (nm_r (e' := pd_F (pd_u sz c 0)) (pd_uF c 0 rfl (by omega) pd_nbz) (nm_r (nI_1 c) ?_))))) (fun h5 => ?_)))
      · exact br_f h0 (br_t h3 (pk_lt c 5 (fun h5 => And.intro (pk_in c 5 h5) (nm_r (e' := pd_F (pd_u pr c j)) (pd_uF c j rfl (by omega) rfl) (And.intro (pk_in c 5 h5) (nm_r (e' := pd_F (pd_u sz c 0)) (pd_uF c 0 rfl (by omega) rfl) (nm_r (nI_1 c) ⟨rfl, pd_in (pd_PG_n G h5 hj) (fun z => absurd rfl z)⟩))))) (fun z => absurd z (by omega))))
      · exact br_f h0 (br_t h3 (pk_lt c 5 (fun z => absurd z (by omega)) (fun _ => ⟨rfl, pd_in G K⟩)))
    · exact br_f h0 (br_f h3 (br_f h0 (br_f h3 ⟨rfl, pd_in G K⟩)))
/-! emit -/
def pd_eb (c : Nat) (v1 v2 v3 : Int32) : Prop := (v1 < 0 ∨ nI c ≤ v1) ∨ v2 < 0 ∨ 7 < v2 ∨ v3 < 0 ∨ ¬ v3 ≤ 511
theorem pd_eb_n {v1 v2 v3 : Int32} (hc : c ≤ 5) (h : ¬ pd_eb c v1 v2 v3) : ∃ p o w, (p < c ∧ o ≤ 7 ∧ w < 512) ∧ v1 = nI p ∧ v2 = nI o ∧ v3 = nI w := by
  rcases pd_dec v1 hc with a | ⟨p, hp, e1⟩
  · exact absurd (Or.inl a) h
  · have h2 : ¬ v2 < 0 := fun z => h (Or.inr (Or.inl z))
    have h2' : v2 ≤ 7 := Int32.not_lt.mp (fun z => h (Or.inr (Or.inr (Or.inl z))))
    have h3 : ¬ v3 < 0 := fun z => h (Or.inr (Or.inr (Or.inr (Or.inl z))))
    have h3' : v3 ≤ 511 := Classical.byContradiction (fun z => h (Or.inr (Or.inr (Or.inr (Or.inr z)))))
    obtain ⟨o, ho, e2⟩ := nI_of2 (n := 7) (by decide) h2 h2'
    obtain ⟨w, hw, e3⟩ := nI_of2 (n := 511) (by decide) h3 h3'
    exact ⟨p, o, w, ⟨hp, ho, by omega⟩, e1, e2, e3⟩
theorem pd_xeb {post : Int32 → SX → Prop} {v1 v2 v3 v4 : Int32} (hc : c ≤ 5) (hb : pd_eb c v1 v2 v3) (h : post (-1) (nI c, kn, nI R, wa, de, st, va, sc, oc, pd_F pr, pd_F sz, pd_F op, pd_F pk, nu, lv, pd_F E, pd_F M, pd_F NK, ru, av, rg, ou)) : wpX_emit post (nI c, kn, nI R, wa, de, st, va, sc, oc, pd_F pr, pd_F sz, pd_F op, pd_F pk, nu, lv, pd_F E, pd_F M, pd_F NK, ru, av, rg, ou) v1 v2 v3 v4 := by
  unfold wpX_emit
  rcases pd_dec v1 hc with a | ⟨p, hp, rfl⟩
  · refine pd_xdn a ?_
    exact br_t rfl h
  · refine pd_xde hp hc ?_
    have hn : ¬ (nI p < 0 ∨ nI c ≤ nI p) := fun z => z.elim (fun y => nI_pos (by omega) y) (fun y => nI_ge hp (by omega) y)
    refine br_f pd_01' (br_c (fun _ => h) (fun a => br_c (fun _ => h) (fun b => br_c (fun _ => h) (fun d => br_c (fun e => ?_) (fun _ => h)))))
    rcases hb with z | z | z | z | z
    · exact absurd z hn
    · exact absurd z a
    · exact absurd z b
    · exact absurd z d
    · exact absurd e z
theorem pd_yeb {post : Int32 → SY → Prop} {v1 v2 v3 v4 : Int32} (hc : c ≤ 5) (hb : pd_eb c v1 v2 v3) (h : post (-1) (nI c, st, va, sc, oc, dy, pd_F pr, pd_F sz, pd_F op, pd_F (pd_qa pk), pd_F (pd_qb pk), pd_F (pd_qc pk), nu, ou, po, ps, rq, ly, wn)) : wpY_emit post (nI c, st, va, sc, oc, dy, pd_F pr, pd_F sz, pd_F op, pd_F (pd_qa pk), pd_F (pd_qb pk), pd_F (pd_qc pk), nu, ou, po, ps, rq, ly, wn) v1 v2 v3 v4 := by
  unfold wpY_emit wpY_bad
  rcases pd_dec v1 hc with a | ⟨p, hp, rfl⟩
  · refine pd_ydn a ?_
    exact br_t rfl (br_f pd_01' h)
  · refine pd_yde hp hc ?_
    have hn : ¬ (nI p < 0 ∨ nI c ≤ nI p) := fun z => z.elim (fun y => nI_pos (by omega) y) (fun y => nI_ge hp (by omega) y)
    refine br_f pd_01' (br_c (fun _ => br_f pd_01' h) (fun a => br_c (fun _ => br_f pd_01' h) (fun b => br_c (fun _ => br_f pd_01' h) (fun d => br_c (fun e => ?_) (fun _ => br_f pd_01' h)))))
    rcases hb with z | z | z | z | z
    · exact absurd z hn
    · exact absurd z a
    · exact absurd z b
    · exact absurd z d
    · exact absurd e z
theorem pd_xem {post : Int32 → SX → Prop} {p o w : Nat} {v4 : Int32} (G : pd_PG c pr sz op pk nu) (hp : p < c) (ho : o ≤ 7) (hw : w < 512)
    (K0 : ¬ pd_ok c pr sz p o w v4 → post (-1) (nI c, kn, nI R, wa, de, st, va, sc, oc, pd_F pr, pd_F sz, pd_F op, pd_F pk, nu, lv, pd_F E, pd_F M, pd_F NK, ru, av, rg, ou)) (K1 : pd_ok c pr sz p o w v4 → 8 ≤ sz p → post (-2) (nI c, kn, nI R, wa, de, st, va, sc, oc, pd_F pr, pd_F sz, pd_F op, pd_F pk, nu, lv, pd_F E, pd_F M, pd_F NK, ru, av, rg, ou))
    (K2 : pd_ok c pr sz p o w v4 → sz p < 8 → post (nI (sz p)) (nI c, 0, nI R, wa, de, 0, 0, 0, 0, pd_F pr, pd_F (pd_u sz p (sz p + 1)), pd_F (pd_u op (8 * p + sz p) o), pd_F (pd_u pk (8 * p + sz p) w), upd nu (8 * p + sz p) v4, lv, pd_F E, pd_F M, pd_F NK, ru, av, rg, ou)) : wpX_emit post (nI c, kn, nI R, wa, de, st, va, sc, oc, pd_F pr, pd_F sz, pd_F op, pd_F pk, nu, lv, pd_F E, pd_F M, pd_F NK, ru, av, rg, ou) (nI p) (nI o) (nI w) v4 := by
  have hc := pd_Gc G
  have hs := pd_Gsz G p
  have ip : vp_in (nI p) 5 := vp_in_nI (by omega) (by omega)
  have es : pd_F sz (nI p).toNatClampNeg = nI (sz p) := pd_rF p rfl (by omega)
  unfold wpX_emit
  refine pd_xde hp hc ?_
  refine br_f pd_01' (br_f (nI_pos (n := o) (by omega)) (pk_lt 7 o (fun z => absurd z (by omega)) (fun _ => br_f (nI_pos (n := w) (by omega)) (pk_le w 511 (fun _ => ?_) (fun z => absurd z (by omega))))))
  refine pd_xok G hp ho hw (fun ok => ?_) (fun nok => br_t rfl (K0 nok))
  refine br_f pd_01' (And.intro ip (pk_lt (sz p) 8 (fun h8 => ?_) (fun h8 => K1 ok h8) es))
  have ii : vp_in (nI (8 * p + sz p)) 40 := vp_in_nI (by omega) (by omega)
  refine And.intro ip (nm_r (e' := nI (8 * p + sz p)) (by rw [es, pd_x8]) (And.intro ii (nm_r (e' := pd_F (pd_u op (8 * p + sz p) o)) (pd_uF _ o rfl (by omega) (pd_nb (by omega))) (And.intro ii (nm_r (e' := pd_F (pd_u pk (8 * p + sz p) w)) (pd_uF _ w rfl (by omega) (pd_ns hw)) (And.intro ii (nm_r (e' := upd nu (8 * p + sz p) v4) (pd_uR _ rfl (by omega)) (And.intro ip (And.intro ip (nm_r (e' := pd_F (pd_u sz p (sz p + 1))) (pd_uF p (sz p + 1) rfl (by omega) ?_) (And.intro ip ?_)))))))))))
  · rw [es, nI_1]; exact pd_nb (by omega)
  · rw [pd_rF p rfl (by omega), pd_us, nI_pred]
    exact K2 ok h8
theorem pd_yem {post : Int32 → SY → Prop} {p o w : Nat} {v4 : Int32} (G : pd_PG c pr sz op pk nu) (hp : p < c) (ho : o ≤ 7) (hw : w < 512)
    (K0 : ¬ pd_ok c pr sz p o w v4 → post (-1) (nI c, st, va, sc, oc, dy, pd_F pr, pd_F sz, pd_F op, pd_F (pd_qa pk), pd_F (pd_qb pk), pd_F (pd_qc pk), nu, ou, po, ps, rq, ly, wn)) (K1 : pd_ok c pr sz p o w v4 → 8 ≤ sz p → post (-2) (nI c, st, va, sc, oc, dy, pd_F pr, pd_F sz, pd_F op, pd_F (pd_qa pk), pd_F (pd_qb pk), pd_F (pd_qc pk), nu, ou, po, ps, rq, ly, wn))
    (K2 : pd_ok c pr sz p o w v4 → sz p < 8 → post (nI (sz p)) (nI c, 0, 0, 0, 0, dy, pd_F pr, pd_F (pd_u sz p (sz p + 1)), pd_F (pd_u op (8 * p + sz p) o), pd_F (pd_qa (pd_u pk (8 * p + sz p) w)), pd_F (pd_qb (pd_u pk (8 * p + sz p) w)), pd_F (pd_qc (pd_u pk (8 * p + sz p) w)), upd nu (8 * p + sz p) v4, ou, po, ps, rq, ly, wn)) : wpY_emit post (nI c, st, va, sc, oc, dy, pd_F pr, pd_F sz, pd_F op, pd_F (pd_qa pk), pd_F (pd_qb pk), pd_F (pd_qc pk), nu, ou, po, ps, rq, ly, wn) (nI p) (nI o) (nI w) v4 := by
  have hc := pd_Gc G
  have hs := pd_Gsz G p
  have ip : vp_in (nI p) 5 := vp_in_nI (by omega) (by omega)
  have es : pd_F sz (nI p).toNatClampNeg = nI (sz p) := pd_rF p rfl (by omega)
  unfold wpY_emit
  refine pd_yok G hp ho hw (fun ok => ?_) (fun nok => br_f pd_01' (K0 nok))
  refine br_t rfl (And.intro ip (pk_lt (sz p) 8 (fun h8 => ?_) (fun h8 => K1 ok h8) es))
  have ii : vp_in (nI (8 * p + sz p)) 40 := vp_in_nI (by omega) (by omega)
  refine And.intro ip (nm_r (e' := nI (8 * p + sz p)) (by rw [es, pd_y8]) (And.intro ii (nm_r (e' := pd_F (pd_u op (8 * p + sz p) o)) (pd_uF _ o rfl (by omega) rfl) (And.intro ii (nm_r (e' := pd_F (pd_qa (pd_u pk (8 * p + sz p) w))) ?_ (And.intro ii (nm_r (e' := pd_F (pd_qb (pd_u pk (8 * p + sz p) w))) ?_ (And.intro ii (nm_r (e' := pd_F (pd_qc (pd_u pk (8 * p + sz p) w))) ?_ (And.intro ii (nm_r (e' := upd nu (8 * p + sz p) v4) (pd_uR _ rfl (by omega)) (And.intro ip (And.intro ip (nm_r (e' := pd_F (pd_u sz p (sz p + 1))) (pd_uF p (sz p + 1) rfl (by omega) ?_) (And.intro ip ?_)))))))))))))))
  · rw [pd_qau]; exact pd_uF _ _ rfl (by omega) (pd_oa hw)
  · rw [pd_qbu]; exact pd_uF _ _ rfl (by omega) (pd_ob hw)
  · rw [pd_qcu]; exact pd_uF _ _ rfl (by omega) (pd_oc hw)
  · rw [es, nI_1]
  · rw [pd_rF p rfl (by omega), pd_us, nI_pred]
    exact K2 ok h8
theorem pd_m_emit {k : Nat} {v1 v2 v3 v4 : Int32} (G : pd_PG c pr sz op pk nu) (K : ¬ kn = 0 → pd_KN c pr sz op pk nu R E M NK) : wpX_emit (fun r u' => wpY_emit (fun r' v' => r' = r ∧ i_Rel k u' v') (nI c, st, va, sc, oc, dy, pd_F pr, pd_F sz, pd_F op, pd_F (pd_qa pk), pd_F (pd_qb pk), pd_F (pd_qc pk), nu, ou, po, ps, rq, ly, wn) v1 v2 v3 v4) (nI c, kn, nI R, wa, de, st, va, sc, oc, pd_F pr, pd_F sz, pd_F op, pd_F pk, nu, lv, pd_F E, pd_F M, pd_F NK, ru, av, rg, ou) v1 v2 v3 v4 := by
  have hc := pd_Gc G
  by_cases hb : pd_eb c v1 v2 v3
  · exact pd_xeb hc hb (pd_yeb hc hb ⟨rfl, pd_in G K⟩)
  · obtain ⟨p, o, w, ⟨hp, ho, hw⟩, rfl, rfl, rfl⟩ := pd_eb_n hc hb
    refine pd_xem G hp ho hw (fun nok => ?_) (fun ok h8 => ?_) (fun ok h8 => ?_)
    · exact pd_yem G hp ho hw (fun _ => ⟨rfl, pd_in G K⟩) (fun z => absurd z nok) (fun z => absurd z nok)
    · exact pd_yem G hp ho hw (fun z => absurd ok z) (fun _ _ => ⟨rfl, pd_in G K⟩) (fun _ z => absurd z (by omega))
    · exact pd_yem G hp ho hw (fun z => absurd ok z) (fun _ z => absurd z (by omega)) (fun _ _ => ⟨rfl, pd_in (pd_PG_e G hp h8 ho hw ok) (fun z => absurd rfl z)⟩)
theorem pd_m_drop {k : Nat} {v1 : Int32} (G : pd_PG c pr sz op pk nu) (K : ¬ kn = 0 → pd_KN c pr sz op pk nu R E M NK) : wpX_drop (fun r u' => wpY_drop (fun r' v' => r' = r ∧ i_Rel k u' v') (nI c, st, va, sc, oc, dy, pd_F pr, pd_F sz, pd_F op, pd_F (pd_qa pk), pd_F (pd_qb pk), pd_F (pd_qc pk), nu, ou, po, ps, rq, ly, wn) v1) (nI c, kn, nI R, wa, de, st, va, sc, oc, pd_F pr, pd_F sz, pd_F op, pd_F pk, nu, lv, pd_F E, pd_F M, pd_F NK, ru, av, rg, ou) v1 := by
  have hc := pd_Gc G
  unfold wpX_drop
  rcases pd_dec v1 hc with a | ⟨p, hp, rfl⟩
  · refine pd_xdn a ?_
    refine br_t rfl ?_
    unfold wpY_drop
    refine pd_ydn a ?_
    exact br_t rfl ⟨rfl, pd_in G K⟩
  · have hs := pd_Gsz G p
    have ip : vp_in (nI p) 5 := vp_in_nI (by omega) (by omega)
    have es : pd_F sz (nI p).toNatClampNeg = nI (sz p) := pd_rF p rfl (by omega)
    refine pd_xde hp hc ?_
    refine br_f pd_01' (And.intro ip (pk_eq (sz p) 0 (fun h => ?_) (fun h => ?_) es))
    · unfold wpY_drop
      refine pd_yde hp hc ?_
      exact br_f pd_01' (And.intro ip (pk_eq (sz p) 0 (fun _ => ⟨rfl, pd_in G K⟩) (fun z => absurd h z) es))
    · refine And.intro ip (And.intro ip (nm_r (e' := pd_F (pd_u sz p (sz p - 1))) (pd_uF p (sz p - 1) rfl (by omega) ?_) (And.intro ip ?_)))
      · rw [es, pd_d1 (by omega)]; exact pd_nb (by omega)
      · unfold wpY_drop
        refine pd_yde hp hc ?_
        refine br_f pd_01' (And.intro ip (pk_eq (sz p) 0 (fun z => absurd z h) (fun _ => And.intro ip (And.intro ip (nm_r (e' := pd_F (pd_u sz p (sz p - 1))) (pd_uF p (sz p - 1) rfl (by omega) ?_) (And.intro ip ⟨rfl, pd_in (pd_PG_d G) (fun z => absurd rfl z)⟩)))) es))
        rw [es, pd_d1 (by omega)]
theorem pd_m_length {k : Nat} {v1 : Int32} (G : pd_PG c pr sz op pk nu) (K : ¬ kn = 0 → pd_KN c pr sz op pk nu R E M NK) : wpX_length (fun r => wpY_length (fun r' => r' = r ∧ i_Rel k (nI c, kn, nI R, wa, de, st, va, sc, oc, pd_F pr, pd_F sz, pd_F op, pd_F pk, nu, lv, pd_F E, pd_F M, pd_F NK, ru, av, rg, ou) (nI c, st, va, sc, oc, dy, pd_F pr, pd_F sz, pd_F op, pd_F (pd_qa pk), pd_F (pd_qb pk), pd_F (pd_qc pk), nu, ou, po, ps, rq, ly, wn)) (nI c, st, va, sc, oc, dy, pd_F pr, pd_F sz, pd_F op, pd_F (pd_qa pk), pd_F (pd_qb pk), pd_F (pd_qc pk), nu, ou, po, ps, rq, ly, wn) v1) (nI c, kn, nI R, wa, de, st, va, sc, oc, pd_F pr, pd_F sz, pd_F op, pd_F pk, nu, lv, pd_F E, pd_F M, pd_F NK, ru, av, rg, ou) v1 := by
  have hc := pd_Gc G
  unfold wpX_length
  rcases pd_dec v1 hc with a | ⟨p, hp, rfl⟩
  · refine pd_xdn a ?_
    refine br_t rfl ?_
    unfold wpY_length
    refine pd_ydn a ?_
    exact br_t rfl ⟨rfl, pd_in G K⟩
  · have ip : vp_in (nI p) 5 := vp_in_nI (by omega) (by omega)
    refine pd_xde hp hc ?_
    refine br_f pd_01' (And.intro ip ?_)
    unfold wpY_length
    refine pd_yde hp hc ?_
    exact br_f pd_01' (And.intro ip ⟨rfl, pd_in G K⟩)
theorem pd_m_out {k : Nat} {v1 : Int32} (G : pd_PG c pr sz op pk nu) (K : ¬ kn = 0 → pd_KN c pr sz op pk nu R E M NK) : wpX_out (fun r => wpY_out (fun r' => r' = r ∧ i_Rel k (nI c, kn, nI R, wa, de, st, va, sc, oc, pd_F pr, pd_F sz, pd_F op, pd_F pk, nu, lv, pd_F E, pd_F M, pd_F NK, ru, av, rg, ou) (nI c, st, va, sc, oc, dy, pd_F pr, pd_F sz, pd_F op, pd_F (pd_qa pk), pd_F (pd_qb pk), pd_F (pd_qc pk), nu, ou, po, ps, rq, ly, wn)) (nI c, st, va, sc, oc, dy, pd_F pr, pd_F sz, pd_F op, pd_F (pd_qa pk), pd_F (pd_qb pk), pd_F (pd_qc pk), nu, ou, po, ps, rq, ly, wn) v1) (nI c, kn, nI R, wa, de, st, va, sc, oc, pd_F pr, pd_F sz, pd_F op, pd_F pk, nu, lv, pd_F E, pd_F M, pd_F NK, ru, av, rg, ou) v1 := by
  rcases pk_ix v1 (n := 16) (by omega) with h | h | ⟨j, hj, rfl⟩
  · exact br_t h (br_t h ⟨rfl, pd_in G K⟩)
  · have h0 : ¬ v1 < 0 := Int32.not_lt.mpr (Int32.le_trans (show (0 : Int32) ≤ nI 16 by decide) h)
    have h15 : (15 : Int32) < v1 := Int32.lt_of_lt_of_le (show (15 : Int32) < nI 16 by decide) h
    exact br_f h0 (br_t h15 (br_f h0 (br_t h ⟨rfl, pd_in G K⟩)))
  · have h0 : ¬ nI j < 0 := nI_pos (by omega)
    have ij : vp_in (nI j) 16 := vp_in_nI (by omega) (by omega)
    refine br_f h0 (pk_lt 15 j (fun z => absurd z (by omega)) (fun _ => br_c (fun h => And.intro ij ?_) (fun h => ?_)))
    · exact br_f h0 (pk_le 16 j (fun z => absurd z (by omega)) (fun _ => br_f (Int32.not_le.mpr h) (And.intro ij ⟨rfl, pd_in G K⟩)))
    · exact br_f h0 (pk_le 16 j (fun z => absurd z (by omega)) (fun _ => br_t (Int32.not_lt.mp h) ⟨rfl, pd_in G K⟩))
end
end
section
/-! what matters: the answers -/
section
variable {c R : Nat} {kn wa de st va sc oc dy : Int32} {pr sz op pk E M NK : Nat → Nat} {nu lv ru av rg ou po ps rq ly wn : Nat → Int32}
theorem pd_y77 {post : Int32 → SY → Prop} {J : Int32 → Int32 → Prop} {x1 : Int32} {S k : Nat} (hk : k < 8) (h : J (nI (S ||| 2 ^ k)) (nI (k + 1))) : wY_instructionsThatMatter_77 post J x1 (nI S) (nI k) (nI c) st va sc oc dy (pd_F pr) (pd_F sz) (pd_F op) (pd_F (pd_qa pk)) (pd_F (pd_qb pk)) (pd_F (pd_qc pk)) nu ou po ps rq ly wn :=
  nm_r (e' := nI (S ||| 2 ^ k)) (by rw [pd_sl (by omega), pd_or]) (nm_r (nI_1 k) h)
theorem pd_yit {post : Int32 → SY → Prop} {p : Nat} {L W : Nat → Nat} (G : pd_PG c pr sz op pk nu) (hp : p < c) (hL : ∀ j, j ≤ 8 → L (9 * p + j) < 64)
    (K : ∀ S, (∀ i, S.testBit i = true ↔ i < sz p ∧ pd_kp op pk nu L p i) → post (nI S) (nI c, st, va, sc, oc, dy, pd_F pr, pd_F sz, pd_F op, pd_F (pd_qa pk), pd_F (pd_qb pk), pd_F (pd_qc pk), nu, ou, po, ps, rq, pd_F L, pd_F W)) :
    ∀ j k n S, k + j = sz p → j < n → (∀ i, S.testBit i = true ↔ i < k ∧ pd_kp op pk nu L p i) → wY_instructionsThatMatter_8 post (nI p) (nI c) st va sc oc dy (pd_F pr) (pd_F sz) (pd_F op) (pd_F (pd_qa pk)) (pd_F (pd_qb pk)) (pd_F (pd_qc pk)) nu ou po ps rq (pd_F L) (pd_F W) n (nI S) (nI k) := by
  have hc := pd_Gc G
  have hs := pd_Gsz G p
  have ip : vp_in (nI p) 5 := vp_in_nI (by omega) (by omega)
  have es : pd_F sz (nI p).toNatClampNeg = nI (sz p) := pd_rF p rfl (by omega)
  intro j
  induction j with
  | zero =>
    intro k n S hk hn hS
    obtain ⟨m, rfl⟩ : ∃ m, n = m + 1 := ⟨n - 1, by omega⟩
    unfold wY_instructionsThatMatter_8
    refine pd_yde hp hc ?_
    have e : k = sz p := by omega
    subst e
    exact br_f pd_01' (And.intro ip (pk_le (sz p) (sz p) (fun _ => K S hS) (fun z => absurd z (by omega)) es))
  | succ j ih =>
    intro k n S hk hn hS
    obtain ⟨m, rfl⟩ : ∃ m, n = m + 1 := ⟨n - 1, by omega⟩
    have o7 := pd_Gop G (8 * p + k)
    have ha := pd_Ga G (8 * p + k)
    have hx : pd_af op nu L p k < 64 := pd_af_lt G (by omega) fun i _ b => hL i b
    have i8 := pd_y8 p k
    have kept : pd_kp op pk nu L p k → wY_instructionsThatMatter_8 post (nI p) (nI c) st va sc oc dy (pd_F pr) (pd_F sz) (pd_F op) (pd_F (pd_qa pk)) (pd_F (pd_qb pk)) (pd_F (pd_qc pk)) nu ou po ps rq (pd_F L) (pd_F W) m (nI (S ||| 2 ^ k)) (nI (k + 1)) := fun hkp => by
      refine ih (k + 1) m _ (by omega) (by omega) (fun i => ⟨fun z => ?_, fun z => ?_⟩)
      · rcases pd_or2 z with y | y
        · have := (hS i).mp y
          exact ⟨by omega, this.2⟩
        · subst y; exact ⟨by omega, hkp⟩
      · by_cases e : i = k
        · subst e; exact pd_or2' _ _
        · exact pd_le_l _ _ i ((hS i).mpr ⟨by omega, z.2⟩)
    have gone : ¬ pd_kp op pk nu L p k → wY_instructionsThatMatter_8 post (nI p) (nI c) st va sc oc dy (pd_F pr) (pd_F sz) (pd_F op) (pd_F (pd_qa pk)) (pd_F (pd_qb pk)) (pd_F (pd_qc pk)) nu ou po ps rq (pd_F L) (pd_F W) m (nI S) (nI (k + 1)) := fun hkp => by
      refine ih (k + 1) m _ (by omega) (by omega) (fun i => ?_)
      rw [hS i]
      refine ⟨fun z => ⟨by omega, z.2⟩, fun z => ?_⟩
      by_cases e : i = k
      · subst e; exact absurd z.2 hkp
      · exact ⟨by omega, z.2⟩
    unfold wY_instructionsThatMatter_8
    refine pd_yde hp hc ?_
    refine br_f pd_01' (And.intro ip (pk_le (sz p) k (fun z => absurd z (by omega)) (fun _ => And.intro (pk_in (8 * p + k) 40 (by omega) i8) (pk_lt (op (8 * p + k)) 4 (fun h => ?_) (fun h => br_f pd_01' (pd_y77 (by omega) (kept (Or.inl h)))) (pd_rF _ i8 (by omega)))) es))
    refine br_t rfl (pd_yaf (p := p) (k := k) G (by omega) (by omega) (And.intro (pk_in (8 * p + k) 40 (by omega) i8) ?_))
    rw [pd_ra _ i8 (by omega)]
    refine pd_br1 (by omega) (by omega) (fun hb => pd_y77 (by omega) (kept (Or.inr hb))) (fun hb => nm_r (nI_1 k) (gone (fun z => z.elim (fun y => by omega) (fun y => by rw [hb] at y; cases y))))
theorem pd_m_pm {k : Nat} {v1 : Int32} (G : pd_PG c pr sz op pk nu) (K : ¬ kn = 0 → pd_KN c pr sz op pk nu R E M NK) : wpX_parametersThatMatter (fun r u' => wpY_parametersThatMatter (fun r' v' => r' = r ∧ i_Rel k u' v') (nI c, st, va, sc, oc, dy, pd_F pr, pd_F sz, pd_F op, pd_F (pd_qa pk), pd_F (pd_qb pk), pd_F (pd_qc pk), nu, ou, po, ps, rq, ly, wn) v1) (nI c, kn, nI R, wa, de, st, va, sc, oc, pd_F pr, pd_F sz, pd_F op, pd_F pk, nu, lv, pd_F E, pd_F M, pd_F NK, ru, av, rg, ou) v1 := by
  have hc := pd_Gc G
  obtain ⟨Q, rfl⟩ := pd_exI wa
  obtain ⟨L, rfl⟩ := pd_ex lv
  obtain ⟨Ly, rfl⟩ := pd_ex ly
  obtain ⟨Wy, rfl⟩ := pd_ex wn
  unfold wpX_parametersThatMatter
  rcases pd_dec v1 hc with a | ⟨p, hp, rfl⟩
  · refine pd_xdn a ?_
    refine br_t rfl ?_
    unfold wpY_parametersThatMatter
    refine pd_ycol G (fun L2 W2 _ _ => ?_)
    refine pd_ydn a ?_
    exact br_t rfl ⟨rfl, pd_in G K⟩
  · have ip : vp_in (nI p) 5 := vp_in_nI (by omega) (by omega)
    have hpr := pd_Gpr G p
    refine pd_xde hp hc ?_
    refine br_f pd_01' ?_
    refine pd_xlearn G (by omega) K (fun kn R Q L E M NK hkn KN => ?_)
    refine And.intro ip ?_
    unfold wpY_parametersThatMatter
    refine pd_ycol G (fun L2 W2 hls _ => ?_)
    refine pd_yde hp hc ?_
    refine br_f pd_01' (And.intro (pk_in (9 * p) 45 (by omega) (pd_y90 p)) (And.intro ip ⟨?_, pd_in G (fun _ => KN)⟩))
    obtain ⟨L3, hR, LS, hE, hM, hNK⟩ := KN
    have eu : L3 (9 * p) = L2 (9 * p) := (pd_ls_u LS hls).1 p 0 hp (by omega)
    rw [pd_rF (9 * p) (pd_y90 p) (by omega), pd_rF p rfl (by omega), pd_rF p rfl (by omega), pd_msk _ (by omega), hE p hp, ← eu]
    rfl
theorem pd_m_rm {k : Nat} {v1 : Int32} (G : pd_PG c pr sz op pk nu) (K : ¬ kn = 0 → pd_KN c pr sz op pk nu R E M NK) : wpX_resultMatters (fun r u' => wpY_resultMatters (fun r' v' => r' = r ∧ i_Rel k u' v') (nI c, st, va, sc, oc, dy, pd_F pr, pd_F sz, pd_F op, pd_F (pd_qa pk), pd_F (pd_qb pk), pd_F (pd_qc pk), nu, ou, po, ps, rq, ly, wn) v1) (nI c, kn, nI R, wa, de, st, va, sc, oc, pd_F pr, pd_F sz, pd_F op, pd_F pk, nu, lv, pd_F E, pd_F M, pd_F NK, ru, av, rg, ou) v1 := by
  have hc := pd_Gc G
  obtain ⟨Q, rfl⟩ := pd_exI wa
  obtain ⟨L, rfl⟩ := pd_ex lv
  obtain ⟨Ly, rfl⟩ := pd_ex ly
  obtain ⟨Wy, rfl⟩ := pd_ex wn
  unfold wpX_resultMatters
  rcases pd_dec v1 hc with a | ⟨p, hp, rfl⟩
  · refine pd_xdn a ?_
    refine br_t rfl ?_
    unfold wpY_resultMatters
    refine pd_ycol G (fun L2 W2 _ _ => ?_)
    refine pd_ydn a ?_
    exact br_t rfl ⟨rfl, pd_in G K⟩
  · have ip : vp_in (nI p) 5 := vp_in_nI (by omega) (by omega)
    refine pd_xde hp hc ?_
    refine br_f pd_01' ?_
    refine pd_xlearn G (by omega) K (fun kn R Q L E M NK hkn KN => ?_)
    have KN' := KN
    obtain ⟨L3, hR, LS, hE, hM, hNK⟩ := KN
    refine pd_br0 (by omega) (by omega) (fun hb => ?_) (fun hb => ?_)
    · unfold wpY_resultMatters
      refine pd_ycol G (fun L2 W2 hls hW => ?_)
      refine pd_yde hp hc ?_
      have eu : R.testBit p = pd_wb W2 p := (pd_ls_u LS hls).2 p (by omega)
      have hw := hW p (by omega)
      refine br_f pd_01' (And.intro ip (pk_eq (W2 p) 0 (fun _ => ⟨rfl, pd_in G (fun _ => KN')⟩) (fun z => ?_) (pd_rF p rfl (by omega))))
      rw [hb, pd_wb1.mpr z] at eu; cases eu
    · unfold wpY_resultMatters
      refine pd_ycol G (fun L2 W2 hls hW => ?_)
      refine pd_yde hp hc ?_
      have eu : R.testBit p = pd_wb W2 p := (pd_ls_u LS hls).2 p (by omega)
      have hw := hW p (by omega)
      refine br_f pd_01' (And.intro ip (pk_eq (W2 p) 0 (fun z => ?_) (fun _ => ⟨rfl, pd_in G (fun _ => KN')⟩) (pd_rF p rfl (by omega))))
      rw [hb, pd_wb0 z] at eu; cases eu
theorem pd_m_im {k : Nat} {v1 : Int32} (G : pd_PG c pr sz op pk nu) (K : ¬ kn = 0 → pd_KN c pr sz op pk nu R E M NK) : wpX_instructionsThatMatter (fun r u' => wpY_instructionsThatMatter (fun r' v' => r' = r ∧ i_Rel k u' v') (nI c, st, va, sc, oc, dy, pd_F pr, pd_F sz, pd_F op, pd_F (pd_qa pk), pd_F (pd_qb pk), pd_F (pd_qc pk), nu, ou, po, ps, rq, ly, wn) v1) (nI c, kn, nI R, wa, de, st, va, sc, oc, pd_F pr, pd_F sz, pd_F op, pd_F pk, nu, lv, pd_F E, pd_F M, pd_F NK, ru, av, rg, ou) v1 := by
  have hc := pd_Gc G
  obtain ⟨Q, rfl⟩ := pd_exI wa
  obtain ⟨L, rfl⟩ := pd_ex lv
  obtain ⟨Ly, rfl⟩ := pd_ex ly
  obtain ⟨Wy, rfl⟩ := pd_ex wn
  unfold wpX_instructionsThatMatter
  rcases pd_dec v1 hc with a | ⟨p, hp, rfl⟩
  · refine pd_xdn a ?_
    refine br_t rfl ?_
    unfold wpY_instructionsThatMatter
    refine pd_ycol G (fun L2 W2 _ _ => ?_)
    refine Exists.intro 1 ?_
    unfold wY_instructionsThatMatter_8
    refine pd_ydn a ?_
    exact br_t rfl ⟨rfl, pd_in G K⟩
  · have ip : vp_in (nI p) 5 := vp_in_nI (by omega) (by omega)
    have hs := pd_Gsz G p
    refine pd_xde hp hc ?_
    refine br_f pd_01' ?_
    refine pd_xlearn G (by omega) K (fun kn R Q L E M NK hkn KN => ?_)
    refine And.intro ip ?_
    unfold wpY_instructionsThatMatter
    refine pd_ycol G (fun L2 W2 hls _ => ?_)
    refine Exists.intro 9 ?_
    have h00 : ∀ i, (0 : Nat).testBit i = true ↔ i < 0 ∧ pd_kp op pk nu L2 p i := fun i => by
      rw [Nat.zero_testBit]
      exact ⟨fun z => (by cases z), fun z => absurd z.1 (by omega)⟩
    refine pd_yit G hp (fun j hj => hls.2.1 p j hp hj) (fun S hS => ⟨?_, pd_in G (fun _ => KN)⟩) (sz p) 0 9 0 (by omega) (by omega) h00
    · obtain ⟨L3, hR, LS, hE, hM, hNK⟩ := KN
      have eu := (pd_ls_u LS hls).1
      have ekp : ∀ i, i < sz p → (pd_kp op pk nu L3 p i ↔ pd_kp op pk nu L2 p i) := fun i hi => by
        have e : pd_af op nu L3 p i = pd_af op nu L2 p i := pd_af_eq G (by omega) fun j _ b => eu p j hp b
        unfold pd_kp
        rw [e]
      have e : S = M p := by
        refine pd_le_a (fun i z => ?_) (fun i z => ?_)
        · have y := (hS i).mp z
          exact (hM p hp i).mpr ⟨y.1, (ekp i y.1).mpr y.2⟩
        · have y := (hM p hp i).mp z
          exact (hS i).mpr ⟨y.1, (ekp i y.1).mp y.2⟩
      rw [e, pd_rF p rfl (by omega)]
theorem pd_m_run {k : Nat} {x y z : Int32} (G : pd_PG c pr sz op pk nu) (K : ¬ kn = 0 → pd_KN c pr sz op pk nu R E M NK) : wpX_run (fun r u' => wpY_run (fun r' v' => r' = r ∧ i_Rel k u' v') (nI c, st, va, sc, oc, dy, pd_F pr, pd_F sz, pd_F op, pd_F (pd_qa pk), pd_F (pd_qb pk), pd_F (pd_qc pk), nu, ou, po, ps, rq, ly, wn) x y z) (nI c, kn, nI R, wa, de, st, va, sc, oc, pd_F pr, pd_F sz, pd_F op, pd_F pk, nu, lv, pd_F E, pd_F M, pd_F NK, ru, av, rg, ou) x y z := by
  have hc := pd_Gc G
  obtain ⟨Q, rfl⟩ := pd_exI wa
  obtain ⟨L, rfl⟩ := pd_ex lv
  obtain ⟨ru, rfl⟩ := pd_ex ru
  obtain ⟨av, rfl⟩ := pd_ex av
  obtain ⟨po, rfl⟩ := pd_ex po
  obtain ⟨ps, rfl⟩ := pd_ex ps
  refine pk_eq c 0 (fun h => ?_) (fun h => ?_)
  · exact pk_eq c 0 (fun _ => ⟨rfl, pd_in G K⟩) (fun z => absurd h z)
  · refine pd_xlearn G (by omega) K (fun kn R Q L E M NK hkn KN => ?_)
    exact pd_run1 G (by omega) hkn KN
end
end
section
/-! what is owed -/
theorem i_up {k : Nat} {u : SX} {v : SY} (h : i_Rel k u v) : i_Rel (k + 5) u v := h
theorem pd_PG_z : pd_PG 0 (fun _ => 0) (fun _ => 0) (fun _ => 0) (fun _ => 0) (fun _ => 0) :=
  ⟨by omega, fun _ => Nat.zero_le 3, fun _ => Nat.zero_le 8, fun _ => Nat.zero_le 7, fun _ => (by decide : 0 < 512), fun _ => (by decide : 0 % 8 < 6), fun _ z => absurd z (by decide : ¬ 1 ≤ 0), fun _ z => absurd z (by decide : ¬ 0 = 4), fun _ _ z => absurd z (by omega)⟩
theorem pd_z1 : pd_F (fun _ => 0) = fun _ => 0 := by funext i; exact nI_0
theorem pd_z2 : pd_F (pd_qa (fun _ => 0)) = fun _ => 0 := by funext i; exact nI_0
theorem pd_z3 : pd_F (pd_qb (fun _ => 0)) = fun _ => 0 := by funext i; exact (congrArg nI (by decide : 0 / 8 % 8 = 0)).trans nI_0
theorem pd_z4 : pd_F (pd_qc (fun _ => 0)) = fun _ => 0 := by funext i; exact (congrArg nI (by decide : 0 / 64 = 0)).trans nI_0
theorem i_vc0 : wpX_init (fun u => wpY_init (fun v => i_Rel 0 u v)) := by
  have h := pd_in (k := 0) (c := 0) (R := 0) (kn := 0) (wa := 0) (de := 0) (st := 0) (va := 0) (sc := 0) (oc := 0) (dy := 0) (E := fun _ => 0) (M := fun _ => 0) (NK := fun _ => 0) (lv := fun _ => 0) (ru := fun _ => 0) (av := fun _ => 0) (rg := fun _ => 0) (ou := fun _ => 0) (po := fun _ => 0) (ps := fun _ => 0) (rq := fun _ => 0) (ly := fun _ => 0) (wn := fun _ => 0) pd_PG_z (fun z => absurd rfl z)
  rw [pd_z2, pd_z3, pd_z4, pd_z1, nI_0] at h
  exact h
theorem i_vc_declare {k : Nat} {u : SX} {v : SY} (I : i_Rel k u v) (hk : k + 5 ≤ 2560) (v1 : Int32) : wpX_declare (fun r u' => wpY_declare (fun r' v' => r' = r ∧ i_Rel (k + 5) u' v') v v1) u v1 :=
  pd_el I (P := fun u v => wpX_declare (fun r u' => wpY_declare (fun r' v' => r' = r ∧ i_Rel (k + 5) u' v') v v1) u v1) (fun c R kn wa de st va sc oc dy pr sz op pk E M NK nu lv ru av rg ou po ps rq ly wn G K => pd_m_declare G K)
theorem i_vc_emit {k : Nat} {u : SX} {v : SY} (I : i_Rel k u v) (hk : k + 5 ≤ 2560) (v1 : Int32) (v2 : Int32) (v3 : Int32) (v4 : Int32) : wpX_emit (fun r u' => wpY_emit (fun r' v' => r' = r ∧ i_Rel (k + 5) u' v') v v1 v2 v3 v4) u v1 v2 v3 v4 :=
  pd_el I (P := fun u v => wpX_emit (fun r u' => wpY_emit (fun r' v' => r' = r ∧ i_Rel (k + 5) u' v') v v1 v2 v3 v4) u v1 v2 v3 v4) (fun c R kn wa de st va sc oc dy pr sz op pk E M NK nu lv ru av rg ou po ps rq ly wn G K => pd_m_emit G K)
theorem i_vc_drop {k : Nat} {u : SX} {v : SY} (I : i_Rel k u v) (hk : k + 5 ≤ 2560) (v1 : Int32) : wpX_drop (fun r u' => wpY_drop (fun r' v' => r' = r ∧ i_Rel (k + 5) u' v') v v1) u v1 :=
  pd_el I (P := fun u v => wpX_drop (fun r u' => wpY_drop (fun r' v' => r' = r ∧ i_Rel (k + 5) u' v') v v1) u v1) (fun c R kn wa de st va sc oc dy pr sz op pk E M NK nu lv ru av rg ou po ps rq ly wn G K => pd_m_drop G K)
theorem i_vc_clear {k : Nat} {u : SX} {v : SY} (I : i_Rel k u v) (hk : k + 5 ≤ 2560) : wpX_clear (fun u' => wpY_clear (fun v' => i_Rel (k + 5) u' v') v) u :=
  pd_el I (P := fun u v => wpX_clear (fun u' => wpY_clear (fun v' => i_Rel (k + 5) u' v') v) u) (fun c R kn wa de st va sc oc dy pr sz op pk E M NK nu lv ru av rg ou po ps rq ly wn G K => pd_in (k := k + 5) (pd_PG_0 G) (fun z => absurd rfl z))
theorem i_vc_length {k : Nat} {u : SX} {v : SY} (I : i_Rel k u v) (hk : k + 5 ≤ 2560) (v1 : Int32) : wpX_length (fun r => wpY_length (fun r' => r' = r ∧ i_Rel (k + 5) u v) v v1) u v1 :=
  pd_el I (P := fun u v => wpX_length (fun r => wpY_length (fun r' => r' = r ∧ i_Rel (k + 5) u v) v v1) u v1) (fun c R kn wa de st va sc oc dy pr sz op pk E M NK nu lv ru av rg ou po ps rq ly wn G K => pd_m_length G K)
theorem i_vc_run {k : Nat} {u : SX} {v : SY} (I : i_Rel k u v) (hk : k + 5 ≤ 2560) (v1 : Int32) (v2 : Int32) (v3 : Int32) : wpX_run (fun r u' => wpY_run (fun r' v' => r' = r ∧ i_Rel (k + 5) u' v') v v1 v2 v3) u v1 v2 v3 :=
  pd_el I (P := fun u v => wpX_run (fun r u' => wpY_run (fun r' v' => r' = r ∧ i_Rel (k + 5) u' v') v v1 v2 v3) u v1 v2 v3) (fun c R kn wa de st va sc oc dy pr sz op pk E M NK nu lv ru av rg ou po ps rq ly wn G K => pd_m_run G K)
theorem i_vc_outcome {k : Nat} {u : SX} {v : SY} (I : i_Rel k u v) (hk : k + 5 ≤ 2560) : wpX_outcome (fun r => wpY_outcome (fun r' => r' = r ∧ i_Rel (k + 5) u v) v) u :=
  pd_el I (P := fun u v => wpX_outcome (fun r => wpY_outcome (fun r' => r' = r ∧ i_Rel (k + 5) u v) v) u) (fun c R kn wa de st va sc oc dy pr sz op pk E M NK nu lv ru av rg ou po ps rq ly wn G K => ⟨rfl, pd_in (k := k + 5) G K⟩)
theorem i_vc_result {k : Nat} {u : SX} {v : SY} (I : i_Rel k u v) (hk : k + 5 ≤ 2560) : wpX_result (fun r => wpY_result (fun r' => r' = r ∧ i_Rel (k + 5) u v) v) u :=
  pd_el I (P := fun u v => wpX_result (fun r => wpY_result (fun r' => r' = r ∧ i_Rel (k + 5) u v) v) u) (fun c R kn wa de st va sc oc dy pr sz op pk E M NK nu lv ru av rg ou po ps rq ly wn G K => ⟨rfl, pd_in (k := k + 5) G K⟩)
theorem i_vc_steps {k : Nat} {u : SX} {v : SY} (I : i_Rel k u v) (hk : k + 5 ≤ 2560) : wpX_steps (fun r => wpY_steps (fun r' => r' = r ∧ i_Rel (k + 5) u v) v) u :=
  pd_el I (P := fun u v => wpX_steps (fun r => wpY_steps (fun r' => r' = r ∧ i_Rel (k + 5) u v) v) u) (fun c R kn wa de st va sc oc dy pr sz op pk E M NK nu lv ru av rg ou po ps rq ly wn G K => ⟨rfl, pd_in (k := k + 5) G K⟩)
theorem i_vc_outs {k : Nat} {u : SX} {v : SY} (I : i_Rel k u v) (hk : k + 5 ≤ 2560) : wpX_outs (fun r => wpY_outs (fun r' => r' = r ∧ i_Rel (k + 5) u v) v) u :=
  pd_el I (P := fun u v => wpX_outs (fun r => wpY_outs (fun r' => r' = r ∧ i_Rel (k + 5) u v) v) u) (fun c R kn wa de st va sc oc dy pr sz op pk E M NK nu lv ru av rg ou po ps rq ly wn G K => ⟨rfl, pd_in (k := k + 5) G K⟩)
theorem i_vc_out {k : Nat} {u : SX} {v : SY} (I : i_Rel k u v) (hk : k + 5 ≤ 2560) (v1 : Int32) : wpX_out (fun r => wpY_out (fun r' => r' = r ∧ i_Rel (k + 5) u v) v v1) u v1 :=
  pd_el I (P := fun u v => wpX_out (fun r => wpY_out (fun r' => r' = r ∧ i_Rel (k + 5) u v) v v1) u v1) (fun c R kn wa de st va sc oc dy pr sz op pk E M NK nu lv ru av rg ou po ps rq ly wn G K => pd_m_out G K)
theorem i_vc_parametersThatMatter {k : Nat} {u : SX} {v : SY} (I : i_Rel k u v) (hk : k + 5 ≤ 2560) (v1 : Int32) : wpX_parametersThatMatter (fun r u' => wpY_parametersThatMatter (fun r' v' => r' = r ∧ i_Rel (k + 5) u' v') v v1) u v1 :=
  pd_el I (P := fun u v => wpX_parametersThatMatter (fun r u' => wpY_parametersThatMatter (fun r' v' => r' = r ∧ i_Rel (k + 5) u' v') v v1) u v1) (fun c R kn wa de st va sc oc dy pr sz op pk E M NK nu lv ru av rg ou po ps rq ly wn G K => pd_m_pm G K)
theorem i_vc_resultMatters {k : Nat} {u : SX} {v : SY} (I : i_Rel k u v) (hk : k + 5 ≤ 2560) (v1 : Int32) : wpX_resultMatters (fun r u' => wpY_resultMatters (fun r' v' => r' = r ∧ i_Rel (k + 5) u' v') v v1) u v1 :=
  pd_el I (P := fun u v => wpX_resultMatters (fun r u' => wpY_resultMatters (fun r' v' => r' = r ∧ i_Rel (k + 5) u' v') v v1) u v1) (fun c R kn wa de st va sc oc dy pr sz op pk E M NK nu lv ru av rg ou po ps rq ly wn G K => pd_m_rm G K)
theorem i_vc_instructionsThatMatter {k : Nat} {u : SX} {v : SY} (I : i_Rel k u v) (hk : k + 5 ≤ 2560) (v1 : Int32) : wpX_instructionsThatMatter (fun r u' => wpY_instructionsThatMatter (fun r' v' => r' = r ∧ i_Rel (k + 5) u' v') v v1) u v1 :=
  pd_el I (P := fun u v => wpX_instructionsThatMatter (fun r u' => wpY_instructionsThatMatter (fun r' v' => r' = r ∧ i_Rel (k + 5) u' v') v v1) u v1) (fun c R kn wa de st va sc oc dy pr sz op pk E M NK nu lv ru av rg ou po ps rq ly wn G K => pd_m_im G K)
end

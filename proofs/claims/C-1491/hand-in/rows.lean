section
/-! pure rows to paste: stores, nI and lN arithmetic, masks, shifts, narrowing, branches by naturals (pk_le, pk_lt, pk_eq), loops (lp1 .. lp16: the measure of the state; rp1 ..: recursion), negatives. Take what you need -/
theorem pk_us {f : Nat → Int32} {k : Nat} {x : Int32} : upd f k x k = x := if_pos rfl
theorem pk_un {f : Nat → Int32} {k j : Nat} {x : Int32} (h : j ≠ k) : upd f k x j = f j := if_neg h
theorem pk_sub {a b : Nat} (h : b ≤ a) : nI a - nI b = nI (a - b) := by
  obtain ⟨c, rfl⟩ : ∃ c, a = c + b := ⟨a - b, by omega⟩
  rw [← nI_add, Int32.add_sub_cancel, Nat.add_sub_cancel]
theorem pk_m1 (n : Nat) : nI (n + 1) + (-1) = nI n := by
  rw [← nI_1, Int32.add_assoc, show (1 : Int32) + (-1) = 0 from rfl, Int32.add_zero]
theorem pk_mul (a b : Nat) : nI a * nI b = nI (a * b) := (Int32.ofNat_mul a b).symm
theorem pk_div {a d : Nat} (ha : a < 2 ^ 31) (h0 : 0 < d) (hd : d < 2 ^ 31) : nI a / nI d = nI (a / d) := by
  apply Int32.toInt_inj.mp
  rw [lg_idiv_nonneg (by rw [nI_toInt ha]; omega) (by rw [nI_toInt hd]; omega), nI_toInt ha, nI_toInt hd, nI_toInt (Nat.lt_of_le_of_lt (Nat.div_le_self a d) ha)]
  first | rfl | exact (Int.natCast_ediv _ _).symm
theorem pk_rem {a d : Nat} (ha : a < 2 ^ 31) (h0 : 0 < d) (hd : d < 2 ^ 31) : nI a - nI a / nI d * nI d = nI (a % d) := by
  rw [pk_div ha h0 hd, pk_mul, pk_sub (Nat.div_mul_le_self a d)]
  exact congrArg nI (by have := Nat.div_add_mod' a d; omega)
theorem pk_sub_toInt {a b : Nat} (ha : a < 2 ^ 30) (hb : b < 2 ^ 30) : (nI a - nI b).toInt = (a : Int) - b := by
  rw [Int32.toInt_sub, nI_toInt (by omega), nI_toInt (by omega)]
  exact Int.bmod_eq_of_le (by omega) (by omega)
theorem pk_sneg {a b : Nat} (hb : b < 2 ^ 30) (h : a < b) : nI a - nI b < 0 := by
  rw [Int32.lt_iff_toInt_lt, pk_sub_toInt (by omega) hb, show (0 : Int32).toInt = 0 from by decide]
  omega
theorem pk_ix (x : Int32) {n : Nat} (hn : n < 2 ^ 31) : x < 0 ∨ nI n ≤ x ∨ ∃ j : Nat, j < n ∧ x = nI j := by
  by_cases h : x < 0
  · exact Or.inl h
  · obtain ⟨j, hj, rfl⟩ := nI_of h
    by_cases h2 : j < n
    · exact Or.inr (Or.inr ⟨j, h2, rfl⟩)
    · exact Or.inr (Or.inl (nI_le (by omega) hj))
theorem pk_le {x y : Int32} {A B : Prop} (a b : Nat) (f : a ≤ b → A) (g : b < a → B) (hx : x = nI a := by rfl) (hy : y = nI b := by rfl) (ha : a < 2 ^ 31 := by omega) (hb : b < 2 ^ 31 := by omega) : (x ≤ y → A) ∧ (¬ x ≤ y → B) := by
  subst hx hy
  rw [nI_leI ha hb]
  exact ⟨f, fun z => g (by omega)⟩
theorem pk_lt {x y : Int32} {A B : Prop} (a b : Nat) (f : a < b → A) (g : b ≤ a → B) (hx : x = nI a := by rfl) (hy : y = nI b := by rfl) (ha : a < 2 ^ 31 := by omega) (hb : b < 2 ^ 31 := by omega) : (x < y → A) ∧ (¬ x < y → B) := by
  subst hx hy
  rw [nI_ltI ha hb]
  exact ⟨f, fun z => g (by omega)⟩
theorem pk_eq {x y : Int32} {A B : Prop} (a b : Nat) (f : a = b → A) (g : a ≠ b → B) (hx : x = nI a := by rfl) (hy : y = nI b := by rfl) (ha : a < 2 ^ 31 := by omega) (hb : b < 2 ^ 31 := by omega) : (x = y → A) ∧ (¬ x = y → B) := by
  subst hx hy
  rw [nI_eq ha hb]
  exact ⟨f, g⟩
theorem pk_in {x : Int32} (n N : Nat) (h : n < N) (hx : x = nI n := by rfl) (hN : N < 2 ^ 31 := by omega) : vp_in x N := by
  subst hx
  exact vp_in_nI h hN
theorem pk_cl {x : Int32} (n : Nat) (hx : x = nI n := by rfl) (h : n < 2 ^ 31 := by omega) : x.toNatClampNeg = n := by
  subst hx
  exact nI_clamp h
theorem pk_tn {n : Nat} (h : n < 2 ^ 32) : (nI n).toBitVec.toNat = n := Nat.mod_eq_of_lt h
theorem pk_and (x : Int32) {m : Int32} (k : Nat) (hm : m.toBitVec.toNat = 2 ^ k - 1) : x &&& m = nI (x.toBitVec.toNat % 2 ^ k) := by
  apply Int32.toBitVec_inj.mp
  apply BitVec.eq_of_toNat_eq
  rw [Int32.toBitVec_and, BitVec.toNat_and, hm, Nat.and_two_pow_sub_one_eq_mod]
  show _ = (BitVec.ofNat 32 _).toNat
  rw [BitVec.toNat_ofNat]
  exact (Nat.mod_eq_of_lt (Nat.lt_of_le_of_lt (Nat.mod_le _ _) x.toBitVec.isLt)).symm
theorem pk_andN {n : Nat} (h : n < 2 ^ 32) {m : Int32} (k : Nat) (hm : m.toBitVec.toNat = 2 ^ k - 1) : nI n &&& m = nI (n % 2 ^ k) := by
  rw [pk_and _ k hm, pk_tn h]
theorem pk_andE (x : Int32) {m : Int32} (k : Nat) (hm : m.toBitVec.toNat = 2 ^ k - 1) : ∃ j : Nat, j < 2 ^ k ∧ x &&& m = nI j := ⟨_, Nat.mod_lt _ (Nat.two_pow_pos k), pk_and x k hm⟩
theorem pk_andIn (x : Int32) {m : Int32} (k : Nat) (hm : m.toBitVec.toNat = 2 ^ k - 1) (hk : k ≤ 30) : vp_in (x &&& m) (2 ^ k) := by
  obtain ⟨j, hj, e⟩ := pk_andE x k hm
  rw [e]
  exact vp_in_nI hj (Nat.lt_of_le_of_lt (Nat.pow_le_pow_right (by decide) hk) (by decide))
theorem pk_shl (a s : Int32) (k : Nat) (hs : (s.toBitVec.smod 32).toNat = k) : (a <<< s).toBitVec.toNat = a.toBitVec.toNat * 2 ^ k % 2 ^ 32 := by
  show (a.toBitVec <<< (s.toBitVec.smod 32).toNat).toNat = _
  rw [hs, BitVec.toNat_shiftLeft, Nat.shiftLeft_eq]
theorem pk_shlN {n : Nat} (s : Int32) (k : Nat) (hs : (s.toBitVec.smod 32).toNat = k) (h : n * 2 ^ k < 2 ^ 32) : nI n <<< s = nI (n * 2 ^ k) := by
  apply Int32.toBitVec_inj.mp
  apply BitVec.eq_of_toNat_eq
  have hn : n < 2 ^ 32 := Nat.lt_of_le_of_lt (Nat.le_mul_of_pos_right n (Nat.two_pow_pos k)) h
  rw [pk_shl _ _ k hs, pk_tn hn, pk_tn h, Nat.mod_eq_of_lt h]
theorem pk_shr (a s : Int32) (k : Nat) (hs : (s.toBitVec.smod 32).toNat = k) : (a >>> s).toInt = a.toInt >>> k := by
  show (a.toBitVec.sshiftRight (s.toBitVec.smod 32).toNat).toInt = _
  rw [hs, BitVec.toInt_sshiftRight]
  rfl
theorem pk_shrN {n : Nat} (h : n < 2 ^ 31) (s : Int32) (k : Nat) (hs : (s.toBitVec.smod 32).toNat = k) : nI n >>> s = nI (n / 2 ^ k) := by
  apply Int32.toInt_inj.mp
  have h2 : n / 2 ^ k ≤ n := Nat.div_le_self _ _
  rw [pk_shr _ _ k hs, nI_toInt h, nI_toInt (by omega), Int.shiftRight_eq_div_pow]
  rfl
theorem pk_ushr (x s : Int32) (k : Nat) (hs : ((s.toUInt32 &&& Int32.toUInt32 31).toBitVec % 32).toNat = k) : (x.toUInt32 >>> (s.toUInt32 &&& Int32.toUInt32 31)).toInt32.toBitVec.toNat = x.toBitVec.toNat / 2 ^ k := by
  have e : (x.toUInt32 >>> (s.toUInt32 &&& Int32.toUInt32 31)).toInt32.toBitVec = x.toBitVec >>> k := by
    rw [← hs]
    exact UInt32.toBitVec_shiftRight _ _
  rw [e, BitVec.toNat_ushiftRight, Nat.shiftRight_eq_div_pow]
theorem pk_ushrN {n : Nat} (hn : n < 2 ^ 32) (s : Int32) (k : Nat) (hs : ((s.toUInt32 &&& Int32.toUInt32 31).toBitVec % 32).toNat = k) : ((nI n).toUInt32 >>> (s.toUInt32 &&& Int32.toUInt32 31)).toInt32 = nI (n / 2 ^ k) := by
  apply Int32.toBitVec_inj.mp
  apply BitVec.eq_of_toNat_eq
  rw [pk_ushr _ s k hs, pk_tn hn, pk_tn (Nat.lt_of_le_of_lt (Nat.div_le_self _ _) hn)]
theorem pk_nb (z : Int32) : narrow .byte (.int z.toInt8.toInt32) = .int z.toInt8.toInt32 := congrArg Value.int (by simp)
theorem pk_ns (z : Int32) : narrow .short (.int z.toInt16.toInt32) = .int z.toInt16.toInt32 := congrArg Value.int (by simp)
theorem pk_fb (r : Int32) : fits .byte (.int r.toInt8.toInt32) = true := by
  have ⟨a, b⟩ := lg_i2b_range r
  have h1 : (-128 : Int32).toInt = -128 := by decide
  have h2 : (127 : Int32).toInt = 127 := by decide
  simp only [fits, Bool.and_eq_true, decide_eq_true_eq, Int32.le_iff_toInt_le, h1, h2]
  omega
theorem pk_fs (r : Int32) : fits .short (.int r.toInt16.toInt32) = true := by
  have ⟨a, b⟩ := lg_i2s_range r
  have h1 : (-32768 : Int32).toInt = -32768 := by decide
  have h2 : (32767 : Int32).toInt = 32767 := by decide
  simp only [fits, Bool.and_eq_true, decide_eq_true_eq, Int32.le_iff_toInt_le, h1, h2]
  omega
theorem pk_charN {q : Nat} (hq : q < 65536) : narrow .char (.int (nI q)) = .int (nI q) ∧ fits .char (.int (nI q)) = true := by
  constructor
  · have e : (nI q).toUInt32.toUInt16.toUInt32.toInt32 = nI q := by
      apply Int32.toBitVec_inj.mp
      apply BitVec.eq_of_toNat_eq
      show (nI q).toUInt32.toUInt16.toUInt32.toNat = q % 2 ^ 32
      rw [UInt16.toNat_toUInt32, UInt32.toNat_toUInt16, show (nI q).toUInt32.toNat = q % 2 ^ 32 from rfl]
      omega
    exact congrArg Value.int e
  · have a : (0 : Int32) ≤ nI q := nI_pos' (by omega)
    have b : nI q ≤ 65535 := nI_le (b := 65535) (by omega) (by decide)
    show (decide ((0 : Int32) ≤ nI q) && decide (nI q ≤ 65535)) = true
    rw [decide_eq_true a, decide_eq_true b]
    rfl
theorem pk_char (x : Int32) : (x.toUInt32 % 65536).toInt32 = nI (x.toBitVec.toNat % 65536) := by
  apply Int32.toBitVec_inj.mp
  apply BitVec.eq_of_toNat_eq
  rw [pk_tn (by omega)]
  show (x.toUInt32 % 65536).toNat = _
  rw [UInt32.toNat_mod]
  rfl
theorem pk_nc (x : Int32) : narrow .char (.int (x.toUInt32 % 65536).toInt32) = .int (x.toUInt32 % 65536).toInt32 := by
  rw [pk_char]
  exact (pk_charN (Nat.mod_lt _ (by decide))).1
theorem pk_fc (x : Int32) : fits .char (.int (x.toUInt32 % 65536).toInt32) = true := by
  rw [pk_char]
  exact (pk_charN (Nat.mod_lt _ (by decide))).2
theorem pk_vb (z : Int32) : vp_nar .byte z.toInt8.toInt32 = z.toInt8.toInt32 := by rw [vp_nar_byte]; simp
theorem pk_vs (z : Int32) : vp_nar .short z.toInt16.toInt32 = z.toInt16.toInt32 := by rw [vp_nar_short]; simp
theorem pk_vc (z : Int32) : vp_nar .char (z.toUInt32 % 65536).toInt32 = (z.toUInt32 % 65536).toInt32 := Value.int.inj (pk_nc z)
/-! rows on bits, shifts and unsigned numbers, to paste: each family out of a closed proof of our own, whole with what it rests on; each by itself clean at Lean in its own claim (generation 39, form 5). Take a family whole -/
/-! ===== Int32 by its bits: bt x i ===== -/
def bt (x : Int32) (i : Nat) : Bool := x.toBitVec.getLsbD i
theorem b_ext {x y : Int32} (h : ∀ i, i < 32 → bt x i = bt y i) : x = y := Int32.toBitVec_inj.mp (BitVec.eq_of_getLsbD_eq (fun i hi => h i hi))
theorem b_or (x y : Int32) (i : Nat) : bt (x ||| y) i = (bt x i || bt y i) := by unfold bt; rw [Int32.toBitVec_or, BitVec.getLsbD_or]
theorem b_and (x y : Int32) (i : Nat) : bt (x &&& y) i = (bt x i && bt y i) := by unfold bt; rw [Int32.toBitVec_and, BitVec.getLsbD_and]
theorem b_xor (x y : Int32) (i : Nat) : bt (x ^^^ y) i = (bt x i ^^ bt y i) := by unfold bt; rw [Int32.toBitVec_xor, BitVec.getLsbD_xor]
theorem b_big {x : Int32} {i : Nat} (h : 32 ≤ i) : bt x i = false := BitVec.getLsbD_of_ge _ _ h
theorem b_255 (i : Nat) : bt 255 i = decide (i < 8) := by
  rcases Nat.lt_or_ge i 32 with h | h
  · exact (by decide +kernel : ∀ i, i < 32 → bt 255 i = decide (i < 8)) i h
  · rw [b_big h, decide_eq_false (by omega)]
theorem b_65535 (i : Nat) : bt 65535 i = decide (i < 16) := by
  rcases Nat.lt_or_ge i 32 with h | h
  · exact (by decide +kernel : ∀ i, i < 32 → bt 65535 i = decide (i < 16)) i h
  · rw [b_big h, decide_eq_false (by omega)]
theorem b_m1 : ∀ i, i < 32 → bt (-1) i = true := by decide +kernel
theorem b_0 (i : Nat) : bt 0 i = false := BitVec.getLsbD_zero
theorem s_l : ∀ n, n < 32 → ((nI n &&& 31).toBitVec.smod 32).toNat = n := by decide +kernel
theorem s_u : ∀ n, n < 32 → (((nI n).toUInt32 &&& Int32.toUInt32 31).toBitVec % 32).toNat = n := by decide +kernel
theorem b_shl (n : Nat) (hn : n < 32) (x : Int32) {i : Nat} (hi : i < 32) : bt (x <<< (nI n &&& 31)) i = (decide (n ≤ i) && bt x (i - n)) := by
  unfold bt
  rw [Int32.toBitVec_shiftLeft]
  show (x.toBitVec <<< ((nI n &&& 31).toBitVec.smod 32).toNat).getLsbD i = _
  rw [s_l n hn, BitVec.getLsbD_shiftLeft]
  rcases Nat.lt_or_ge i n with h | h
  · simp [h, Nat.not_le.mpr h]
  · simp [hi, h, Nat.not_lt.mpr h]
theorem b_ushr (n : Nat) (hn : n < 32) (x : Int32) (i : Nat) : bt ((x.toUInt32 >>> ((nI n).toUInt32 &&& Int32.toUInt32 31)).toInt32) i = bt x (n + i) := by
  show (x.toUInt32 >>> ((nI n).toUInt32 &&& Int32.toUInt32 31)).toBitVec.getLsbD i = x.toUInt32.toBitVec.getLsbD (n + i)
  rw [UInt32.toBitVec_shiftRight]
  show (x.toUInt32.toBitVec >>> (((nI n).toUInt32 &&& Int32.toUInt32 31).toBitVec % 32).toNat).getLsbD i = _
  rw [s_u n hn, BitVec.getLsbD_ushiftRight]
theorem b_sshr (n : Nat) (hn : n < 32) (x : Int32) {i : Nat} (hi : i < 32) : bt (x >>> (nI n &&& 31)) i = if n + i < 32 then bt x (n + i) else bt x 31 := by
  unfold bt
  rw [Int32.toBitVec_shiftRight]
  show (x.toBitVec.sshiftRight ((nI n &&& 31).toBitVec.smod 32).toNat).getLsbD i = _
  rw [s_l n hn, BitVec.getLsbD_sshiftRight, BitVec.msb_eq_getLsbD_last]
  simp [hi]
theorem b_shl8 (x : Int32) {i : Nat} (hi : i < 32) : bt (x <<< ((8 : Int32) &&& 31)) i = (decide (8 ≤ i) && bt x (i - 8)) := b_shl 8 (by omega) x hi
theorem b_shl16 (x : Int32) {i : Nat} (hi : i < 32) : bt (x <<< ((16 : Int32) &&& 31)) i = (decide (16 ≤ i) && bt x (i - 16)) := b_shl 16 (by omega) x hi
theorem b_shl24 (x : Int32) {i : Nat} (hi : i < 32) : bt (x <<< ((24 : Int32) &&& 31)) i = (decide (24 ≤ i) && bt x (i - 24)) := b_shl 24 (by omega) x hi
theorem b_sshr8 (x : Int32) {i : Nat} (hi : i < 32) : bt (x >>> ((8 : Int32) &&& 31)) i = if 8 + i < 32 then bt x (8 + i) else bt x 31 := b_sshr 8 (by omega) x hi
/-! ===== nI under and, xor, >>>, one bit, 65535 ===== -/
theorem nx_and (a b : Nat) : nI a &&& nI b = nI (a &&& b) := by
  apply Int32.toBitVec_inj.1
  show BitVec.ofNat 32 a &&& BitVec.ofNat 32 b = BitVec.ofNat 32 (a &&& b)
  apply BitVec.eq_of_getLsbD_eq
  intro i hi
  simp [hi]
theorem nx_xor (a b : Nat) : nI a ^^^ nI b = nI (a ^^^ b) := by
  apply Int32.toBitVec_inj.1
  show BitVec.ofNat 32 a ^^^ BitVec.ofNat 32 b = BitVec.ofNat 32 (a ^^^ b)
  apply BitVec.eq_of_getLsbD_eq
  intro i hi
  simp [hi]
end
section
/-! numbers, stores, bits of sets below 128 -/
def nn_I (f : Nat → Nat) : Nat → Int32 := fun j => nI (f j)
def nn_L (q : Nat → List (Nat × Nat × Nat)) : Nat → Int32 := fun j => nI (q j).length
def nn_u {α : Type} (f : Nat → α) (k : Nat) (x : α) : Nat → α := fun j => if j = k then x else f j
theorem nn_us {α : Type} {f : Nat → α} {k : Nat} {x : α} : nn_u f k x k = x := if_pos rfl
theorem nn_un {α : Type} {f : Nat → α} {k j : Nat} {x : α} (h : j ≠ k) : nn_u f k x j = f j := if_neg h
theorem nn_Iap (f : Nat → Nat) (j : Nat) : nn_I f j = nI (f j) := rfl
theorem nn_Lap (q : Nat → List (Nat × Nat × Nat)) (j : Nat) : nn_L q j = nI (q j).length := rfl
theorem nn_upd {f : Nat → Nat} {k v : Nat} : upd (nn_I f) k (nI v) = nn_I (nn_u f k v) := by
  funext j
  unfold upd nn_I nn_u
  by_cases h : j = k
  · rw [if_pos h, if_pos h]
  · rw [if_neg h, if_neg h]
theorem nn_updL {q : Nat → List (Nat × Nat × Nat)} {k v : Nat} {l : List (Nat × Nat × Nat)} (h : l.length = v) : upd (nn_L q) k (nI v) = nn_L (nn_u q k l) := by
  funext j
  unfold upd nn_L nn_u
  by_cases hj : j = k
  · rw [if_pos hj, if_pos hj, h]
  · rw [if_neg hj, if_neg hj]
theorem nn_or (a b : Nat) : nI a ||| nI b = nI (a ||| b) := by
  apply Int32.toBitVec_inj.1
  show BitVec.ofNat 32 a ||| BitVec.ofNat 32 b = BitVec.ofNat 32 (a ||| b)
  apply BitVec.eq_of_getLsbD_eq
  intro i hi
  simp [hi]
theorem nn_shl {k : Nat} (hk : k < 31) : (1 : Int32) <<< (nI k &&& 31) = nI (2 ^ k) := by
  have h : 1 * 2 ^ k < 2 ^ 32 := by
    rw [Nat.one_mul]; exact Nat.pow_lt_pow_right (by decide) (by omega)
  have := pk_shlN (n := 1) (nI k &&& 31) k (s_l k (by omega)) h
  rw [Nat.one_mul] at this
  exact this
theorem nn_shr {t k : Nat} (ht : t < 2 ^ 31) (hk : k < 32) : nI t >>> (nI k &&& 31) = nI (t / 2 ^ k) := pk_shrN ht _ k (s_l k hk)
theorem nn_and1 {t : Nat} (ht : t < 2 ^ 31) : nI t &&& 1 = nI (t % 2) := pk_andN (n := t) (by omega) (m := 1) 1 (by decide)
theorem nn_bit {t k : Nat} (ht : t < 2 ^ 31) (hk : k < 32) : (nI t >>> (nI k &&& 31)) &&& 1 = nI (t / 2 ^ k % 2) := by
  rw [nn_shr ht hk, nn_and1 (Nat.lt_of_le_of_lt (Nat.div_le_self _ _) ht)]
theorem nn_not : ∀ t, t < 128 → (127 : Int32) &&& (nI t ^^^ (-1)) = nI (127 - t) := by decide +kernel
theorem nn_sub127 {t : Nat} (h : t < 128) : (127 : Int32) - nI t = nI (127 - t) := pk_sub (a := 127) (by omega)
theorem nn_and127 : ∀ p, p < 128 → nI p &&& 127 = nI p := by decide +kernel
theorem nn_andn {p t : Nat} (hp : p < 128) (ht : t < 128) : nI p &&& (nI t ^^^ (-1)) = nI (p &&& (127 - t)) := by
  rw [← nx_and, ← nn_not t ht, ← Int32.and_assoc, nn_and127 p hp]
theorem nn_b8 : ∀ a, a < 128 → (nI a).toInt8.toInt32 = nI a := by decide +kernel
theorem nn_v8 {a : Nat} (h : a < 128) : vp_nar .byte (nI a) = nI a := by rw [vp_nar_byte, nn_b8 a h]
theorem nn_v8b {a : Nat} (h : a < 128) : vp_nar .byte ((nI a).toInt8.toInt32) = nI a := by rw [nn_b8 a h, nn_v8 h]
theorem nn_b16 : ∀ a, a < 256 → (nI a).toInt16.toInt32 = nI a := by decide +kernel
theorem nn_v16 {a : Nat} (h : a < 256) : vp_nar .short ((nI a).toInt16.toInt32) = nI a := by rw [nn_b16 a h, vp_nar_short, nn_b16 a h]
theorem nn_v8m3 : vp_nar .byte (-3) = -3 := by rw [vp_nar_byte]; decide
theorem nn_v8m1 : vp_nar .byte (-1) = -1 := by rw [vp_nar_byte]; decide
theorem nn_v8m1b : vp_nar .byte ((-1 : Int32).toInt8.toInt32) = -1 := by rw [vp_nar_byte]; decide
theorem nn_vb0 : vp_nar .boolean 0 = 0 := rfl
theorem nn_vb1 : vp_nar .boolean 1 = 1 := rfl
theorem nn_10 : ¬ (1 : Int32) = 0 := by decide
/-! truth values -/
noncomputable def nn_b (P : Prop) : Int32 := @ite Int32 P (Classical.propDecidable P) 1 0
theorem nn_bt {P : Prop} (h : P) : nn_b P = 1 := by unfold nn_b; rw [if_pos h]
theorem nn_bf {P : Prop} (h : ¬ P) : nn_b P = 0 := by unfold nn_b; rw [if_neg h]
theorem nn_bc {P Q : Prop} (h : P ↔ Q) : nn_b P = nn_b Q := by rw [propext h]
theorem nn_b01 (P : Prop) : nn_b P = 0 ∨ nn_b P = 1 := by
  rcases Classical.em P with h | h
  · exact Or.inr (nn_bt h)
  · exact Or.inl (nn_bf h)
theorem nn_b0 {P : Prop} : nn_b P = 0 ↔ ¬ P := by
  rcases Classical.em P with h | h
  · rw [nn_bt h]; exact ⟨fun z => absurd z nn_10, fun z => absurd h z⟩
  · rw [nn_bf h]; exact ⟨fun _ => h, fun _ => rfl⟩
theorem nn_bn (P : Prop) : narrow .boolean (.int (nn_b P)) = .int (nn_b P) := by
  rcases nn_b01 P with h | h <;> rw [h] <;> rfl
theorem nn_bv (P : Prop) : vp_nar .boolean (nn_b P) = nn_b P := by
  rcases nn_b01 P with h | h <;> rw [h] <;> rfl
theorem nn_br {P A B : Prop} (f : ¬ P → A) (g : P → B) : (nn_b P = 0 → A) ∧ (¬ nn_b P = 0 → B) :=
  ⟨fun z => f (nn_b0.mp z), fun z => g (Classical.byContradiction fun q => z (nn_b0.mpr q))⟩
theorem nn_b1 {P : Prop} : nn_b P = 1 ↔ P := by
  rcases Classical.em P with h | h
  · rw [nn_bt h]; exact ⟨fun _ => h, fun _ => rfl⟩
  · rw [nn_bf h]; exact ⟨fun z => absurd z.symm nn_10, fun z => absurd z h⟩
/-! picked: 0 none, 1 any, v + 1 the value v -/
def nn_p3 (p : Nat) : Int32 := if p = 0 then -3 else nI (p - 1)
def nn_p1 (p : Nat) : Int32 := if p = 0 then -1 else nI (p - 1)
theorem nn_p3z : nn_p3 0 = -3 := rfl
theorem nn_p1z : nn_p1 0 = -1 := rfl
theorem nn_p3s (p : Nat) : nn_p3 (p + 1) = nI p := rfl
theorem nn_p1s (p : Nat) : nn_p1 (p + 1) = nI p := rfl
theorem nn_p3e {p : Nat} (h : p ≤ 8) : nn_p3 p = -3 ↔ p = 0 := by
  unfold nn_p3
  by_cases z : p = 0
  · rw [if_pos z]; exact ⟨fun _ => z, fun _ => rfl⟩
  · rw [if_neg z]
    refine ⟨fun e => ?_, fun e => absurd e z⟩
    have h1 := congrArg Int32.toInt e
    rw [nI_toInt (by omega), show (-3 : Int32).toInt = -3 from by decide] at h1
    omega
theorem nn_p3a {p : Nat} (h : p ≤ 8) : nn_p3 p = 0 ↔ p = 1 := by
  unfold nn_p3
  by_cases z : p = 0
  · rw [if_pos z]; exact ⟨fun e => absurd e (by decide), fun e => by omega⟩
  · rw [if_neg z, ← nI_0, nI_eq (by omega) (by omega)]; omega
theorem nn_p1a {p : Nat} (h : p ≤ 8) : nn_p1 p = 0 ↔ p = 1 := by
  unfold nn_p1
  by_cases z : p = 0
  · rw [if_pos z]; exact ⟨fun e => absurd e (by decide), fun e => by omega⟩
  · rw [if_neg z, ← nI_0, nI_eq (by omega) (by omega)]; omega
theorem nn_p1n {p : Nat} (h : p ≤ 8) : nn_p1 p < 0 ↔ p = 0 := by
  unfold nn_p1
  by_cases z : p = 0
  · rw [if_pos z]; exact ⟨fun _ => z, fun _ => by decide⟩
  · rw [if_neg z]; exact ⟨fun e => absurd e (nI_pos (by omega)), fun e => absurd e z⟩
theorem nn_p3n {p : Nat} (h : p ≤ 8) : nn_p3 p < 0 ↔ p = 0 := by
  unfold nn_p3
  by_cases z : p = 0
  · rw [if_pos z]; exact ⟨fun _ => z, fun _ => by decide⟩
  · rw [if_neg z]; exact ⟨fun e => absurd e (nI_pos (by omega)), fun e => absurd e z⟩
theorem nn_p1g {p : Nat} (h : p ≤ 8) : 0 ≤ nn_p1 p ↔ p ≠ 0 := by
  rw [← Int32.not_lt, nn_p1n h]
theorem nn_p3l {p : Nat} (h : p ≤ 8) : nn_p3 p ≤ 0 ↔ p ≤ 1 := by
  unfold nn_p3
  by_cases z : p = 0
  · rw [if_pos z]; exact ⟨fun _ => by omega, fun _ => by decide⟩
  · rw [if_neg z, ← nI_0, nI_leI (by omega) (by omega)]; omega
theorem nn_p1l {p : Nat} (h : p ≤ 8) : nn_p1 p ≤ 0 ↔ p ≤ 1 := by
  unfold nn_p1
  by_cases z : p = 0
  · rw [if_pos z]; exact ⟨fun _ => by omega, fun _ => by decide⟩
  · rw [if_neg z, ← nI_0, nI_leI (by omega) (by omega)]; omega
theorem nn_p3v {p v : Nat} (h : p ≤ 8) (hv : v ≤ 7) : nn_p3 p = nI v ↔ p = v + 1 := by
  unfold nn_p3
  by_cases z : p = 0
  · rw [if_pos z]
    refine ⟨fun e => ?_, fun e => by omega⟩
    have h1 := congrArg Int32.toInt e
    rw [nI_toInt (by omega), show (-3 : Int32).toInt = -3 from by decide] at h1
    omega
  · rw [if_neg z, nI_eq (by omega) (by omega)]; omega
theorem nn_p1v {p v : Nat} (h : p ≤ 8) (hv : v ≤ 7) : nn_p1 p = nI v ↔ p = v + 1 := by
  unfold nn_p1
  by_cases z : p = 0
  · rw [if_pos z]
    refine ⟨fun e => ?_, fun e => by omega⟩
    have h1 := congrArg Int32.toInt e
    rw [nI_toInt (by omega), show (-1 : Int32).toInt = -1 from by decide] at h1
    omega
  · rw [if_neg z, nI_eq (by omega) (by omega)]; omega
/-! literals times and plus -/
theorem nn_m2 (a : Nat) : (2 : Int32) * nI a = nI (2 * a) := pk_mul 2 a
theorem nn_m3 (a : Nat) : (3 : Int32) * nI a = nI (3 * a) := pk_mul 3 a
theorem nn_m4 (a : Nat) : (4 : Int32) * nI a = nI (4 * a) := pk_mul 4 a
theorem nn_m6 (a : Nat) : (6 : Int32) * nI a = nI (6 * a) := pk_mul 6 a
theorem nn_m7 (a : Nat) : (7 : Int32) * nI a = nI (7 * a) := pk_mul 7 a
theorem nn_m8 (a : Nat) : (8 : Int32) * nI a = nI (8 * a) := pk_mul 8 a
theorem nn_m21 (a : Nat) : (21 : Int32) * nI a = nI (21 * a) := pk_mul 21 a
theorem nn_m24 (a : Nat) : (24 : Int32) * nI a = nI (24 * a) := pk_mul 24 a
theorem nn_m35 (a : Nat) : (35 : Int32) * nI a = nI (35 * a) := pk_mul 35 a
theorem nn_m128 (a : Nat) : (128 : Int32) * nI a = nI (128 * a) := pk_mul 128 a
theorem nn_m312 (a : Nat) : (312 : Int32) * nI a = nI (312 * a) := pk_mul 312 a
theorem nn_m384 (a : Nat) : (384 : Int32) * nI a = nI (384 * a) := pk_mul 384 a
theorem nn_a1536 (a : Nat) : (1536 : Int32) + nI a = nI (1536 + a) := nI_add 1536 a
theorem nn_a2 (a : Nat) : nI a + 2 = nI (a + 2) := nI_add a 2
theorem nn_a3 (a : Nat) : nI a + 3 = nI (a + 3) := nI_add a 3
theorem nn_or1 (a : Nat) : nI a ||| 1 = nI (a ||| 1) := nn_or a 1
theorem nn_d8 {a : Nat} (h : a < 2 ^ 31) : nI a / 8 = nI (a / 8) := pk_div (d := 8) h (by omega) (by omega)
theorem nn_d10 {a : Nat} (h : a < 2 ^ 31) : nI a / 10 = nI (a / 10) := pk_div (d := 10) h (by omega) (by omega)
theorem nn_d7 {a : Nat} (h : a < 2 ^ 31) : nI a / 7 = nI (a / 7) := pk_div (d := 7) h (by omega) (by omega)
theorem nn_r8 {a : Nat} (h : a < 2 ^ 31) : nI a - nI a / 8 * 8 = nI (a % 8) := pk_rem (d := 8) h (by omega) (by omega)
theorem nn_r10 {a : Nat} (h : a < 2 ^ 31) : nI a - nI a / 10 * 10 = nI (a % 10) := pk_rem (d := 10) h (by omega) (by omega)
theorem nn_r7 {a : Nat} (h : a < 2 ^ 31) : nI a - nI a / 7 * 7 = nI (a % 7) := pk_rem (d := 7) h (by omega) (by omega)
theorem nn_s3 {a : Nat} (h : a < 2 ^ 31) : nI a >>> ((3 : Int32) &&& 31) = nI (a / 8) := pk_shrN h _ 3 (by decide)
theorem nn_and7 {a : Nat} (h : a < 2 ^ 31) : nI a &&& 7 = nI (a % 8) := pk_andN (n := a) (by omega) (m := 7) 3 (by decide)
theorem nn_and127m {a : Nat} (h : a < 2 ^ 31) : nI a &&& 127 = nI (a % 128) := pk_andN (n := a) (by omega) (m := 127) 7 (by decide)
/-! how many -/
def nn_pp (t : Nat) : Nat → Nat
  | 0 => 0
  | k + 1 => nn_pp t k + t / 2 ^ k % 2
def nn_pc (t : Nat) : Nat := nn_pp t 7
theorem nn_pcs : ∀ t, t < 128 → t ≠ 0 → (t &&& (t - 1)) < t ∧ nn_pc t = nn_pc (t &&& (t - 1)) + 1 := by decide +kernel
theorem nn_pc7 : ∀ t, t < 128 → nn_pc t ≤ 7 := by decide +kernel
theorem nn_pc0 : nn_pc 0 = 0 := by decide
theorem xl_ones4 {post : Int32 → Prop} : ∀ n a t, t < 128 → t < n → post (nI (a + nn_pc t)) → wX_ones_4 post n (nI a) (nI t) := by
  intro n
  induction n with
  | zero => intro a t _ h; omega
  | succ n ih =>
    intro a t ht hn hp
    refine pk_eq t 0 (fun z => ?_) (fun z => ?_)
    · subst z; exact hp
    · have hs := nn_pcs t ht z
      refine nm_r (nI_1 a) (nm_r (e' := nI (t &&& (t - 1))) ?_ ?_)
      · rw [← nx_and, ← pk_sub (a := t) (b := 1) (by omega)]; rfl
      · refine ih (a + 1) _ (by omega) (by omega) ?_
        rw [show a + 1 + nn_pc (t &&& (t - 1)) = a + nn_pc t by omega]; exact hp
theorem xl_ones {post : Int32 → Prop} {t : Nat} (ht : t < 128) (h : post (nI (nn_pc t))) : wpX_ones post (nI t) :=
  ⟨t + 1, xl_ones4 (t + 1) 0 t ht (by omega) (by rw [Nat.zero_add]; exact h)⟩
theorem yl_size4 {post : Int32 → Prop} {t : Nat} (ht : t < 128) (h : post (nI (nn_pc t))) : ∀ d k, k + d = 7 → wY_size_4 post (nI t) (d + 1) (nI (nn_pp t k)) (nI k) := by
  intro d
  induction d with
  | zero =>
    intro k hk
    refine pk_le 7 k (fun z => ?_) (fun z => by omega)
    rw [show k = 7 by omega]; exact h
  | succ d ih =>
    intro k hk
    refine pk_le 7 k (fun z => by omega) (fun z => ?_)
    refine nm_r (e' := nI (nn_pp t (k + 1))) ?_ (nm_r (nI_1 k) (ih (k + 1) (by omega)))
    rw [nn_bit (by omega) (by omega), nI_add]; rfl
theorem yl_size {post : Int32 → Prop} {t : Nat} (ht : t < 128) (h : post (nI (nn_pc t))) : wpY_size post (nI t) :=
  ⟨8, yl_size4 ht h 7 0 rfl⟩
/-! limits -/
theorem nl_in {x n m : Int32} (N : Nat) (hn : n.toInt = N) (hm : m.toInt = (N : Int) - 1) : (∃ j, j < N ∧ x = nI j ∧ (∀ P : Int32 → Prop, P 1 → wpX_among P x n) ∧ ∀ P : Int32 → Prop, P 1 → wpY_in P x 0 m) ∨ ((∀ P : Int32 → Prop, P 0 → wpX_among P x n) ∧ ∀ P : Int32 → Prop, P 0 → wpY_in P x 0 m) := by
  by_cases h : x < 0
  · exact Or.inr ⟨fun P z => br_t h z, fun P z => br_t h z⟩
  · by_cases h2 : n ≤ x
    · have h3 : m < x := by
        rw [Int32.lt_iff_toInt_lt]; rw [Int32.le_iff_toInt_le] at h2; omega
      exact Or.inr ⟨fun P z => br_f h (br_t h2 z), fun P z => br_f h (br_t h3 z)⟩
    · have h3 : ¬ m < x := by
        rw [Int32.lt_iff_toInt_lt]; rw [Int32.le_iff_toInt_le] at h2; omega
      obtain ⟨j, hj, e⟩ := nI_of h
      refine Or.inl ⟨j, ?_, e, fun P z => br_f h (br_f h2 z), fun P z => br_f h (br_f h3 z)⟩
      rw [Int32.le_iff_toInt_le, e, nI_toInt hj] at h2
      omega
theorem nl_bt {x a b : Int32} (A B : Nat) (ha : a.toInt = A) (hb : b.toInt = B) : (∃ j, A ≤ j ∧ j ≤ B ∧ x = nI j ∧ (∀ P : Int32 → Prop, P 1 → wpX_between P x a b) ∧ ∀ P : Int32 → Prop, P 1 → wpY_in P x a b) ∨ ((∀ P : Int32 → Prop, P 0 → wpX_between P x a b) ∧ ∀ P : Int32 → Prop, P 0 → wpY_in P x a b) := by
  by_cases h : x < a
  · exact Or.inr ⟨fun P z => br_t h z, fun P z => br_t h z⟩
  · by_cases h2 : b < x
    · exact Or.inr ⟨fun P z => br_f h (br_t h2 z), fun P z => br_f h (br_t h2 z)⟩
    · have h0 : ¬ x < 0 := by
        rw [Int32.lt_iff_toInt_lt, show (0 : Int32).toInt = 0 from by decide]; rw [Int32.lt_iff_toInt_lt] at h; omega
      obtain ⟨j, hj, e⟩ := nI_of h0
      rw [Int32.lt_iff_toInt_lt] at h h2
      have e2 : x.toInt = j := by rw [e, nI_toInt hj]
      refine Or.inl ⟨j, by omega, by omega, e, fun P z => br_f (by rw [Int32.lt_iff_toInt_lt]; exact h) (br_f (by rw [Int32.lt_iff_toInt_lt]; exact h2) z), fun P z => br_f (by rw [Int32.lt_iff_toInt_lt]; exact h) (br_f (by rw [Int32.lt_iff_toInt_lt]; exact h2) z)⟩
end
section
/-! finite facts by trying all -/
def qq_cl : List Nat := [0, 0, 1, 0, 2, 2, 1, 0, 3, 3, 4, 3, 5, 2, 1, 0, 6, 6, 7, 6, 8, 8, 7, 6, 9, 9, 4, 3, 5, 2, 1, 0, 10, 10, 11, 10, 12, 12, 11, 10, 13, 13, 14, 13, 15, 12, 11, 10, 16, 16, 17, 16, 18, 8, 7, 6, 19, 9, 4, 3, 5, 2, 1, 0, 20, 20, 21, 20, 22, 22, 21, 20, 23, 23, 24, 23, 25, 22, 21, 20, 26, 26, 27, 26, 28, 28, 27, 26, 29, 29, 24, 23, 25, 22, 21, 20, 30, 30, 31, 30, 32, 32, 31, 30, 33, 33, 14, 13, 15, 12, 11, 10, 34, 34, 17, 16, 18, 8, 7, 6, 19, 9, 4, 3, 5, 2, 1, 0]
def qq_ch (t : Nat) : Nat := qq_cl.getD t 0
theorem qq_ch35 : ∀ t, t < 128 → qq_ch t < 35 := by decide +kernel
theorem qq_chc : ∀ a, a < 128 → ∀ b, b < 128 → qq_ch a = qq_ch b → a &&& b = a ∨ b &&& a = b := by decide +kernel
/-! counting -/
theorem qq_ie : ∀ a, a < 128 → ∀ b, b < 128 → nn_pc a + nn_pc b = nn_pc (a &&& b) + nn_pc (a ||| b) := by decide +kernel
theorem qq_pm : ∀ a, a < 128 → ∀ b, b < 128 → a &&& b = a → nn_pc a ≤ nn_pc b := by decide +kernel
theorem qq_cm : ∀ a, a < 128 → ∀ m, m < 128 → nn_pc ((127 - a) &&& m) + nn_pc (a &&& m) = nn_pc m := by decide +kernel
def qs_sm (P : Nat → Bool) : Nat → Nat
  | 0 => 0
  | k + 1 => qs_sm P k + if P k = true then 2 ^ k else 0
def qs_f (A r : Nat) : Nat := qs_sm (fun k => decide (A / 2 ^ k % 2 = 1 ∧ nn_pp A k < r)) 7
def qs_l (A f : Nat) : Nat := qs_sm (fun k => decide (A / 2 ^ k % 2 = 1 ∧ nn_pc A ≤ nn_pp A k + f)) 7
theorem qs_fl : ∀ A, A < 128 → ∀ r, r < 8 → r ≤ nn_pc A → qs_f A r < 128 ∧ qs_l A r < 128 ∧ nn_pc (qs_f A r &&& A) = r ∧ nn_pc (qs_l A r &&& A) = r := by decide +kernel
theorem qs_flm : ∀ A, A < 128 → ∀ r, r < 8 → r ≤ nn_pc A → ∀ f, f < 8 → f ≤ nn_pc A → nn_pc ((qs_f A r &&& qs_l A f) &&& A) ≤ r + f - nn_pc A := by decide +kernel
theorem yq_dis : ∀ a, a < 128 → ∀ b, b < 128 → (a &&& (127 - b) = 0 ↔ a &&& b = a) := by decide +kernel
end
section
/-! sets of 7 points as numbers below 128; monotone families; least sets -/
def qq_mo (Q : Nat → Bool) : Prop := ∀ a b, a < 128 → b < 128 → a &&& b = a → Q a = true → Q b = true
def qq_mn (Q : Nat → Bool) (t : Nat) : Prop := Q t = true ∧ ∀ k, k < 7 → t / 2 ^ k % 2 = 1 → Q (t &&& (127 - 2 ^ k)) = false
theorem qq_tb (t k : Nat) : t.testBit k = true ↔ t / 2 ^ k % 2 = 1 := by
  rw [Nat.testBit_eq_decide_div_mod_eq, decide_eq_true_eq]
theorem qq_rm : ∀ t, t < 128 → ∀ k, k < 7 → t / 2 ^ k % 2 = 1 → (t &&& (127 - 2 ^ k)) < t ∧ (t &&& (127 - 2 ^ k)) &&& t = (t &&& (127 - 2 ^ k)) := by decide +kernel
theorem qq_tr {a b c : Nat} (h1 : a &&& b = a) (h2 : b &&& c = b) : a &&& c = a := by
  rw [← h1, Nat.and_assoc, h2]
theorem qq_sub {Q : Nat → Bool} : ∀ t, t < 128 → Q t = true → ∃ m, m < 128 ∧ qq_mn Q m ∧ m &&& t = m := by
  intro t
  induction t using Nat.strongRecOn with
  | ind t ih =>
    intro ht hQ
    by_cases h : ∃ k, k < 7 ∧ t / 2 ^ k % 2 = 1 ∧ Q (t &&& (127 - 2 ^ k)) = true
    · obtain ⟨k, hk, hb, hq⟩ := h
      have hr := qq_rm t ht k hk hb
      obtain ⟨m, hm, h1, h2⟩ := ih _ hr.1 (by omega) hq
      exact ⟨m, hm, h1, qq_tr h2 hr.2⟩
    · refine ⟨t, ht, ⟨hQ, fun k hk hb => ?_⟩, Nat.and_self t⟩
      cases hc : Q (t &&& (127 - 2 ^ k)) with
      | false => rfl
      | true => exact absurd ⟨k, hk, hb, hc⟩ h
theorem qq_ext {a b : Nat} (ha : a < 128) (hb : b < 128) (h : ∀ k, k < 7 → (a.testBit k = true ↔ b.testBit k = true)) : a = b := by
  apply Nat.eq_of_testBit_eq
  intro i
  by_cases hi : i < 7
  · have := h i hi
    cases x : a.testBit i <;> cases y : b.testBit i <;> simp_all
  · have e : 2 ^ 7 ≤ 2 ^ i := Nat.pow_le_pow_right (by decide) (by omega)
    rw [Nat.testBit_lt_two_pow (by omega), Nat.testBit_lt_two_pow (by omega)]
theorem qq_ssb {a b k : Nat} (h : a &&& b = a) (hk : a.testBit k = true) : b.testBit k = true := by
  rw [← h, Nat.testBit_and, Bool.and_eq_true] at hk
  exact hk.2
theorem qq_ssi {a b : Nat} (ha : a < 128) (h : ∀ k, k < 7 → a.testBit k = true → b.testBit k = true) : a &&& b = a := by
  apply Nat.eq_of_testBit_eq
  intro i
  rw [Nat.testBit_and]
  by_cases hi : i < 7
  · have := h i hi
    cases x : a.testBit i with
    | false => rfl
    | true => rw [this x]; rfl
  · have e : 2 ^ 7 ≤ 2 ^ i := Nat.pow_le_pow_right (by decide) (by omega)
    rw [Nat.testBit_lt_two_pow (x := a) (by omega)]; rfl
theorem qq_lt {a b : Nat} (h : a < 128) : a &&& b < 128 := Nat.lt_of_le_of_lt Nat.and_le_left h
theorem qq_lor {a b : Nat} (h : a < 128) (h2 : b < 128) : a ||| b < 128 := Nat.or_lt_two_pow (n := 7) h h2
theorem qq_nb : ∀ t, t < 128 → ∀ k, k < 7 → ((127 - t).testBit k = !t.testBit k) := by decide +kernel
theorem qq_2b : ∀ k, k < 7 → ∀ j, j < 7 → ((2 ^ k).testBit j = decide (k = j)) := by decide +kernel
theorem qq_2l : ∀ k, k < 7 → 2 ^ k < 128 := by decide
theorem qq_anti {Q : Nat → Bool} (hQ : qq_mo Q) {a b : Nat} (ha : a < 128) (hb : b < 128) (h1 : qq_mn Q a) (h2 : qq_mn Q b) (h : a &&& b = a) : a = b := by
  refine qq_ext ha hb (fun k hk => ⟨qq_ssb h, fun z => ?_⟩)
  cases x : a.testBit k with
  | true => rfl
  | false =>
    have n := h2.2 k hk ((qq_tb b k).mp z)
    have y : Q (b &&& (127 - 2 ^ k)) = true := by
      refine hQ a _ ha (qq_lt hb) (qq_ssi ha fun j hj e => ?_) h1.1
      rw [Nat.testBit_and, qq_ssb h e, qq_nb _ (qq_2l k hk) j hj, qq_2b k hk j hj]
      by_cases kj : k = j
      · rw [kj, e] at x; exact absurd x (by decide)
      · rw [decide_eq_false kj]; rfl
    rw [n] at y; exact absurd y (by decide)
theorem qq_php : ∀ (n : Nat) (L : List Nat), L.Nodup → (∀ x, x ∈ L → x < n) → L.length ≤ n := by
  intro n
  induction n with
  | zero =>
    intro L _ h
    cases L with
    | nil => exact Nat.le_refl _
    | cons a l => exact absurd (h a (List.mem_cons_self)) (by omega)
  | succ n ih =>
    intro L hd h
    by_cases hn : n ∈ L
    · have hl := List.length_erase_of_mem hn
      have := ih (L.erase n) (hd.erase n) (fun x hx => by
        have := (hd.mem_erase_iff).mp hx
        have := h x this.2
        omega)
      omega
    · have := ih L hd (fun x hx => by
        have h1 := h x hx
        have h2 : x ≠ n := fun e => hn (e ▸ hx)
        omega)
      omega
noncomputable def qq_ms (Q : Nat → Bool) : List Nat := (List.range 128).filter (fun t => @decide (qq_mn Q t) (Classical.propDecidable _))
theorem qq_mem {Q : Nat → Bool} {t : Nat} : t ∈ qq_ms Q ↔ t < 128 ∧ qq_mn Q t := by
  constructor
  · intro h
    have h := List.mem_filter.mp h
    exact ⟨List.mem_range.mp h.1, @of_decide_eq_true _ (Classical.propDecidable _) h.2⟩
  · intro h
    exact List.mem_filter.mpr ⟨List.mem_range.mpr h.1, @decide_eq_true _ (Classical.propDecidable _) h.2⟩
theorem qq_nd (Q : Nat → Bool) : (qq_ms Q).Nodup := List.Pairwise.filter _ List.nodup_range
theorem qq_35 {Q : Nat → Bool} (hQ : qq_mo Q) : (qq_ms Q).length ≤ 35 := by
  have h1 : ((qq_ms Q).map qq_ch).Nodup := by
    unfold List.Nodup
    rw [List.pairwise_map]
    refine List.Pairwise.imp_of_mem (fun {a b} ha hb hne e => hne ?_) (qq_nd Q)
    have ha := qq_mem.mp ha
    have hb := qq_mem.mp hb
    rcases qq_chc a ha.1 b hb.1 e with h | h
    · exact qq_anti hQ ha.1 hb.1 ha.2 hb.2 h
    · exact (qq_anti hQ hb.1 ha.1 hb.2 ha.2 h).symm
  have h2 := qq_php 35 _ h1 (fun x hx => by
    obtain ⟨t, ht, e⟩ := List.mem_map.mp hx
    rw [← e]; exact qq_ch35 t (qq_mem.mp ht).1)
  rw [List.length_map] at h2
  exact h2
theorem qq_ne {Q : Nat → Bool} (hQ : qq_mo Q) : (qq_ms Q).length = 0 ↔ Q 127 = false := by
  constructor
  · intro h
    cases hc : Q 127 with
    | false => rfl
    | true =>
      obtain ⟨m, hm, h1, _⟩ := qq_sub (Q := Q) 127 (by decide) hc
      have := List.length_pos_of_mem (qq_mem.mpr ⟨hm, h1⟩)
      omega
  · intro h
    rcases Nat.eq_zero_or_pos (qq_ms Q).length with e | e
    · exact e
    · obtain ⟨t, ht⟩ := List.exists_mem_of_length_pos e
      have ht := qq_mem.mp ht
      have : Q 127 = true := hQ t 127 ht.1 (by decide) (qq_ssi ht.1 fun k hk _ => (by decide +kernel : ∀ k, k < 7 → Nat.testBit 127 k = true) k hk) ht.2.1
      rw [h] at this; exact absurd this (by decide)
end
section
/-! the kinds of quorums, as functions -/
def qf_th (sm : Nat → Nat) (r w f k t : Nat) : Bool := if k = 0 then decide (r ≤ sm t) else if k = 1 then decide (w ≤ sm t) else decide (0 < f ∧ f ≤ sm t)
def qf_ct (A t : Nat) : Nat := nn_pc (t &&& A)
def qf_wp (d t : Nat) : Nat → Nat
  | 0 => 0
  | k + 1 => qf_wp d t k + (t / 2 ^ k % 2) * (d / 10 ^ k % 10)
def qf_wt (d t : Nat) : Nat := qf_wp d t 7
def qf_pt (p k : Nat) : Nat := p / 2 ^ (7 * k) % 128
def qf_hp (p t : Nat) : Nat → Bool
  | 0 => false
  | k + 1 => qf_hp p t k || (decide (¬ qf_pt p k = 0) && decide (qf_pt p k &&& t = qf_pt p k))
def qf_l (a b c k t : Nat) : Bool := qf_hp (if k = 0 then a else if k = 1 then b else c) t 4
def qf_cn (P : Nat → Bool) : Nat → Nat
  | 0 => 0
  | n + 1 => qf_cn P n + if P n = true then 1 else 0
def qf_ix (c : Nat) (o : Bool) (k : Nat) : Nat := if o = true then k / c else k % c
def qf_ln (r c : Nat) (o : Bool) (t line : Nat) : Bool := decide (∀ k, k < r * c → qf_ix c o k = line → t / 2 ^ k % 2 = 1)
def qf_g (r c : Nat) (d : Bool) (k t : Nat) : Bool := if k = 0 then decide (0 < qf_cn (qf_ln r c true t) r) else if k = 1 then decide (1 ≤ qf_cn (qf_ln r c false t) c) else (d && decide (c - 1 ≤ qf_cn (qf_ln r c false t) c))
def qs_S (Q : Nat → Nat → Bool) : Prop := Q 0 127 = true ∧ Q 1 127 = true ∧ ∀ r, r < 128 → Q 0 r = true → Q 1 (127 - r) = false ∧ ∀ f, f < 128 → Q 2 f = true → Q 2 (127 - (r &&& f)) = false
def qs_X (Q : Nat → Nat → Bool) : Prop := Q 0 127 = true ∧ Q 1 127 = true ∧ (∀ r, r < 128 → Q 0 r = true → Q 1 (127 - r) = false) ∧ ∀ x, x ∈ qq_ms (Q 2) → ∀ y, y ∈ qq_ms (Q 2) → Q 0 (127 - (x &&& y)) = false
def qs_M (Q : Nat → Nat → Bool) : Prop := ∀ k, k < 3 → qq_mo (Q k)
def qs_E (Q : Nat → Nat → Bool) : Prop := ∀ k, k < 3 → Q k 0 = false
theorem qs_tf {b : Bool} : ¬ b = true ↔ b = false := by cases b <;> simp
theorem qs_l127 (t : Nat) : 127 - t < 128 := by omega
theorem qs_eq {Q : Nat → Nat → Bool} (h : qs_M Q) : qs_X Q ↔ qs_S Q := by
  constructor
  · rintro ⟨h1, h2, h3, h4⟩
    refine ⟨h1, h2, fun r hr hq => ⟨h3 r hr hq, fun f hf hq2 => ?_⟩⟩
    cases hc : Q 2 (127 - (r &&& f)) with
    | false => rfl
    | true =>
      obtain ⟨a, ha, ma, sa⟩ := qq_sub f hf hq2
      obtain ⟨b, hb, mb, sb⟩ := qq_sub _ (qs_l127 _) hc
      have h5 := h4 a (qq_mem.mpr ⟨ha, ma⟩) b (qq_mem.mpr ⟨hb, mb⟩)
      have h6 : Q 0 (127 - (a &&& b)) = true := by
        refine h 0 (by decide) r _ hr (qs_l127 _) (qq_ssi hr fun k hk z => ?_) hq
        rw [qq_nb _ (qq_lt ha) k hk, Nat.testBit_and]
        cases x : a.testBit k with
        | false => rfl
        | true =>
          cases y : b.testBit k with
          | false => rfl
          | true =>
            have u := qq_ssb sa x
            have v := qq_ssb sb y
            rw [qq_nb _ (qq_lt hr) k hk, Nat.testBit_and, z, u] at v
            exact absurd v (by decide)
      rw [h5] at h6; exact absurd h6 (by decide)
  · rintro ⟨h1, h2, h3⟩
    refine ⟨h1, h2, fun r hr hq => (h3 r hr hq).1, fun x hx y hy => ?_⟩
    have hx := qq_mem.mp hx
    have hy := qq_mem.mp hy
    cases hc : Q 0 (127 - (x &&& y)) with
    | false => rfl
    | true =>
      have h4 := (h3 _ (qs_l127 _) hc).2 x hx.1 hx.2.1
      have h5 : Q 2 (127 - ((127 - (x &&& y)) &&& x)) = true := by
        refine h 2 (by decide) y _ hy.1 (qs_l127 _) (qq_ssi hy.1 fun k hk z => ?_) hy.2.1
        rw [qq_nb _ (qq_lt (qs_l127 _)) k hk, Nat.testBit_and, qq_nb _ (qq_lt hx.1) k hk, Nat.testBit_and, z]
        cases x.testBit k <;> rfl
      rw [h4] at h5; exact absurd h5 (by decide)
/-! thresholds -/
theorem qs_thM {sm : Nat → Nat} {r w f : Nat} (h : ∀ a b, a < 128 → b < 128 → a &&& b = a → sm a ≤ sm b) : qs_M (qf_th sm r w f) := by
  intro k hk a b ha hb hs hq
  have := h a b ha hb hs
  unfold qf_th at hq ⊢
  by_cases k0 : k = 0
  · rw [if_pos k0] at hq ⊢; rw [decide_eq_true_eq] at hq ⊢; omega
  · rw [if_neg k0] at hq ⊢
    by_cases k1 : k = 1
    · rw [if_pos k1] at hq ⊢; rw [decide_eq_true_eq] at hq ⊢; omega
    · rw [if_neg k1] at hq ⊢; rw [decide_eq_true_eq] at hq ⊢; omega
theorem qs_thE {sm : Nat → Nat} {r w f : Nat} (h : sm 0 = 0) (hr : 1 ≤ r) (hw : 1 ≤ w) : qs_E (qf_th sm r w f) := by
  intro k hk
  unfold qf_th
  rw [h]
  by_cases k0 : k = 0
  · rw [if_pos k0, decide_eq_false_iff_not]; omega
  · rw [if_neg k0]
    by_cases k1 : k = 1
    · rw [if_pos k1, decide_eq_false_iff_not]; omega
    · rw [if_neg k1, decide_eq_false_iff_not]; omega
theorem qs_bm {a b k : Nat} (h : a &&& b = a) : a / 2 ^ k % 2 ≤ b / 2 ^ k % 2 := by
  by_cases z : a / 2 ^ k % 2 = 1
  · have := (qq_tb b k).mp (qq_ssb h ((qq_tb a k).mpr z))
    omega
  · omega
theorem qs_wpM {d a b : Nat} (h : a &&& b = a) : ∀ k, qf_wp d a k ≤ qf_wp d b k := by
  intro k
  induction k with
  | zero => exact Nat.le_refl _
  | succ k ih =>
    have := Nat.mul_le_mul_right (d / 10 ^ k % 10) (qs_bm (k := k) h)
    show qf_wp d a k + _ ≤ qf_wp d b k + _
    omega
theorem qs_wpE (d : Nat) : ∀ k, qf_wp d 0 k = 0 := by
  intro k
  induction k with
  | zero => rfl
  | succ k ih =>
    show qf_wp d 0 k + _ = 0
    rw [ih, Nat.zero_div, Nat.zero_mod, Nat.zero_mul]
theorem qs_ctM {A a b : Nat} (hA : A < 128) (ha : a < 128) (hb : b < 128) (h : a &&& b = a) : qf_ct A a ≤ qf_ct A b := by
  refine qq_pm _ (qq_lt ha) _ (qq_lt hb) ?_
  refine qq_ssi (qq_lt ha) fun k hk z => ?_
  rw [Nat.testBit_and, Bool.and_eq_true] at z ⊢
  exact ⟨qq_ssb h z.1, z.2⟩
theorem qs_ctE (A : Nat) : qf_ct A 0 = 0 := by
  unfold qf_ct; rw [Nat.zero_and]; rfl
theorem qs_c {A r w f : Nat} (hA : A < 128) (hr : r < 8) (hw : w < 8) (hf : f < 8) : qs_S (qf_th (qf_ct A) r w f) ↔ (r ≤ nn_pc A ∧ w ≤ nn_pc A ∧ nn_pc A < r + w ∧ ¬ (0 < f ∧ f ≤ nn_pc A ∧ r + 2 * f ≤ 2 * nn_pc A)) := by
  have e127 : (127 : Nat) &&& A = A := by
    rw [Nat.and_comm]; exact qq_ssi hA fun k hk _ => (by decide +kernel : ∀ k, k < 7 → Nat.testBit 127 k = true) k hk
  have e0 : ∀ t, qf_th (qf_ct A) r w f 0 t = decide (r ≤ qf_ct A t) := fun t => rfl
  have e1 : ∀ t, qf_th (qf_ct A) r w f 1 t = decide (w ≤ qf_ct A t) := fun t => rfl
  have e2 : ∀ t, qf_th (qf_ct A) r w f 2 t = decide (0 < f ∧ f ≤ qf_ct A t) := fun t => rfl
  have em : qf_ct A 127 = nn_pc A := by unfold qf_ct; rw [e127]
  have ec : ∀ t, t < 128 → qf_ct A (127 - t) + qf_ct A t = nn_pc A := fun t ht => qq_cm t ht A hA
  constructor
  · rintro ⟨h1, h2, h3⟩
    rw [e0, decide_eq_true_eq, em] at h1
    rw [e1, decide_eq_true_eq, em] at h2
    obtain ⟨f1, f2, f3, f4⟩ := qs_fl A hA r hr h1
    have h4 := h3 (qs_f A r) f1 (by rw [e0, decide_eq_true_eq]; unfold qf_ct; omega)
    refine ⟨h1, h2, ?_, ?_⟩
    · have h5 := h4.1
      rw [e1, decide_eq_false_iff_not] at h5
      have := ec _ f1
      unfold qf_ct at this h5
      omega
    · rintro ⟨z1, z2, z3⟩
      obtain ⟨g1, g2, g3, g4⟩ := qs_fl A hA f hf z2
      have h5 := h4.2 (qs_l A f) g2 (by rw [e2, decide_eq_true_eq]; unfold qf_ct; omega)
      rw [e2, decide_eq_false_iff_not] at h5
      have h6 := ec _ (qq_lt (b := qs_l A f) f1)
      have h7 := qs_flm A hA r hr h1 f hf z2
      unfold qf_ct at h5 h6
      omega
  · rintro ⟨h1, h2, h3, h4⟩
    refine ⟨by rw [e0, decide_eq_true_eq, em]; exact h1, by rw [e1, decide_eq_true_eq, em]; exact h2, fun t ht hq => ?_⟩
    rw [e0, decide_eq_true_eq] at hq
    refine ⟨?_, fun g hg hq2 => ?_⟩
    · rw [e1, decide_eq_false_iff_not]
      have := ec t ht
      omega
    · rw [e2, decide_eq_true_eq] at hq2
      rw [e2, decide_eq_false_iff_not]
      have h5 := ec _ (qq_lt (b := g) ht)
      have h6 := qq_ie (t &&& A) (qq_lt ht) (g &&& A) (qq_lt hg)
      have h7 : (t &&& A) &&& (g &&& A) = (t &&& g) &&& A := by
        apply Nat.eq_of_testBit_eq
        intro i
        simp only [Nat.testBit_and]
        cases t.testBit i <;> cases g.testBit i <;> cases A.testBit i <;> rfl
      have h8 : nn_pc ((t &&& A) ||| (g &&& A)) ≤ nn_pc A := by
        refine qq_pm _ (qq_lor (qq_lt ht) (qq_lt hg)) _ hA (qq_ssi (qq_lor (qq_lt ht) (qq_lt hg)) fun k hk z => ?_)
        rw [Nat.testBit_or, Nat.testBit_and, Nat.testBit_and] at z
        cases x : A.testBit k with
        | true => rfl
        | false => rw [x, Bool.and_false, Bool.and_false] at z; exact absurd z (by decide)
      have h9 : nn_pc (g &&& A) ≤ nn_pc A := qq_pm _ (qq_lt hg) _ hA (by rw [Nat.and_assoc, Nat.and_self])
      rw [h7] at h6
      unfold qf_ct at h5 hq hq2 ⊢
      omega
/-! grids -/
theorem qs_cn0 {P : Nat → Bool} : ∀ {n : Nat}, 0 < qf_cn P n → ∃ i, i < n ∧ P i = true
  | 0, h => absurd h (Nat.lt_irrefl 0)
  | n + 1, h => by
    by_cases hp : P n = true
    · exact ⟨n, by omega, hp⟩
    · have e : qf_cn P (n + 1) = qf_cn P n + 0 := by show qf_cn P n + (if P n = true then 1 else 0) = _; rw [if_neg hp]
      rw [e] at h
      obtain ⟨i, hi, hq⟩ := qs_cn0 (n := n) h
      exact ⟨i, by omega, hq⟩
theorem qs_cnle (P : Nat → Bool) : ∀ n, qf_cn P n ≤ n
  | 0 => Nat.le_refl _
  | n + 1 => by
    have := qs_cnle P n
    show qf_cn P n + (if P n = true then 1 else 0) ≤ n + 1
    by_cases hp : P n = true
    · rw [if_pos hp]; omega
    · rw [if_neg hp]; omega
theorem qs_cnM {P Q : Nat → Bool} : ∀ {n : Nat}, (∀ i, i < n → P i = true → Q i = true) → qf_cn P n ≤ qf_cn Q n
  | 0, _ => Nat.le_refl _
  | n + 1, h => by
    have := qs_cnM (P := P) (Q := Q) (n := n) (fun i hi => h i (by omega))
    show qf_cn P n + (if P n = true then 1 else 0) ≤ qf_cn Q n + (if Q n = true then 1 else 0)
    by_cases hp : P n = true
    · rw [if_pos hp, if_pos (h n (by omega) hp)]; omega
    · rw [if_neg hp]; omega
theorem qs_cn2 {P Q : Nat → Bool} : ∀ {n : Nat}, n < qf_cn P n + qf_cn Q n → ∃ j, j < n ∧ P j = true ∧ Q j = true
  | 0, h => absurd h (Nat.lt_irrefl 0)
  | n + 1, h => by
    by_cases hp : P n = true ∧ Q n = true
    · exact ⟨n, by omega, hp⟩
    · have h1 : qf_cn P (n + 1) + qf_cn Q (n + 1) ≤ qf_cn P n + qf_cn Q n + 1 := by
        show qf_cn P n + (if P n = true then 1 else 0) + (qf_cn Q n + (if Q n = true then 1 else 0)) ≤ _
        by_cases h1 : P n = true
        · rw [if_pos h1, if_neg (fun z => hp ⟨h1, z⟩)]; omega
        · rw [if_neg h1]
          by_cases h2 : Q n = true
          · rw [if_pos h2]; omega
          · rw [if_neg h2]; omega
      obtain ⟨j, hj, hq⟩ := qs_cn2 (P := P) (Q := Q) (n := n) (by omega)
      exact ⟨j, by omega, hq⟩
theorem qs_cnF {P : Nat → Bool} : ∀ {n : Nat}, (∀ i, i < n → P i = true) → qf_cn P n = n
  | 0, _ => rfl
  | n + 1, h => by
    have := qs_cnF (P := P) (n := n) (fun i hi => h i (by omega))
    show qf_cn P n + (if P n = true then 1 else 0) = n + 1
    rw [if_pos (h n (by omega)), this]
theorem qs_cnZ {P : Nat → Bool} : ∀ {n : Nat}, (∀ i, i < n → P i = false) → qf_cn P n = 0
  | 0, _ => rfl
  | n + 1, h => by
    have := qs_cnZ (P := P) (n := n) (fun i hi => h i (by omega))
    show qf_cn P n + (if P n = true then 1 else 0) = 0
    rw [if_neg (by rw [h n (by omega)]; decide), this]
theorem qs_lnM {r c : Nat} {o : Bool} {a b line : Nat} (h : a &&& b = a) (hq : qf_ln r c o a line = true) : qf_ln r c o b line = true := by
  unfold qf_ln at hq ⊢
  rw [decide_eq_true_eq] at hq ⊢
  intro k hk e
  exact (qq_tb b k).mp (qq_ssb h ((qq_tb a k).mpr (hq k hk e)))
theorem qs_gM (r c : Nat) (d : Bool) : qs_M (qf_g r c d) := by
  intro k hk a b ha hb hs hq
  have h1 := qs_cnM (P := qf_ln r c true a) (Q := qf_ln r c true b) (n := r) (fun i _ => qs_lnM hs)
  have h2 := qs_cnM (P := qf_ln r c false a) (Q := qf_ln r c false b) (n := c) (fun i _ => qs_lnM hs)
  unfold qf_g at hq ⊢
  by_cases k0 : k = 0
  · rw [if_pos k0] at hq ⊢; rw [decide_eq_true_eq] at hq ⊢; omega
  · rw [if_neg k0] at hq ⊢
    by_cases k1 : k = 1
    · rw [if_pos k1] at hq ⊢; rw [decide_eq_true_eq] at hq ⊢; omega
    · rw [if_neg k1] at hq ⊢; rw [Bool.and_eq_true, decide_eq_true_eq] at hq ⊢; exact ⟨hq.1, by omega⟩
theorem qs_cell {r c i j : Nat} (hi : i < r) (hj : j < c) : c * i + j < r * c ∧ (c * i + j) / c = i ∧ (c * i + j) % c = j := by
  refine ⟨?_, ?_, ?_⟩
  · have h1 : c * i + c ≤ c * r := by
      have := Nat.mul_le_mul_left c (show i + 1 ≤ r by omega)
      rw [Nat.mul_succ] at this; exact this
    rw [Nat.mul_comm r c]; omega
  · rw [Nat.mul_add_div (by omega), Nat.div_eq_of_lt hj, Nat.add_zero]
  · rw [Nat.mul_add_mod, Nat.mod_eq_of_lt hj]
theorem qs_lnR {r c i j t : Nat} (hi : i < r) (hj : j < c) (h : qf_ln r c true t i = true) : t.testBit (c * i + j) = true := by
  unfold qf_ln at h
  rw [decide_eq_true_eq] at h
  have hc := qs_cell hi hj
  exact (qq_tb _ _).mpr (h _ hc.1 hc.2.1)
theorem qs_lnC {r c i j t : Nat} (hi : i < r) (hj : j < c) (h : qf_ln r c false t j = true) : t.testBit (c * i + j) = true := by
  unfold qf_ln at h
  rw [decide_eq_true_eq] at h
  have hc := qs_cell hi hj
  exact (qq_tb _ _).mpr (h _ hc.1 hc.2.2)
theorem qs_gE {r c : Nat} {d : Bool} (hr : 1 ≤ r) (hc : 1 ≤ c) (hd : d = true → 3 ≤ c) : qs_E (qf_g r c d) := by
  have h1 : qf_cn (qf_ln r c true 0) r = 0 := qs_cnZ (fun i hi => by
    cases h : qf_ln r c true 0 i with
    | false => rfl
    | true => have := qs_lnR hi (show 0 < c by omega) h; rw [Nat.zero_testBit] at this; exact absurd this (by decide))
  have h2 : qf_cn (qf_ln r c false 0) c = 0 := qs_cnZ (fun i hi => by
    cases h : qf_ln r c false 0 i with
    | false => rfl
    | true => have := qs_lnC (show 0 < r by omega) hi h; rw [Nat.zero_testBit] at this; exact absurd this (by decide))
  intro k hk
  unfold qf_g
  rw [h1, h2]
  by_cases k0 : k = 0
  · rw [if_pos k0]; rfl
  · rw [if_neg k0]
    by_cases k1 : k = 1
    · rw [if_pos k1]; rfl
    · rw [if_neg k1]
      cases d with
      | false => rfl
      | true => have := hd rfl; rw [Bool.true_and, decide_eq_false_iff_not]; omega
theorem qs_g {r c : Nat} {d : Bool} (hr : 1 ≤ r) (hc : 1 ≤ c) (hrc : r * c ≤ 7) : qs_S (qf_g r c d) ↔ ¬ (d = true ∧ c < 3) := by
  have b127 : ∀ k, k < 7 → 127 / 2 ^ k % 2 = 1 := by decide
  have ln127 : ∀ o i, qf_ln r c o 127 i = true := fun o i => by
    unfold qf_ln
    rw [decide_eq_true_eq]
    exact fun k hk _ => b127 k (by omega)
  have e0 : ∀ t, qf_g r c d 0 t = decide (0 < qf_cn (qf_ln r c true t) r) := fun t => rfl
  have e1 : ∀ t, qf_g r c d 1 t = decide (1 ≤ qf_cn (qf_ln r c false t) c) := fun t => rfl
  have e2 : ∀ t, qf_g r c d 2 t = (d && decide (c - 1 ≤ qf_cn (qf_ln r c false t) c)) := fun t => rfl
  have c1 := qs_cnF (P := qf_ln r c true 127) (n := r) (fun i _ => ln127 true i)
  have c2 := qs_cnF (P := qf_ln r c false 127) (n := c) (fun i _ => ln127 false i)
  constructor
  · rintro ⟨_, _, h3⟩ ⟨hd, hc3⟩
    have h4 := (h3 127 (by decide) (by rw [e0, c1, decide_eq_true_eq]; omega)).2
    subst hd
    rcases (show c = 1 ∨ c = 2 by omega) with e | e
    · subst e
      have := h4 0 (by decide) (by rw [e2, Bool.true_and, decide_eq_true_eq]; omega)
      rw [Nat.and_zero, e2, Bool.true_and, decide_eq_false_iff_not] at this
      omega
    · subst e
      have hb : ∀ r, r < 4 → 1 ≤ r → qf_g r 2 true 2 21 = true ∧ qf_g r 2 true 2 (127 - (127 &&& 21)) = true := by decide +kernel
      have hb := hb r (by omega) hr
      have := h4 21 (by decide) hb.1
      rw [hb.2] at this
      exact absurd this (by decide)
  · intro hn
    refine ⟨by rw [e0, c1, decide_eq_true_eq]; omega, by rw [e1, c2, decide_eq_true_eq]; omega, fun t ht hq => ?_⟩
    rw [e0, decide_eq_true_eq] at hq
    obtain ⟨i, hi, hrow⟩ := qs_cn0 hq
    refine ⟨?_, fun f hf hq2 => ?_⟩
    · rw [e1, decide_eq_false_iff_not]
      intro hw
      obtain ⟨j, hj, hcol⟩ := qs_cn0 (show 0 < _ from hw)
      have a := qs_lnR hi hj hrow
      have b := qs_lnC hi hj hcol
      have hc := (qs_cell hi hj).1
      rw [qq_nb t ht _ (by omega), a] at b
      exact absurd b (by decide)
    · rw [e2, Bool.and_eq_true, decide_eq_true_eq] at hq2
      cases hx : qf_g r c d 2 (127 - (t &&& f)) with
      | false => rfl
      | true =>
        rw [e2, Bool.and_eq_true, decide_eq_true_eq] at hx
        have hc3 : 3 ≤ c := by
          rcases Nat.lt_or_ge c 3 with z | z
          · exact absurd ⟨hq2.1, z⟩ hn
          · exact z
        obtain ⟨j, hj, f1, f2⟩ := qs_cn2 (P := qf_ln r c false f) (Q := qf_ln r c false (127 - (t &&& f))) (n := c) (by omega)
        have a := qs_lnR hi hj hrow
        have b := qs_lnC hi hj f1
        have b2 := qs_lnC hi hj f2
        have hc := (qs_cell hi hj).1
        rw [qq_nb _ (qq_lt ht) _ (by omega), Nat.testBit_and, a, b] at b2
        exact absurd b2 (by decide)
/-! lists -/
theorem qs_hpM {p a b : Nat} (hs : a &&& b = a) : ∀ k, qf_hp p a k = true → qf_hp p b k = true := by
  intro k
  induction k with
  | zero => exact fun h => h
  | succ k ih =>
    intro h
    have h : (qf_hp p a k || (decide (¬ qf_pt p k = 0) && decide (qf_pt p k &&& a = qf_pt p k))) = true := h
    show (qf_hp p b k || (decide (¬ qf_pt p k = 0) && decide (qf_pt p k &&& b = qf_pt p k))) = true
    rw [Bool.or_eq_true, Bool.and_eq_true, decide_eq_true_eq, decide_eq_true_eq] at h ⊢
    rcases h with h | h
    · exact Or.inl (ih h)
    · exact Or.inr ⟨h.1, qq_tr h.2 hs⟩
theorem qs_lM (a b c : Nat) : qs_M (qf_l a b c) := fun k _ x y _ _ hs => qs_hpM hs 4
theorem qs_hpE (p : Nat) : ∀ k, qf_hp p 0 k = false := by
  intro k
  induction k with
  | zero => rfl
  | succ k ih =>
    show (qf_hp p 0 k || (decide (¬ qf_pt p k = 0) && decide (qf_pt p k &&& 0 = qf_pt p k))) = false
    rw [ih, Nat.and_zero]
    by_cases h : qf_pt p k = 0
    · rw [h]; rfl
    · rw [decide_eq_false (p := 0 = qf_pt p k) (fun e => h e.symm), Bool.and_false]; rfl
theorem qs_lE (a b c : Nat) : qs_E (qf_l a b c) := fun k _ => qs_hpE _ 4
/-! what a system's numbers say -/
def qy_S (so a b c d : Int32) (Q : Nat → Nat → Bool) : Prop :=
  (so = 0 ∧ ∃ A B C D, a = nI A ∧ b = nI B ∧ c = nI C ∧ d = nI D ∧ 1 ≤ A ∧ A < 128 ∧ 1 ≤ B ∧ B < 8 ∧ 1 ≤ C ∧ C < 8 ∧ D < 8 ∧ Q = qf_th (qf_ct A) B C D) ∨
  (so = 1 ∧ ∃ A B D, a = nI A ∧ b = nI B ∧ 1 ≤ A ∧ 1 ≤ B ∧ A * B ≤ 7 ∧ (d = 0 ↔ D = false) ∧ Q = qf_g A B D) ∨
  (so = 2 ∧ ∃ A B C D, a = nI A ∧ b = nI B ∧ c = nI C ∧ d = nI D ∧ A < 10000000 ∧ 1 ≤ B ∧ B < 64 ∧ 1 ≤ C ∧ C < 64 ∧ D < 64 ∧ Q = qf_th (qf_wt A) B C D) ∨
  (so = 3 ∧ ∃ A B C, a = nI A ∧ b = nI B ∧ c = nI C ∧ A < 268435456 ∧ B < 268435456 ∧ C < 268435456 ∧ Q = qf_l A B C)
theorem qy_M {so a b c d : Int32} {Q : Nat → Nat → Bool} (h : qy_S so a b c d Q) : qs_M Q := by
  rcases h with ⟨_, A, B, C, D, _, _, _, _, _, hA, _, _, _, _, _, rfl⟩ | ⟨_, A, B, D, _, _, _, _, _, _, rfl⟩ | ⟨_, A, B, C, D, _, _, _, _, _, _, _, _, _, _, rfl⟩ | ⟨_, A, B, C, _, _, _, _, _, _, rfl⟩
  · exact qs_thM fun a b ha hb hs => qs_ctM hA ha hb hs
  · exact qs_gM A B D
  · exact qs_thM fun a b _ _ hs => qs_wpM hs 7
  · exact qs_lM A B C
theorem qy_E {so a b c d : Int32} {Q : Nat → Nat → Bool} (h : qy_S so a b c d Q) (hs : qs_S Q) : qs_E Q := by
  rcases h with ⟨_, A, B, C, D, _, _, _, _, _, hA, _, _, _, _, _, rfl⟩ | ⟨_, A, B, D, _, _, h1, h2, h3, _, rfl⟩ | ⟨_, A, B, C, D, _, _, _, _, _, _, _, _, _, _, rfl⟩ | ⟨_, A, B, C, _, _, _, _, _, _, rfl⟩
  · exact qs_thE (qs_ctE A) (by assumption) (by assumption)
  · refine qs_gE h1 h2 (fun hd => ?_)
    have := (qs_g (d := D) h1 h2 h3).mp hs
    rcases Nat.lt_or_ge B 3 with z | z
    · exact absurd ⟨hd, z⟩ this
    · exact z
  · exact qs_thE (qs_wpE A 7) (by assumption) (by assumption)
  · exact qs_lE A B C
end
section
/-! grids by trying all -/
def xd_cm (c : Nat) : Nat → Nat
  | 0 => 0
  | i + 1 => xd_cm c i ||| 2 ^ (c * i)
def xd_rb (r c t : Nat) : Bool := decide (∀ i, i < r → ((t / 2 ^ (c * i)) &&& (2 ^ c - 1) = 2 ^ c - 1 ↔ qf_ln r c true t i = true))
def xd_cb (r c t : Nat) : Bool := decide (∀ i, i < c → ((t / 2 ^ i) &&& xd_cm c r = xd_cm c r ↔ qf_ln r c false t i = true))
theorem xd_rowd0 : ∀ r, r < 8 → ∀ c, c < 8 → (1 ≤ r ∧ 1 ≤ c ∧ r * c ≤ 7) → ∀ t, t < 128 → xd_rb r c t = true := by decide +kernel
theorem xd_cold0 : ∀ r, r < 8 → ∀ c, c < 8 → (1 ≤ r ∧ 1 ≤ c ∧ r * c ≤ 7) → ∀ t, t < 128 → xd_cb r c t = true := by decide +kernel
theorem xd_cml0 : ∀ r, r < 8 → ∀ c, c < 8 → (1 ≤ r ∧ 1 ≤ c ∧ r * c ≤ 7) → ∀ i, i < r + 1 → xd_cm c i < 128 ∧ c * i ≤ 7 := by decide +kernel
theorem xd_rowd (r : Nat) (h1 : r < 8) (c : Nat) (h2 : c < 8) (h3 : 1 ≤ r) (h4 : 1 ≤ c) (h5 : r * c ≤ 7) : ∀ t, t < 128 → ∀ i, i < r → ((t / 2 ^ (c * i)) &&& (2 ^ c - 1) = 2 ^ c - 1 ↔ qf_ln r c true t i = true) := fun t ht => of_decide_eq_true (xd_rowd0 r h1 c h2 ⟨h3, h4, h5⟩ t ht)
theorem xd_cold (r : Nat) (h1 : r < 8) (c : Nat) (h2 : c < 8) (h3 : 1 ≤ r) (h4 : 1 ≤ c) (h5 : r * c ≤ 7) : ∀ t, t < 128 → ∀ i, i < c → ((t / 2 ^ i) &&& xd_cm c r = xd_cm c r ↔ qf_ln r c false t i = true) := fun t ht => of_decide_eq_true (xd_cold0 r h1 c h2 ⟨h3, h4, h5⟩ t ht)
theorem xd_cml (r : Nat) (h1 : r < 8) (c : Nat) (h2 : c < 8) (h3 : 1 ≤ r) (h4 : 1 ≤ c) (h5 : r * c ≤ 7) : ∀ i, i < r + 1 → xd_cm c i < 128 ∧ c * i ≤ 7 := xd_cml0 r h1 c h2 ⟨h3, h4, h5⟩
end
section
/-! the reference's isQuorum -/
theorem nn_bF : nn_b (false = true) = 0 := nn_bf (by decide)
theorem nn_bT : nn_b (true = true) = 1 := nn_bt rfl
theorem yq_pt {p k : Nat} (hp : p < 268435456) (hk : k < 4) : (nI p >>> ((7 * nI k) &&& 31)) &&& 127 = nI (qf_pt p k) := by
  rw [nn_m7, nn_shr (by omega) (by omega), nn_and127m (Nat.lt_of_le_of_lt (Nat.div_le_self _ _) (by omega))]
  rfl
theorem yq_ptl (p k : Nat) : qf_pt p k < 128 := Nat.mod_lt _ (by decide)
theorem yq_cont4 {post : Int32 → Prop} {p t : Nat} (hp : p < 268435456) (ht : t < 128) (h : post (nn_b (qf_hp p t 4 = true))) : ∀ d k, k + d = 4 → wY_contains_4 post (nI p) (nI t) (d + 1) (nn_b (qf_hp p t k = true)) (nI k) := by
  intro d
  induction d with
  | zero =>
    intro k hk
    refine pk_le 4 k (fun z => ?_) (fun z => by omega)
    rw [show k = 4 by omega]; exact ⟨nn_bn _, h⟩
  | succ d ih =>
    intro k hk
    have ih := ih (k + 1) (by omega)
    have e : qf_hp p t (k + 1) = (qf_hp p t k || (decide (¬ qf_pt p k = 0) && decide (qf_pt p k &&& t = qf_pt p k))) := rfl
    rw [e] at ih
    refine pk_le 4 k (fun z => by omega) (fun z => nm_r (yq_pt hp (by omega)) ?_)
    have hl := yq_ptl p k
    cases hc : qf_hp p t k with
    | true =>
      rw [hc, Bool.true_or, nn_bT] at ih
      rw [nn_bT]
      exact br_f nn_10 (nm_r (nI_1 k) ih)
    | false =>
      rw [hc, Bool.false_or] at ih
      rw [nn_bF]
      refine br_t rfl (pk_eq (qf_pt p k) 0 (fun z0 => nm_r (nI_1 k) ?_) (fun z0 => ?_))
      · rw [decide_eq_false (p := ¬ qf_pt p k = 0) (fun q => q z0), Bool.false_and, nn_bF] at ih
        exact ih
      · rw [decide_eq_true (p := ¬ qf_pt p k = 0) z0, Bool.true_and] at ih
        refine pk_eq (qf_pt p k &&& (127 - t)) 0 (fun z1 => nm_r (nI_1 k) ?_) (fun z1 => nm_r (nI_1 k) ?_) (hx := nn_andn hl ht) (ha := by have := qq_lt (b := 127 - t) hl; omega)
        · rw [decide_eq_true ((yq_dis _ hl _ ht).mp z1), nn_bT] at ih
          exact ih
        · rw [decide_eq_false (fun q => z1 ((yq_dis _ hl _ ht).mpr q)), nn_bF] at ih
          exact ih
theorem yq_cont {post : Int32 → Prop} {p t : Nat} (hp : p < 268435456) (ht : t < 128) (h : post (nn_b (qf_hp p t 4 = true))) : wpY_contains post (nI p) (nI t) := by
  have := yq_cont4 hp ht h 4 0 rfl
  rw [show qf_hp p t 0 = false from rfl, nn_bF] at this
  exact ⟨5, this⟩
theorem yq_100 : ¬ (10 : Int32) = 0 := by decide
theorem yq_80 : ¬ (8 : Int32) = 0 := by decide
theorem yq_wt7 {post : Int32 → Prop} {p t : Nat} (hp : p < 10000000) (ht : t < 128) (h : post (nI (qf_wt p t))) : ∀ d k, k + d = 7 → wY_weight_7 post (nI t) (d + 1) (nI (qf_wp p t k)) (nI (p / 10 ^ k)) (nI k) := by
  intro d
  induction d with
  | zero =>
    intro k hk
    refine pk_le 7 k (fun z => ?_) (fun z => by omega)
    rw [show k = 7 by omega]; exact h
  | succ d ih =>
    intro k hk
    have ih := ih (k + 1) (by omega)
    have hl : p / 10 ^ k < 2 ^ 31 := Nat.lt_of_le_of_lt (Nat.div_le_self _ _) (by omega)
    have ed : p / 10 ^ k / 10 = p / 10 ^ (k + 1) := by rw [Nat.div_div_eq_div_mul, Nat.pow_succ]
    have e : qf_wp p t (k + 1) = qf_wp p t k + (t / 2 ^ k % 2) * (p / 10 ^ k % 10) := rfl
    refine pk_le 7 k (fun z => by omega) (fun z => ?_)
    refine pk_eq (t / 2 ^ k % 2) 1 (fun z0 => ?_) (fun z0 => ?_) (hx := nn_bit (by omega) (by omega))
    · refine ⟨yq_100, nm_r (e' := nI (qf_wp p t (k + 1))) ?_ ⟨yq_100, nm_r (e' := nI (p / 10 ^ (k + 1))) ?_ (nm_r (nI_1 k) ih)⟩⟩
      · rw [nn_r10 hl, nI_add, e, z0, Nat.one_mul]
      · rw [nn_d10 hl, ed]
    · refine ⟨yq_100, nm_r (e' := nI (p / 10 ^ (k + 1))) ?_ (nm_r (nI_1 k) ?_)⟩
      · rw [nn_d10 hl, ed]
      · rw [e, show t / 2 ^ k % 2 = 0 by omega, Nat.zero_mul, Nat.add_zero] at ih
        exact ih
theorem yq_wt {post : Int32 → Prop} {p t : Nat} (hp : p < 10000000) (ht : t < 128) (h : post (nI (qf_wt p t))) : wpY_weight post (nI p) (nI t) := by
  have := yq_wt7 hp ht h 7 0 rfl
  rw [show p / 10 ^ 0 = p by rw [Nat.pow_zero, Nat.div_one]] at this
  exact ⟨8, this⟩
/-! lines of a grid -/
theorem yq_nn0 {r c : Nat} (hc : 1 ≤ c) (h : r * c ≤ 7) (hr : 1 ≤ r) : r ≤ 7 ∧ c ≤ 7 := by
  constructor
  · have := Nat.mul_le_mul_left r hc; omega
  · have := Nat.mul_le_mul_right c hr; omega
theorem yq_ix {c k : Nat} (hc : 1 ≤ c) : qf_ix c true k ≤ k ∧ qf_ix c false k ≤ k :=
  ⟨Nat.div_le_self _ _, Nat.mod_le _ _⟩
def yq_W (c : Nat) (o : Bool) (t line k : Nat) : Prop := ∀ j, j < k → qf_ix c o j = line → t / 2 ^ j % 2 = 1
theorem yq_Ws {c : Nat} {o : Bool} {t line k : Nat} (h : qf_ix c o k = line → t / 2 ^ k % 2 = 1) : yq_W c o t line k ↔ yq_W c o t line (k + 1) :=
  ⟨fun q j hj e => by
    rcases Nat.lt_or_ge j k with x | x
    · exact q j x e
    · rw [show j = k by omega] at e ⊢; exact h e, fun q j hj e => q j (by omega) e⟩
theorem yq_ln26 {post : Int32 → Prop} {J : Int32 → Int32 → Prop} {r c t a line : Nat} {o : Bool} (hr : 1 ≤ r) (hc : 1 ≤ c) (hrc : r * c ≤ 7) (ht : t < 128) (hline : line ≤ 7)
    (h1 : qf_ln r c o t line = true → J (nI (a + 1)) (nI (line + 1))) (h0 : qf_ln r c o t line = false → J (nI a) (nI (line + 1))) :
    ∀ d k, k + d = r * c → wY_lines_26 post J (nI r) (nI c) (nn_b (o = true)) (nI t) (nI a) (nI line) (d + 1) (nn_b (yq_W c o t line k)) (nI k) := by
  have hb := yq_nn0 hc hrc hr
  intro d
  induction d with
  | zero =>
    intro k hk
    refine pk_le (r * c) k (fun z => ?_) (fun z => by omega) (hx := pk_mul r c)
    rw [show k = r * c by omega]
    refine nn_br (fun z0 => nm_r (nI_1 line) (h0 ?_)) (fun z0 => nm_r (nI_1 a) (nm_r (nI_1 line) (h1 ?_)))
    · unfold qf_ln; rw [decide_eq_false_iff_not]; exact z0
    · unfold qf_ln; rw [decide_eq_true_eq]; exact z0
  | succ d ih =>
    intro k hk
    have ih := ih (k + 1) (by omega)
    have hix := yq_ix (k := k) hc
    have key : wY_lines_49 post J (wY_lines_26 post J (nI r) (nI c) (nn_b (o = true)) (nI t) (nI a) (nI line) (d + 1)) (nI r) (nI c) (nn_b (o = true)) (nI t) (nI a) (nI line) (nn_b (yq_W c o t line k)) (nI k) (nI (qf_ix c o k)) := by
      refine pk_eq (qf_ix c o k) line (fun z1 => ?_) (fun z1 => nm_r (nI_1 k) ?_) (ha := by cases o <;> omega)
      · refine pk_eq (t / 2 ^ k % 2) 0 (fun z2 => nm_r (nI_1 k) ?_) (fun z2 => nm_r (nI_1 k) ?_) (hx := nn_bit (by omega) (by omega))
        · rw [nn_bf (P := yq_W c o t line (k + 1)) (fun q => by have := q k (by omega) z1; omega)] at ih
          exact ih
        · rw [nn_bc (yq_Ws (c := c) (o := o) (line := line) (fun _ => show t / 2 ^ k % 2 = 1 by omega))]
          exact ih
      · rw [nn_bc (yq_Ws (c := c) (o := o) (t := t) (line := line) (fun q => absurd q z1))]
        exact ih
    refine pk_le (r * c) k (fun z => by omega) (fun z => ?_) (hx := pk_mul r c)
    cases o with
    | false =>
      rw [nn_bF] at key ⊢
      refine br_t rfl ⟨nI_ne0 (by omega) (by omega), ?_⟩
      rw [pk_rem (by omega) (by omega) (by omega)]
      exact key
    | true =>
      rw [nn_bT] at key ⊢
      refine br_f nn_10 ⟨nI_ne0 (by omega) (by omega), ?_⟩
      rw [pk_div (by omega) (by omega) (by omega)]
      exact key
theorem yq_ln6 {post : Int32 → Prop} {r c t : Nat} {o : Bool} (hr : 1 ≤ r) (hc : 1 ≤ c) (hrc : r * c ≤ 7) (ht : t < 128)
    (h : post (nI (qf_cn (qf_ln r c o t) (if o = true then r else c)))) :
    ∀ d k, k + d = (if o = true then r else c) → wY_lines_6 post (nI r) (nI c) (nn_b (o = true)) (nI t) (d + 1) (nI (qf_cn (qf_ln r c o t) k)) (nI k) := by
  have hb := yq_nn0 hc hrc hr
  have hm : (if o = true then r else c) ≤ 7 := by cases o <;> simp <;> omega
  intro d
  induction d with
  | zero =>
    intro k hk
    have key : wY_lines_17 post (wY_lines_6 post (nI r) (nI c) (nn_b (o = true)) (nI t) 0) (nI r) (nI c) (nn_b (o = true)) (nI t) (nI (qf_cn (qf_ln r c o t) k)) (nI k) (nI (if o = true then r else c)) (nI k) := by
      refine pk_le (if o = true then r else c) k (fun z => ?_) (fun z => by omega)
      rw [show k = (if o = true then r else c) by omega]; exact h
    cases o with
    | false => rw [nn_bF] at key ⊢; exact br_t rfl key
    | true => rw [nn_bT] at key ⊢; exact br_f nn_10 key
  | succ d ih =>
    intro k hk
    have ih := ih (k + 1) (by omega)
    have e : qf_cn (qf_ln r c o t) (k + 1) = qf_cn (qf_ln r c o t) k + if qf_ln r c o t k = true then 1 else 0 := rfl
    have key : wY_lines_17 post (wY_lines_6 post (nI r) (nI c) (nn_b (o = true)) (nI t) (d + 1)) (nI r) (nI c) (nn_b (o = true)) (nI t) (nI (qf_cn (qf_ln r c o t) k)) (nI k) (nI (if o = true then r else c)) (nI k) := by
      refine pk_le (if o = true then r else c) k (fun z => by omega) (fun z => ⟨r * c + 1, ?_⟩)
      have := yq_ln26 (post := post) (J := wY_lines_6 post (nI r) (nI c) (nn_b (o = true)) (nI t) (d + 1)) (a := qf_cn (qf_ln r c o t) k) (o := o) hr hc hrc ht (show k ≤ 7 by omega)
        (fun q => by rw [e, if_pos q] at ih; exact ih) (fun q => by rw [e, if_neg (by rw [q]; decide)] at ih; exact ih) (r * c) 0 (by omega)
      rw [nn_bt (P := yq_W c o t k 0) (fun j hj => absurd hj (by omega))] at this
      exact this
    cases o with
    | false => rw [nn_bF] at key ⊢; exact br_t rfl key
    | true => rw [nn_bT] at key ⊢; exact br_f nn_10 key
theorem yq_lnT {post : Int32 → Prop} {r c t : Nat} (hr : 1 ≤ r) (hc : 1 ≤ c) (hrc : r * c ≤ 7) (ht : t < 128) (h : post (nI (qf_cn (qf_ln r c true t) r))) : wpY_lines post (nI r) (nI c) 1 (nI t) := by
  have := yq_ln6 (post := post) (o := true) hr hc hrc ht h r 0 (by simp)
  rw [nn_bT] at this
  exact ⟨_, this⟩
theorem yq_lnF {post : Int32 → Prop} {r c t : Nat} (hr : 1 ≤ r) (hc : 1 ≤ c) (hrc : r * c ≤ 7) (ht : t < 128) (h : post (nI (qf_cn (qf_ln r c false t) c))) : wpY_lines post (nI r) (nI c) 0 (nI t) := by
  have := yq_ln6 (post := post) (o := false) hr hc hrc ht h c 0 (by simp)
  rw [nn_bF] at this
  exact ⟨_, this⟩
section yq
variable {gb : Int32} {st nu yo yb ya yp yk yq yd yf dw yr ys yl rb ri rv yv yh : Nat → Int32}
theorem yq_207 {post : Int32 → Prop} {x n : Nat} (hx : x < 2 ^ 31) (hn : n < 2 ^ 31) (h : post (nn_b (x ≤ n))) : wY_isQuorum_207 post (nI x) (nI n) gb st nu yo yb ya yp yk yq yd yf dw yr ys yl rb ri rv yv yh := by
  refine pk_lt n x (fun z => ?_) (fun z => ?_)
  · rw [nn_bf (by omega)] at h; exact h
  · rw [nn_bt (by omega)] at h; exact h
theorem yq_150 {post : Int32 → Prop} {x n : Nat} (hx : x < 2 ^ 31) (hn : n < 2 ^ 31) (h : post (nn_b (x ≤ n))) : wY_isQuorum_150 post (nI x) (nI n) gb st nu yo yb ya yp yk yq yd yf dw yr ys yl rb ri rv yv yh := by
  refine pk_lt n x (fun z => ?_) (fun z => ?_)
  · rw [nn_bf (by omega)] at h; exact h
  · rw [nn_bt (by omega)] at h; exact h
theorem yq_wtl (p t : Nat) : ∀ k, qf_wp p t k ≤ 9 * k := by
  intro k
  induction k with
  | zero => exact Nat.le_refl _
  | succ k ih =>
    show qf_wp p t k + (t / 2 ^ k % 2) * (p / 10 ^ k % 10) ≤ _
    have h1 : t / 2 ^ k % 2 ≤ 1 := by omega
    have h2 : p / 10 ^ k % 10 ≤ 9 := by omega
    have := Nat.mul_le_mul h1 h2
    omega
theorem yq_180c {post : Int32 → Prop} {s A B t : Nat} (hs : s < 4) (h0 : st s = 0) (hA : A < 128) (hB : B < 64) (ht : t < 128) (h : post (nn_b (B ≤ qf_ct A t))) : wY_isQuorum_180 post (nI s) (nI t) (nI A) (nI B) gb st nu yo yb ya yp yk yq yd yf dw yr ys yl rb ri rv yv yh := by
  refine ⟨vp_in_nI hs (by omega), br_t (by rw [nI_clamp (by omega)]; exact h0) ?_⟩
  rw [nx_and]
  refine yl_size (qq_lt ht) (yq_207 (by omega) ?_ h)
  have := nn_pc7 _ (qq_lt (b := A) ht)
  omega
theorem yq_180w {post : Int32 → Prop} {s A B t : Nat} (hs : s < 4) (h0 : st s = 2) (hA : A < 10000000) (hB : B < 64) (ht : t < 128) (h : post (nn_b (B ≤ qf_wt A t))) : wY_isQuorum_180 post (nI s) (nI t) (nI A) (nI B) gb st nu yo yb ya yp yk yq yd yf dw yr ys yl rb ri rv yv yh := by
  refine ⟨vp_in_nI hs (by omega), br_f (by rw [nI_clamp (by omega), h0]; decide) ?_⟩
  refine yq_wt hA ht (yq_207 (by omega) ?_ h)
  have := yq_wtl A t 7
  unfold qf_wt
  omega
theorem yq_77 {post : Int32 → Prop} {p t : Nat} (hp : p < 268435456) (ht : t < 128) (h : post (nn_b (qf_hp p t 4 = true))) : wY_isQuorum_77 post (nI t) (nI p) gb st nu yo yb ya yp yk yq yd yf dw yr ys yl rb ri rv yv yh :=
  yq_cont hp ht ⟨nn_bn _, h⟩
theorem yq_cl4 {s e : Nat} (hs : s < 4) (he : e < 4) : (nI (4 * s + e)).toNatClampNeg = 4 * s + e := nI_clamp (by omega)
theorem yq_main {post : Int32 → Prop} {s k t : Nat} {Q : Nat → Nat → Bool} (hs : s < 4) (hk : k < 3) (ht : t < 128)
    (hQ : qy_S (st s) (nu (4 * s)) (nu (4 * s + 1)) (nu (4 * s + 2)) (nu (4 * s + 3)) Q) (h : post (nn_b (Q k t = true))) : wpY_isQuorum post (gb, st, nu, yo, yb, ya, yp, yk, yq, yd, yf, dw, yr, ys, yl, rb, ri, rv, yv, yh) (nI s) (nI k) (nI t) := by
  unfold wpY_isQuorum
  dsimp only
  have e0 : (4 : Int32) * nI s = nI (4 * s) := nn_m4 s
  have e1 : (4 : Int32) * nI s + 1 = nI (4 * s + 1) := by rw [e0]; exact nI_add _ 1
  have e2 : (4 : Int32) * nI s + 2 = nI (4 * s + 2) := by rw [e0]; exact nI_add _ 2
  have e3 : (4 : Int32) * nI s + 3 = nI (4 * s + 3) := by rw [e0]; exact nI_add _ 3
  rw [e1, e2, e3, e0, nI_clamp (n := 4 * s) (by omega), nI_clamp (n := 4 * s + 1) (by omega), nI_clamp (n := 4 * s + 2) (by omega), nI_clamp (n := 4 * s + 3) (by omega), nI_clamp (n := s) (by omega)]
  refine ⟨vp_in_nI (by omega) (by omega), nm_e ⟨vp_in_nI (by omega) (by omega), nm_e ⟨vp_in_nI (by omega) (by omega), nm_e ⟨vp_in_nI (by omega) (by omega), nm_e ⟨vp_in_nI (by omega) (by omega), ?_⟩⟩⟩⟩⟩
  rcases hQ with ⟨hso, A, B, C, D, ea, eb, ec, ed, hA1, hA, hB1, hB, hC1, hC, hD, rfl⟩ | ⟨hso, A, B, D, ea, eb, hA, hB, hAB, ed, rfl⟩ | ⟨hso, A, B, C, D, ea, eb, ec, ed, hA, hB1, hB, hC1, hC, hD, rfl⟩ | ⟨hso, A, B, C, ea, eb, ec, hA, hB, hC, rfl⟩
  · rw [ea, eb, ec, ed]
    refine br_f (by rw [hso]; decide) ?_
    have key : ¬ (k = 2 ∧ D = 0) → wY_isQuorum_94 post (nI s) (nI k) (nI t) (nI A) (nI B) (nI C) (nI D) gb st nu yo yb ya yp yk yq yd yf dw yr ys yl rb ri rv yv yh := fun hn => by
      refine ⟨vp_in_nI hs (by omega), br_f (by rw [nI_clamp (by omega), hso]; decide) ?_⟩
      unfold qf_th at h
      refine pk_eq k 0 (fun z => ?_) (fun z => pk_eq k 1 (fun z1 => ?_) (fun z1 => ?_))
      · rw [if_pos z] at h
        exact yq_180c hs hso hA (by omega) ht (by rw [← nn_bc (P := decide (B ≤ qf_ct A t) = true) decide_eq_true_iff]; exact h)
      · rw [if_neg z, if_pos z1] at h
        exact yq_180c hs hso hA (by omega) ht (by rw [← nn_bc (P := decide (C ≤ qf_ct A t) = true) decide_eq_true_iff]; exact h)
      · rw [if_neg z, if_neg z1] at h
        refine yq_180c hs hso hA (by omega) ht ?_
        rw [nn_bc (Q := D ≤ qf_ct A t) (by rw [decide_eq_true_eq]; omega)] at h
        exact h
    refine pk_eq k 2 (fun z => pk_eq D 0 (fun z1 => ?_) (fun z1 => key (fun q => z1 q.2))) (fun z => key (fun q => z q.1))
    unfold qf_th at h
    rw [if_neg (by omega), if_neg (by omega), nn_bf (by rw [decide_eq_true_eq]; omega)] at h
    exact h
  · rw [ea, eb]
    have hb := yq_nn0 hB hAB hA
    refine br_f (by rw [hso]; decide) ?_
    have key : ¬ (k = 2 ∧ D = false) → wY_isQuorum_94 post (nI s) (nI k) (nI t) (nI A) (nI B) (nu (4 * s + 2)) (nu (4 * s + 3)) gb st nu yo yb ya yp yk yq yd yf dw yr ys yl rb ri rv yv yh := fun hn => by
      refine ⟨vp_in_nI hs (by omega), br_t (by rw [nI_clamp (by omega), hso]) ?_⟩
      unfold qf_g at h
      refine pk_eq k 0 (fun z => yq_lnT hA hB hAB ht ?_) (fun z => yq_lnF hA hB hAB ht ?_)
      · rw [if_pos z] at h
        have hl := qs_cnle (qf_ln A B true t) A
        refine pk_le (qf_cn (qf_ln A B true t) A) 0 (fun z2 => ?_) (fun z2 => ?_)
        · rw [nn_bf (by rw [decide_eq_true_eq]; omega)] at h; exact h
        · rw [nn_bt (by rw [decide_eq_true_eq]; omega)] at h; exact h
      · rw [if_neg z] at h
        have hl := qs_cnle (qf_ln A B false t) B
        refine pk_eq k 1 (fun z1 => yq_150 (x := 1) (by omega) (by omega) ?_) (fun z1 => ?_)
        · rw [if_pos z1] at h
          rw [← nn_bc (P := decide (1 ≤ qf_cn (qf_ln A B false t) B) = true) decide_eq_true_iff]; exact h
        · rw [if_neg z1] at h
          rw [show nI B - 1 = nI (B - 1) from pk_sub (b := 1) hB]
          refine yq_150 (x := B - 1) (by omega) (by omega) ?_
          have hD : D = true := by
            cases D with
            | true => rfl
            | false => exact absurd ⟨by omega, rfl⟩ hn
          rw [hD, Bool.true_and] at h
          rw [← nn_bc (P := decide (B - 1 ≤ qf_cn (qf_ln A B false t) B) = true) decide_eq_true_iff]; exact h
    refine pk_eq k 2 (fun z => br_c (fun z1 => ?_) (fun z1 => key (fun q => z1 (ed.mpr q.2)))) (fun z => key (fun q => z q.1))
    unfold qf_g at h
    rw [if_neg (by omega), if_neg (by omega), ed.mp z1, Bool.false_and, nn_bF] at h
    exact h
  · rw [ea, eb, ec, ed]
    refine br_f (by rw [hso]; decide) ?_
    have key : ¬ (k = 2 ∧ D = 0) → wY_isQuorum_94 post (nI s) (nI k) (nI t) (nI A) (nI B) (nI C) (nI D) gb st nu yo yb ya yp yk yq yd yf dw yr ys yl rb ri rv yv yh := fun hn => by
      refine ⟨vp_in_nI hs (by omega), br_f (by rw [nI_clamp (by omega), hso]; decide) ?_⟩
      unfold qf_th at h
      refine pk_eq k 0 (fun z => ?_) (fun z => pk_eq k 1 (fun z1 => ?_) (fun z1 => ?_))
      · rw [if_pos z] at h
        exact yq_180w hs hso hA (by omega) ht (by rw [← nn_bc (P := decide (B ≤ qf_wt A t) = true) decide_eq_true_iff]; exact h)
      · rw [if_neg z, if_pos z1] at h
        exact yq_180w hs hso hA (by omega) ht (by rw [← nn_bc (P := decide (C ≤ qf_wt A t) = true) decide_eq_true_iff]; exact h)
      · rw [if_neg z, if_neg z1] at h
        refine yq_180w hs hso hA (by omega) ht ?_
        rw [nn_bc (Q := D ≤ qf_wt A t) (by rw [decide_eq_true_eq]; omega)] at h
        exact h
    refine pk_eq k 2 (fun z => pk_eq D 0 (fun z1 => ?_) (fun z1 => key (fun q => z1 q.2))) (fun z => key (fun q => z q.1))
    unfold qf_th at h
    rw [if_neg (by omega), if_neg (by omega), nn_bf (by rw [decide_eq_true_eq]; omega)] at h
    exact h
  · rw [ea, eb, ec]
    refine br_t hso ?_
    unfold qf_l at h
    refine pk_eq k 0 (fun z => ?_) (fun z => pk_eq k 1 (fun z1 => ?_) (fun z1 => ?_))
    · rw [if_pos z] at h; exact yq_77 hA ht h
    · rw [if_neg z, if_pos z1] at h; exact yq_77 hB ht h
    · rw [if_neg z, if_neg z1] at h; exact yq_77 hC ht h
end yq
end
section
/-! the component's tables -/
def xd_T (tb : Nat → Int32) (s : Nat) (Q : Nat → Nat → Bool) : Prop := ∀ k t, k < 3 → t < 128 → tb (384 * s + 128 * k + t) = nn_b (Q k t = true)
def xd_Q (tb : Nat → Int32) (s k : Nat) (P : Nat → Bool) : Prop := ∀ t, t < 128 → tb (384 * s + 128 * k + t) = nn_b (P t = true)
section xd1
variable {fj fb fl : Int32} {tb df sm ju le ls so ba an fa co pi fr de ke up pr op vo ov qu qb qi qv vt he ch lr : Nat → Int32}
theorem xq_ix (s k t : Nat) : ((384 : Int32) * nI s + 128 * nI k) + nI t = nI (384 * s + 128 * k + t) := by
  rw [nn_m384, nn_m128, nI_add, nI_add]
theorem xq_R {post : Int32 → Prop} {s k t : Nat} {P : Prop} (hs : s < 5) (hk : k < 3) (ht : t < 128) (e : tb (384 * s + 128 * k + t) = nn_b P) (h : post (nn_b P)) : wpX_isQuorum post (fj, fb, fl, tb, df, sm, ju, le, ls, so, ba, an, fa, co, pi, fr, de, ke, up, pr, op, vo, ov, qu, qb, qi, qv, vt, he, ch, lr) (nI s) (nI k) (nI t) := by
  unfold wpX_isQuorum
  dsimp only
  rw [xq_ix, nI_clamp (by omega), e]
  exact ⟨vp_in_nI (by omega) (by omega), nn_bn _, h⟩
theorem xd_enter {post : SX → Prop} {k t : Nat} {z : Int32} {P : Prop} (hk : k < 3) (ht : t < 128) (hz : z = nn_b P) (h : post (fj, fb, fl, (upd tb (1536 + 128 * k + t) (nn_b P)), df, sm, ju, le, ls, so, ba, an, fa, co, pi, fr, de, ke, up, pr, op, vo, ov, qu, qb, qi, qv, vt, he, ch, lr)) : wpX_enter post (fj, fb, fl, tb, df, sm, ju, le, ls, so, ba, an, fa, co, pi, fr, de, ke, up, pr, op, vo, ov, qu, qb, qi, qv, vt, he, ch, lr) (nI k) (nI t) z := by
  unfold wpX_enter
  dsimp only
  have e : ((1536 : Int32) + 128 * nI k) + nI t = nI (1536 + 128 * k + t) := by rw [nn_m128, nn_a1536, nI_add]
  rw [e, nI_clamp (by omega), hz, nn_bv]
  exact ⟨vp_in_nI (by omega) (by omega), nm_e h⟩
/-- three writes a set -/
def xd_I (tb0 tb : Nat → Int32) (Q : Nat → Nat → Bool) (t : Nat) : Prop := (∀ j, j < 1536 → tb j = tb0 j) ∧ ∀ t', t' < t → ∀ k, k < 3 → tb (1536 + 128 * k + t') = nn_b (Q k t' = true)
theorem xd_I3 {tb0 tb : Nat → Int32} {Q : Nat → Nat → Bool} {t : Nat} (ht : t < 128) (I : xd_I tb0 tb Q t) :
    xd_I tb0 (upd (upd (upd tb (1536 + 128 * 0 + t) (nn_b (Q 0 t = true))) (1536 + 128 * 1 + t) (nn_b (Q 1 t = true))) (1536 + 128 * 2 + t) (nn_b (Q 2 t = true))) Q (t + 1) := by
  refine ⟨fun j hj => ?_, fun t' ht' k hk => ?_⟩
  · rw [pk_un (by omega), pk_un (by omega), pk_un (by omega)]; exact I.1 j hj
  · by_cases e : t' = t
    · subst e
      rcases (show k = 0 ∨ k = 1 ∨ k = 2 by omega) with z | z | z
      · subst z; rw [pk_un (by omega), pk_un (by omega), pk_us]
      · subst z; rw [pk_un (by omega), pk_us]
      · subst z; rw [pk_us]
    · rw [pk_un (by omega), pk_un (by omega), pk_un (by omega)]; exact I.2 t' (by omega) k hk
theorem xd_I0 {tb : Nat → Int32} {Q : Nat → Nat → Bool} : xd_I tb tb Q 0 := ⟨fun _ _ => rfl, fun _ h => absurd h (by omega)⟩
theorem xd_IT {tb0 tb : Nat → Int32} {Q : Nat → Nat → Bool} (I : xd_I tb0 tb Q 128) : xd_T tb 4 Q := fun k t hk ht => I.2 t ht k hk
theorem xd_th3 {post : SX → Prop} {tb0 : Nat → Int32} {sg : Nat → Nat} {r w f : Nat} (hsm : ∀ t, t < 128 → sm t = nI (sg t) ∧ sg t < 128) (hr : r < 128) (hw : w < 128) (hf : f < 128)
    (hp : ∀ tb', xd_I tb0 tb' (qf_th sg r w f) 128 → post (fj, fb, fl, tb', df, sm, ju, le, ls, so, ba, an, fa, co, pi, fr, de, ke, up, pr, op, vo, ov, qu, qb, qi, qv, vt, he, ch, lr)) :
    ∀ n t (tb : Nat → Int32), t ≤ 128 → 128 - t < n → xd_I tb0 tb (qf_th sg r w f) t → wX_thresholds_3 post (nI r) (nI w) (nI f) n (nI t) fj fb fl tb df sm ju le ls so ba an fa co pi fr de ke up pr op vo ov qu qb qi qv vt he ch lr := by
  intro n
  induction n with
  | zero => intro t tb _ h; omega
  | succ n ih =>
    intro t tb ht hn I
    refine pk_le 128 t (fun z => ?_) (fun z => ⟨vp_in_nI z (by omega), ?_⟩)
    · rw [show t = 128 by omega] at I; exact hp tb I
    · have hs := hsm t z
      have cl : (nI t).toNatClampNeg = t := nI_clamp (by omega)
      have e0 : qf_th sg r w f 0 t = decide (r ≤ sg t) := rfl
      have e1 : qf_th sg r w f 1 t = decide (w ≤ sg t) := rfl
      have e2 : qf_th sg r w f 2 t = decide (0 < f ∧ f ≤ sg t) := rfl
      have k3 : ∀ tb1 (z0 : Int32), z0 = nn_b (qf_th sg r w f 2 t = true) → xd_I tb0 (upd tb1 (1536 + 128 * 2 + t) (nn_b (qf_th sg r w f 2 t = true))) (qf_th sg r w f) (t + 1) → wX_thresholds_81 post (wX_thresholds_3 post (nI r) (nI w) (nI f) n) (nI r) (nI w) (nI f) (nI t) z0 (nI t) 2 fj fb fl tb1 df sm ju le ls so ba an fa co pi fr de ke up pr op vo ov qu qb qi qv vt he ch lr := fun tb1 z0 hz I1 =>
        xd_enter (k := 2) (by omega) z hz (nm_r (nI_1 t) (ih (t + 1) _ (by omega) (by omega) I1))
      have k2 : ∀ tb1 (z0 : Int32), z0 = nn_b (qf_th sg r w f 1 t = true) → xd_I tb0 (upd (upd tb1 (1536 + 128 * 1 + t) (nn_b (qf_th sg r w f 1 t = true))) (1536 + 128 * 2 + t) (nn_b (qf_th sg r w f 2 t = true))) (qf_th sg r w f) (t + 1) → wX_thresholds_54 post (wX_thresholds_3 post (nI r) (nI w) (nI f) n) (nI r) (nI w) (nI f) (nI t) z0 (nI t) 1 fj fb fl tb1 df sm ju le ls so ba an fa co pi fr de ke up pr op vo ov qu qb qi qv vt he ch lr := fun tb1 z0 hz I1 => by
        refine xd_enter (k := 1) (by omega) z hz ?_
        refine pk_le f 0 (fun z1 => ?_) (fun z1 => ⟨vp_in_nI z (by omega), ?_⟩)
        · exact k3 _ 0 (nn_bf (by rw [e2, decide_eq_true_eq]; omega)).symm I1
        · rw [cl, hs.1]
          refine pk_lt (sg t) f (fun z2 => ?_) (fun z2 => ?_)
          · exact k3 _ 0 (nn_bf (by rw [e2, decide_eq_true_eq]; omega)).symm I1
          · exact k3 _ 1 (nn_bt (by rw [e2, decide_eq_true_eq]; omega)).symm I1
      have k1 : ∀ (z0 : Int32), z0 = nn_b (qf_th sg r w f 0 t = true) → wX_thresholds_31 post (wX_thresholds_3 post (nI r) (nI w) (nI f) n) (nI r) (nI w) (nI f) (nI t) z0 (nI t) 0 fj fb fl tb df sm ju le ls so ba an fa co pi fr de ke up pr op vo ov qu qb qi qv vt he ch lr := fun z0 hz => by
        refine xd_enter (k := 0) (by omega) z hz ⟨vp_in_nI z (by omega), ?_⟩
        rw [cl, hs.1]
        refine pk_lt (sg t) w (fun z2 => ?_) (fun z2 => ?_)
        · exact k2 _ 0 (nn_bf (by rw [e1, decide_eq_true_eq]; omega)).symm (xd_I3 z I)
        · exact k2 _ 1 (nn_bt (by rw [e1, decide_eq_true_eq]; omega)).symm (xd_I3 z I)
      rw [cl, hs.1]
      refine pk_lt (sg t) r (fun z2 => ?_) (fun z2 => ?_)
      · exact k1 0 (nn_bf (by rw [e0, decide_eq_true_eq]; omega)).symm
      · exact k1 1 (nn_bt (by rw [e0, decide_eq_true_eq]; omega)).symm
theorem xd_th {post : SX → Prop} {sg : Nat → Nat} {r w f : Nat} (hsm : ∀ t, t < 128 → sm t = nI (sg t) ∧ sg t < 128) (hr : r < 128) (hw : w < 128) (hf : f < 128)
    (hp : ∀ tb', xd_I tb tb' (qf_th sg r w f) 128 → post (fj, fb, fl, tb', df, sm, ju, le, ls, so, ba, an, fa, co, pi, fr, de, ke, up, pr, op, vo, ov, qu, qb, qi, qv, vt, he, ch, lr)) : wpX_thresholds post (fj, fb, fl, tb, df, sm, ju, le, ls, so, ba, an, fa, co, pi, fr, de, ke, up, pr, op, vo, ov, qu, qb, qi, qv, vt, he, ch, lr) (nI r) (nI w) (nI f) :=
  ⟨129, xd_th3 hsm hr hw hf hp 129 0 tb (by omega) (by omega) xd_I0⟩
theorem xd_cnt56 {post : Int32 → SX → Prop} {A r w f : Nat} (hA : A < 128) (hr : r < 128) (hw : w < 128) (hf : f < 128)
    (hp : ∀ tb' sm', xd_I tb tb' (qf_th (qf_ct A) r w f) 128 → post 1 (fj, fb, fl, tb', df, sm', ju, le, ls, so, ba, an, fa, co, pi, fr, de, ke, up, pr, op, vo, ov, qu, qb, qi, qv, vt, he, ch, lr)) :
    ∀ n t (sm : Nat → Int32), t ≤ 128 → 128 - t < n → (∀ t', t' < t → sm t' = nI (qf_ct A t')) → wX_count_56 post (nI A) (nI r) (nI w) (nI f) fj fb fl n (nI t) tb df sm ju le ls so ba an fa co pi fr de ke up pr op vo ov qu qb qi qv vt he ch lr := by
  intro n
  induction n with
  | zero => intro t sm _ h; omega
  | succ n ih =>
    intro t sm ht hn I
    have h7 : ∀ t', t' < 128 → qf_ct A t' ≤ 7 := fun t' h => nn_pc7 _ (qq_lt h)
    refine pk_le 128 t (fun z => ?_) (fun z => ?_)
    · rw [show t = 128 by omega] at I
      exact xd_th (fun t' h => ⟨I t' h, by have := h7 t' h; omega⟩) hr hw hf (fun tb' I' => hp tb' sm I')
    · rw [nx_and]
      refine xl_ones (qq_lt z) ⟨vp_in_nI z (by omega), nm_r (e' := upd sm t (nI (qf_ct A t))) ?_ (nm_r (nI_1 t) (ih (t + 1) _ (by omega) (by omega) (fun t' h' => ?_)))⟩
      · have := h7 t z
        unfold qf_ct at this ⊢
        rw [nI_clamp (by omega), nn_v8b (by omega)]
      · by_cases e : t' = t
        · rw [e, pk_us]
        · rw [pk_un e]; exact I t' (by omega)
theorem xd_count {post : Int32 → SX → Prop} {A r w f : Nat} (hA : A < 128) (hr : r < 8) (hw : w < 8) (hf : f < 8)
    (hp : ∀ tb' sm', xd_I tb tb' (qf_th (qf_ct A) r w f) 128 → qs_S (qf_th (qf_ct A) r w f) → post 1 (fj, fb, fl, tb', df, sm', ju, le, ls, so, ba, an, fa, co, pi, fr, de, ke, up, pr, op, vo, ov, qu, qb, qi, qv, vt, he, ch, lr))
    (h0 : ¬ qs_S (qf_th (qf_ct A) r w f) → post 0 (fj, fb, fl, tb, df, sm, ju, le, ls, so, ba, an, fa, co, pi, fr, de, ke, up, pr, op, vo, ov, qu, qb, qi, qv, vt, he, ch, lr)) : wpX_count post (fj, fb, fl, tb, df, sm, ju, le, ls, so, ba, an, fa, co, pi, fr, de, ke, up, pr, op, vo, ov, qu, qb, qi, qv, vt, he, ch, lr) (nI A) (nI r) (nI w) (nI f) := by
  unfold wpX_count
  dsimp only
  have h7 := nn_pc7 A hA
  have hS := qs_c hA hr hw hf
  refine xl_ones hA ?_
  have go : qs_S (qf_th (qf_ct A) r w f) → ∃ n56 : Nat, wX_count_56 post (nI A) (nI r) (nI w) (nI f) fj fb fl n56 0 tb df sm ju le ls so ba an fa co pi fr de ke up pr op vo ov qu qb qi qv vt he ch lr := fun hs =>
    ⟨129, xd_cnt56 hA (by omega) (by omega) (by omega) (fun tb' sm' I => hp tb' sm' I hs) 129 0 sm (by omega) (by omega) (fun _ h => absurd h (by omega))⟩
  refine pk_lt (nn_pc A) r (fun z => h0 (fun q => ?_)) (fun z => pk_lt (nn_pc A) w (fun z1 => h0 (fun q => ?_)) (fun z1 => pk_le (r + w) (nn_pc A) (fun z2 => h0 (fun q => ?_)) (fun z2 => pk_le f 0 (fun z3 => go (hS.mpr ?_)) (fun z3 => pk_lt (nn_pc A) f (fun z4 => go (hS.mpr ?_)) (fun z4 => pk_lt (2 * nn_pc A) (r + 2 * f) (fun z5 => go (hS.mpr ?_)) (fun z5 => h0 (fun q => ?_)) (hx := nn_m2 _) (hy := by rw [nn_m2, nI_add])))) (hx := nI_add r w)))
  · have := hS.mp q; omega
  · have := hS.mp q; omega
  · have := hS.mp q; omega
  · exact ⟨z, z1, z2, by omega⟩
  · exact ⟨z, z1, z2, by omega⟩
  · exact ⟨z, z1, z2, by omega⟩
  · have := hS.mp q; exact this.2.2.2 ⟨by omega, by omega, by omega⟩
end xd1
end
section
/-! grids, weights, lists in the component -/
theorem xd_2l : ∀ c, c < 8 → 2 ^ c ≤ 128 := by decide
theorem xd_bo1 (P : Prop) : nn_b P ||| 1 = 1 := by rcases nn_b01 P with h | h <;> rw [h] <;> decide
theorem xd_bo0 (P : Prop) : nn_b P ||| 0 = nn_b P := by rcases nn_b01 P with h | h <;> rw [h] <;> decide
section xd2
variable {fj fb fl : Int32} {tb df sm ju le ls so ba an fa co pi fr de ke up pr op vo ov qu qb qi qv vt he ch lr : Nat → Int32}
theorem xd_g107 {post : Int32 → SX → Prop} {J : Int32 → Int32 → Int32 → Int32 → (Nat → Int32) → (Nat → Int32) → (Nat → Int32) → (Nat → Int32) → (Nat → Int32) → (Nat → Int32) → (Nat → Int32) → (Nat → Int32) → (Nat → Int32) → (Nat → Int32) → (Nat → Int32) → (Nat → Int32) → (Nat → Int32) → (Nat → Int32) → (Nat → Int32) → (Nat → Int32) → (Nat → Int32) → (Nat → Int32) → (Nat → Int32) → (Nat → Int32) → (Nat → Int32) → (Nat → Int32) → (Nat → Int32) → (Nat → Int32) → (Nat → Int32) → (Nat → Int32) → (Nat → Int32) → (Nat → Int32) → Prop} {r c t : Nat} {d : Bool} {x7 x4 : Int32} {tb0 : Nat → Int32} (hr : 1 ≤ r) (hc : 1 ≤ c) (hrc : r * c ≤ 7) (ht : t < 128)
    (h7 : x7 = nn_b (qf_g r c d 0 t = true)) (I : xd_I tb0 tb (qf_g r c d) t)
    (hJ : ∀ tb', xd_I tb0 tb' (qf_g r c d) (t + 1) → J (nI (t + 1)) fj fb fl tb' df sm ju le ls so ba an fa co pi fr de ke up pr op vo ov qu qb qi qv vt he ch lr) :
    ∀ e j, j + e = c → wX_grid_107 post J (nI r) (nI c) (nn_b (d = true)) x4 (nI (xd_cm c r)) (nI t) x7 fj fb fl tb df sm ju le ls so ba an fa co pi fr de ke up pr op vo ov qu qb qi qv vt he ch lr (e + 1) (nI (qf_cn (qf_ln r c false t) j)) (nI j) := by
  have hb := yq_nn0 hc hrc hr
  have cml := (xd_cml r (by omega) c (by omega) hr hc hrc r (by omega)).1
  intro e
  induction e with
  | zero =>
    intro j hj
    refine pk_le c j (fun z => ?_) (fun z => by omega)
    have hjc : j = c := by omega
    subst hjc
    have cnl := qs_cnle (qf_ln r j false t) j
    have e1 : qf_g r j d 1 t = decide (1 ≤ qf_cn (qf_ln r j false t) j) := rfl
    have e2 : qf_g r j d 2 t = (d && decide (j - 1 ≤ qf_cn (qf_ln r j false t) j)) := rfl
    have k3 : ∀ tb1 (z0 : Int32), z0 = nn_b (qf_g r j d 2 t = true) → xd_I tb0 (upd tb1 (1536 + 128 * 2 + t) (nn_b (qf_g r j d 2 t = true))) (qf_g r j d) (t + 1) → wX_grid_182 post J (nI r) (nI j) (nn_b (d = true)) x4 (nI (xd_cm j r)) (nI t) z0 (nI t) 2 fj fb fl tb1 df sm ju le ls so ba an fa co pi fr de ke up pr op vo ov qu qb qi qv vt he ch lr := fun tb1 z0 hz I1 =>
      xd_enter (k := 2) (by omega) ht hz (nm_r (nI_1 t) (hJ _ I1))
    have k2 : ∀ tb1 (z0 : Int32), z0 = nn_b (qf_g r j d 1 t = true) → xd_I tb0 (upd (upd tb1 (1536 + 128 * 1 + t) (nn_b (qf_g r j d 1 t = true))) (1536 + 128 * 2 + t) (nn_b (qf_g r j d 2 t = true))) (qf_g r j d) (t + 1) → wX_grid_158 post J (nI r) (nI j) (nn_b (d = true)) x4 (nI (xd_cm j r)) (nI t) (nI (qf_cn (qf_ln r j false t) j)) z0 (nI t) 1 fj fb fl tb1 df sm ju le ls so ba an fa co pi fr de ke up pr op vo ov qu qb qi qv vt he ch lr := fun tb1 z0 hz I1 => by
      refine xd_enter (k := 1) (by omega) ht hz ?_
      refine nn_br (fun z1 => ?_) (fun z1 => ?_)
      · exact k3 _ 0 (nn_bf (by rw [e2, qs_tf.mp z1, Bool.false_and]; decide)).symm I1
      · refine pk_lt (qf_cn (qf_ln r j false t) j) (j - 1) (fun z2 => ?_) (fun z2 => ?_) (hy := pk_sub (b := 1) hc)
        · exact k3 _ 0 (nn_bf (by rw [e2, z1, Bool.true_and, decide_eq_true_eq]; omega)).symm I1
        · exact k3 _ 1 (nn_bt (by rw [e2, z1, Bool.true_and, decide_eq_true_eq]; omega)).symm I1
    refine xd_enter (k := 0) (by omega) ht h7 ?_
    refine pk_le (qf_cn (qf_ln r j false t) j) 0 (fun z2 => ?_) (fun z2 => ?_)
    · exact k2 _ 0 (nn_bf (by rw [e1, decide_eq_true_eq]; omega)).symm (xd_I3 ht I)
    · exact k2 _ 1 (nn_bt (by rw [e1, decide_eq_true_eq]; omega)).symm (xd_I3 ht I)
  | succ e ih =>
    intro j hj
    have ih := ih (j + 1) (by omega)
    have ec : qf_cn (qf_ln r c false t) (j + 1) = qf_cn (qf_ln r c false t) j + if qf_ln r c false t j = true then 1 else 0 := rfl
    have hd := xd_cold r (by omega) c (by omega) hr hc hrc t ht j (by omega)
    refine pk_le c j (fun z => by omega) (fun z => ?_)
    have hdl : t / 2 ^ j < 2 ^ 31 := Nat.lt_of_le_of_lt (Nat.div_le_self _ _) (by omega)
    refine pk_eq ((t / 2 ^ j) &&& xd_cm c r) (xd_cm c r) (fun z1 => ?_) (fun z1 => ?_) (hx := by rw [nn_shr (by omega) (by omega), nx_and]) (ha := by have : (t / 2 ^ j) &&& xd_cm c r ≤ xd_cm c r := Nat.and_le_right; omega)
    · rw [ec, if_pos (hd.mp z1)] at ih
      exact nm_r (nI_1 _) (nm_r (nI_1 _) ih)
    · rw [ec, if_neg (fun q => z1 (hd.mpr q))] at ih
      exact nm_r (nI_1 _) ih
theorem xd_g67 {post : Int32 → SX → Prop} {J : Int32 → Int32 → Int32 → Int32 → (Nat → Int32) → (Nat → Int32) → (Nat → Int32) → (Nat → Int32) → (Nat → Int32) → (Nat → Int32) → (Nat → Int32) → (Nat → Int32) → (Nat → Int32) → (Nat → Int32) → (Nat → Int32) → (Nat → Int32) → (Nat → Int32) → (Nat → Int32) → (Nat → Int32) → (Nat → Int32) → (Nat → Int32) → (Nat → Int32) → (Nat → Int32) → (Nat → Int32) → (Nat → Int32) → (Nat → Int32) → (Nat → Int32) → (Nat → Int32) → (Nat → Int32) → (Nat → Int32) → (Nat → Int32) → (Nat → Int32) → Prop} {r c t : Nat} {d : Bool} {tb0 : Nat → Int32} (hr : 1 ≤ r) (hc : 1 ≤ c) (hrc : r * c ≤ 7) (ht : t < 128)
    (I : xd_I tb0 tb (qf_g r c d) t)
    (hJ : ∀ tb', xd_I tb0 tb' (qf_g r c d) (t + 1) → J (nI (t + 1)) fj fb fl tb' df sm ju le ls so ba an fa co pi fr de ke up pr op vo ov qu qb qi qv vt he ch lr) :
    ∀ e i, i + e = r → wX_grid_67 post J (nI r) (nI c) (nn_b (d = true)) (nI (2 ^ c - 1)) (nI (xd_cm c r)) (nI t) 0 fj fb fl tb df sm ju le ls so ba an fa co pi fr de ke up pr op vo ov qu qb qi qv vt he ch lr (e + 1) (nn_b (0 < qf_cn (qf_ln r c true t) i)) (nI i) := by
  have hb := yq_nn0 hc hrc hr
  have h2l := xd_2l c (by omega)
  intro e
  induction e with
  | zero =>
    intro i hi
    refine pk_le r i (fun z => ⟨c + 1, ?_⟩) (fun z => by omega)
    rw [show i = r by omega]
    refine xd_g107 hr hc hrc ht ?_ I hJ c 0 (by omega)
    exact nn_bc (show _ ↔ decide (0 < qf_cn (qf_ln r c true t) r) = true from decide_eq_true_iff.symm)
  | succ e ih =>
    intro i hi
    have ih := ih (i + 1) (by omega)
    have ec : qf_cn (qf_ln r c true t) (i + 1) = qf_cn (qf_ln r c true t) i + if qf_ln r c true t i = true then 1 else 0 := rfl
    have hd := xd_rowd r (by omega) c (by omega) hr hc hrc t ht i (by omega)
    have cml := (xd_cml r (by omega) c (by omega) hr hc hrc i (by omega)).2
    refine pk_le r i (fun z => by omega) (fun z => ?_)
    refine pk_eq ((t / 2 ^ (c * i)) &&& (2 ^ c - 1)) (2 ^ c - 1) (fun z1 => ?_) (fun z1 => ?_) (hx := by rw [pk_mul, nn_shr (by omega) (by omega), nx_and]) (ha := by have : (t / 2 ^ (c * i)) &&& (2 ^ c - 1) ≤ 2 ^ c - 1 := Nat.and_le_right; omega)
    · rw [ec, if_pos (hd.mp z1), nn_bt (P := 0 < qf_cn (qf_ln r c true t) i + 1) (Nat.succ_pos _)] at ih
      exact nm_r (xd_bo1 _) (nm_r (nI_1 _) ih)
    · rw [ec, if_neg (fun q => z1 (hd.mpr q)), Nat.add_zero] at ih
      exact nm_r (xd_bo0 _) (nm_r (nI_1 _) ih)
theorem xd_g50 {post : Int32 → SX → Prop} {r c : Nat} {d : Bool} {tb0 : Nat → Int32} (hr : 1 ≤ r) (hc : 1 ≤ c) (hrc : r * c ≤ 7)
    (hp : ∀ tb', xd_I tb0 tb' (qf_g r c d) 128 → post 1 (fj, fb, fl, tb', df, sm, ju, le, ls, so, ba, an, fa, co, pi, fr, de, ke, up, pr, op, vo, ov, qu, qb, qi, qv, vt, he, ch, lr)) :
    ∀ n t (tb : Nat → Int32), t ≤ 128 → 128 - t < n → xd_I tb0 tb (qf_g r c d) t → wX_grid_50 post (nI r) (nI c) (nn_b (d = true)) (nI (2 ^ c - 1)) (nI (xd_cm c r)) n (nI t) fj fb fl tb df sm ju le ls so ba an fa co pi fr de ke up pr op vo ov qu qb qi qv vt he ch lr := by
  intro n
  induction n with
  | zero => intro t tb _ h; omega
  | succ n ih =>
    intro t tb ht hn I
    refine pk_le 128 t (fun z => ?_) (fun z => ⟨r + 1, ?_⟩)
    · rw [show t = 128 by omega] at I; exact hp tb I
    · have := xd_g67 (post := post) (J := wX_grid_50 post (nI r) (nI c) (nn_b (d = true)) (nI (2 ^ c - 1)) (nI (xd_cm c r)) n) hr hc hrc z I (fun tb' I' => ih (t + 1) tb' (by omega) (by omega) I') r 0 (by omega)
      rw [nn_bf (show ¬ 0 < qf_cn (qf_ln r c true t) 0 from Nat.lt_irrefl 0)] at this
      exact this
theorem xd_g24 {post : Int32 → SX → Prop} {r c : Nat} {d : Bool} (hr : 1 ≤ r) (hc : 1 ≤ c) (hrc : r * c ≤ 7)
    (hp : ∀ tb', xd_I tb tb' (qf_g r c d) 128 → post 1 (fj, fb, fl, tb', df, sm, ju, le, ls, so, ba, an, fa, co, pi, fr, de, ke, up, pr, op, vo, ov, qu, qb, qi, qv, vt, he, ch, lr)) :
    ∀ e i, i + e = r → wX_grid_24 post (nI r) (nI c) (nn_b (d = true)) (nI (2 ^ c - 1)) fj fb fl tb df sm ju le ls so ba an fa co pi fr de ke up pr op vo ov qu qb qi qv vt he ch lr (e + 1) (nI (xd_cm c i)) (nI i) := by
  have hb := yq_nn0 hc hrc hr
  intro e
  induction e with
  | zero =>
    intro i hi
    refine pk_le r i (fun z => ⟨129, ?_⟩) (fun z => by omega)
    rw [show i = r by omega]
    exact xd_g50 hr hc hrc hp 129 0 tb (by omega) (by omega) xd_I0
  | succ e ih =>
    intro i hi
    have cml := (xd_cml r (by omega) c (by omega) hr hc hrc i (by omega)).2
    refine pk_le r i (fun z => by omega) (fun z => nm_r (e' := nI (xd_cm c (i + 1))) ?_ (nm_r (nI_1 i) (ih (i + 1) (by omega))))
    rw [pk_mul, nn_shl (by omega), nn_or]; rfl
theorem xd_grid {post : Int32 → SX → Prop} {r c : Nat} {d : Bool} {z2 : Int32} (hz : z2 = nn_b (d = true)) (hr : 1 ≤ r) (hc : 1 ≤ c) (hrc : r * c ≤ 7)
    (hp : ∀ tb', xd_I tb tb' (qf_g r c d) 128 → qs_S (qf_g r c d) → post 1 (fj, fb, fl, tb', df, sm, ju, le, ls, so, ba, an, fa, co, pi, fr, de, ke, up, pr, op, vo, ov, qu, qb, qi, qv, vt, he, ch, lr))
    (h0 : ¬ qs_S (qf_g r c d) → post 0 (fj, fb, fl, tb, df, sm, ju, le, ls, so, ba, an, fa, co, pi, fr, de, ke, up, pr, op, vo, ov, qu, qb, qi, qv, vt, he, ch, lr)) : wpX_grid post (fj, fb, fl, tb, df, sm, ju, le, ls, so, ba, an, fa, co, pi, fr, de, ke, up, pr, op, vo, ov, qu, qb, qi, qv, vt, he, ch, lr) (nI r) (nI c) z2 := by
  have hb := yq_nn0 hc hrc hr
  have hS := qs_g (d := d) hr hc hrc
  have h2l := xd_2l c (by omega)
  have h2p : 0 < 2 ^ c := Nat.two_pow_pos c
  subst hz
  have go : qs_S (qf_g r c d) → wX_grid_11 post (nI r) (nI c) (nn_b (d = true)) fj fb fl tb df sm ju le ls so ba an fa co pi fr de ke up pr op vo ov qu qb qi qv vt he ch lr := fun hs =>
    nm_r (e' := nI (2 ^ c - 1)) (by rw [nn_shl (by omega)]; exact pk_sub (b := 1) h2p) ⟨r + 1, xd_g24 hr hc hrc (fun tb' I => hp tb' I hs) r 0 (by omega)⟩
  unfold wpX_grid
  dsimp only
  refine nn_br (fun z => go (hS.mpr (fun q => z q.1))) (fun z => pk_le 3 c (fun z1 => go (hS.mpr (fun q => by omega))) (fun z1 => h0 (fun q => hS.mp q ⟨z, z1⟩)))
/-! weights -/
theorem xd_wd : ∀ k, k < 7 → ∀ t, t < 2 ^ k → t ||| 2 ^ k = 2 ^ k + t ∧ 2 ^ k + t < 128 ∧ (2 ^ k + t) / 2 ^ k % 2 = 1 ∧ t / 2 ^ k % 2 = 0 ∧ ∀ j, j < k → (2 ^ k + t) / 2 ^ j % 2 = t / 2 ^ j % 2 := by decide +kernel
theorem xd_wpe {p a b : Nat} : ∀ k, (∀ j, j < k → a / 2 ^ j % 2 = b / 2 ^ j % 2) → qf_wp p a k = qf_wp p b k := by
  intro k
  induction k with
  | zero => exact fun _ => rfl
  | succ k ih =>
    intro h
    show qf_wp p a k + _ = qf_wp p b k + _
    rw [ih (fun j hj => h j (by omega)), h k (by omega)]
theorem xd_2k : ∀ k, k < 7 → 2 ^ k ≤ 64 := by decide
theorem xd_w20 {post : SX → Prop} {J : Int32 → Int32 → (Nat → Int32) → (Nat → Int32) → (Nat → Int32) → (Nat → Int32) → (Nat → Int32) → (Nat → Int32) → (Nat → Int32) → (Nat → Int32) → (Nat → Int32) → (Nat → Int32) → (Nat → Int32) → (Nat → Int32) → (Nat → Int32) → (Nat → Int32) → (Nat → Int32) → (Nat → Int32) → (Nat → Int32) → (Nat → Int32) → (Nat → Int32) → (Nat → Int32) → (Nat → Int32) → (Nat → Int32) → (Nat → Int32) → (Nat → Int32) → (Nat → Int32) → (Nat → Int32) → (Nat → Int32) → (Nat → Int32) → Prop} {p k : Nat} (hk : k < 7) (hp : p < 10000000)
    (hJ : ∀ sm', (∀ t, t < 2 ^ (k + 1) → sm' t = nI (qf_wp p t (k + 1))) → J (nI (p / 10 ^ (k + 1))) (nI (k + 1)) tb df sm' ju le ls so ba an fa co pi fr de ke up pr op vo ov qu qb qi qv vt he ch lr) :
    ∀ n x (sm : Nat → Int32), x ≤ 2 ^ k → 2 ^ k - x < n → (∀ t, t < 2 ^ k → sm t = nI (qf_wp p t k)) → (∀ t, t < x → sm (2 ^ k + t) = nI (qf_wp p (2 ^ k + t) (k + 1))) → wX_weigh_20 post J (nI (p / 10 ^ k)) (nI k) fj fb fl n (nI x) tb df sm ju le ls so ba an fa co pi fr de ke up pr op vo ov qu qb qi qv vt he ch lr := by
  have h2k := xd_2k k hk
  have hl : p / 10 ^ k < 2 ^ 31 := Nat.lt_of_le_of_lt (Nat.div_le_self _ _) (by omega)
  have e2 : 2 ^ (k + 1) = 2 ^ k + 2 ^ k := by rw [Nat.pow_succ]; omega
  have hw : ∀ t, qf_wp p t (k + 1) = qf_wp p t k + (t / 2 ^ k % 2) * (p / 10 ^ k % 10) := fun t => rfl
  intro n
  induction n with
  | zero => intro x sm _ h; omega
  | succ n ih =>
    intro x sm hx hn I1 I2
    refine pk_le (2 ^ k) x (fun z => ?_) (fun z => ?_) (hx := nn_shl (by omega))
    · refine ⟨yq_100, nm_r (e' := nI (p / 10 ^ (k + 1))) (by rw [nn_d10 hl, Nat.div_div_eq_div_mul, Nat.pow_succ]) (nm_r (nI_1 k) (hJ sm (fun t ht => ?_)))⟩
      rcases Nat.lt_or_ge t (2 ^ k) with q | q
      · rw [I1 t q, hw, (xd_wd k hk t q).2.2.2.1, Nat.zero_mul, Nat.add_zero]
      · have := I2 (t - 2 ^ k) (by omega)
        rw [show 2 ^ k + (t - 2 ^ k) = t by omega] at this
        exact this
    · have hd := xd_wd k hk x z
      have ei : nI x ||| ((1 : Int32) <<< (nI k &&& 31)) = nI (2 ^ k + x) := by rw [nn_shl (by omega), nn_or, hd.1]
      refine ⟨vp_in_nI (by omega) (by omega), yq_100, ?_⟩
      rw [ei]
      have hwl := yq_wtl p (2 ^ k + x) (k + 1)
      have ew : qf_wp p (2 ^ k + x) (k + 1) = qf_wp p x k + p / 10 ^ k % 10 := by
        rw [hw, hd.2.2.1, Nat.one_mul, xd_wpe k (fun j hj => hd.2.2.2.2 j hj)]
      refine ⟨vp_in_nI (by omega) (by omega), nm_r (e' := upd sm (2 ^ k + x) (nI (qf_wp p (2 ^ k + x) (k + 1)))) ?_ (nm_r (nI_1 x) (ih (x + 1) _ (by omega) (by omega) (fun t ht => ?_) (fun t ht => ?_)))⟩
      · rw [nI_clamp (by omega), nI_clamp (by omega), I1 x z, nn_r10 hl, nI_add, ← ew, nn_v8b (by omega)]
      · rw [pk_un (by omega)]; exact I1 t ht
      · by_cases e : t = x
        · rw [e, pk_us]
        · rw [pk_un (by omega)]; exact I2 t (by omega)
theorem xd_w11 {post : SX → Prop} {p : Nat} (hp : p < 10000000) (h : ∀ sm', (∀ t, t < 128 → sm' t = nI (qf_wt p t)) → post (fj, fb, fl, tb, df, sm', ju, le, ls, so, ba, an, fa, co, pi, fr, de, ke, up, pr, op, vo, ov, qu, qb, qi, qv, vt, he, ch, lr)) :
    ∀ e k (sm : Nat → Int32), k + e = 7 → (∀ t, t < 2 ^ k → sm t = nI (qf_wp p t k)) → wX_weigh_11 post fj fb fl (e + 1) (nI (p / 10 ^ k)) (nI k) tb df sm ju le ls so ba an fa co pi fr de ke up pr op vo ov qu qb qi qv vt he ch lr := by
  intro e
  induction e with
  | zero =>
    intro k sm hk I
    refine pk_le 7 k (fun z => ?_) (fun z => by omega)
    rw [show k = 7 by omega] at I
    exact h sm I
  | succ e ih =>
    intro k sm hk I
    refine pk_le 7 k (fun z => by omega) (fun z => ⟨2 ^ k + 1, ?_⟩)
    have h2p : 0 < 2 ^ k := Nat.two_pow_pos k
    exact xd_w20 (by omega) hp (fun sm' I' => ih (k + 1) sm' (by omega) I') (2 ^ k + 1) 0 sm (by omega) (by omega) I (fun t ht => absurd ht (by omega))
theorem xd_weigh {post : SX → Prop} {p : Nat} (hp : p < 10000000) (h : ∀ sm', (∀ t, t < 128 → sm' t = nI (qf_wt p t)) → post (fj, fb, fl, tb, df, sm', ju, le, ls, so, ba, an, fa, co, pi, fr, de, ke, up, pr, op, vo, ov, qu, qb, qi, qv, vt, he, ch, lr)) : wpX_weigh post (fj, fb, fl, tb, df, sm, ju, le, ls, so, ba, an, fa, co, pi, fr, de, ke, up, pr, op, vo, ov, qu, qb, qi, qv, vt, he, ch, lr) (nI p) := by
  unfold wpX_weigh
  dsimp only
  refine nm_r (e' := upd sm 0 (nI 0)) rfl ⟨8, ?_⟩
  have := xd_w11 (post := post) hp h 7 0 (upd sm 0 (nI 0)) (by omega) (fun t ht => by rw [show t = 0 by omega, pk_us]; rfl)
  rw [Nat.pow_zero, Nat.div_one] at this
  exact this
/-! lists -/
def xd_J (tb0 tb : Nat → Int32) (k : Nat) (P : Nat → Bool) (t : Nat) : Prop := (∀ j, (j < 1536 + 128 * k ∨ 1536 + 128 * k + t ≤ j) → tb j = tb0 j) ∧ ∀ t', t' < t → tb (1536 + 128 * k + t') = nn_b (P t' = true)
theorem xd_l15 {post : SX → Prop} {J : Int32 → Int32 → Int32 → Int32 → (Nat → Int32) → (Nat → Int32) → (Nat → Int32) → (Nat → Int32) → (Nat → Int32) → (Nat → Int32) → (Nat → Int32) → (Nat → Int32) → (Nat → Int32) → (Nat → Int32) → (Nat → Int32) → (Nat → Int32) → (Nat → Int32) → (Nat → Int32) → (Nat → Int32) → (Nat → Int32) → (Nat → Int32) → (Nat → Int32) → (Nat → Int32) → (Nat → Int32) → (Nat → Int32) → (Nat → Int32) → (Nat → Int32) → (Nat → Int32) → (Nat → Int32) → (Nat → Int32) → (Nat → Int32) → (Nat → Int32) → Prop} {p k t : Nat} (hk : k < 3) (hp : p < 268435456) (ht : t < 128)
    (hJ : J (nI (t + 1)) fj fb fl (upd tb (1536 + 128 * k + t) (nn_b (qf_hp p t 4 = true))) df sm ju le ls so ba an fa co pi fr de ke up pr op vo ov qu qb qi qv vt he ch lr) :
    ∀ e i, i + e = 4 → wX_lists_15 post J (nI k) (nI p) (nI t) fj fb fl tb df sm ju le ls so ba an fa co pi fr de ke up pr op vo ov qu qb qi qv vt he ch lr (e + 1) (nn_b (qf_hp p t i = true)) (nI i) := by
  intro e
  induction e with
  | zero =>
    intro i hi
    refine pk_le 4 i (fun z => ?_) (fun z => by omega)
    rw [show i = 4 by omega]
    exact xd_enter hk ht rfl (nm_r (nI_1 t) hJ)
  | succ e ih =>
    intro i hi
    have ih := ih (i + 1) (by omega)
    have eh : qf_hp p t (i + 1) = (qf_hp p t i || (decide (¬ qf_pt p i = 0) && decide (qf_pt p i &&& t = qf_pt p i))) := rfl
    have hl := yq_ptl p i
    refine pk_le 4 i (fun z => by omega) (fun z => nm_r (yq_pt hp (by omega)) ?_)
    refine pk_eq (qf_pt p i) 0 (fun z0 => nm_r (xd_bo0 _) (nm_r (nI_1 i) ?_)) (fun z0 => ?_)
    · rw [eh, decide_eq_false (p := ¬ qf_pt p i = 0) (fun q => q z0), Bool.false_and, Bool.or_false] at ih
      exact ih
    · rw [eh, decide_eq_true (p := ¬ qf_pt p i = 0) z0, Bool.true_and] at ih
      refine pk_eq (t &&& qf_pt p i) (qf_pt p i) (fun z1 => nm_r (xd_bo1 _) (nm_r (nI_1 i) ?_)) (fun z1 => nm_r (xd_bo0 _) (nm_r (nI_1 i) ?_)) (hx := nx_and _ _) (ha := by have := qq_lt (b := qf_pt p i) ht; omega)
      · rw [Nat.and_comm] at z1
        rw [decide_eq_true z1, Bool.or_true, nn_bT] at ih
        exact ih
      · rw [Nat.and_comm] at z1
        rw [decide_eq_false z1, Bool.or_false] at ih
        exact ih
theorem xd_l2 {post : SX → Prop} {p k : Nat} {tb0 : Nat → Int32} (hk : k < 3) (hp : p < 268435456)
    (h : ∀ tb', xd_J tb0 tb' k (fun t => qf_hp p t 4) 128 → post (fj, fb, fl, tb', df, sm, ju, le, ls, so, ba, an, fa, co, pi, fr, de, ke, up, pr, op, vo, ov, qu, qb, qi, qv, vt, he, ch, lr)) :
    ∀ n t (tb : Nat → Int32), t ≤ 128 → 128 - t < n → xd_J tb0 tb k (fun t => qf_hp p t 4) t → wX_lists_2 post (nI k) (nI p) n (nI t) fj fb fl tb df sm ju le ls so ba an fa co pi fr de ke up pr op vo ov qu qb qi qv vt he ch lr := by
  intro n
  induction n with
  | zero => intro t tb _ h; omega
  | succ n ih =>
    intro t tb ht hn I
    refine pk_le 128 t (fun z => ?_) (fun z => ⟨5, ?_⟩)
    · rw [show t = 128 by omega] at I; exact h tb I
    · have := xd_l15 (post := post) (J := wX_lists_2 post (nI k) (nI p) n) hk hp z (ih (t + 1) (upd tb (1536 + 128 * k + t) (nn_b (qf_hp p t 4 = true))) (by omega) (by omega) ⟨fun j hj => by rw [pk_un (by omega)]; exact I.1 j (by omega), fun t' ht' => by
        by_cases e : t' = t
        · rw [e, pk_us]
        · rw [pk_un (by omega)]; exact I.2 t' (by omega)⟩) 4 0 (by omega)
      rw [show qf_hp p t 0 = false from rfl, nn_bF] at this
      exact this
theorem xd_lists {post : SX → Prop} {p k : Nat} (hk : k < 3) (hp : p < 268435456)
    (h : ∀ tb', xd_J tb tb' k (fun t => qf_hp p t 4) 128 → post (fj, fb, fl, tb', df, sm, ju, le, ls, so, ba, an, fa, co, pi, fr, de, ke, up, pr, op, vo, ov, qu, qb, qi, qv, vt, he, ch, lr)) : wpX_lists post (fj, fb, fl, tb, df, sm, ju, le, ls, so, ba, an, fa, co, pi, fr, de, ke, up, pr, op, vo, ov, qu, qb, qi, qv, vt, he, ch, lr) (nI k) (nI p) :=
  ⟨129, xd_l2 hk hp h 129 0 tb (by omega) (by omega) ⟨fun _ _ => rfl, fun _ h => absurd h (by omega)⟩⟩
end xd2
end
section
/-! least sets, soundness and keeping in the component -/
def xc_nth : List Nat → Nat → Nat
  | [], _ => 0
  | a :: _, 0 => a
  | _ :: l, n + 1 => xc_nth l n
theorem xc_nlt {l m : List Nat} : ∀ {n : Nat}, n < l.length → xc_nth (l ++ m) n = xc_nth l n := by
  induction l with
  | nil => intro n h; exact absurd h (by simp)
  | cons a l ih =>
    intro n h
    cases n with
    | zero => rfl
    | succ n => exact ih (by simpa using h)
theorem xc_neq {l : List Nat} {a : Nat} : xc_nth (l ++ [a]) l.length = a := by
  induction l with
  | nil => rfl
  | cons b l ih => exact ih
theorem xc_nm {l : List Nat} : ∀ {n : Nat}, n < l.length → xc_nth l n ∈ l := by
  induction l with
  | nil => intro n h; exact absurd h (by simp)
  | cons a l ih =>
    intro n h
    cases n with
    | zero => exact List.mem_cons_self
    | succ n => exact List.mem_cons_of_mem _ (ih (by simpa using h))
theorem xc_mn {l : List Nat} {a : Nat} (h : a ∈ l) : ∃ n, n < l.length ∧ xc_nth l n = a := by
  induction l with
  | nil => exact absurd h (by simp)
  | cons b l ih =>
    rcases List.mem_cons.mp h with e | e
    · exact ⟨0, by simp, e.symm⟩
    · obtain ⟨n, hn, e⟩ := ih e
      exact ⟨n + 1, by simpa using hn, e⟩
noncomputable def xc_ml (P : Nat → Bool) (t : Nat) : List Nat := (List.range t).filter (fun t => @decide (qq_mn P t) (Classical.propDecidable _))
theorem xc_mls (P : Nat → Bool) : xc_ml P 128 = qq_ms P := rfl
theorem xc_mlt {P : Nat → Bool} {t : Nat} (h : qq_mn P t) : xc_ml P (t + 1) = xc_ml P t ++ [t] := by
  unfold xc_ml
  rw [List.range_succ, List.filter_append, List.filter_cons_of_pos (p := fun t => @decide (qq_mn P t) (Classical.propDecidable _)) (a := t) (@decide_eq_true _ (Classical.propDecidable _) h)]
  rfl
theorem xc_mlf {P : Nat → Bool} {t : Nat} (h : ¬ qq_mn P t) : xc_ml P (t + 1) = xc_ml P t := by
  unfold xc_ml
  rw [List.range_succ, List.filter_append, List.filter_cons_of_neg (p := fun t => @decide (qq_mn P t) (Classical.propDecidable _)) (a := t) (fun q => h (@of_decide_eq_true _ (Classical.propDecidable _) q))]
  exact List.append_nil _
theorem xc_mll (P : Nat → Bool) (t : Nat) : (xc_ml P t).length ≤ t := by
  have := List.length_filter_le (fun t => @decide (qq_mn P t) (Classical.propDecidable _)) (List.range t)
  rw [List.length_range] at this
  exact this
def xc_pm (P : Nat → Bool) (t i : Nat) : Prop := P t = true ∧ ∀ k, k < i → t / 2 ^ k % 2 = 1 → P (t &&& (127 - 2 ^ k)) = false
theorem xc_ps {P : Nat → Bool} {t i : Nat} (h : xc_pm P t i) (hn : t / 2 ^ i % 2 = 1 → P (t &&& (127 - 2 ^ i)) = false) : xc_pm P t (i + 1) :=
  ⟨h.1, fun k hk e => by
    rcases Nat.lt_or_ge k i with z | z
    · exact h.2 k z e
    · rw [show k = i by omega] at e ⊢; exact hn e⟩
section xd3
variable {fj fb fl : Int32} {tb df sm ju le ls so ba an fa co pi fr de ke up pr op vo ov qu qb qi qv vt he ch lr : Nat → Int32}
theorem xc_26 {post : SX → Prop} {J : Int32 → Int32 → (Nat → Int32) → (Nat → Int32) → (Nat → Int32) → (Nat → Int32) → (Nat → Int32) → (Nat → Int32) → (Nat → Int32) → (Nat → Int32) → (Nat → Int32) → (Nat → Int32) → (Nat → Int32) → (Nat → Int32) → (Nat → Int32) → (Nat → Int32) → (Nat → Int32) → (Nat → Int32) → (Nat → Int32) → (Nat → Int32) → (Nat → Int32) → (Nat → Int32) → (Nat → Int32) → (Nat → Int32) → (Nat → Int32) → (Nat → Int32) → (Nat → Int32) → (Nat → Int32) → (Nat → Int32) → (Nat → Int32) → Prop} {s k t : Nat} {P : Nat → Bool} (hs : s < 5) (hk : k < 3) (ht : t < 128) (hT : xd_Q tb s k P)
    (h : wX_collect_77 post J (nI s) (nI k) (nI t) (nn_b (qq_mn P t)) fj fb fl tb df sm ju le ls so ba an fa co pi fr de ke up pr op vo ov qu qb qi qv vt he ch lr) :
    ∀ e i, i + e = 7 → wX_collect_26 post J (nI s) (nI k) (nI t) fj fb fl tb df sm ju le ls so ba an fa co pi fr de ke up pr op vo ov qu qb qi qv vt he ch lr (e + 1) (nn_b (xc_pm P t i)) (nI i) := by
  intro e
  induction e with
  | zero =>
    intro i hi
    refine pk_le 7 i (fun z => ?_) (fun z => by omega)
    rw [show i = 7 by omega]
    exact h
  | succ e ih =>
    intro i hi
    have ih := ih (i + 1) (by omega)
    refine pk_le 7 i (fun z => by omega) (fun z => nn_br (fun z0 => ?_) (fun z0 => ?_))
    · rw [nn_bf (show ¬ qq_mn P t from fun q => z0 ⟨q.1, fun k hk => q.2 k (by omega)⟩)] at h
      rw [nn_bf z0]
      exact h
    · refine pk_eq (t / 2 ^ i % 2) 0 (fun z1 => nm_r (nI_1 i) ?_) (fun z1 => ?_) (hx := nn_bit (by omega) (by omega))
      · rw [nn_bt (xc_ps z0 (fun q => by omega))] at ih
        exact ih
      · rw [nn_shl (by omega), nn_andn ht (qq_2l i z)]
        refine xq_R hs hk (qq_lt ht) (hT _ (qq_lt ht)) (nn_br (fun z2 => nm_r (nI_1 i) ?_) (fun z2 => nm_r (nI_1 i) ?_))
        · rw [nn_bt (xc_ps z0 (fun q => qs_tf.mp z2))] at ih
          exact ih
        · rw [nn_bf (fun q => by have := q.2 i (by omega) (by omega); rw [this] at z2; exact absurd z2 (by decide))] at ih
          exact ih
theorem xc_7 {post : SX → Prop} {s k : Nat} {P : Nat → Bool} (hs : s < 5) (hk : k < 3) (hT : xd_Q tb s k P)
    (h : ∀ ju', (∀ x, x < (qq_ms P).length → ju' x = nI (xc_nth (qq_ms P) x)) → post ((nI (qq_ms P).length), fb, fl, tb, df, sm, ju', le, ls, so, ba, an, fa, co, pi, fr, de, ke, up, pr, op, vo, ov, qu, qb, qi, qv, vt, he, ch, lr)) :
    ∀ n t (ju : Nat → Int32), t ≤ 128 → 128 - t < n → (∀ x, x < (xc_ml P t).length → ju x = nI (xc_nth (xc_ml P t) x)) → wX_collect_7 post (nI s) (nI k) fb fl n (nI t) (nI (xc_ml P t).length) tb df sm ju le ls so ba an fa co pi fr de ke up pr op vo ov qu qb qi qv vt he ch lr := by
  intro n
  induction n with
  | zero => intro t ju _ h; omega
  | succ n ih =>
    intro t ju ht hn I
    refine pk_le 128 t (fun z => ?_) (fun z => ?_)
    · rw [show t = 128 by omega] at I ⊢; exact h ju I
    · refine xq_R hs hk z (hT t z) ⟨8, ?_⟩
      have hl := xc_mll P t
      have key := xc_26 (post := post) (J := wX_collect_7 post (nI s) (nI k) fb fl n) (fj := nI (xc_ml P t).length) (fb := fb) (fl := fl) (df := df) (sm := sm) (ju := ju) (le := le) (ls := ls) (so := so) (ba := ba) (an := an) (fa := fa) (co := co) (pi := pi) (fr := fr) (de := de) (ke := ke) (up := up) (pr := pr) (op := op) (vo := vo) (ov := ov) (qu := qu) (qb := qb) (qi := qi) (qv := qv) (vt := vt) (he := he) (ch := ch) (lr := lr) hs hk z hT (by
        refine nn_br (fun z0 => nm_r (nI_1 t) ?_) (fun z0 => nm_r (nI_1 _) ⟨vp_in_nI (by omega) (by omega), nm_r (e' := upd ju (xc_ml P t).length (nI t)) (by rw [nI_clamp (by omega), nn_v8b z]) (nm_r (nI_1 t) ?_)⟩)
        · have := ih (t + 1) ju (by omega) (by omega) (by rw [xc_mlf z0]; exact I)
          rw [xc_mlf z0] at this
          exact this
        · have := ih (t + 1) (upd ju (xc_ml P t).length (nI t)) (by omega) (by omega) (by
            rw [xc_mlt z0]
            intro x hx
            rw [List.length_append] at hx
            rcases Nat.lt_or_ge x (xc_ml P t).length with q | q
            · rw [pk_un (by omega), xc_nlt q]; exact I x q
            · have e : x = (xc_ml P t).length := by simp at hx; omega
              rw [e, pk_us, xc_neq])
          rw [xc_mlt z0, List.length_append] at this
          exact this) 7 0 (by omega)
      rw [nn_bc (Q := P t = true) ⟨fun q => q.1, fun q => ⟨q, fun k hk => absurd hk (by omega)⟩⟩] at key
      exact key
theorem xc_collect {post : SX → Prop} {s k : Nat} {P : Nat → Bool} (hs : s < 5) (hk : k < 3) (hT : xd_Q tb s k P)
    (h : ∀ ju', (∀ x, x < (qq_ms P).length → ju' x = nI (xc_nth (qq_ms P) x)) → post ((nI (qq_ms P).length), fb, fl, tb, df, sm, ju', le, ls, so, ba, an, fa, co, pi, fr, de, ke, up, pr, op, vo, ov, qu, qb, qi, qv, vt, he, ch, lr)) : wpX_collect post (fj, fb, fl, tb, df, sm, ju, le, ls, so, ba, an, fa, co, pi, fr, de, ke, up, pr, op, vo, ov, qu, qb, qi, qv, vt, he, ch, lr) (nI s) (nI k) :=
  ⟨129, xc_7 hs hk hT h 129 0 ju (by omega) (by omega) (fun x hx => absurd hx (by simp [xc_ml]))⟩
theorem xc_82 {post : Int32 → SX → Prop} {J : Int32 → Prop} {P : Nat → Bool} {L : List Nat} {x : Nat} (hT : xd_Q tb 4 0 P) (hL : ∀ a, a ∈ L → a < 128) (hl : L.length ≤ 128) (hx : x < L.length)
    (hj : ∀ x, x < L.length → ju x = nI (xc_nth L x))
    (h1 : (∀ y, y ≤ x → P (127 - (xc_nth L x &&& xc_nth L y)) = false) → J (nI (x + 1)))
    (h0 : ∀ y, y ≤ x → P (127 - (xc_nth L x &&& xc_nth L y)) = true → post 0 (fj, fb, fl, tb, df, sm, ju, le, ls, so, ba, an, fa, co, pi, fr, de, ke, up, pr, op, vo, ov, qu, qb, qi, qv, vt, he, ch, lr)) :
    ∀ e y, y + e = x + 1 → (∀ y', y' < y → P (127 - (xc_nth L x &&& xc_nth L y')) = false) → wX_isSound_82 post J (nI x) fj fb fl tb df sm ju le ls so ba an fa co pi fr de ke up pr op vo ov qu qb qi qv vt he ch lr (e + 1) (nI y) := by
  intro e
  induction e with
  | zero =>
    intro y hy I
    exact pk_lt x y (fun z => nm_r (nI_1 x) (h1 (fun y' h' => I y' (by omega)))) (fun z => by omega)
  | succ e ih =>
    intro y hy I
    refine pk_lt x y (fun z => by omega) (fun z => ⟨vp_in_nI (by omega) (by omega), vp_in_nI (by omega) (by omega), ?_⟩)
    have ha := hL _ (xc_nm hx)
    rw [nI_clamp (by omega), nI_clamp (by omega), hj x hx, hj y (by omega), nx_and, nn_sub127 (qq_lt ha)]
    refine xq_R (s := 4) (k := 0) (by omega) (by omega) (qs_l127 _) (hT _ (qs_l127 _)) (nn_br (fun z2 => nm_r (nI_1 y) (ih (y + 1) (by omega) (fun y' h' => ?_))) (fun z2 => h0 y z z2))
    rcases Nat.lt_or_ge y' y with q | q
    · exact I y' q
    · rw [show y' = y by omega]; exact qs_tf.mp z2
theorem xc_72 {post : Int32 → SX → Prop} {P : Nat → Bool} {L : List Nat} (hT : xd_Q tb 4 0 P) (hL : ∀ a, a ∈ L → a < 128) (hl : L.length ≤ 128)
    (hj : ∀ x, x < L.length → ju x = nI (xc_nth L x))
    (h1 : (∀ x, x < L.length → ∀ y, y ≤ x → P (127 - (xc_nth L x &&& xc_nth L y)) = false) → post 1 ((nI L.length), fb, fl, tb, df, sm, ju, le, ls, so, ba, an, fa, co, pi, fr, de, ke, up, pr, op, vo, ov, qu, qb, qi, qv, vt, he, ch, lr))
    (h0 : ∀ x, x < L.length → ∀ y, y ≤ x → P (127 - (xc_nth L x &&& xc_nth L y)) = true → post 0 ((nI L.length), fb, fl, tb, df, sm, ju, le, ls, so, ba, an, fa, co, pi, fr, de, ke, up, pr, op, vo, ov, qu, qb, qi, qv, vt, he, ch, lr)) :
    ∀ e x, x + e = L.length → (∀ x', x' < x → ∀ y, y ≤ x' → P (127 - (xc_nth L x' &&& xc_nth L y)) = false) → wX_isSound_72 post (nI L.length) fb fl tb df sm ju le ls so ba an fa co pi fr de ke up pr op vo ov qu qb qi qv vt he ch lr (e + 1) (nI x) := by
  intro e
  induction e with
  | zero =>
    intro x hx I
    exact pk_le L.length x (fun z => h1 (fun x' h' => I x' (by omega))) (fun z => by omega)
  | succ e ih =>
    intro x hx I
    refine pk_le L.length x (fun z => by omega) (fun z => ⟨x + 2, ?_⟩)
    refine xc_82 hT hL hl z hj (fun q => ih (x + 1) (by omega) (fun x' h' => ?_)) (fun y hy q => h0 x z y hy q) (x + 1) 0 (by omega) (fun y' h' => absurd h' (by omega))
    rcases Nat.lt_or_ge x' x with w | w
    · exact I x' w
    · rw [show x' = x by omega]; exact q
theorem xc_26s {post : Int32 → SX → Prop} {Q : Nat → Nat → Bool} (hT : xd_T tb 4 Q) (hr : Q 0 127 = true) (hw : Q 1 127 = true)
    (h1 : qs_X Q → ∀ fj' ju', post 1 (fj', fb, fl, tb, df, sm, ju', le, ls, so, ba, an, fa, co, pi, fr, de, ke, up, pr, op, vo, ov, qu, qb, qi, qv, vt, he, ch, lr)) (h0 : ¬ qs_X Q → ∀ fj' ju', post 0 (fj', fb, fl, tb, df, sm, ju', le, ls, so, ba, an, fa, co, pi, fr, de, ke, up, pr, op, vo, ov, qu, qb, qi, qv, vt, he, ch, lr)) :
    ∀ e t, t + e = 128 → (∀ t', t' < t → Q 0 t' = true → Q 1 (127 - t') = false) → wX_isSound_26 post fj fb fl tb df sm ju le ls so ba an fa co pi fr de ke up pr op vo ov qu qb qi qv vt he ch lr (e + 1) (nI t) := by
  intro e
  induction e with
  | zero =>
    intro t ht I
    refine pk_le 128 t (fun z => ?_) (fun z => by omega)
    have et : t = 128 := by omega
    subst et
    refine xc_collect (s := 4) (k := 2) (by omega) (by omega) (fun t ht => hT 2 t (by omega) ht) (fun ju' hj => ⟨(qq_ms (Q 2)).length + 1, ?_⟩)
    have hl : (qq_ms (Q 2)).length ≤ 128 := xc_mll (Q 2) 128
    refine xc_72 (P := Q 0) (fun t ht => hT 0 t (by omega) ht) (fun a ha => (qq_mem.mp ha).1) hl hj (fun q => h1 ⟨hr, hw, I, fun a ha b hb => ?_⟩ _ _) (fun x hx y hy q => h0 (fun w => ?_) _ _) _ 0 (by omega) (fun x' h' => absurd h' (by omega))
    · obtain ⟨x, hx, rfl⟩ := xc_mn ha
      obtain ⟨y, hy, rfl⟩ := xc_mn hb
      rcases Nat.le_total y x with z | z
      · exact q x hx y z
      · rw [Nat.and_comm]; exact q y hy x z
    · have := w.2.2.2 _ (xc_nm hx) _ (xc_nm (show y < _ by omega))
      rw [q] at this
      exact absurd this (by decide)
  | succ e ih =>
    intro t ht I
    have ih' : (Q 0 t = true → Q 1 (127 - t) = false) → wX_isSound_26 post fj fb fl tb df sm ju le ls so ba an fa co pi fr de ke up pr op vo ov qu qb qi qv vt he ch lr (e + 1) (nI (t + 1)) := fun q => ih (t + 1) (by omega) (fun t' h' => by
      rcases Nat.lt_or_ge t' t with z | z
      · exact I t' z
      · rw [show t' = t by omega]; exact q)
    refine pk_le 128 t (fun z => by omega) (fun z => ?_)
    refine xq_R (s := 4) (k := 0) (by omega) (by omega) z (hT 0 t (by omega) z) (nn_br (fun z1 => nm_r (nI_1 t) (ih' (fun q => absurd q z1))) (fun z1 => ?_))
    rw [nn_sub127 z]
    exact xq_R (s := 4) (k := 1) (by omega) (by omega) (qs_l127 t) (hT 1 _ (by omega) (qs_l127 t)) (nn_br (fun z2 => nm_r (nI_1 t) (ih' (fun _ => qs_tf.mp z2))) (fun z2 => h0 (fun q => by rw [q.2.2.1 t z z1] at z2; exact absurd z2 (by decide)) fj ju))
theorem xc_isSound {post : Int32 → SX → Prop} {Q : Nat → Nat → Bool} (hT : xd_T tb 4 Q)
    (h1 : qs_X Q → ∀ fj' ju', post 1 (fj', fb, fl, tb, df, sm, ju', le, ls, so, ba, an, fa, co, pi, fr, de, ke, up, pr, op, vo, ov, qu, qb, qi, qv, vt, he, ch, lr)) (h0 : ¬ qs_X Q → ∀ fj' ju', post 0 (fj', fb, fl, tb, df, sm, ju', le, ls, so, ba, an, fa, co, pi, fr, de, ke, up, pr, op, vo, ov, qu, qb, qi, qv, vt, he, ch, lr)) : wpX_isSound post (fj, fb, fl, tb, df, sm, ju, le, ls, so, ba, an, fa, co, pi, fr, de, ke, up, pr, op, vo, ov, qu, qb, qi, qv, vt, he, ch, lr) := by
  unfold wpX_isSound
  dsimp only
  refine xq_R (s := 4) (k := 0) (t := 127) (by omega) (by omega) (by omega) (hT 0 127 (by omega) (by omega)) (nn_br (fun z => h0 (fun q => z q.1) fj ju) (fun z => ?_))
  refine xq_R (s := 4) (k := 1) (t := 127) (by omega) (by omega) (by omega) (hT 1 127 (by omega) (by omega)) (nn_br (fun z1 => h0 (fun q => z1 q.2.1) fj ju) (fun z1 => ?_))
  exact ⟨129, xc_26s hT z z1 h1 h0 128 0 (by omega) (fun t' h' => absurd h' (by omega))⟩
/-! keeping -/
def xc_L (le ls : Nat → Int32) (s : Nat) (Q : Nat → Nat → Bool) (κ : Nat) : Prop := ∀ k, k < κ → ls (3 * s + k) = nI (qq_ms (Q k)).length ∧ ∀ x, x < (qq_ms (Q k)).length → le (35 * (3 * s + k) + x) = nI (xc_nth (qq_ms (Q k)) x)
def xc_U (le0 ls0 le ls : Nat → Int32) (s : Nat) : Prop := (∀ j, (j < 3 * s ∨ 3 * s + 3 ≤ j) → ls j = ls0 j) ∧ ∀ j, (j < 105 * s ∨ 105 * s + 105 ≤ j) → le j = le0 j
theorem xc_77 {post : SX → Prop} {J : Int32 → Int32 → Int32 → Int32 → (Nat → Int32) → (Nat → Int32) → (Nat → Int32) → (Nat → Int32) → (Nat → Int32) → (Nat → Int32) → (Nat → Int32) → (Nat → Int32) → (Nat → Int32) → (Nat → Int32) → (Nat → Int32) → (Nat → Int32) → (Nat → Int32) → (Nat → Int32) → (Nat → Int32) → (Nat → Int32) → (Nat → Int32) → (Nat → Int32) → (Nat → Int32) → (Nat → Int32) → (Nat → Int32) → (Nat → Int32) → (Nat → Int32) → (Nat → Int32) → (Nat → Int32) → (Nat → Int32) → (Nat → Int32) → (Nat → Int32) → Prop} {s k : Nat} {L : List Nat} (hs : s < 4) (hk : k < 3) (hl : L.length ≤ 35) (hL : ∀ a, a ∈ L → a < 128)
    (hj : ∀ x, x < L.length → ju x = nI (xc_nth L x)) {le0 : Nat → Int32}
    (h : ∀ le', (∀ x, x < L.length → le' (35 * (3 * s + k) + x) = nI (xc_nth L x)) → (∀ j, (j < 35 * (3 * s + k) ∨ 35 * (3 * s + k) + 35 ≤ j) → le' j = le0 j) → J (nI (k + 1)) (nI L.length) fb fl tb df sm ju le' ls so ba an fa co pi fr de ke up pr op vo ov qu qb qi qv vt he ch lr) :
    ∀ e x (le : Nat → Int32), x + e = L.length → (∀ x', x' < x → le (35 * (3 * s + k) + x') = nI (xc_nth L x')) → (∀ j, (j < 35 * (3 * s + k) ∨ 35 * (3 * s + k) + 35 ≤ j) → le j = le0 j) → wX_keep_77 post J (nI s) (nI k) (nI (3 * s + k)) (nI L.length) fb fl (e + 1) (nI x) tb df sm ju le ls so ba an fa co pi fr de ke up pr op vo ov qu qb qi qv vt he ch lr := by
  intro e
  induction e with
  | zero =>
    intro x le hx I1 I2
    exact pk_le L.length x (fun z => nm_r (nI_1 k) (h le (fun x' h' => I1 x' (by omega)) I2)) (fun z => by omega)
  | succ e ih =>
    intro x le hx I1 I2
    refine pk_le L.length x (fun z => by omega) (fun z => ⟨vp_in_nI (by omega) (by omega), ?_⟩)
    rw [nn_m35, nI_add]
    have ha := hL _ (xc_nm z)
    refine ⟨vp_in_nI (by omega) (by omega), nm_r (e' := upd le (35 * (3 * s + k) + x) (nI (xc_nth L x))) (by rw [nI_clamp (by omega), nI_clamp (by omega), hj x z, nn_v8 ha]) (nm_r (nI_1 x) (ih (x + 1) _ (by omega) (fun x' h' => ?_) (fun j hj' => ?_)))⟩
    · by_cases q : x' = x
      · rw [q, pk_us]
      · rw [pk_un (by omega)]; exact I1 x' (by omega)
    · rw [pk_un (by omega)]; exact I2 j hj'
theorem xc_46 {post : SX → Prop} {s : Nat} {Q : Nat → Nat → Bool} {le0 ls0 : Nat → Int32} (hs : s < 4) (hM : qs_M Q) (hT : xd_T tb s Q)
    (h : ∀ fj' ju' le' ls', xc_L le' ls' s Q 3 → xc_U le0 ls0 le' ls' s → post (fj', fb, fl, tb, df, sm, ju', le', ls', so, ba, an, fa, co, pi, fr, de, ke, up, pr, op, vo, ov, qu, qb, qi, qv, vt, he, ch, lr)) :
    ∀ e k (fj : Int32) (ju le ls : Nat → Int32), k + e = 3 → xc_L le ls s Q k → xc_U le0 ls0 le ls s → wX_keep_46 post (nI s) (e + 1) (nI k) fj fb fl tb df sm ju le ls so ba an fa co pi fr de ke up pr op vo ov qu qb qi qv vt he ch lr := by
  intro e
  induction e with
  | zero =>
    intro k fj ju le ls hk I1 I2
    refine pk_le 3 k (fun z => ?_) (fun z => by omega)
    rw [show k = 3 by omega] at I1
    exact h fj ju le ls I1 I2
  | succ e ih =>
    intro k fj ju le ls hk I1 I2
    refine pk_le 3 k (fun z => by omega) (fun z => ?_)
    refine xc_collect (by omega) z (fun t ht => hT k t z ht) (fun ju' hj => nm_r (e' := nI (3 * s + k)) (by rw [nn_m3, nI_add]) ⟨vp_in_nI (by omega) (by omega), nm_r (e' := upd ls (3 * s + k) (nI (qq_ms (Q k)).length)) ?_ ⟨(qq_ms (Q k)).length + 1, ?_⟩⟩)
    · have := qq_35 (hM k z)
      rw [nI_clamp (by omega), nn_v8b (by omega)]
    · refine xc_77 (le0 := le) hs z (qq_35 (hM k z)) (fun a ha => (qq_mem.mp ha).1) hj (fun le' L1 L2 => ih (k + 1) _ ju' le' _ (by omega) (fun k' hk' => ?_) ⟨fun j hj' => ?_, fun j hj' => ?_⟩) _ 0 le (by omega) (fun x' h' => absurd h' (by omega)) (fun j _ => rfl)
      · by_cases q : k' = k
        · rw [q, pk_us]; exact ⟨rfl, L1⟩
        · rw [pk_un (by omega)]
          have := I1 k' (by omega)
          refine ⟨this.1, fun x hx => ?_⟩
          have h35 := qq_35 (hM k' (by omega))
          rw [L2 _ (by omega)]
          exact this.2 x hx
      · rw [pk_un (by omega)]; exact I2.1 j hj'
      · rw [L2 j (by omega)]; exact I2.2 j hj'
theorem xc_9 {post : SX → Prop} {s : Nat} {Q : Nat → Nat → Bool} {tb0 : Nat → Int32} (hs : s < 4) (hM : qs_M Q) (hT : xd_T tb0 4 Q)
    (h : ∀ fj' tb' ju' le' ls', xd_T tb' s Q → (∀ j, (j < 384 * s ∨ 384 * s + 384 ≤ j) → tb' j = tb0 j) → xc_L le' ls' s Q 3 → xc_U le ls le' ls' s → post (fj', fb, fl, tb', df, sm, ju', le', ls', so, ba, an, fa, co, pi, fr, de, ke, up, pr, op, vo, ov, qu, qb, qi, qv, vt, he, ch, lr)) :
    ∀ n x (tb : Nat → Int32), x ≤ 384 → 384 - x < n → (∀ j, j < x → tb (384 * s + j) = tb0 (1536 + j)) → (∀ j, (j < 384 * s ∨ 384 * s + x ≤ j) → tb j = tb0 j) → wX_keep_9 post (nI s) fj fb fl n (nI x) tb df sm ju le ls so ba an fa co pi fr de ke up pr op vo ov qu qb qi qv vt he ch lr := by
  intro n
  induction n with
  | zero => intro x tb _ h; omega
  | succ n ih =>
    intro x tb hx hn I1 I2
    refine pk_le 384 x (fun z => ⟨4, ?_⟩) (fun z => ?_)
    · have ex : x = 384 := by omega
      subst ex
      have hT' : xd_T tb s Q := fun k t hk ht => by
        rw [Nat.add_assoc, I1 _ (by omega), ← Nat.add_assoc]
        exact hT k t hk ht
      exact xc_46 (le0 := le) (ls0 := ls) hs hM hT' (fun fj' ju' le' ls' L U => h fj' tb ju' le' ls' hT' I2 L U) 3 0 fj ju le ls (by omega) (fun k hk => absurd hk (by omega)) ⟨fun _ _ => rfl, fun _ _ => rfl⟩
    · have hv : ∃ P, tb (1536 + x) = nn_b P := by
        rw [I2 _ (by omega)]
        have := hT (x / 128) (x % 128) (by omega) (by omega)
        rw [show 384 * 4 + 128 * (x / 128) + x % 128 = 1536 + x by omega] at this
        exact ⟨_, this⟩
      obtain ⟨P, hP⟩ := hv
      rw [nn_a1536, nn_m384, nI_add]
      refine ⟨vp_in_nI (by omega) (by omega), vp_in_nI (by omega) (by omega), nm_r (e' := upd tb (384 * s + x) (tb (1536 + x))) (by rw [nI_clamp (by omega), nI_clamp (by omega), hP, nn_bv]) (nm_r (nI_1 x) (ih (x + 1) _ (by omega) (by omega) (fun j hj => ?_) (fun j hj => ?_)))⟩
      · by_cases q : j = x
        · rw [q, pk_us]; exact I2 _ (by omega)
        · rw [pk_un (by omega)]; exact I1 j (by omega)
      · rw [pk_un (by omega)]; exact I2 j (by omega)
theorem xc_keep {post : SX → Prop} {s : Nat} {Q : Nat → Nat → Bool} (hs : s < 4) (hM : qs_M Q) (hT : xd_T tb 4 Q)
    (h : ∀ fj' tb' ju' le' ls', xd_T tb' s Q → (∀ j, (j < 384 * s ∨ 384 * s + 384 ≤ j) → tb' j = tb j) → xc_L le' ls' s Q 3 → xc_U le ls le' ls' s → post (fj', fb, fl, tb', (upd df s 1), sm, ju', le', ls', so, ba, an, fa, co, pi, fr, de, ke, up, pr, op, vo, ov, qu, qb, qi, qv, vt, he, ch, lr)) : wpX_keep post (fj, fb, fl, tb, df, sm, ju, le, ls, so, ba, an, fa, co, pi, fr, de, ke, up, pr, op, vo, ov, qu, qb, qi, qv, vt, he, ch, lr) (nI s) := by
  unfold wpX_keep
  dsimp only
  refine ⟨vp_in_nI hs (by omega), nm_r (e' := upd df s 1) (by rw [nI_clamp (by omega), nn_vb1]) ⟨385, ?_⟩⟩
  exact xc_9 hs hM hT h 385 0 tb (by omega) (by omega) (fun j hj => absurd hj (by omega)) (fun j _ => rfl)
/-! in use -/
theorem xc_iu {post : Int32 → Prop} {nb : Nat} {x : Int32} (hnb : nb ≤ 12) (h1 : ∀ b, 1 ≤ b → b ≤ nb → so b = x → post 1) (h0 : (∀ b, 1 ≤ b → b ≤ nb → ¬ so b = x) → post 0) :
    ∀ e b, b + e = nb + 1 → 1 ≤ b → (∀ b', 1 ≤ b' → b' < b → ¬ so b' = x) → wX_isInUse_2 post x fj (nI nb) fl tb df sm ju le ls so ba an fa co pi fr de ke up pr op vo ov qu qb qi qv vt he ch lr (e + 1) (nI b) := by
  intro e
  induction e with
  | zero =>
    intro b hb h1b I
    exact pk_lt nb b (fun z => h0 (fun b' a1 a2 => I b' a1 (by omega))) (fun z => by omega)
  | succ e ih =>
    intro b hb h1b I
    refine pk_lt nb b (fun z => by omega) (fun z => ⟨vp_in_nI (by omega) (by omega), ?_⟩)
    rw [nI_clamp (by omega)]
    refine br_c (fun q => h1 b h1b z q) (fun q => nm_r (nI_1 b) (ih (b + 1) (by omega) (by omega) (fun b' a1 a2 => ?_)))
    rcases Nat.lt_or_ge b' b with w | w
    · exact I b' a1 w
    · rw [show b' = b by omega]; exact q
theorem xc_isInUse {post : Int32 → Prop} {nb : Nat} {x : Int32} (hnb : nb ≤ 12) (h1 : ∀ b, 1 ≤ b → b ≤ nb → so b = x → post 1) (h0 : (∀ b, 1 ≤ b → b ≤ nb → ¬ so b = x) → post 0) : wpX_isInUse post (fj, (nI nb), fl, tb, df, sm, ju, le, ls, so, ba, an, fa, co, pi, fr, de, ke, up, pr, op, vo, ov, qu, qb, qi, qv, vt, he, ch, lr) x :=
  ⟨nb + 1, xc_iu hnb h1 h0 nb 1 (by omega) (by omega) (fun b' a1 a2 => absurd a2 (by omega))⟩
end xd3
end
section
/-! define: the limits, the component's walk, the reference's walk -/
section def1
variable {fj fb fl : Int32} {tb df sm ju le ls so ba an fa co pi fr de ke up pr op vo ov qu qb qi qv vt he ch lr : Nat → Int32}
theorem xe_lt {a b : Int32} (h : a.toInt < b.toInt) : a < b := Int32.lt_iff_toInt_lt.mpr h
theorem xe_rg {so2 a b c d : Int32} : (∃ Q, qy_S so2 a b c d Q ∧ (∀ P : Int32 → Prop, P 1 → wpX_inRange P (fj, fb, fl, tb, df, sm, ju, le, ls, so, ba, an, fa, co, pi, fr, de, ke, up, pr, op, vo, ov, qu, qb, qi, qv, vt, he, ch, lr) so2 a b c d) ∧ ∀ P : Int32 → Prop, P 1 → wpY_inRange P so2 a b c d) ∨ ((∀ P : Int32 → Prop, P 0 → wpX_inRange P (fj, fb, fl, tb, df, sm, ju, le, ls, so, ba, an, fa, co, pi, fr, de, ke, up, pr, op, vo, ov, qu, qb, qi, qv, vt, he, ch, lr) so2 a b c d) ∧ ∀ P : Int32 → Prop, P 0 → wpY_inRange P so2 a b c d) := by
  by_cases h0 : so2 < 0
  · exact Or.inr ⟨fun P z => br_t h0 z, fun P z => br_t h0 z⟩
  by_cases h3 : 3 < so2
  · exact Or.inr ⟨fun P z => br_f h0 (br_t h3 z), fun P z => br_f h0 (br_t h3 z)⟩
  obtain ⟨j, hj, e⟩ := nI_of2 (M := 3) (n := 3) (by decide) h0 (Int32.not_lt.mp h3)
  have hj : j = 0 ∨ j = 1 ∨ j = 2 ∨ j = 3 := by omega
  rcases hj with hj | hj | hj | hj <;> subst hj
  · have e : so2 = 0 := e
    subst e
    rcases nl_bt (x := a) (a := 1) (b := 127) 1 127 (by decide) (by decide) with ⟨A, hA1, hA2, ea, xa, ya⟩ | ⟨xa, ya⟩
    · rcases nl_bt (x := b) (a := 1) (b := 7) 1 7 (by decide) (by decide) with ⟨B, hB1, hB2, eb, xb, yb⟩ | ⟨xb, yb⟩
      · rcases nl_bt (x := c) (a := 1) (b := 7) 1 7 (by decide) (by decide) with ⟨C, hC1, hC2, ec, xc, yc⟩ | ⟨xc, yc⟩
        · rcases nl_bt (x := d) (a := 0) (b := 7) 0 7 (by decide) (by decide) with ⟨D, hD1, hD2, ed, xd, yd⟩ | ⟨xd, yd⟩
          · refine Or.inl ⟨_, Or.inl ⟨rfl, A, B, C, D, ea, eb, ec, ed, hA1, by omega, hB1, by omega, hC1, by omega, by omega, rfl⟩, fun P z => ?_, fun P z => ?_⟩
            · exact br_f h0 (br_f h3 (br_t rfl (xa _ (br_f nn_10 (xb _ (br_f nn_10 (xc _ (br_f nn_10 (xd _ (br_f nn_10 z))))))))))
            · exact br_f h0 (br_f h3 (br_t rfl (ya _ (br_f nn_10 (yb _ (br_f nn_10 (yc _ (br_f nn_10 (yd _ (br_f nn_10 z))))))))))
          · refine Or.inr ⟨fun P z => ?_, fun P z => ?_⟩
            · exact br_f h0 (br_f h3 (br_t rfl (xa _ (br_f nn_10 (xb _ (br_f nn_10 (xc _ (br_f nn_10 (xd _ (br_t rfl z))))))))))
            · exact br_f h0 (br_f h3 (br_t rfl (ya _ (br_f nn_10 (yb _ (br_f nn_10 (yc _ (br_f nn_10 (yd _ (br_t rfl z))))))))))
        · refine Or.inr ⟨fun P z => ?_, fun P z => ?_⟩
          · exact br_f h0 (br_f h3 (br_t rfl (xa _ (br_f nn_10 (xb _ (br_f nn_10 (xc _ (br_t rfl z))))))))
          · exact br_f h0 (br_f h3 (br_t rfl (ya _ (br_f nn_10 (yb _ (br_f nn_10 (yc _ (br_t rfl z))))))))
      · refine Or.inr ⟨fun P z => ?_, fun P z => ?_⟩
        · exact br_f h0 (br_f h3 (br_t rfl (xa _ (br_f nn_10 (xb _ (br_t rfl z))))))
        · exact br_f h0 (br_f h3 (br_t rfl (ya _ (br_f nn_10 (yb _ (br_t rfl z))))))
    · refine Or.inr ⟨fun P z => ?_, fun P z => ?_⟩
      · exact br_f h0 (br_f h3 (br_t rfl (xa _ (br_t rfl z))))
      · exact br_f h0 (br_f h3 (br_t rfl (ya _ (br_t rfl z))))
  · have e : so2 = 1 := e
    subst e
    have n0 : ¬ (1 : Int32) = 0 := nn_10
    rcases nl_bt (x := a) (a := 1) (b := 7) 1 7 (by decide) (by decide) with ⟨A, hA1, hA2, ea, xa, ya⟩ | ⟨xa, ya⟩
    · rcases nl_bt (x := b) (a := 1) (b := 7) 1 7 (by decide) (by decide) with ⟨B, hB1, hB2, eb, xb, yb⟩ | ⟨xb, yb⟩
      · have hAB : A * B ≤ 49 := Nat.mul_le_mul hA2 hB2
        by_cases hm : 7 < A * B
        · have hm' : 7 < a * b := by rw [ea, eb, pk_mul]; exact nI_lt (a := 7) hm (by omega)
          refine Or.inr ⟨fun P z => ?_, fun P z => ?_⟩
          · exact br_f h0 (br_f h3 (br_f n0 (br_t rfl (xa _ (br_f nn_10 (xb _ (br_f nn_10 (br_t hm' z))))))))
          · exact br_f h0 (br_f h3 (br_f n0 (br_t rfl (ya _ (br_f nn_10 (yb _ (br_f nn_10 (br_t hm' z))))))))
        · have hm' : ¬ 7 < a * b := by rw [ea, eb, pk_mul]; exact nI_nlt (a := 7) (by omega) (by omega)
          refine Or.inl ⟨qf_g A B (!decide (d = 0)), Or.inr (Or.inl ⟨rfl, A, B, !decide (d = 0), ea, eb, hA1, hB1, by omega, by simp, rfl⟩), fun P z => ?_, fun P z => ?_⟩
          · exact br_f h0 (br_f h3 (br_f n0 (br_t rfl (xa _ (br_f nn_10 (xb _ (br_f nn_10 (br_f hm' z))))))))
          · exact br_f h0 (br_f h3 (br_f n0 (br_t rfl (ya _ (br_f nn_10 (yb _ (br_f nn_10 (br_f hm' z))))))))
      · refine Or.inr ⟨fun P z => ?_, fun P z => ?_⟩
        · exact br_f h0 (br_f h3 (br_f n0 (br_t rfl (xa _ (br_f nn_10 (xb _ (br_t rfl z)))))))
        · exact br_f h0 (br_f h3 (br_f n0 (br_t rfl (ya _ (br_f nn_10 (yb _ (br_t rfl z)))))))
    · refine Or.inr ⟨fun P z => ?_, fun P z => ?_⟩
      · exact br_f h0 (br_f h3 (br_f n0 (br_t rfl (xa _ (br_t rfl z)))))
      · exact br_f h0 (br_f h3 (br_f n0 (br_t rfl (ya _ (br_t rfl z)))))
  · have e : so2 = 2 := e
    subst e
    have n0 : ¬ (2 : Int32) = 0 := by decide
    have n1 : ¬ (2 : Int32) = 1 := by decide
    rcases nl_bt (x := a) (a := 0) (b := 9999999) 0 9999999 (by decide) (by decide) with ⟨A, hA1, hA2, ea, xa, ya⟩ | ⟨xa, ya⟩
    · rcases nl_bt (x := b) (a := 1) (b := 63) 1 63 (by decide) (by decide) with ⟨B, hB1, hB2, eb, xb, yb⟩ | ⟨xb, yb⟩
      · rcases nl_bt (x := c) (a := 1) (b := 63) 1 63 (by decide) (by decide) with ⟨C, hC1, hC2, ec, xc, yc⟩ | ⟨xc, yc⟩
        · rcases nl_bt (x := d) (a := 0) (b := 63) 0 63 (by decide) (by decide) with ⟨D, hD1, hD2, ed, xd, yd⟩ | ⟨xd, yd⟩
          · refine Or.inl ⟨_, Or.inr (Or.inr (Or.inl ⟨rfl, A, B, C, D, ea, eb, ec, ed, by omega, hB1, by omega, hC1, by omega, by omega, rfl⟩)), fun P z => ?_, fun P z => ?_⟩
            · exact br_f h0 (br_f h3 (br_f n0 (br_f n1 (br_t rfl (xa _ (br_f nn_10 (xb _ (br_f nn_10 (xc _ (br_f nn_10 (xd _ (br_f nn_10 z))))))))))))
            · exact br_f h0 (br_f h3 (br_f n0 (br_f n1 (br_t rfl (ya _ (br_f nn_10 (yb _ (br_f nn_10 (yc _ (br_f nn_10 (yd _ (br_f nn_10 z))))))))))))
          · refine Or.inr ⟨fun P z => ?_, fun P z => ?_⟩
            · exact br_f h0 (br_f h3 (br_f n0 (br_f n1 (br_t rfl (xa _ (br_f nn_10 (xb _ (br_f nn_10 (xc _ (br_f nn_10 (xd _ (br_t rfl z))))))))))))
            · exact br_f h0 (br_f h3 (br_f n0 (br_f n1 (br_t rfl (ya _ (br_f nn_10 (yb _ (br_f nn_10 (yc _ (br_f nn_10 (yd _ (br_t rfl z))))))))))))
        · refine Or.inr ⟨fun P z => ?_, fun P z => ?_⟩
          · exact br_f h0 (br_f h3 (br_f n0 (br_f n1 (br_t rfl (xa _ (br_f nn_10 (xb _ (br_f nn_10 (xc _ (br_t rfl z))))))))))
          · exact br_f h0 (br_f h3 (br_f n0 (br_f n1 (br_t rfl (ya _ (br_f nn_10 (yb _ (br_f nn_10 (yc _ (br_t rfl z))))))))))
      · refine Or.inr ⟨fun P z => ?_, fun P z => ?_⟩
        · exact br_f h0 (br_f h3 (br_f n0 (br_f n1 (br_t rfl (xa _ (br_f nn_10 (xb _ (br_t rfl z))))))))
        · exact br_f h0 (br_f h3 (br_f n0 (br_f n1 (br_t rfl (ya _ (br_f nn_10 (yb _ (br_t rfl z))))))))
    · refine Or.inr ⟨fun P z => ?_, fun P z => ?_⟩
      · exact br_f h0 (br_f h3 (br_f n0 (br_f n1 (br_t rfl (xa _ (br_t rfl z))))))
      · exact br_f h0 (br_f h3 (br_f n0 (br_f n1 (br_t rfl (ya _ (br_t rfl z))))))
  · have e : so2 = 3 := e
    subst e
    have n0 : ¬ (3 : Int32) = 0 := by decide
    have n1 : ¬ (3 : Int32) = 1 := by decide
    have n2 : ¬ (3 : Int32) = 2 := by decide
    rcases nl_in (x := a) (n := 268435456) (m := 268435455) 268435456 (by decide) (by decide) with ⟨A, hA, ea, xa, ya⟩ | ⟨xa, ya⟩
    · rcases nl_in (x := b) (n := 268435456) (m := 268435455) 268435456 (by decide) (by decide) with ⟨B, hB, eb, xb, yb⟩ | ⟨xb, yb⟩
      · rcases nl_in (x := c) (n := 268435456) (m := 268435455) 268435456 (by decide) (by decide) with ⟨C, hC, ec, xc, yc⟩ | ⟨xc, yc⟩
        · refine Or.inl ⟨_, Or.inr (Or.inr (Or.inr ⟨rfl, A, B, C, ea, eb, ec, hA, hB, hC, rfl⟩)), fun P z => ?_, fun P z => ?_⟩
          · exact br_f h0 (br_f h3 (br_f n0 (br_f n1 (br_f n2 (br_t rfl (xa _ (br_f nn_10 (xb _ (br_f nn_10 (xc _ (br_f nn_10 z)))))))))))
          · exact br_f h0 (br_f h3 (br_f n0 (br_f n1 (br_f n2 (br_t rfl (ya _ (br_f nn_10 (yb _ (br_f nn_10 (yc _ (br_f nn_10 z)))))))))))
        · refine Or.inr ⟨fun P z => ?_, fun P z => ?_⟩
          · exact br_f h0 (br_f h3 (br_f n0 (br_f n1 (br_f n2 (br_t rfl (xa _ (br_f nn_10 (xb _ (br_f nn_10 (xc _ (br_t rfl z)))))))))))
          · exact br_f h0 (br_f h3 (br_f n0 (br_f n1 (br_f n2 (br_t rfl (ya _ (br_f nn_10 (yb _ (br_f nn_10 (yc _ (br_t rfl z)))))))))))
      · refine Or.inr ⟨fun P z => ?_, fun P z => ?_⟩
        · exact br_f h0 (br_f h3 (br_f n0 (br_f n1 (br_f n2 (br_t rfl (xa _ (br_f nn_10 (xb _ (br_t rfl z)))))))))
        · exact br_f h0 (br_f h3 (br_f n0 (br_f n1 (br_f n2 (br_t rfl (ya _ (br_f nn_10 (yb _ (br_t rfl z)))))))))
    · refine Or.inr ⟨fun P z => ?_, fun P z => ?_⟩
      · exact br_f h0 (br_f h3 (br_f n0 (br_f n1 (br_f n2 (br_t rfl (xa _ (br_t rfl z)))))))
      · exact br_f h0 (br_f h3 (br_f n0 (br_f n1 (br_f n2 (br_t rfl (ya _ (br_t rfl z)))))))
/-- what keeping has made of the tables -/
def xe_K (s : Nat) (Q : Nat → Nat → Bool) (tb le ls tb' le' ls' : Nat → Int32) : Prop := xd_T tb' s Q ∧ (∀ j, j < 1536 → (j < 384 * s ∨ 384 * s + 384 ≤ j) → tb' j = tb j) ∧ xc_L le' ls' s Q 3 ∧ xc_U le ls le' ls' s
theorem xe_160 {post : Int32 → SX → Prop} {s : Nat} {Q : Nat → Nat → Bool} {tb0 : Nat → Int32} (hs : s < 4) (hM : qs_M Q) (hT : xd_T tb 4 Q) (hE : ∀ j, j < 1536 → tb j = tb0 j)
    (h : ∀ fj' tb' ju' le' ls', xe_K s Q tb0 le ls tb' le' ls' → post 1 (fj', fb, fl, tb', (upd df s 1), sm, ju', le', ls', so, ba, an, fa, co, pi, fr, de, ke, up, pr, op, vo, ov, qu, qb, qi, qv, vt, he, ch, lr)) : wX_define_160 post (nI s) 1 fj fb fl tb df sm ju le ls so ba an fa co pi fr de ke up pr op vo ov qu qb qi qv vt he ch lr :=
  br_f nn_10 (xc_keep hs hM hT (fun fj' tb' ju' le' ls' k1 k2 k3 k4 => h fj' tb' ju' le' ls' ⟨k1, fun j hj hj' => (k2 j hj').trans (hE j hj), k3, k4⟩))
theorem xe_36 {post : Int32 → SX → Prop} {s : Nat} {so2 a b c d : Int32} {Q : Nat → Nat → Bool} (hs : s < 4) (hQ : qy_S so2 a b c d Q)
    (h1 : qs_S Q → ∀ fj' tb' sm' ju' le' ls', xe_K s Q tb le ls tb' le' ls' → post 1 (fj', fb, fl, tb', (upd df s 1), sm', ju', le', ls', so, ba, an, fa, co, pi, fr, de, ke, up, pr, op, vo, ov, qu, qb, qi, qv, vt, he, ch, lr))
    (h0 : ¬ qs_S Q → ∀ fj' tb' sm' ju', (∀ j, j < 1536 → tb' j = tb j) → post 0 (fj', fb, fl, tb', df, sm', ju', le, ls, so, ba, an, fa, co, pi, fr, de, ke, up, pr, op, vo, ov, qu, qb, qi, qv, vt, he, ch, lr)) : wX_define_36 post (nI s) so2 a b c d 1 fj fb fl tb df sm ju le ls so ba an fa co pi fr de ke up pr op vo ov qu qb qi qv vt he ch lr := by
  have hM := qy_M hQ
  refine br_f nn_10 ?_
  rcases hQ with ⟨hso, A, B, C, D, ea, eb, ec, ed, hA1, hA, hB1, hB, hC1, hC, hD, rfl⟩ | ⟨hso, A, B, D, ea, eb, hA, hB, hAB, ed, rfl⟩ | ⟨hso, A, B, C, D, ea, eb, ec, ed, hA, hB1, hB, hC1, hC, hD, rfl⟩ | ⟨hso, A, B, C, ea, eb, ec, hA, hB, hC, rfl⟩
  · subst hso; subst ea; subst eb; subst ec; subst ed
    refine br_f (by decide) (br_f (by decide) (br_t rfl ?_))
    exact xd_count hA hB hC hD (fun tb' sm' I hS => xe_160 hs hM (xd_IT I) I.1 (fun fj' tb' ju' le' ls' K => h1 hS fj' tb' sm' ju' le' ls' K)) (fun hS => br_t rfl (h0 hS fj tb sm ju (fun _ _ => rfl)))
  · subst hso; subst ea; subst eb
    refine br_f (by decide) (br_f (by decide) (br_f (by decide) (br_t rfl ?_)))
    have key : ∀ z : Int32, z = nn_b (D = true) → wX_define_102 post (nI s) z (nI B) (nI A) fj fb fl tb df sm ju le ls so ba an fa co pi fr de ke up pr op vo ov qu qb qi qv vt he ch lr := fun z hz =>
      xd_grid hz hA hB hAB (fun tb' I hS => xe_160 hs hM (xd_IT I) I.1 (fun fj' tb' ju' le' ls' K => h1 hS fj' tb' sm ju' le' ls' K)) (fun hS => br_t rfl (h0 hS fj tb sm ju (fun _ _ => rfl)))
    refine br_c (fun z => key 0 ?_) (fun z => key 1 ?_)
    · rw [nn_bf (by rw [ed.mp z]; decide)]
    · rw [nn_bt (by cases D with | true => rfl | false => exact absurd (ed.mpr rfl) z)]
  · subst hso; subst ea; subst eb; subst ec; subst ed
    refine br_f (by decide) (br_f (by decide) (br_f (by decide) (br_f (by decide) (br_t rfl ?_))))
    refine xd_weigh hA (fun sm' hsm => xd_th (sg := qf_wt A) (fun t ht => ⟨hsm t ht, by have := yq_wtl A t 7; unfold qf_wt; omega⟩) (by omega) (by omega) (by omega) (fun tb' I => ?_))
    exact xc_isSound (xd_IT I) (fun q fj' ju' => xe_160 hs hM (xd_IT I) I.1 (fun fj2 tb2 ju2 le2 ls2 K => h1 ((qs_eq hM).mp q) fj2 tb2 sm' ju2 le2 ls2 K)) (fun q fj' ju' => br_t rfl (h0 (fun w => q ((qs_eq hM).mpr w)) fj' tb' sm' ju' I.1))
  · subst hso; subst ea; subst eb; subst ec
    refine br_f (by decide) (br_t (by decide) ?_)
    refine xd_lists (k := 0) (by omega) hA (fun tb1 I1 => xd_lists (k := 1) (by omega) hB (fun tb2 I2 => xd_lists (k := 2) (by omega) hC (fun tb3 I3 => ?_)))
    have hE : ∀ j, j < 1536 → tb3 j = tb j := fun j hj => by rw [I3.1 j (by omega), I2.1 j (by omega), I1.1 j (by omega)]
    have hT : xd_T tb3 4 (qf_l A B C) := fun k t hk ht => by
      rcases (show k = 0 ∨ k = 1 ∨ k = 2 by omega) with z | z | z
      · subst z; rw [I3.1 _ (by omega), I2.1 _ (by omega)]; exact I1.2 t ht
      · subst z; rw [I3.1 _ (by omega)]; exact I2.2 t ht
      · subst z; exact I3.2 t ht
    exact xc_isSound hT (fun q fj' ju' => xe_160 hs hM hT hE (fun fj2 tb2 ju2 le2 ls2 K => h1 ((qs_eq hM).mp q) fj2 tb2 sm ju2 le2 ls2 K)) (fun q fj' ju' => br_t rfl (h0 (fun w => q ((qs_eq hM).mpr w)) fj' tb3 sm ju' hE))
end def1
section def2
variable {gb : Int32} {st nu yo yb ya yp yk yq yd yf dw yr ys yl rb ri rv yv yh : Nat → Int32}
theorem ye_64 {post : Int32 → Prop} {J : Int32 → Prop} {s r : Nat} {Q : Nat → Nat → Bool} (hs : s < 4) (hr : r < 128)
    (hQ : qy_S (st s) (nu (4 * s)) (nu (4 * s + 1)) (nu (4 * s + 2)) (nu (4 * s + 3)) Q)
    (h1 : (∀ f, f < 128 → Q 2 f = true → Q 2 (127 - (r &&& f)) = false) → J (nI (r + 1)))
    (h0 : ∀ f, f < 128 → Q 2 f = true → Q 2 (127 - (r &&& f)) = true → post 0) :
    ∀ e f, f + e = 128 → (∀ f', f' < f → Q 2 f' = true → Q 2 (127 - (r &&& f')) = false) → wY_isSound_64 post J (nI s) (nI r) gb st nu yo yb ya yp yk yq yd yf dw yr ys yl rb ri rv yv yh (e + 1) (nI f) := by
  intro e
  induction e with
  | zero =>
    intro f hf I
    exact pk_lt 127 f (fun z => nm_r (nI_1 r) (h1 (fun f' h' => I f' (by omega)))) (fun z => by omega)
  | succ e ih =>
    intro f hf I
    have ih' : (Q 2 f = true → Q 2 (127 - (r &&& f)) = false) → wY_isSound_64 post J (nI s) (nI r) gb st nu yo yb ya yp yk yq yd yf dw yr ys yl rb ri rv yv yh (e + 1) (nI (f + 1)) := fun q => ih (f + 1) (by omega) (fun t' h' => by
      rcases Nat.lt_or_ge t' f with z | z
      · exact I t' z
      · rw [show t' = f by omega]; exact q)
    refine pk_lt 127 f (fun z => by omega) (fun z => ?_)
    refine yq_main (k := 2) hs (by omega) (by omega) hQ (nn_br (fun z1 => nm_r (nI_1 f) (ih' (fun q => absurd q z1))) (fun z1 => ?_))
    rw [nx_and, nn_not _ (qq_lt hr)]
    exact yq_main (k := 2) hs (by omega) (qs_l127 _) hQ (nn_br (fun z2 => nm_r (nI_1 f) (ih' (fun _ => qs_tf.mp z2))) (fun z2 => h0 f (by omega) z1 z2))
theorem ye_26 {post : Int32 → Prop} {s : Nat} {Q : Nat → Nat → Bool} (hs : s < 4)
    (hQ : qy_S (st s) (nu (4 * s)) (nu (4 * s + 1)) (nu (4 * s + 2)) (nu (4 * s + 3)) Q) (hr : Q 0 127 = true) (hw : Q 1 127 = true)
    (h1 : qs_S Q → post 1) (h0 : ¬ qs_S Q → post 0) :
    ∀ e r, r + e = 128 → (∀ r', r' < r → Q 0 r' = true → Q 1 (127 - r') = false ∧ ∀ f, f < 128 → Q 2 f = true → Q 2 (127 - (r' &&& f)) = false) → wY_isSound_26 post (nI s) gb st nu yo yb ya yp yk yq yd yf dw yr ys yl rb ri rv yv yh (e + 1) (nI r) := by
  intro e
  induction e with
  | zero =>
    intro r hr' I
    exact pk_lt 127 r (fun z => h1 ⟨hr, hw, fun r' h' => I r' (by omega)⟩) (fun z => by omega)
  | succ e ih =>
    intro r hr' I
    have ih' : (Q 0 r = true → Q 1 (127 - r) = false ∧ ∀ f, f < 128 → Q 2 f = true → Q 2 (127 - (r &&& f)) = false) → wY_isSound_26 post (nI s) gb st nu yo yb ya yp yk yq yd yf dw yr ys yl rb ri rv yv yh (e + 1) (nI (r + 1)) := fun q => ih (r + 1) (by omega) (fun t' h' => by
      rcases Nat.lt_or_ge t' r with z | z
      · exact I t' z
      · rw [show t' = r by omega]; exact q)
    refine pk_lt 127 r (fun z => by omega) (fun z => ?_)
    refine yq_main (k := 0) hs (by omega) (by omega) hQ (nn_br (fun z1 => nm_r (nI_1 r) (ih' (fun q => absurd q z1))) (fun z1 => ?_))
    rw [nn_not r (by omega)]
    refine yq_main (k := 1) hs (by omega) (qs_l127 _) hQ (nn_br (fun z2 => ⟨129, ?_⟩) (fun z2 => h0 (fun q => by rw [(q.2.2 r (by omega) z1).1] at z2; exact absurd z2 (by decide))))
    exact ye_64 hs (by omega) hQ (fun q => ih' (fun _ => ⟨qs_tf.mp z2, q⟩)) (fun f hf a1 a2 => h0 (fun q => by rw [(q.2.2 r (by omega) z1).2 f hf a1] at a2; exact absurd a2 (by decide))) 128 0 (by omega) (fun f' h' => absurd h' (by omega))
theorem ye_isSound {post : Int32 → Prop} {s : Nat} {Q : Nat → Nat → Bool} (hs : s < 4)
    (hQ : qy_S (st s) (nu (4 * s)) (nu (4 * s + 1)) (nu (4 * s + 2)) (nu (4 * s + 3)) Q)
    (h1 : qs_S Q → post 1) (h0 : ¬ qs_S Q → post 0) : wpY_isSound post (gb, st, nu, yo, yb, ya, yp, yk, yq, yd, yf, dw, yr, ys, yl, rb, ri, rv, yv, yh) (nI s) := by
  unfold wpY_isSound
  dsimp only
  refine yq_main (k := 0) (t := 127) hs (by omega) (by omega) hQ (nn_br (fun z => h0 (fun q => z q.1)) (fun z => ?_))
  refine yq_main (k := 1) (t := 127) hs (by omega) (by omega) hQ (nn_br (fun z1 => h0 (fun q => z1 q.2.1)) (fun z1 => ?_))
  exact ⟨129, ye_26 hs hQ z z1 h1 h0 128 0 (by omega) (fun t' h' => absurd h' (by omega))⟩
def ye_n4 (f : Nat → Int32) (s : Nat) (a b c d : Int32) : Nat → Int32 := upd (upd (upd (upd f (4 * s) a) (4 * s + 1) b) (4 * s + 2) c) (4 * s + 3) d
theorem ye_n40 {f : Nat → Int32} {s : Nat} {a b c d : Int32} : ye_n4 f s a b c d (4 * s) = a ∧ ye_n4 f s a b c d (4 * s + 1) = b ∧ ye_n4 f s a b c d (4 * s + 2) = c ∧ ye_n4 f s a b c d (4 * s + 3) = d := by
  unfold ye_n4
  refine ⟨?_, ?_, ?_, ?_⟩
  · rw [pk_un (by omega), pk_un (by omega), pk_un (by omega), pk_us]
  · rw [pk_un (by omega), pk_un (by omega), pk_us]
  · rw [pk_un (by omega), pk_us]
  · rw [pk_us]
theorem ye_n4u {f : Nat → Int32} {s j : Nat} {a b c d : Int32} (h : j < 4 * s ∨ 4 * s + 4 ≤ j) : ye_n4 f s a b c d j = f j := by
  unfold ye_n4
  rw [pk_un (by omega), pk_un (by omega), pk_un (by omega), pk_un (by omega)]
theorem ye_n4b {f : Nat → Int32} {s : Nat} {a b c d : Int32} : ye_n4 (ye_n4 f s a b c d) s (f (4 * s)) (f (4 * s + 1)) (f (4 * s + 2)) (f (4 * s + 3)) = f := by
  funext j
  by_cases h : j < 4 * s ∨ 4 * s + 4 ≤ j
  · rw [ye_n4u h, ye_n4u h]
  · rcases (show j = 4 * s ∨ j = 4 * s + 1 ∨ j = 4 * s + 2 ∨ j = 4 * s + 3 by omega) with e | e | e | e <;> rw [e]
    · exact ye_n40.1
    · exact ye_n40.2.1
    · exact ye_n40.2.2.1
    · exact ye_n40.2.2.2
theorem ye_ub {f : Nat → Int32} {k : Nat} {x : Int32} : upd (upd f k x) k (f k) = f := by
  funext j
  by_cases h : j = k
  · rw [h, pk_us]
  · rw [pk_un h, pk_un h]
theorem ye_set {post : SY → Prop} {s : Nat} {so2 a b c d : Int32} (hs : s < 4) (h : post (gb, (upd st s so2), (ye_n4 nu s a b c d), yo, yb, ya, yp, yk, yq, yd, yf, dw, yr, ys, yl, rb, ri, rv, yv, yh)) : wpY_set post (gb, st, nu, yo, yb, ya, yp, yk, yq, yd, yf, dw, yr, ys, yl, rb, ri, rv, yv, yh) (nI s) so2 a b c d := by
  unfold wpY_set
  dsimp only
  have e0 : (4 : Int32) * nI s = nI (4 * s) := nn_m4 s
  have e1 : (4 : Int32) * nI s + 1 = nI (4 * s + 1) := by rw [e0]; exact nI_add _ 1
  have e2 : (4 : Int32) * nI s + 2 = nI (4 * s + 2) := by rw [e0]; exact nI_add _ 2
  have e3 : (4 : Int32) * nI s + 3 = nI (4 * s + 3) := by rw [e0]; exact nI_add _ 3
  rw [e1, e2, e3, e0, nI_clamp (n := 4 * s) (by omega), nI_clamp (n := 4 * s + 1) (by omega), nI_clamp (n := 4 * s + 2) (by omega), nI_clamp (n := 4 * s + 3) (by omega), nI_clamp (n := s) (by omega)]
  exact ⟨vp_in_nI hs (by omega), nm_e ⟨vp_in_nI (by omega) (by omega), nm_e ⟨vp_in_nI (by omega) (by omega), nm_e ⟨vp_in_nI (by omega) (by omega), nm_e ⟨vp_in_nI (by omega) (by omega), nm_e h⟩⟩⟩⟩⟩
theorem ye_28 {post : Int32 → SY → Prop} {s nb : Nat} {so2 a b c d : Int32} {Q : Nat → Nat → Bool} (hs : s < 4) (hnb : nb ≤ 12) (hQ : qy_S so2 a b c d Q)
    (hu : ∀ b, 1 ≤ b → b ≤ nb → yo b = nI s → post 0 ((nI nb), st, nu, yo, yb, ya, yp, yk, yq, yd, yf, dw, yr, ys, yl, rb, ri, rv, yv, yh))
    (h1 : (∀ b, 1 ≤ b → b ≤ nb → ¬ yo b = nI s) → qs_S Q → post 1 ((nI nb), (upd st s so2), (ye_n4 nu s a b c d), yo, yb, ya, yp, yk, yq, yd, yf, dw, yr, ys, yl, rb, ri, rv, yv, yh))
    (h0 : (∀ b, 1 ≤ b → b ≤ nb → ¬ yo b = nI s) → ¬ qs_S Q → post 0 ((nI nb), st, nu, yo, yb, ya, yp, yk, yq, yd, yf, dw, yr, ys, yl, rb, ri, rv, yv, yh)) :
    ∀ e b', b' + e = nb + 1 → 1 ≤ b' → (∀ b2, 1 ≤ b2 → b2 < b' → ¬ yo b2 = nI s) → wY_define_28 post (nI s) so2 a b c d (nI nb) st nu yo yb ya yp yk yq yd yf dw yr ys yl rb ri rv yv yh (e + 1) (nI b') := by
  intro e
  induction e with
  | zero =>
    intro b' hb h1b I
    refine pk_lt nb b' (fun z => ?_) (fun z => by omega)
    have I' : ∀ b, 1 ≤ b → b ≤ nb → ¬ yo b = nI s := fun b2 a1 a2 => I b2 a1 (by omega)
    have e0 : (4 : Int32) * nI s = nI (4 * s) := nn_m4 s
    have e1 : (4 : Int32) * nI s + 1 = nI (4 * s + 1) := by rw [e0]; exact nI_add _ 1
    have e2 : (4 : Int32) * nI s + 2 = nI (4 * s + 2) := by rw [e0]; exact nI_add _ 2
    have e3 : (4 : Int32) * nI s + 3 = nI (4 * s + 3) := by rw [e0]; exact nI_add _ 3
    rw [e1, e2, e3, e0, nI_clamp (n := 4 * s) (by omega), nI_clamp (n := 4 * s + 1) (by omega), nI_clamp (n := 4 * s + 2) (by omega), nI_clamp (n := 4 * s + 3) (by omega), nI_clamp (n := s) (by omega)]
    refine ⟨vp_in_nI hs (by omega), nm_e ⟨vp_in_nI (by omega) (by omega), nm_e ⟨vp_in_nI (by omega) (by omega), nm_e ⟨vp_in_nI (by omega) (by omega), nm_e ⟨vp_in_nI (by omega) (by omega), nm_e (ye_set hs ?_)⟩⟩⟩⟩⟩
    refine ye_isSound (Q := Q) hs (by rw [pk_us, ye_n40.1, ye_n40.2.1, ye_n40.2.2.1, ye_n40.2.2.2]; exact hQ) (fun q => br_f nn_10 (h1 I' q)) (fun q => br_t rfl (ye_set hs ?_))
    rw [ye_ub, ye_n4b]
    exact h0 I' q
  | succ e ih =>
    intro b' hb h1b I
    refine pk_lt nb b' (fun z => by omega) (fun z => ⟨vp_in_nI (by omega) (by omega), ?_⟩)
    rw [nI_clamp (by omega)]
    refine br_c (fun q => hu b' h1b z q) (fun q => nm_r (nI_1 b') (ih (b' + 1) (by omega) (by omega) (fun b2 a1 a2 => ?_)))
    rcases Nat.lt_or_ge b2 b' with w | w
    · exact I b2 a1 w
    · rw [show b2 = b' by omega]; exact q
end def2
end
section
/-! the relation, by groups -/
def rl_cm (pk : Nat → Nat) (b i v : Nat) : Prop := pk (3 * b + i) = 1 ∨ pk (3 * b + i) = v + 1
def rl_vk (nb : Nat) (pk : Nat → Nat) (i x : Nat) : Prop := x = 0 ∨ ∃ c v, x = 8 * c + v ∧ 1 ≤ c ∧ c ≤ nb ∧ 1 ≤ v ∧ v ≤ 7 ∧ rl_cm pk c i v
def rl_rk (nb : Nat) (pk : Nat → Nat) (e : Nat × Nat × Nat) : Prop := 1 ≤ e.1 ∧ e.1 ≤ nb ∧ ((e.2.1 = 3 ∧ e.2.2 = 0) ∨ (e.2.1 < 3 ∧ 1 ≤ e.2.2 ∧ e.2.2 ≤ 7 ∧ rl_cm pk e.1 e.2.1 e.2.2))
def rl_en (QQ : Nat → Nat → Nat → Bool) (so pk : Nat → Nat) (b i t : Nat) : Prop := QQ (so b) (if pk (3 * b + i) = 1 then 2 else 1) t = true
def rl_bits (x : Int32) (P : Nat → Prop) : Prop := ∃ C, C < 256 ∧ x = nI C ∧ C % 2 = 0 ∧ ∀ v, 1 ≤ v → v < 8 → (C / 2 ^ v % 2 = 1 ↔ P v)
def rl_ti (i : Nat) : Int32 := if i = 3 then -1 else nI i
def rl_g : List (Nat × Nat × Nat) → Nat → Nat × Nat × Nat
  | [], _ => (0, 0, 0)
  | a :: _, 0 => a
  | _ :: l, n + 1 => rl_g l n
def rl_op : Nat → List (Nat × Nat × Nat) → Nat
  | p, [] => p
  | _, e :: l => rl_op e.1 l
def rl_ov (i : Nat) : Nat → List (Nat × Nat × Nat) → Nat
  | x, [] => x
  | x, e :: l => rl_ov i (if e.2.1 = i then 8 * e.1 + e.2.2 else x) l
def rl_S (QQ : Nat → Nat → Nat → Bool) (df tb le ls st nu : Nat → Int32) : Prop := ∀ s, s < 4 → (df s = 0 ∧ st s < 0) ∨ (df s = 1 ∧ ¬ st s < 0 ∧ qy_S (st s) (nu (4 * s)) (nu (4 * s + 1)) (nu (4 * s + 2)) (nu (4 * s + 3)) (QQ s) ∧ xd_T tb s (QQ s) ∧ xc_L le ls s (QQ s) 3 ∧ qs_E (QQ s))
def rl_B (nb lc : Nat) (df : Nat → Int32) (so ba fa co : Nat → Nat) : Prop := nb ≤ 12 ∧ (∀ b, so b < 4) ∧ (∀ b, 1 ≤ b → b ≤ nb → df (so b) = 1) ∧ (∀ b, ba b ≤ 12) ∧ (∀ b, fa b ≤ 1) ∧ (∀ b, co b ≤ 1) ∧ lc ≤ nb ∧ (lc = 0 ∨ co lc = 1) ∧ (∀ b, lc < b → co b = 0)
def rl_P (nb : Nat) (pk fr : Nat → Nat) (pi pj : Nat → Int32) : Prop := (∀ j, j < 39 → pi j = nn_p3 (pk j) ∧ pj j = nn_p1 (pk j)) ∧ (∀ j, pk j ≤ 8) ∧ (∀ j, fr j ≤ 1) ∧ (∀ j, pk j = 1 → fr j = 1) ∧ (∀ b i, nb < b → i < 3 → pk (3 * b + i) = 0)
def rl_vt (nb : Nat) (pk : Nat → Nat) (b i v x : Nat) : Prop := x ≠ 0 → 1 ≤ b ∧ b ≤ nb ∧ 1 ≤ v ∧ rl_cm pk b i v
def rl_V (nb : Nat) (pk an ke pr vo vt he : Nat → Nat) : Prop := (∀ n i, n < 7 → i < 3 → rl_vk nb pk i (vo (3 * n + i))) ∧ (∀ b n i, n < 7 → i < 3 → rl_vk nb pk i (ke (21 * b + 3 * n + i))) ∧ (∀ j, vo j < 128) ∧ (∀ j, ke j < 128) ∧ (∀ j, an j < 128) ∧ (∀ j, vt j < 128) ∧ (∀ j, he j < 128) ∧ (∀ j, pr j ≤ 12) ∧ (∀ b i v, b ≤ 12 → i < 3 → v < 8 → rl_vt nb pk b i v (vt (24 * b + 8 * i + v))) ∧ (∀ l b i v, l < 2 → b ≤ 12 → i < 3 → v < 8 → rl_vt nb pk b i v (he (312 * l + 24 * b + 8 * i + v)))
def rl_Qn (nb : Nat) (pk : Nat → Nat) (n : Nat) (L : List (Nat × Nat × Nat)) (qb qi qv rb ri rv : Nat → Int32) : Prop := L.length ≤ 6 ∧ (∀ e, e ∈ L → rl_rk nb pk e) ∧ ∀ x, x < L.length → qb (6 * n + x) = nI (rl_g L x).1 ∧ rb (6 * n + x) = nI (rl_g L x).1 ∧ qi (6 * n + x) = rl_ti (rl_g L x).2.1 ∧ ri (6 * n + x) = nI (rl_g L x).2.1 ∧ qv (6 * n + x) = nI (rl_g L x).2.2 ∧ rv (6 * n + x) = nI (rl_g L x).2.2
def rl_Q1 (nb : Nat) (pk : Nat → Nat) (L : List (Nat × Nat × Nat)) (up pr vo : Nat → Nat) (dw op ov qb qi qv rb ri rv : Nat → Int32) (n : Nat) : Prop := up n ≤ 1 ∧ dw n = nI (1 - up n) ∧ (up n = 0 → L = []) ∧ rl_Qn nb pk n L qb qi qv rb ri rv ∧ op n = nI (rl_op (pr n) L) ∧ ∀ i, i < 3 → ov (3 * n + i) = nI (rl_ov i (vo (3 * n + i)) L)
def rl_Q (nb : Nat) (pk : Nat → Nat) (Qs : Nat → List (Nat × Nat × Nat)) (up : Nat → Nat) (dw : Nat → Int32) (pr vo : Nat → Nat) (op ov qb qi qv rb ri rv : Nat → Int32) : Prop := ∀ n, n < 7 → rl_Q1 nb pk (Qs n) up pr vo dw op ov qb qi qv rb ri rv n
def rl_C (QQ : Nat → Nat → Nat → Bool) (so pk vt he : Nat → Nat) (de ch lr : Nat → Int32) : Prop := (∀ b i, b ≤ 12 → i < 3 → de (3 * b + i) = nn_b (∃ v, v < 8 ∧ vt (24 * b + 8 * i + v) ≠ 0 ∧ rl_en QQ so pk b i (vt (24 * b + 8 * i + v)))) ∧ (∀ i, i < 3 → rl_bits (ch i) (fun v => ∃ b, b ≤ 12 ∧ vt (24 * b + 8 * i + v) ≠ 0 ∧ rl_en QQ so pk b i (vt (24 * b + 8 * i + v)))) ∧ (∀ l i, l < 2 → i < 3 → rl_bits (lr (3 * l + i)) (fun v => ∃ b, b ≤ 12 ∧ he (312 * l + 24 * b + 8 * i + v) ≠ 0 ∧ rl_en QQ so pk b i (he (312 * l + 24 * b + 8 * i + v))))
def rl_R (nb : Nat) (u : SX) (v : SY) : Prop := ∃ fj : Int32, ∃ lc : Nat, ∃ tb : Nat → Int32, ∃ df : Nat → Int32, ∃ sm : Nat → Int32, ∃ ju : Nat → Int32, ∃ le : Nat → Int32, ∃ ls : Nat → Int32, ∃ so : Nat → Nat, ∃ ba : Nat → Nat, ∃ an : Nat → Nat, ∃ fa : Nat → Nat, ∃ co : Nat → Nat, ∃ pi : Nat → Int32, ∃ fr : Nat → Nat, ∃ de : Nat → Int32, ∃ ke : Nat → Nat, ∃ up : Nat → Nat, ∃ pr : Nat → Nat, ∃ op : Nat → Int32, ∃ vo : Nat → Nat, ∃ ov : Nat → Int32, ∃ Qs : Nat → List (Nat × Nat × Nat), ∃ qb : Nat → Int32, ∃ qi : Nat → Int32, ∃ qv : Nat → Int32, ∃ vt : Nat → Nat, ∃ he : Nat → Nat, ∃ ch : Nat → Int32, ∃ lr : Nat → Int32, ∃ st : Nat → Int32, ∃ nu : Nat → Int32, ∃ pj : Nat → Int32, ∃ dw : Nat → Int32, ∃ rb : Nat → Int32, ∃ ri : Nat → Int32, ∃ rv : Nat → Int32, ∃ QQ : Nat → Nat → Nat → Bool, ∃ pk : Nat → Nat, u = (fj, (nI nb), (nI lc), tb, df, sm, ju, le, ls, (nn_I so), (nn_I ba), (nn_I an), (nn_I fa), (nn_I co), pi, (nn_I fr), de, (nn_I ke), (nn_I up), (nn_I pr), op, (nn_I vo), ov, (nn_L Qs), qb, qi, qv, (nn_I vt), (nn_I he), ch, lr) ∧ v = ((nI nb), st, nu, (nn_I so), (nn_I ba), (nn_I an), pj, (nn_I ke), (nn_I fa), (nn_I co), (nn_I fr), dw, (nn_I pr), (nn_I vo), (nn_L Qs), rb, ri, rv, (nn_I vt), (nn_I he)) ∧ rl_S QQ df tb le ls st nu ∧ rl_B nb lc df so ba fa co ∧ rl_P nb pk fr pi pj ∧ rl_V nb pk an ke pr vo vt he ∧ rl_Q nb pk Qs up dw pr vo op ov qb qi qv rb ri rv ∧ rl_C QQ so pk vt he de ch lr
theorem rl_el {nb : Nat} {P : SX → SY → Prop} {u : SX} {v : SY} (I : rl_R nb u v) (h : ∀ (fj : Int32) (lc : Nat) (tb : Nat → Int32) (df : Nat → Int32) (sm : Nat → Int32) (ju : Nat → Int32) (le : Nat → Int32) (ls : Nat → Int32) (so : Nat → Nat) (ba : Nat → Nat) (an : Nat → Nat) (fa : Nat → Nat) (co : Nat → Nat) (pi : Nat → Int32) (fr : Nat → Nat) (de : Nat → Int32) (ke : Nat → Nat) (up : Nat → Nat) (pr : Nat → Nat) (op : Nat → Int32) (vo : Nat → Nat) (ov : Nat → Int32) (Qs : Nat → List (Nat × Nat × Nat)) (qb : Nat → Int32) (qi : Nat → Int32) (qv : Nat → Int32) (vt : Nat → Nat) (he : Nat → Nat) (ch : Nat → Int32) (lr : Nat → Int32) (st : Nat → Int32) (nu : Nat → Int32) (pj : Nat → Int32) (dw : Nat → Int32) (rb : Nat → Int32) (ri : Nat → Int32) (rv : Nat → Int32) (QQ : Nat → Nat → Nat → Bool) (pk : Nat → Nat), rl_S QQ df tb le ls st nu → rl_B nb lc df so ba fa co → rl_P nb pk fr pi pj → rl_V nb pk an ke pr vo vt he → rl_Q nb pk Qs up dw pr vo op ov qb qi qv rb ri rv → rl_C QQ so pk vt he de ch lr → P (fj, (nI nb), (nI lc), tb, df, sm, ju, le, ls, (nn_I so), (nn_I ba), (nn_I an), (nn_I fa), (nn_I co), pi, (nn_I fr), de, (nn_I ke), (nn_I up), (nn_I pr), op, (nn_I vo), ov, (nn_L Qs), qb, qi, qv, (nn_I vt), (nn_I he), ch, lr) ((nI nb), st, nu, (nn_I so), (nn_I ba), (nn_I an), pj, (nn_I ke), (nn_I fa), (nn_I co), (nn_I fr), dw, (nn_I pr), (nn_I vo), (nn_L Qs), rb, ri, rv, (nn_I vt), (nn_I he))) : P u v :=
  Exists.elim I fun fj r0 => Exists.elim r0 fun lc r1 => Exists.elim r1 fun tb r2 => Exists.elim r2 fun df r3 => Exists.elim r3 fun sm r4 => Exists.elim r4 fun ju r5 => Exists.elim r5 fun le r6 => Exists.elim r6 fun ls r7 => Exists.elim r7 fun so r8 => Exists.elim r8 fun ba r9 => Exists.elim r9 fun an r10 => Exists.elim r10 fun fa r11 => Exists.elim r11 fun co r12 => Exists.elim r12 fun pi r13 => Exists.elim r13 fun fr r14 => Exists.elim r14 fun de r15 => Exists.elim r15 fun ke r16 => Exists.elim r16 fun up r17 => Exists.elim r17 fun pr r18 => Exists.elim r18 fun op r19 => Exists.elim r19 fun vo r20 => Exists.elim r20 fun ov r21 => Exists.elim r21 fun Qs r22 => Exists.elim r22 fun qb r23 => Exists.elim r23 fun qi r24 => Exists.elim r24 fun qv r25 => Exists.elim r25 fun vt r26 => Exists.elim r26 fun he r27 => Exists.elim r27 fun ch r28 => Exists.elim r28 fun lr r29 => Exists.elim r29 fun st r30 => Exists.elim r30 fun nu r31 => Exists.elim r31 fun pj r32 => Exists.elim r32 fun dw r33 => Exists.elim r33 fun rb r34 => Exists.elim r34 fun ri r35 => Exists.elim r35 fun rv r36 => Exists.elim r36 fun QQ r37 => Exists.elim r37 fun pk r38 => by
  obtain ⟨e1, e2, g1, g2, g3, g4, g5, g6⟩ := r38
  rw [e1, e2]
  exact h fj lc tb df sm ju le ls so ba an fa co pi fr de ke up pr op vo ov Qs qb qi qv vt he ch lr st nu pj dw rb ri rv QQ pk g1 g2 g3 g4 g5 g6
theorem rl_mk {fj : Int32} {lc : Nat} {tb : Nat → Int32} {df : Nat → Int32} {sm : Nat → Int32} {ju : Nat → Int32} {le : Nat → Int32} {ls : Nat → Int32} {so : Nat → Nat} {ba : Nat → Nat} {an : Nat → Nat} {fa : Nat → Nat} {co : Nat → Nat} {pi : Nat → Int32} {fr : Nat → Nat} {de : Nat → Int32} {ke : Nat → Nat} {up : Nat → Nat} {pr : Nat → Nat} {op : Nat → Int32} {vo : Nat → Nat} {ov : Nat → Int32} {Qs : Nat → List (Nat × Nat × Nat)} {qb : Nat → Int32} {qi : Nat → Int32} {qv : Nat → Int32} {vt : Nat → Nat} {he : Nat → Nat} {ch : Nat → Int32} {lr : Nat → Int32} {st : Nat → Int32} {nu : Nat → Int32} {pj : Nat → Int32} {dw : Nat → Int32} {rb : Nat → Int32} {ri : Nat → Int32} {rv : Nat → Int32} {QQ : Nat → Nat → Nat → Bool} {pk : Nat → Nat} {nb : Nat} (hS : rl_S QQ df tb le ls st nu) (hB : rl_B nb lc df so ba fa co) (hP : rl_P nb pk fr pi pj) (hV : rl_V nb pk an ke pr vo vt he) (hQ : rl_Q nb pk Qs up dw pr vo op ov qb qi qv rb ri rv) (hC : rl_C QQ so pk vt he de ch lr) : rl_R nb (fj, (nI nb), (nI lc), tb, df, sm, ju, le, ls, (nn_I so), (nn_I ba), (nn_I an), (nn_I fa), (nn_I co), pi, (nn_I fr), de, (nn_I ke), (nn_I up), (nn_I pr), op, (nn_I vo), ov, (nn_L Qs), qb, qi, qv, (nn_I vt), (nn_I he), ch, lr) ((nI nb), st, nu, (nn_I so), (nn_I ba), (nn_I an), pj, (nn_I ke), (nn_I fa), (nn_I co), (nn_I fr), dw, (nn_I pr), (nn_I vo), (nn_L Qs), rb, ri, rv, (nn_I vt), (nn_I he)) :=
  ⟨fj, lc, tb, df, sm, ju, le, ls, so, ba, an, fa, co, pi, fr, de, ke, up, pr, op, vo, ov, Qs, qb, qi, qv, vt, he, ch, lr, st, nu, pj, dw, rb, ri, rv, QQ, pk, rfl, rfl, hS, hB, hP, hV, hQ, hC⟩

/-- one outcome for both -/
def rl_O (nb : Nat) (u : SX) (v : SY) (WX : (Int32 → SX → Prop) → Prop) (WY : (Int32 → SY → Prop) → Prop) : Prop := ∃ r u' v', rl_R nb u' v' ∧ (r = 0 → u' = u ∧ v' = v) ∧ (∀ P : Int32 → SX → Prop, P r u' → WX P) ∧ ∀ P : Int32 → SY → Prop, P r v' → WY P
def rl_A (WX WY : (Int32 → Prop) → Prop) : Prop := ∃ r, (∀ P : Int32 → Prop, P r → WX P) ∧ ∀ P : Int32 → Prop, P r → WY P
theorem rl_Ai {WX WY : (Int32 → Prop) → Prop} {R : Prop} (h : rl_A WX WY) (hR : R) : WX (fun r => WY (fun r' => r' = r ∧ R)) := by
  obtain ⟨r, hX, hY⟩ := h
  exact hX _ (hY _ ⟨rfl, hR⟩)
/-! list lemmas -/
theorem rl_glt {l m : List (Nat × Nat × Nat)} : ∀ {n : Nat}, n < l.length → rl_g (l ++ m) n = rl_g l n := by
  induction l with
  | nil => intro n h; exact absurd h (by simp)
  | cons a l ih =>
    intro n h
    cases n with
    | zero => rfl
    | succ n => exact ih (by simpa using h)
theorem rl_geq {l : List (Nat × Nat × Nat)} {a : Nat × Nat × Nat} : rl_g (l ++ [a]) l.length = a := by
  induction l with
  | nil => rfl
  | cons b l ih => exact ih
theorem rl_gm {l : List (Nat × Nat × Nat)} : ∀ {n : Nat}, n < l.length → rl_g l n ∈ l := by
  induction l with
  | nil => intro n h; exact absurd h (by simp)
  | cons a l ih =>
    intro n h
    cases n with
    | zero => exact List.mem_cons_self
    | succ n => exact List.mem_cons_of_mem _ (ih (by simpa using h))
theorem rl_opa {l : List (Nat × Nat × Nat)} {e : Nat × Nat × Nat} : ∀ {p : Nat}, rl_op p (l ++ [e]) = e.1 := by
  induction l with
  | nil => intro p; rfl
  | cons a l ih => intro p; exact ih
theorem rl_ova {i : Nat} {l : List (Nat × Nat × Nat)} {e : Nat × Nat × Nat} : ∀ {x : Nat}, rl_ov i x (l ++ [e]) = if e.2.1 = i then 8 * e.1 + e.2.2 else rl_ov i x l := by
  induction l with
  | nil => intro x; rfl
  | cons a l ih => intro x; exact ih
/-! what has been voted stays so when the ballots grow or a pick is made -/
theorem rl_oplt {nb : Nat} {pk : Nat → Nat} {l : List (Nat × Nat × Nat)} : ∀ {p : Nat}, (∀ e, e ∈ l → rl_rk nb pk e) → p ≤ 12 → nb ≤ 12 → rl_op p l ≤ 12 := by
  induction l with
  | nil => intro p _ h _; exact h
  | cons a l ih =>
    intro p h hp hn
    have := h a List.mem_cons_self
    exact ih (fun e he => h e (List.mem_cons_of_mem _ he)) (Nat.le_trans this.2.1 hn) hn
theorem rl_ovlt {nb : Nat} {pk : Nat → Nat} {i : Nat} (hi : i < 3) {l : List (Nat × Nat × Nat)} : ∀ {x : Nat}, (∀ e, e ∈ l → rl_rk nb pk e) → x < 128 → nb ≤ 12 → rl_ov i x l < 128 := by
  induction l with
  | nil => intro x _ h _; exact h
  | cons a l ih =>
    intro x h hx hn
    have ha := h a List.mem_cons_self
    refine ih (fun e he => h e (List.mem_cons_of_mem _ he)) ?_ hn
    have a1 := ha.2.1
    by_cases e : a.2.1 = i
    · rw [if_pos e]
      rcases ha.2.2 with q | q
      · omega
      · have := q.2.2.1; omega
    · rw [if_neg e]; exact hx
end
section
/-! helpers that both sides ask -/
def rm_rd (QQ : Nat → Nat → Nat → Bool) (so ba : Nat → Nat) (b t : Nat) : Prop := ∀ c, 1 ≤ c → ba b ≤ c → c < b → QQ (so c) 0 t = true
theorem rl_Sd {QQ : Nat → Nat → Nat → Bool} {df tb le ls st nu : Nat → Int32} (hS : rl_S QQ df tb le ls st nu) {s : Nat} (hs : s < 4) (hd : df s = 1) : ¬ st s < 0 ∧ qy_S (st s) (nu (4 * s)) (nu (4 * s + 1)) (nu (4 * s + 2)) (nu (4 * s + 3)) (QQ s) ∧ xd_T tb s (QQ s) ∧ xc_L le ls s (QQ s) 3 ∧ qs_E (QQ s) ∧ qs_M (QQ s) := by
  rcases hS s hs with h | h
  · rw [hd] at h; exact absurd h.1 nn_10
  · exact ⟨h.2.1, h.2.2.1, h.2.2.2.1, h.2.2.2.2.1, h.2.2.2.2.2, qy_M h.2.2.1⟩
section help
variable {fj : Int32} {nb lc : Nat} {tb df sm ju le ls pi de op ov qb qi qv ch lr : Nat → Int32} {so ba an fa co fr ke up pr vo vt he : Nat → Nat} {Qs : Nat → List (Nat × Nat × Nat)}
variable {st nu pj dw rb ri rv : Nat → Int32}
variable {QQ : Nat → Nat → Nat → Bool} {pk : Nat → Nat}
theorem rm_isB {x : Int32} (hnb : nb ≤ 12) : (∃ b, 1 ≤ b ∧ b ≤ nb ∧ x = nI b ∧ (∀ P : Int32 → Prop, P 1 → wpX_isBallot P (fj, (nI nb), (nI lc), tb, df, sm, ju, le, ls, (nn_I so), (nn_I ba), (nn_I an), (nn_I fa), (nn_I co), pi, (nn_I fr), de, (nn_I ke), (nn_I up), (nn_I pr), op, (nn_I vo), ov, (nn_L Qs), qb, qi, qv, (nn_I vt), (nn_I he), ch, lr) x) ∧ ∀ P : Int32 → Prop, P 1 → wpY_isBallot P ((nI nb), st, nu, (nn_I so), (nn_I ba), (nn_I an), pj, (nn_I ke), (nn_I fa), (nn_I co), (nn_I fr), dw, (nn_I pr), (nn_I vo), (nn_L Qs), rb, ri, rv, (nn_I vt), (nn_I he)) x) ∨ ((∀ P : Int32 → Prop, P 0 → wpX_isBallot P (fj, (nI nb), (nI lc), tb, df, sm, ju, le, ls, (nn_I so), (nn_I ba), (nn_I an), (nn_I fa), (nn_I co), pi, (nn_I fr), de, (nn_I ke), (nn_I up), (nn_I pr), op, (nn_I vo), ov, (nn_L Qs), qb, qi, qv, (nn_I vt), (nn_I he), ch, lr) x) ∧ ∀ P : Int32 → Prop, P 0 → wpY_isBallot P ((nI nb), st, nu, (nn_I so), (nn_I ba), (nn_I an), pj, (nn_I ke), (nn_I fa), (nn_I co), (nn_I fr), dw, (nn_I pr), (nn_I vo), (nn_L Qs), rb, ri, rv, (nn_I vt), (nn_I he)) x) := by
  have t0 : (0 : Int32).toInt = 0 := by decide
  have t1 : (1 : Int32).toInt = 1 := by decide
  by_cases h : x ≤ 0
  · have h1 : x < 1 := by rw [Int32.lt_iff_toInt_lt]; rw [Int32.le_iff_toInt_le] at h; omega
    exact Or.inr ⟨fun P z => br_t h z, fun P z => br_t h1 ⟨rfl, z⟩⟩
  · have h1 : ¬ x < 1 := by rw [Int32.lt_iff_toInt_lt]; rw [Int32.le_iff_toInt_le] at h; omega
    by_cases h2 : nI nb < x
    · exact Or.inr ⟨fun P z => br_f h (br_t h2 z), fun P z => br_f h1 (br_t h2 ⟨rfl, z⟩)⟩
    · have h0 : ¬ x < 0 := by rw [Int32.lt_iff_toInt_lt]; rw [Int32.le_iff_toInt_le] at h; omega
      obtain ⟨j, hj, e⟩ := nI_of h0
      refine Or.inl ⟨j, ?_, ?_, e, fun P z => br_f h (br_f h2 z), fun P z => br_f h1 (br_f h2 ⟨rfl, z⟩)⟩
      · rw [e, Int32.le_iff_toInt_le, nI_toInt hj] at h; omega
      · rw [e, nI_ltI (by omega) hj] at h2; omega
theorem rm_isS {x : Int32} (hS : rl_S QQ df tb le ls st nu) : (∃ s, s < 4 ∧ x = nI s ∧ df s = 1 ∧ (∀ P : Int32 → Prop, P 1 → wpX_isSystem P (fj, (nI nb), (nI lc), tb, df, sm, ju, le, ls, (nn_I so), (nn_I ba), (nn_I an), (nn_I fa), (nn_I co), pi, (nn_I fr), de, (nn_I ke), (nn_I up), (nn_I pr), op, (nn_I vo), ov, (nn_L Qs), qb, qi, qv, (nn_I vt), (nn_I he), ch, lr) x) ∧ ∀ P : Int32 → Prop, P 1 → wpY_isSystem P ((nI nb), st, nu, (nn_I so), (nn_I ba), (nn_I an), pj, (nn_I ke), (nn_I fa), (nn_I co), (nn_I fr), dw, (nn_I pr), (nn_I vo), (nn_L Qs), rb, ri, rv, (nn_I vt), (nn_I he)) x) ∨ ((∀ P : Int32 → Prop, P 0 → wpX_isSystem P (fj, (nI nb), (nI lc), tb, df, sm, ju, le, ls, (nn_I so), (nn_I ba), (nn_I an), (nn_I fa), (nn_I co), pi, (nn_I fr), de, (nn_I ke), (nn_I up), (nn_I pr), op, (nn_I vo), ov, (nn_L Qs), qb, qi, qv, (nn_I vt), (nn_I he), ch, lr) x) ∧ ∀ P : Int32 → Prop, P 0 → wpY_isSystem P ((nI nb), st, nu, (nn_I so), (nn_I ba), (nn_I an), pj, (nn_I ke), (nn_I fa), (nn_I co), (nn_I fr), dw, (nn_I pr), (nn_I vo), (nn_L Qs), rb, ri, rv, (nn_I vt), (nn_I he)) x) := by
  unfold wpX_isSystem wpY_isSystem
  dsimp only
  rcases nl_in (x := x) (n := 4) (m := 3) 4 (by decide) (by decide) with ⟨s, hs, e, xa, ya⟩ | ⟨xa, ya⟩
  · subst e
    have cl : (nI s).toNatClampNeg = s := nI_clamp (by omega)
    rcases hS s hs with h | h
    · refine Or.inr ⟨fun P z => xa _ (br_f nn_10 ⟨vp_in_nI hs (by omega), br_t (by rw [cl]; exact h.1) z⟩), fun P z => ya _ (br_f nn_10 ⟨vp_in_nI hs (by omega), br_t (by rw [cl]; exact h.2) z⟩)⟩
    · refine Or.inl ⟨s, hs, rfl, h.1, fun P z => xa _ (br_f nn_10 ⟨vp_in_nI hs (by omega), br_f (by rw [cl, h.1]; exact nn_10) z⟩), fun P z => ya _ (br_f nn_10 ⟨vp_in_nI hs (by omega), br_f (by rw [cl]; exact h.2.1) z⟩)⟩
  · exact Or.inr ⟨fun P z => xa _ (br_t rfl z), fun P z => ya _ (br_t rfl z)⟩
theorem rm_xq {P : Int32 → Prop} {s k t : Nat} (hS : rl_S QQ df tb le ls st nu) (hs : s < 4) (hd : df s = 1) (hk : k < 3) (ht : t < 128) (h : P (nn_b (QQ s k t = true))) : wpX_isQuorum P (fj, (nI nb), (nI lc), tb, df, sm, ju, le, ls, (nn_I so), (nn_I ba), (nn_I an), (nn_I fa), (nn_I co), pi, (nn_I fr), de, (nn_I ke), (nn_I up), (nn_I pr), op, (nn_I vo), ov, (nn_L Qs), qb, qi, qv, (nn_I vt), (nn_I he), ch, lr) (nI s) (nI k) (nI t) :=
  xq_R (by omega) hk ht ((rl_Sd hS hs hd).2.2.1 k t hk ht) h
theorem rm_yq {P : Int32 → Prop} {s k t : Nat} (hS : rl_S QQ df tb le ls st nu) (hs : s < 4) (hd : df s = 1) (hk : k < 3) (ht : t < 128) (h : P (nn_b (QQ s k t = true))) : wpY_isQuorum P ((nI nb), st, nu, (nn_I so), (nn_I ba), (nn_I an), pj, (nn_I ke), (nn_I fa), (nn_I co), (nn_I fr), dw, (nn_I pr), (nn_I vo), (nn_L Qs), rb, ri, rv, (nn_I vt), (nn_I he)) (nI s) (nI k) (nI t) :=
  yq_main hs hk ht (rl_Sd hS hs hd).2.1 h
theorem rm_rd20 {P : Int32 → Prop} {b : Nat} (hS : rl_S QQ df tb le ls st nu) (hB : rl_B nb lc df so ba fa co) (hb : b ≤ nb) (ha : an b < 128) (h : P (nn_b (rm_rd QQ so ba b (an b)))) :
    ∀ n c, b - c < n → c ≤ 13 → 1 ≤ c → ba b ≤ c → (∀ c', 1 ≤ c' → ba b ≤ c' → c' < c → c' < b → QQ (so c') 0 (an b) = true) → wX_isReady_20 P (nI b) fj (nI nb) (nI lc) tb df sm ju le ls (nn_I so) (nn_I ba) (nn_I an) (nn_I fa) (nn_I co) pi (nn_I fr) de (nn_I ke) (nn_I up) (nn_I pr) op (nn_I vo) ov (nn_L Qs) qb qi qv (nn_I vt) (nn_I he) ch lr n (nI c) := by
  intro n
  induction n with
  | zero => intro c hc; omega
  | succ n ih =>
    intro c hn hc h1 h2 I
    have hnb := hB.1
    refine pk_le b c (fun z => ?_) (fun z => ⟨vp_in_nI (by omega) (by omega), vp_in_nI (by omega) (by omega), ?_⟩)
    · rw [nn_bt (show rm_rd QQ so ba b (an b) from fun c' a1 a2 a3 => I c' a1 a2 (by omega) a3)] at h
      exact br_f (nI_nlt (by omega) (by omega)) h
    · rw [nI_clamp (by omega), nI_clamp (by omega)]
      refine rm_xq (k := 0) hS (hB.2.1 c) (hB.2.2.1 c h1 (by omega)) (by omega) ha (nn_br (fun z1 => ?_) (fun z1 => nm_r (nI_1 c) (ih (c + 1) (by omega) (by omega) (by omega) (by omega) (fun c' a1 a2 a3 a4 => ?_))))
      · rw [nn_bf (show ¬ rm_rd QQ so ba b (an b) from fun q => z1 (q c h1 h2 z))] at h
        exact br_t (nI_lt z (by omega)) h
      · rcases Nat.lt_or_ge c' c with w | w
        · exact I c' a1 a2 w a4
        · rw [show c' = c by omega]; exact z1
theorem rm_xready {P : Int32 → Prop} {b : Nat} (hS : rl_S QQ df tb le ls st nu) (hB : rl_B nb lc df so ba fa co) (hb : b ≤ nb) (ha : an b < 128) (h : P (nn_b (rm_rd QQ so ba b (an b)))) : wpX_isReady P (fj, (nI nb), (nI lc), tb, df, sm, ju, le, ls, (nn_I so), (nn_I ba), (nn_I an), (nn_I fa), (nn_I co), pi, (nn_I fr), de, (nn_I ke), (nn_I up), (nn_I pr), op, (nn_I vo), ov, (nn_L Qs), qb, qi, qv, (nn_I vt), (nn_I he), ch, lr) (nI b) := by
  have hnb := hB.1
  have hba := hB.2.2.2.1 b
  unfold wpX_isReady
  dsimp only
  rw [nI_clamp (by omega)]
  refine ⟨vp_in_nI (by omega) (by omega), pk_eq (ba b) 0 (fun z => ?_) (fun z => ?_)⟩
  · exact ⟨b + 1, rm_rd20 hS hB hb ha h (b + 1) 1 (by omega) (by omega) (by omega) (by omega) (fun c' a1 a2 a3 => by omega)⟩
  · exact ⟨vp_in_nI (by omega) (by omega), nm_e ⟨b + 1, rm_rd20 hS hB hb ha h (b + 1) (ba b) (by omega) (by omega) (by omega) (by omega) (fun c' a1 a2 a3 => by omega)⟩⟩
theorem rm_does33 {P : Int32 → Prop} {b t : Nat} (hS : rl_S QQ df tb le ls st nu) (hB : rl_B nb lc df so ba fa co) (hb : b ≤ nb) (ha : t < 128) (h : P (nn_b (rm_rd QQ so ba b t))) :
    ∀ n c, b - c < n → c ≤ 13 → 1 ≤ c → ba b ≤ c → (∀ c', 1 ≤ c' → ba b ≤ c' → c' < c → c' < b → QQ (so c') 0 t = true) → wX_does_33 P (nI b) (nI t) fj (nI nb) (nI lc) tb df sm ju le ls (nn_I so) (nn_I ba) (nn_I an) (nn_I fa) (nn_I co) pi (nn_I fr) de (nn_I ke) (nn_I up) (nn_I pr) op (nn_I vo) ov (nn_L Qs) qb qi qv (nn_I vt) (nn_I he) ch lr n (nI c) := by
  intro n
  induction n with
  | zero => intro c hc; omega
  | succ n ih =>
    intro c hn hc h1 h2 I
    have hnb := hB.1
    refine pk_le b c (fun z => ?_) (fun z => ⟨vp_in_nI (by omega) (by omega), ?_⟩)
    · rw [nn_bt (show rm_rd QQ so ba b t from fun c' a1 a2 a3 => I c' a1 a2 (by omega) a3)] at h
      exact h
    · rw [nI_clamp (by omega)]
      refine rm_xq (k := 0) hS (hB.2.1 c) (hB.2.2.1 c h1 (by omega)) (by omega) ha (nn_br (fun z1 => ?_) (fun z1 => nm_r (nI_1 c) (ih (c + 1) (by omega) (by omega) (by omega) (by omega) (fun c' a1 a2 a3 a4 => ?_))))
      · rw [nn_bf (show ¬ rm_rd QQ so ba b t from fun q => z1 (q c h1 h2 z))] at h
        exact h
      · rcases Nat.lt_or_ge c' c with w | w
        · exact I c' a1 a2 w a4
        · rw [show c' = c by omega]; exact z1
theorem rm_suf21 {P : Int32 → Prop} {b t : Nat} (hS : rl_S QQ df tb le ls st nu) (hB : rl_B nb lc df so ba fa co) (hb : b ≤ nb) (ha : t < 128) (h : P (nn_b (rm_rd QQ so ba b t))) :
    ∀ n c, b - c < n → c ≤ 13 → 1 ≤ c → ba b ≤ c → (∀ c', 1 ≤ c' → ba b ≤ c' → c' < c → c' < b → QQ (so c') 0 t = true) → wY_suffices_21 P (nI b) (nI t) (nI nb) st nu (nn_I so) (nn_I ba) (nn_I an) pj (nn_I ke) (nn_I fa) (nn_I co) (nn_I fr) dw (nn_I pr) (nn_I vo) (nn_L Qs) rb ri rv (nn_I vt) (nn_I he) n (nI c) := by
  intro n
  induction n with
  | zero => intro c hc; omega
  | succ n ih =>
    intro c hn hc h1 h2 I
    have hnb := hB.1
    refine pk_le b c (fun z => ?_) (fun z => ⟨vp_in_nI (by omega) (by omega), ?_⟩)
    · rw [nn_bt (show rm_rd QQ so ba b t from fun c' a1 a2 a3 => I c' a1 a2 (by omega) a3)] at h
      exact h
    · rw [nI_clamp (by omega)]
      refine rm_yq (k := 0) hS (hB.2.1 c) (hB.2.2.1 c h1 (by omega)) (by omega) ha (nn_br (fun z1 => ?_) (fun z1 => nm_r (nI_1 c) (ih (c + 1) (by omega) (by omega) (by omega) (by omega) (fun c' a1 a2 a3 a4 => ?_))))
      · rw [nn_bf (show ¬ rm_rd QQ so ba b t from fun q => z1 (q c h1 h2 z))] at h
        exact h
      · rcases Nat.lt_or_ge c' c with w | w
        · exact I c' a1 a2 w a4
        · rw [show c' = c by omega]; exact z1
theorem rm_suf {P : Int32 → Prop} {b t : Nat} (hS : rl_S QQ df tb le ls st nu) (hB : rl_B nb lc df so ba fa co) (hb : b ≤ nb) (ha : t < 128) (h : P (nn_b (rm_rd QQ so ba b t))) : wpY_suffices P ((nI nb), st, nu, (nn_I so), (nn_I ba), (nn_I an), pj, (nn_I ke), (nn_I fa), (nn_I co), (nn_I fr), dw, (nn_I pr), (nn_I vo), (nn_L Qs), rb, ri, rv, (nn_I vt), (nn_I he)) (nI b) (nI t) := by
  have hnb := hB.1
  have hba := hB.2.2.2.1 b
  unfold wpY_suffices
  dsimp only
  rw [nI_clamp (by omega)]
  refine ⟨vp_in_nI (by omega) (by omega), pk_le (ba b) 1 (fun z => ?_) (fun z => ?_)⟩
  · exact ⟨b + 1, rm_suf21 hS hB hb ha h (b + 1) 1 (by omega) (by omega) (by omega) (by omega) (fun c' a1 a2 a3 => by omega)⟩
  · exact ⟨vp_in_nI (by omega) (by omega), nm_e ⟨b + 1, rm_suf21 hS hB hb ha h (b + 1) (ba b) (by omega) (by omega) (by omega) (by omega) (fun c' a1 a2 a3 => by omega)⟩⟩
theorem rm_yready {P : Int32 → Prop} {b : Nat} (hS : rl_S QQ df tb le ls st nu) (hB : rl_B nb lc df so ba fa co) (hb : b ≤ nb) (ha : an b < 128) (h : P (nn_b (rm_rd QQ so ba b (an b)))) : wpY_isReady P ((nI nb), st, nu, (nn_I so), (nn_I ba), (nn_I an), pj, (nn_I ke), (nn_I fa), (nn_I co), (nn_I fr), dw, (nn_I pr), (nn_I vo), (nn_L Qs), rb, ri, rv, (nn_I vt), (nn_I he)) (nI b) := by
  have hnb := hB.1
  unfold wpY_isReady
  dsimp only
  rw [nI_clamp (by omega)]
  exact ⟨vp_in_nI (by omega) (by omega), rm_suf hS hB hb ha ⟨nn_bn _, h⟩⟩
theorem rm_i3 (b i : Nat) : (3 : Int32) * nI b + nI i = nI (3 * b + i) := by rw [nn_m3, nI_add]
theorem rm_i24 (b i v : Nat) : ((24 : Int32) * nI b + 8 * nI i) + nI v = nI (24 * b + 8 * i + v) := by rw [nn_m24, nn_m8, nI_add, nI_add]
theorem rm_i21 (b n i : Nat) : ((21 : Int32) * nI b + 3 * nI n) + nI i = nI (21 * b + 3 * n + i) := by rw [nn_m21, nn_m3, nI_add, nI_add]
theorem rm_i312 (l b i v : Nat) : (((312 : Int32) * nI l + 24 * nI b) + 8 * nI i) + nI v = nI (312 * l + 24 * b + 8 * i + v) := by rw [nn_m312, nn_m24, nn_m8, nI_add, nI_add, nI_add]
theorem rm_en_x {P : Int32 → Prop} {b i t : Nat} (hS : rl_S QQ df tb le ls st nu) (hB : rl_B nb lc df so ba fa co) (hP : rl_P nb pk fr pi pj) (h1 : 1 ≤ b) (hb : b ≤ nb) (hi : i < 3) (ht : t < 128) (h : P (nn_b (rl_en QQ so pk b i t))) : wpX_isEnough P (fj, (nI nb), (nI lc), tb, df, sm, ju, le, ls, (nn_I so), (nn_I ba), (nn_I an), (nn_I fa), (nn_I co), pi, (nn_I fr), de, (nn_I ke), (nn_I up), (nn_I pr), op, (nn_I vo), ov, (nn_L Qs), qb, qi, qv, (nn_I vt), (nn_I he), ch, lr) (nI b) (nI i) (nI t) := by
  have hnb := hB.1
  unfold wpX_isEnough
  dsimp only
  rw [rm_i3, nI_clamp (by omega), nI_clamp (by omega), (hP.1 (3 * b + i) (by omega)).1]
  have hd := hB.2.2.1 b h1 hb
  unfold rl_en at h
  refine ⟨vp_in_nI (by omega) (by omega), vp_in_nI (by omega) (by omega), br_c (fun z => ?_) (fun z => ?_)⟩
  · rw [if_pos ((nn_p3a (hP.2.1 _)).mp z)] at h
    exact rm_xq (k := 2) hS (hB.2.1 b) hd (by omega) ht ⟨nn_bn _, h⟩
  · rw [if_neg (fun q => z ((nn_p3a (hP.2.1 _)).mpr q))] at h
    exact rm_xq (k := 1) hS (hB.2.1 b) hd (by omega) ht ⟨nn_bn _, h⟩
theorem rm_en_y {P : Int32 → Prop} {b i t : Nat} (hS : rl_S QQ df tb le ls st nu) (hB : rl_B nb lc df so ba fa co) (hP : rl_P nb pk fr pi pj) (h1 : 1 ≤ b) (hb : b ≤ nb) (hi : i < 3) (ht : t < 128) (h : P (nn_b (pk (3 * b + i) ≠ 0 ∧ rl_en QQ so pk b i t))) : wpY_isEnough P ((nI nb), st, nu, (nn_I so), (nn_I ba), (nn_I an), pj, (nn_I ke), (nn_I fa), (nn_I co), (nn_I fr), dw, (nn_I pr), (nn_I vo), (nn_L Qs), rb, ri, rv, (nn_I vt), (nn_I he)) (nI b) (nI i) (nI t) := by
  have hnb := hB.1
  unfold wpY_isEnough
  dsimp only
  rw [rm_i3, nI_clamp (by omega), nI_clamp (by omega), (hP.1 (3 * b + i) (by omega)).2]
  have hd := hB.2.2.1 b h1 hb
  refine ⟨vp_in_nI (by omega) (by omega), br_c (fun z => ?_) (fun z => ⟨vp_in_nI (by omega) (by omega), vp_in_nI (by omega) (by omega), ?_⟩)⟩
  · rw [nn_bf (fun q => q.1 ((nn_p1n (hP.2.1 _)).mp z))] at h
    exact h
  · have z0 : pk (3 * b + i) ≠ 0 := fun q => z ((nn_p1n (hP.2.1 _)).mpr q)
    unfold rl_en at h
    refine br_c (fun z => ?_) (fun z => ?_)
    · rw [if_pos ((nn_p1a (hP.2.1 _)).mp z)] at h
      refine rm_yq (k := 2) hS (hB.2.1 b) hd (by omega) ht (nn_br (fun q => ?_) (fun q => ?_))
      · rw [nn_bf (fun w => q w.2)] at h; exact h
      · rw [nn_bt ⟨z0, q⟩] at h; exact h
    · rw [if_neg (fun q => z ((nn_p1a (hP.2.1 _)).mpr q))] at h
      refine rm_yq (k := 1) hS (hB.2.1 b) hd (by omega) ht (nn_br (fun q => ?_) (fun q => ?_))
      · rw [nn_bf (fun w => q w.2)] at h; exact h
      · rw [nn_bt ⟨z0, q⟩] at h; exact h
/-- no votes are never enough -/
theorem rm_en0 (hS : rl_S QQ df tb le ls st nu) (hB : rl_B nb lc df so ba fa co) {b i : Nat} (h1 : 1 ≤ b) (hb : b ≤ nb) : ¬ rl_en QQ so pk b i 0 := by
  intro h
  have := (rl_Sd hS (hB.2.1 b) (hB.2.2.1 b h1 hb)).2.2.2.2.1
  unfold rl_en at h
  rw [this _ (by by_cases z : pk (3 * b + i) = 1 <;> simp [z])] at h
  exact absurd h (by decide)
/-! who can vote -/
theorem rm_open {b i : Nat} (hB : rl_B nb lc df so ba fa co) (hV : rl_V nb pk an ke pr vo vt he) (hb : b ≤ nb) (hi : i < 3) : ∃ t, t < 128 ∧ (∀ P : Int32 → Prop, P (nI t) → wpX_openTo P (fj, (nI nb), (nI lc), tb, df, sm, ju, le, ls, (nn_I so), (nn_I ba), (nn_I an), (nn_I fa), (nn_I co), pi, (nn_I fr), de, (nn_I ke), (nn_I up), (nn_I pr), op, (nn_I vo), ov, (nn_L Qs), qb, qi, qv, (nn_I vt), (nn_I he), ch, lr) (nI b) (nI i)) ∧ ∀ P : Int32 → Prop, P (nI t) → wpY_able P ((nI nb), st, nu, (nn_I so), (nn_I ba), (nn_I an), pj, (nn_I ke), (nn_I fa), (nn_I co), (nn_I fr), dw, (nn_I pr), (nn_I vo), (nn_L Qs), rb, ri, rv, (nn_I vt), (nn_I he)) (nI b) (nI i) := by
  have hnb := hB.1
  have key : ∀ e n t, n + e = 7 → t < 128 → ∃ t', t' < 128 ∧ (∀ P : Int32 → Prop, P (nI t') → wX_openTo_5 P (nI b) (nI i) fj (nI nb) (nI lc) tb df sm ju le ls (nn_I so) (nn_I ba) (nn_I an) (nn_I fa) (nn_I co) pi (nn_I fr) de (nn_I ke) (nn_I up) (nn_I pr) op (nn_I vo) ov (nn_L Qs) qb qi qv (nn_I vt) (nn_I he) ch lr (e + 1) (nI t) (nI n)) ∧ ∀ P : Int32 → Prop, P (nI t') → wY_able_5 P (nI b) (nI i) (nI nb) st nu (nn_I so) (nn_I ba) (nn_I an) pj (nn_I ke) (nn_I fa) (nn_I co) (nn_I fr) dw (nn_I pr) (nn_I vo) (nn_L Qs) rb ri rv (nn_I vt) (nn_I he) (e + 1) (nI t) (nI n) := by
    intro e
    induction e with
    | zero =>
      intro n t hn ht
      exact ⟨t, ht, fun P h => br_t (nI_le (a := 7) (by omega) (by omega)) h, fun P h => br_t (nI_le (a := 7) (by omega) (by omega)) h⟩
    | succ e ih =>
      intro n t hn ht
      have z : ¬ (7 : Int32) ≤ nI n := nI_ge (b := 7) (by omega) (by omega)
      have hvo := hV.2.2.1 (3 * n + i)
      have hpr := hV.2.2.2.2.2.2.2.1 n
      have ei := rm_i3 n i
      have c1 : (nI (3 * n + i)).toNatClampNeg = 3 * n + i := nI_clamp (by omega)
      have c2 : (nI n).toNatClampNeg = n := nI_clamp (by omega)
      have es : (nn_I vo (3 * n + i)) >>> ((3 : Int32) &&& 31) = nI (vo (3 * n + i) / 8) := nn_s3 (by omega)
      have ed : (nn_I vo (3 * n + i)) / 8 = nI (vo (3 * n + i) / 8) := nn_d8 (by omega)
      by_cases h1 : b < pr n
      · obtain ⟨t', ht', hX, hY⟩ := ih (n + 1) t (by omega) ht
        have z1 : nI b < nn_I pr n := nI_lt h1 (by omega)
        refine ⟨t', ht', fun P h => br_f z ?_, fun P h => br_f z ?_⟩
        · rw [ei, c1, c2]
          exact ⟨vp_in_nI (by omega) (by omega), nm_r es ⟨vp_in_nI (by omega) (by omega), br_t z1 (nm_r (nI_1 n) (hX P h))⟩⟩
        · rw [c2]
          exact ⟨vp_in_nI (by omega) (by omega), br_t z1 (nm_r (nI_1 n) (hY P h))⟩
      · have z1 : ¬ nI b < nn_I pr n := nI_nlt (by omega) (by omega)
        by_cases h2 : b ≤ vo (3 * n + i) / 8
        · obtain ⟨t', ht', hX, hY⟩ := ih (n + 1) t (by omega) ht
          have z2 : nI b ≤ nI (vo (3 * n + i) / 8) := nI_le h2 (by omega)
          refine ⟨t', ht', fun P h => br_f z ?_, fun P h => br_f z ?_⟩
          · rw [ei, c1, c2]
            exact ⟨vp_in_nI (by omega) (by omega), nm_r es ⟨vp_in_nI (by omega) (by omega), br_f z1 (br_t z2 (nm_r (nI_1 n) (hX P h)))⟩⟩
          · rw [ei, c1, c2, ed]
            exact ⟨vp_in_nI (by omega) (by omega), br_f z1 ⟨vp_in_nI (by omega) (by omega), yq_80, br_t z2 (nm_r (nI_1 n) (hY P h))⟩⟩
        · have z2 : ¬ nI b ≤ nI (vo (3 * n + i) / 8) := nI_ge (by omega) (by omega)
          have h2n := qq_2l n (by omega)
          obtain ⟨t', ht', hX, hY⟩ := ih (n + 1) (t ||| 2 ^ n) (by omega) (qq_lor ht h2n)
          have eo : nI t ||| ((1 : Int32) <<< (nI n &&& 31)) = nI (t ||| 2 ^ n) := by rw [nn_shl (by omega), nn_or]
          refine ⟨t', ht', fun P h => br_f z ?_, fun P h => br_f z ?_⟩
          · rw [ei, c1, c2]
            exact ⟨vp_in_nI (by omega) (by omega), nm_r es ⟨vp_in_nI (by omega) (by omega), br_f z1 (br_f z2 (nm_r eo (nm_r (nI_1 n) (hX P h))))⟩⟩
          · rw [ei, c1, c2, ed]
            exact ⟨vp_in_nI (by omega) (by omega), br_f z1 ⟨vp_in_nI (by omega) (by omega), yq_80, br_f z2 (nm_r eo (nm_r (nI_1 n) (hY P h)))⟩⟩
  obtain ⟨t', ht', hX, hY⟩ := key 7 0 0 (by omega) (by omega)
  exact ⟨t', ht', fun P h => ⟨8, hX P h⟩, fun P h => ⟨8, hY P h⟩⟩
end help
end
section
/-! looking: quorum, tally, node, ballot -/
theorem rl_drop {L : List (Nat × Nat × Nat)} : ∀ {x : Nat}, x < L.length → L.drop x = rl_g L x :: L.drop (x + 1) := by
  induction L with
  | nil => intro x h; exact absurd h (by simp)
  | cons a l ih =>
    intro x h
    cases x with
    | zero => rfl
    | succ x => exact ih (by simpa using h)
theorem rl_opg {L : List (Nat × Nat × Nat)} : ∀ {p : Nat}, 0 < L.length → rl_op p L = (rl_g L (L.length - 1)).1 := by
  induction L with
  | nil => intro p h; exact absurd h (by simp)
  | cons a l ih =>
    intro p _
    cases l with
    | nil => rfl
    | cons b m => exact ih (p := a.1) (by simp)
theorem rm_i6 {b w : Nat} (h : 6 ≤ w) : ((3 : Int32) * nI b + nI w) - 6 = nI (3 * b + (w - 6)) := by
  rw [rm_i3, show 3 * b + (w - 6) = 3 * b + w - 6 by omega]; exact pk_sub (b := 6) (by omega)
theorem rm_i9 {b w : Nat} (h : 9 ≤ w) : ((3 : Int32) * nI b + nI w) - 9 = nI (3 * b + (w - 9)) := by
  rw [rm_i3, show 3 * b + (w - 9) = 3 * b + w - 9 by omega]; exact pk_sub (b := 9) (by omega)
theorem rm_i2 {b w : Nat} (h : 2 ≤ w) : ((3 : Int32) * nI b + nI w) - 2 = nI (3 * b + (w - 2)) := by
  rw [rm_i3, show 3 * b + (w - 2) = 3 * b + w - 2 by omega]; exact pk_sub (b := 2) (by omega)
section ro1
variable {fj : Int32} {nb lc : Nat} {tb df sm ju le ls pi de op ov qb qi qv ch lr : Nat → Int32} {so ba an fa co fr ke up pr vo vt he : Nat → Nat} {Qs : Nat → List (Nat × Nat × Nat)}
variable {st nu pj dw rb ri rv : Nat → Int32}
variable {QQ : Nat → Nat → Nat → Bool} {pk : Nat → Nat}
theorem ym_op {P : Int32 → Prop} {n : Nat} (hQ : rl_Q nb pk Qs up dw pr vo op ov qb qi qv rb ri rv) (hn : n < 7) (h : P (nI (rl_op (pr n) (Qs n)))) : wpY_ownPromise P ((nI nb), st, nu, (nn_I so), (nn_I ba), (nn_I an), pj, (nn_I ke), (nn_I fa), (nn_I co), (nn_I fr), dw, (nn_I pr), (nn_I vo), (nn_L Qs), rb, ri, rv, (nn_I vt), (nn_I he)) (nI n) := by
  obtain ⟨_, _, _, hL, _, _⟩ := hQ n hn
  have h6 := hL.1
  unfold wpY_ownPromise
  dsimp only
  rw [nI_clamp (n := n) (by omega)]
  refine ⟨vp_in_nI hn (by omega), pk_eq (Qs n).length 0 (fun z => ⟨vp_in_nI hn (by omega), ?_⟩) (fun z => ⟨vp_in_nI hn (by omega), ?_⟩)⟩
  · rw [List.eq_nil_of_length_eq_zero z] at h
    exact h
  · have e : ((6 : Int32) * nI n + nn_L Qs n) - 1 = nI (6 * n + ((Qs n).length - 1)) := by
      rw [nn_m6, nn_Lap, nI_add, show 6 * n + ((Qs n).length - 1) = 6 * n + (Qs n).length - 1 by omega]
      exact pk_sub (b := 1) (by omega)
    rw [e, nI_clamp (by omega), (hL.2.2 _ (by omega)).2.1, ← rl_opg (p := pr n) (by omega)]
    exact ⟨vp_in_nI (by omega) (by omega), h⟩
theorem ym_ov {P : Int32 → Prop} {n i : Nat} (hQ : rl_Q nb pk Qs up dw pr vo op ov qb qi qv rb ri rv) (hn : n < 7) (hi : i < 3) (h : P (nI (rl_ov i (vo (3 * n + i)) (Qs n)))) : wpY_ownVote P ((nI nb), st, nu, (nn_I so), (nn_I ba), (nn_I an), pj, (nn_I ke), (nn_I fa), (nn_I co), (nn_I fr), dw, (nn_I pr), (nn_I vo), (nn_L Qs), rb, ri, rv, (nn_I vt), (nn_I he)) (nI n) (nI i) := by
  obtain ⟨_, _, _, hL, _, _⟩ := hQ n hn
  have h6 := hL.1
  have key : ∀ e x y, x + e = (Qs n).length → P (nI (rl_ov i y ((Qs n).drop x))) → wY_ownVote_17 P (nI n) (nI i) (nI nb) st nu (nn_I so) (nn_I ba) (nn_I an) pj (nn_I ke) (nn_I fa) (nn_I co) (nn_I fr) dw (nn_I pr) (nn_I vo) (nn_L Qs) rb ri rv (nn_I vt) (nn_I he) (e + 1) (nI y) (nI (6 * n + x)) := by
    intro e
    induction e with
    | zero =>
      intro x y hx hp
      refine ⟨vp_in_nI hn (by omega), ?_⟩
      rw [nI_clamp (n := n) (by omega)]
      refine pk_le (6 * n + (Qs n).length) (6 * n + x) (fun z => ?_) (fun z => by omega) (hx := by rw [nn_m6, nn_Lap, nI_add])
      rw [List.drop_eq_nil_of_le (by omega)] at hp
      exact hp
    | succ e ih =>
      intro x y hx hp
      have hg := hL.2.2 x (by omega)
      have hr := hL.2.1 _ (rl_gm (l := Qs n) (n := x) (by omega))
      rw [rl_drop (by omega)] at hp
      refine ⟨vp_in_nI hn (by omega), ?_⟩
      rw [nI_clamp (n := n) (by omega), nI_clamp (n := 6 * n + x) (by omega), hg.2.2.2.1, hg.2.1, hg.2.2.2.2.2]
      refine pk_le (6 * n + (Qs n).length) (6 * n + x) (fun z => by omega) (fun z => ⟨vp_in_nI (by omega) (by omega), ?_⟩) (hx := by rw [nn_m6, nn_Lap, nI_add])
      have hi3 : (rl_g (Qs n) x).2.1 ≤ 3 := by rcases hr.2.2 with q | q <;> omega
      have hp : P (nI (rl_ov i (if (rl_g (Qs n) x).2.1 = i then 8 * (rl_g (Qs n) x).1 + (rl_g (Qs n) x).2.2 else y) ((Qs n).drop (x + 1)))) := hp
      refine pk_eq (rl_g (Qs n) x).2.1 i (fun z1 => ⟨vp_in_nI (by omega) (by omega), vp_in_nI (by omega) (by omega), nm_r (e' := nI (8 * (rl_g (Qs n) x).1 + (rl_g (Qs n) x).2.2)) (by rw [nn_m8, nI_add]) (nm_r (nI_1 _) ?_)⟩) (fun z1 => nm_r (nI_1 _) ?_)
      · rw [if_pos z1] at hp
        exact ih (x + 1) _ (by omega) hp
      · rw [if_neg z1] at hp
        exact ih (x + 1) _ (by omega) hp
  unfold wpY_ownVote
  dsimp only
  rw [rm_i3, nI_clamp (by omega)]
  exact ⟨vp_in_nI (by omega) (by omega), nm_e (nm_r (nn_m6 n) ⟨(Qs n).length + 1, key _ 0 _ (by omega) h⟩)⟩
end ro1
theorem rt_quorum {nb : Nat} {u : SX} {v : SY} (R : rl_R nb u v) (a b c : Int32) : rl_A (fun P => wpX_quorum P u a b c) (fun P => wpY_quorum P v a b c) := by
  refine rl_el (P := fun u v => rl_A (fun P => wpX_quorum P u a b c) (fun P => wpY_quorum P v a b c)) R ?_
  intro fj lc tb df sm ju le ls so ba an fa co pi fr de ke up pr op vo ov Qs qb qi qv vt he ch lr st nu pj dw rb ri rv QQ pk hS hB hP hV hQ hC
  unfold rl_A wpX_quorum wpY_quorum
  dsimp only
  rcases rm_isS (fj := fj) (nb := nb) (lc := lc) (tb := tb) (df := df) (sm := sm) (ju := ju) (le := le) (ls := ls) (pi := pi) (de := de) (op := op) (ov := ov) (qb := qb) (qi := qi) (qv := qv) (ch := ch) (lr := lr) (so := so) (ba := ba) (an := an) (fa := fa) (co := co) (fr := fr) (ke := ke) (up := up) (pr := pr) (vo := vo) (vt := vt) (he := he) (Qs := Qs) (st := st) (nu := nu) (pj := pj) (dw := dw) (rb := rb) (ri := ri) (rv := rv) (x := a) hS with ⟨s, hs, e, hd, xs, ys⟩ | ⟨xs, ys⟩
  · subst e
    rcases nl_in (x := b) (n := 3) (m := 2) 3 (by decide) (by decide) with ⟨k, hk, e, xk, yk⟩ | ⟨xk, yk⟩
    · subst e
      rcases nl_in (x := c) (n := 128) (m := 127) 128 (by decide) (by decide) with ⟨t, ht, e, xt, yt⟩ | ⟨xt, yt⟩
      · subst e
        refine ⟨nn_b (QQ s k t = true), fun P h => xs _ (br_f nn_10 (xk _ (br_f nn_10 (xt _ (br_f nn_10 (rm_xq hS hs hd hk ht (nn_br (fun z => ?_) (fun z => ?_)))))))), fun P h => ys _ (br_f nn_10 (yk _ (br_f nn_10 (yt _ (br_f nn_10 (rm_yq hS hs hd hk ht (nn_br (fun z => ?_) (fun z => ?_))))))))⟩
        · rw [nn_bf z] at h; exact h
        · rw [nn_bt z] at h; exact h
        · rw [nn_bf z] at h; exact h
        · rw [nn_bt z] at h; exact h
      · exact ⟨-1, fun P h => xs _ (br_f nn_10 (xk _ (br_f nn_10 (xt _ (br_t rfl h))))), fun P h => ys _ (br_f nn_10 (yk _ (br_f nn_10 (yt _ (br_t rfl h)))))⟩
    · exact ⟨-1, fun P h => xs _ (br_f nn_10 (xk _ (br_t rfl h))), fun P h => ys _ (br_f nn_10 (yk _ (br_t rfl h)))⟩
  · exact ⟨-1, fun P h => xs _ (br_t rfl h), fun P h => ys _ (br_t rfl h)⟩
theorem rt_tally {nb : Nat} {u : SX} {v : SY} (R : rl_R nb u v) (a b c : Int32) : rl_A (fun P => wpX_tally P u a b c) (fun P => wpY_tally P v a b c) := by
  refine rl_el (P := fun u v => rl_A (fun P => wpX_tally P u a b c) (fun P => wpY_tally P v a b c)) R ?_
  intro fj lc tb df sm ju le ls so ba an fa co pi fr de ke up pr op vo ov Qs qb qi qv vt he ch lr st nu pj dw rb ri rv QQ pk hS hB hP hV hQ hC
  unfold rl_A wpX_tally wpY_tally
  dsimp only
  have hnb := hB.1
  rcases rm_isB (fj := fj) (nb := nb) (lc := lc) (tb := tb) (df := df) (sm := sm) (ju := ju) (le := le) (ls := ls) (pi := pi) (de := de) (op := op) (ov := ov) (qb := qb) (qi := qi) (qv := qv) (ch := ch) (lr := lr) (so := so) (ba := ba) (an := an) (fa := fa) (co := co) (fr := fr) (ke := ke) (up := up) (pr := pr) (vo := vo) (vt := vt) (he := he) (Qs := Qs) (st := st) (nu := nu) (pj := pj) (dw := dw) (rb := rb) (ri := ri) (rv := rv) (x := a) hnb with ⟨j, hj1, hj, e, xs, ys⟩ | ⟨xs, ys⟩
  · subst e
    rcases nl_in (x := b) (n := 3) (m := 2) 3 (by decide) (by decide) with ⟨k, hk, e, xk, yk⟩ | ⟨xk, yk⟩
    · subst e
      rcases nl_bt (x := c) (a := 1) (b := 7) 1 7 (by decide) (by decide) with ⟨t, ht1, ht, e, xt, yt⟩ | ⟨xt, yt⟩
      · subst e
        refine ⟨nI (vt (24 * j + 8 * k + t)), fun P h => xs _ (br_f nn_10 (xk _ (br_f nn_10 (xt _ (br_f nn_10 ?_))))), fun P h => ys _ (br_f nn_10 (yk _ (br_f nn_10 (yt _ (br_f nn_10 ?_)))))⟩
        · rw [rm_i24, nI_clamp (by omega)]; exact ⟨vp_in_nI (by omega) (by omega), h⟩
        · rw [rm_i24, nI_clamp (by omega)]; exact ⟨vp_in_nI (by omega) (by omega), h⟩
      · exact ⟨-1, fun P h => xs _ (br_f nn_10 (xk _ (br_f nn_10 (xt _ (br_t rfl h))))), fun P h => ys _ (br_f nn_10 (yk _ (br_f nn_10 (yt _ (br_t rfl h)))))⟩
    · exact ⟨-1, fun P h => xs _ (br_f nn_10 (xk _ (br_t rfl h))), fun P h => ys _ (br_f nn_10 (yk _ (br_t rfl h)))⟩
  · exact ⟨-1, fun P h => xs _ (br_t rfl h), fun P h => ys _ (br_t rfl h)⟩
/-- a number from 0 to m or not: the component's two questions -/
theorem rm_sw {x m : Int32} (M : Nat) (hm : m.toInt = M) : (∃ j, j ≤ M ∧ x = nI j ∧ ¬ x < 0 ∧ ¬ m < x ∧ ∀ P : Int32 → Prop, P 1 → wpY_in P x 0 m) ∨ ((∀ A B C : Prop, A → (x < 0 → A) ∧ (¬ x < 0 → (m < x → A) ∧ (¬ m < x → C))) ∧ ∀ P : Int32 → Prop, P 0 → wpY_in P x 0 m) := by
  by_cases h : x < 0
  · exact Or.inr ⟨fun A B C z => br_t h z, fun P z => br_t h z⟩
  · by_cases h2 : m < x
    · exact Or.inr ⟨fun A B C z => br_f h (br_t h2 z), fun P z => br_f h (br_t h2 z)⟩
    · obtain ⟨j, hj, e⟩ := nI_of2 hm h (Int32.not_lt.mp h2)
      exact Or.inl ⟨j, hj, e, h, h2, fun P z => br_f h (br_f h2 z)⟩
theorem rt_node {nb : Nat} {u : SX} {v : SY} (R : rl_R nb u v) (a b : Int32) : rl_A (fun P => wpX_node P u a b) (fun P => wpY_node P v a b) := by
  refine rl_el (P := fun u v => rl_A (fun P => wpX_node P u a b) (fun P => wpY_node P v a b)) R ?_
  intro fj lc tb df sm ju le ls so ba an fa co pi fr de ke up pr op vo ov Qs qb qi qv vt he ch lr st nu pj dw rb ri rv QQ pk hS hB hP hV hQ hC
  unfold rl_A wpX_node wpY_node
  dsimp only
  rcases nl_in (x := a) (n := 7) (m := 6) 7 (by decide) (by decide) with ⟨n, hn, e, xn, yn⟩ | ⟨xn, yn⟩
  · subst e
    have cn : (nI n).toNatClampNeg = n := nI_clamp (by omega)
    have vi : vp_in (nI n) 7 := vp_in_nI hn (by omega)
    obtain ⟨q1, q2, q3, q4, q5, q6⟩ := hQ n hn
    rcases rm_sw (x := b) (m := 9) 9 (by decide) with ⟨w, hw, e, w0, w9, yw⟩ | ⟨xw, yw⟩
    · subst e
      rcases (show w = 0 ∨ w = 1 ∨ w = 2 ∨ w = 3 ∨ w = 4 ∨ w = 5 ∨ w = 6 ∨ w = 7 ∨ w = 8 ∨ w = 9 by omega) with e | e | e | e | e | e | e | e | e | e <;> subst e
      · rw [cn, q2]
        rcases (show up n = 0 ∨ up n = 1 by omega) with z | z
        · exact ⟨0, fun P h => xn _ (br_f nn_10 (br_f (by decide) (br_f (by decide) (br_t (by decide) (⟨vi, br_t (by rw [nn_Iap, z]; rfl) h⟩))))), fun P h => yn _ (br_f nn_10 (yw _ (br_f nn_10 (br_t (by decide) ⟨vi, br_f (by rw [z]; decide) h⟩))))⟩
        · exact ⟨1, fun P h => xn _ (br_f nn_10 (br_f (by decide) (br_f (by decide) (br_t (by decide) (⟨vi, br_f (by rw [nn_Iap, z]; decide) h⟩))))), fun P h => yn _ (br_f nn_10 (yw _ (br_f nn_10 (br_t (by decide) ⟨vi, br_t (by rw [z]; rfl) h⟩))))⟩
      · rw [cn, q5]
        exact ⟨nI (rl_op (pr n) (Qs n)), fun P h => xn _ (br_f nn_10 (br_f (by decide) (br_f (by decide) (br_f (by decide) (br_t (by decide) (⟨vi, h⟩)))))), fun P h => yn _ (br_f nn_10 (yw _ (br_f nn_10 (br_f (by decide) (br_t (by decide) (ym_op hQ hn h))))))⟩
      · exact ⟨nI (rl_ov 0 (vo (3 * n + 0)) (Qs n)), fun P h => xn _ (br_f nn_10 (br_f (by decide) (br_f (by decide) (br_f (by decide) (br_f (by decide) (br_t (by decide) (by unfold wX_node_90; rw [rm_i2 (by omega), nI_clamp (by omega), q6 0 (by omega)]; exact ⟨vp_in_nI (by omega) (by omega), h⟩))))))), fun P h => yn _ (br_f nn_10 (yw _ (br_f nn_10 (br_f (by decide) (br_f (by decide) (br_f (by decide) (ym_ov (i := 0) hQ hn (by omega) h)))))))⟩
      · exact ⟨nI (rl_ov 1 (vo (3 * n + 1)) (Qs n)), fun P h => xn _ (br_f nn_10 (br_f (by decide) (br_f (by decide) (br_f (by decide) (br_f (by decide) (br_f (by decide) (br_t (by decide) (by unfold wX_node_90; rw [rm_i2 (by omega), nI_clamp (by omega), q6 1 (by omega)]; exact ⟨vp_in_nI (by omega) (by omega), h⟩)))))))), fun P h => yn _ (br_f nn_10 (yw _ (br_f nn_10 (br_f (by decide) (br_f (by decide) (br_f (by decide) (ym_ov (i := 1) hQ hn (by omega) h)))))))⟩
      · exact ⟨nI (rl_ov 2 (vo (3 * n + 2)) (Qs n)), fun P h => xn _ (br_f nn_10 (br_f (by decide) (br_f (by decide) (br_f (by decide) (br_f (by decide) (br_f (by decide) (br_f (by decide) (br_t (by decide) (by unfold wX_node_90; rw [rm_i2 (by omega), nI_clamp (by omega), q6 2 (by omega)]; exact ⟨vp_in_nI (by omega) (by omega), h⟩))))))))), fun P h => yn _ (br_f nn_10 (yw _ (br_f nn_10 (br_f (by decide) (br_f (by decide) (br_f (by decide) (ym_ov (i := 2) hQ hn (by omega) h)))))))⟩
      · rw [cn]
        exact ⟨nI (pr n), fun P h => xn _ (br_f nn_10 (br_f (by decide) (br_f (by decide) (br_f (by decide) (br_f (by decide) (br_f (by decide) (br_f (by decide) (br_f (by decide) (br_t (by decide) (⟨vi, h⟩)))))))))), fun P h => yn _ (br_f nn_10 (yw _ (br_f nn_10 (br_f (by decide) (br_f (by decide) (br_t (by decide) (br_t (by decide) ⟨vi, h⟩)))))))⟩
      · exact ⟨nI (vo (3 * n + (6 - 6))), fun P h => xn _ (br_f nn_10 (br_f (by decide) (br_f (by decide) (br_f (by decide) (br_f (by decide) (br_f (by decide) (br_f (by decide) (br_f (by decide) (br_f (by decide) (br_t (by decide) (by unfold wX_node_110; rw [rm_i6 (by omega), nI_clamp (by omega)]; exact ⟨vp_in_nI (by omega) (by omega), h⟩))))))))))), fun P h => yn _ (br_f nn_10 (yw _ (br_f nn_10 (br_f (by decide) (br_f (by decide) (br_t (by decide) (br_f (by decide) (br_f (by decide) (by rw [rm_i6 (by omega), nI_clamp (by omega)]; exact ⟨vp_in_nI (by omega) (by omega), h⟩)))))))))⟩
      · exact ⟨nI (vo (3 * n + (7 - 6))), fun P h => xn _ (br_f nn_10 (br_f (by decide) (br_f (by decide) (br_f (by decide) (br_f (by decide) (br_f (by decide) (br_f (by decide) (br_f (by decide) (br_f (by decide) (br_f (by decide) (br_t (by decide) (by unfold wX_node_110; rw [rm_i6 (by omega), nI_clamp (by omega)]; exact ⟨vp_in_nI (by omega) (by omega), h⟩)))))))))))), fun P h => yn _ (br_f nn_10 (yw _ (br_f nn_10 (br_f (by decide) (br_f (by decide) (br_t (by decide) (br_f (by decide) (br_f (by decide) (by rw [rm_i6 (by omega), nI_clamp (by omega)]; exact ⟨vp_in_nI (by omega) (by omega), h⟩)))))))))⟩
      · exact ⟨nI (vo (3 * n + (8 - 6))), fun P h => xn _ (br_f nn_10 (br_f (by decide) (br_f (by decide) (br_f (by decide) (br_f (by decide) (br_f (by decide) (br_f (by decide) (br_f (by decide) (br_f (by decide) (br_f (by decide) (br_f (by decide) (br_t (by decide) (by unfold wX_node_110; rw [rm_i6 (by omega), nI_clamp (by omega)]; exact ⟨vp_in_nI (by omega) (by omega), h⟩))))))))))))), fun P h => yn _ (br_f nn_10 (yw _ (br_f nn_10 (br_f (by decide) (br_f (by decide) (br_t (by decide) (br_f (by decide) (br_f (by decide) (by rw [rm_i6 (by omega), nI_clamp (by omega)]; exact ⟨vp_in_nI (by omega) (by omega), h⟩)))))))))⟩
      · rw [cn]
        exact ⟨nI (Qs n).length, fun P h => xn _ (br_f nn_10 (br_f (by decide) (br_f (by decide) (br_f (by decide) (br_f (by decide) (br_f (by decide) (br_f (by decide) (br_f (by decide) (br_f (by decide) (br_f (by decide) (br_f (by decide) (br_f (by decide) (br_t (by decide) (⟨vi, h⟩)))))))))))))), fun P h => yn _ (br_f nn_10 (yw _ (br_f nn_10 (br_f (by decide) (br_f (by decide) (br_t (by decide) (br_f (by decide) (br_t (by decide) ⟨vi, h⟩))))))))⟩
    · exact ⟨-1, fun P h => xn _ (br_f nn_10 (xw _ True _ h)), fun P h => yn _ (br_f nn_10 (yw _ (br_t rfl h)))⟩
  · exact ⟨-1, fun P h => xn _ (br_t rfl h), fun P h => yn _ (br_t rfl h)⟩
theorem rt_ballot {nb : Nat} {u : SX} {v : SY} (R : rl_R nb u v) (a b : Int32) : rl_A (fun P => wpX_ballot P u a b) (fun P => wpY_ballot P v a b) := by
  refine rl_el (P := fun u v => rl_A (fun P => wpX_ballot P u a b) (fun P => wpY_ballot P v a b)) R ?_
  intro fj lc tb df sm ju le ls so ba an fa co pi fr de ke up pr op vo ov Qs qb qi qv vt he ch lr st nu pj dw rb ri rv QQ pk hS hB hP hV hQ hC
  unfold rl_A wpX_ballot wpY_ballot
  dsimp only
  have hnb := hB.1
  rcases rm_isB (fj := fj) (nb := nb) (lc := lc) (tb := tb) (df := df) (sm := sm) (ju := ju) (le := le) (ls := ls) (pi := pi) (de := de) (op := op) (ov := ov) (qb := qb) (qi := qi) (qv := qv) (ch := ch) (lr := lr) (so := so) (ba := ba) (an := an) (fa := fa) (co := co) (fr := fr) (ke := ke) (up := up) (pr := pr) (vo := vo) (vt := vt) (he := he) (Qs := Qs) (st := st) (nu := nu) (pj := pj) (dw := dw) (rb := rb) (ri := ri) (rv := rv) (x := a) hnb with ⟨n, hn1, hn, e, xn, yn⟩ | ⟨xn, yn⟩
  · subst e
    have cn : (nI n).toNatClampNeg = n := nI_clamp (by omega)
    have vi : vp_in (nI n) 13 := vp_in_nI (by omega) (by omega)
    rcases rm_sw (x := b) (m := 11) 11 (by decide) with ⟨w, hw, e, w0, w9, yw⟩ | ⟨xw, yw⟩
    · subst e
      rcases (show w = 0 ∨ w = 1 ∨ w = 2 ∨ w = 3 ∨ w = 4 ∨ w = 5 ∨ w = 6 ∨ w = 7 ∨ w = 8 ∨ w = 9 ∨ w = 10 ∨ w = 11 by omega) with e | e | e | e | e | e | e | e | e | e | e | e <;> subst e
      · rw [cn]
        exact ⟨nI (so n), fun P h => xn _ (br_f nn_10 (br_f (by decide) (br_f (by decide) (br_t (by decide) (⟨vi, h⟩))))), fun P h => yn _ (br_f nn_10 (yw _ (br_f nn_10 (br_f (by decide) (br_f (by decide) (br_t (by decide) (⟨vi, h⟩)))))))⟩
      · rw [cn]
        have hb := hB.2.2.2.2.1 n
        rcases (show fa n = 0 ∨ fa n = 1 by omega) with z | z
        · exact ⟨0, fun P h => xn _ (br_f nn_10 (br_f (by decide) (br_f (by decide) (br_f (by decide) (br_t (by decide) (⟨vi, br_t (by rw [nn_Iap, z]; rfl) h⟩)))))), fun P h => yn _ (br_f nn_10 (yw _ (br_f nn_10 (br_f (by decide) (br_f (by decide) (br_f (by decide) (br_t (by decide) (⟨vi, br_t (by rw [nn_Iap, z]; rfl) h⟩))))))))⟩
        · exact ⟨1, fun P h => xn _ (br_f nn_10 (br_f (by decide) (br_f (by decide) (br_f (by decide) (br_t (by decide) (⟨vi, br_f (by rw [nn_Iap, z]; decide) h⟩)))))), fun P h => yn _ (br_f nn_10 (yw _ (br_f nn_10 (br_f (by decide) (br_f (by decide) (br_f (by decide) (br_t (by decide) (⟨vi, br_f (by rw [nn_Iap, z]; decide) h⟩))))))))⟩
      · rw [cn]
        exact ⟨nI (ba n), fun P h => xn _ (br_f nn_10 (br_f (by decide) (br_f (by decide) (br_f (by decide) (br_f (by decide) (br_t (by decide) (⟨vi, h⟩))))))), fun P h => yn _ (br_f nn_10 (yw _ (br_f nn_10 (br_f (by decide) (br_f (by decide) (br_f (by decide) (br_f (by decide) (br_t (by decide) (⟨vi, h⟩)))))))))⟩
      · rw [cn]
        exact ⟨nI (an n), fun P h => xn _ (br_f nn_10 (br_f (by decide) (br_f (by decide) (br_f (by decide) (br_f (by decide) (br_f (by decide) (br_t (by decide) (⟨vi, h⟩)))))))), fun P h => yn _ (br_f nn_10 (yw _ (br_f nn_10 (br_f (by decide) (br_f (by decide) (br_f (by decide) (br_f (by decide) (br_f (by decide) (br_t (by decide) (⟨vi, h⟩))))))))))⟩
      · have ha := hV.2.2.2.2.1 n
        refine ⟨nn_b (rm_rd QQ so ba n (an n)), fun P h => xn _ (br_f nn_10 (br_f (by decide) (br_f (by decide) (br_f (by decide) (br_f (by decide) (br_f (by decide) (br_f (by decide) (br_t (by decide) (rm_xready hS hB hn ha (nn_br (fun z => ?_) (fun z => ?_))))))))))), fun P h => yn _ (br_f nn_10 (yw _ (br_f nn_10 (br_f (by decide) (br_f (by decide) (br_f (by decide) (br_f (by decide) (br_f (by decide) (br_f (by decide) (br_t (by decide) (rm_yready hS hB hn ha (nn_br (fun z => ?_) (fun z => ?_)))))))))))))⟩
        · rw [nn_bf z] at h; exact h
        · rw [nn_bt z] at h; exact h
        · rw [nn_bf z] at h; exact h
        · rw [nn_bt z] at h; exact h
      · rw [cn]
        have hb := hB.2.2.2.2.2.1 n
        rcases (show co n = 0 ∨ co n = 1 by omega) with z | z
        · exact ⟨0, fun P h => xn _ (br_f nn_10 (br_f (by decide) (br_f (by decide) (br_f (by decide) (br_f (by decide) (br_f (by decide) (br_f (by decide) (br_f (by decide) (br_t (by decide) (⟨vi, br_t (by rw [nn_Iap, z]; rfl) h⟩)))))))))), fun P h => yn _ (br_f nn_10 (yw _ (br_f nn_10 (br_f (by decide) (br_f (by decide) (br_f (by decide) (br_f (by decide) (br_f (by decide) (br_f (by decide) (br_f (by decide) (br_t (by decide) (⟨vi, br_t (by rw [nn_Iap, z]; rfl) h⟩))))))))))))⟩
        · exact ⟨1, fun P h => xn _ (br_f nn_10 (br_f (by decide) (br_f (by decide) (br_f (by decide) (br_f (by decide) (br_f (by decide) (br_f (by decide) (br_f (by decide) (br_t (by decide) (⟨vi, br_f (by rw [nn_Iap, z]; decide) h⟩)))))))))), fun P h => yn _ (br_f nn_10 (yw _ (br_f nn_10 (br_f (by decide) (br_f (by decide) (br_f (by decide) (br_f (by decide) (br_f (by decide) (br_f (by decide) (br_f (by decide) (br_t (by decide) (⟨vi, br_f (by rw [nn_Iap, z]; decide) h⟩))))))))))))⟩
      · have hp := hP.1 (3 * n + (6 - 6)) (by omega)
        have h8 := hP.2.1 (3 * n + (6 - 6))
        refine ⟨nn_p3 (pk (3 * n + (6 - 6))), fun P h => xn _ (br_f nn_10 (br_f (by decide) (br_f (by decide) (br_f (by decide) (br_f (by decide) (br_f (by decide) (br_f (by decide) (br_f (by decide) (br_f (by decide) (br_t (by decide) (?_))))))))))), fun P h => yn _ (br_f nn_10 (yw _ (br_f nn_10 (br_f (by decide) (br_t (by decide) (br_t (by decide) ?_))))))⟩
        · unfold wX_ballot_137
          rw [rm_i6 (by omega), nI_clamp (by omega), hp.1]
          exact ⟨vp_in_nI (by omega) (by omega), h⟩
        · rw [rm_i6 (by omega), nI_clamp (by omega), hp.2]
          refine ⟨vp_in_nI (by omega) (by omega), br_c (fun z => ⟨vp_in_nI (by omega) (by omega), ?_⟩) (fun z => ?_)⟩
          · have z := (nn_p1g h8).mp z
            unfold nn_p3 at h
            unfold nn_p1
            rw [if_neg z] at h ⊢
            exact h
          · have z : pk (3 * n + (6 - 6)) = 0 := Classical.byContradiction fun q => z ((nn_p1g h8).mpr q)
            rw [z] at h
            exact h
      · have hp := hP.1 (3 * n + (7 - 6)) (by omega)
        have h8 := hP.2.1 (3 * n + (7 - 6))
        refine ⟨nn_p3 (pk (3 * n + (7 - 6))), fun P h => xn _ (br_f nn_10 (br_f (by decide) (br_f (by decide) (br_f (by decide) (br_f (by decide) (br_f (by decide) (br_f (by decide) (br_f (by decide) (br_f (by decide) (br_f (by decide) (br_t (by decide) (?_)))))))))))), fun P h => yn _ (br_f nn_10 (yw _ (br_f nn_10 (br_f (by decide) (br_t (by decide) (br_t (by decide) ?_))))))⟩
        · unfold wX_ballot_137
          rw [rm_i6 (by omega), nI_clamp (by omega), hp.1]
          exact ⟨vp_in_nI (by omega) (by omega), h⟩
        · rw [rm_i6 (by omega), nI_clamp (by omega), hp.2]
          refine ⟨vp_in_nI (by omega) (by omega), br_c (fun z => ⟨vp_in_nI (by omega) (by omega), ?_⟩) (fun z => ?_)⟩
          · have z := (nn_p1g h8).mp z
            unfold nn_p3 at h
            unfold nn_p1
            rw [if_neg z] at h ⊢
            exact h
          · have z : pk (3 * n + (7 - 6)) = 0 := Classical.byContradiction fun q => z ((nn_p1g h8).mpr q)
            rw [z] at h
            exact h
      · have hp := hP.1 (3 * n + (8 - 6)) (by omega)
        have h8 := hP.2.1 (3 * n + (8 - 6))
        refine ⟨nn_p3 (pk (3 * n + (8 - 6))), fun P h => xn _ (br_f nn_10 (br_f (by decide) (br_f (by decide) (br_f (by decide) (br_f (by decide) (br_f (by decide) (br_f (by decide) (br_f (by decide) (br_f (by decide) (br_f (by decide) (br_f (by decide) (br_t (by decide) (?_))))))))))))), fun P h => yn _ (br_f nn_10 (yw _ (br_f nn_10 (br_f (by decide) (br_t (by decide) (br_t (by decide) ?_))))))⟩
        · unfold wX_ballot_137
          rw [rm_i6 (by omega), nI_clamp (by omega), hp.1]
          exact ⟨vp_in_nI (by omega) (by omega), h⟩
        · rw [rm_i6 (by omega), nI_clamp (by omega), hp.2]
          refine ⟨vp_in_nI (by omega) (by omega), br_c (fun z => ⟨vp_in_nI (by omega) (by omega), ?_⟩) (fun z => ?_)⟩
          · have z := (nn_p1g h8).mp z
            unfold nn_p3 at h
            unfold nn_p1
            rw [if_neg z] at h ⊢
            exact h
          · have z : pk (3 * n + (8 - 6)) = 0 := Classical.byContradiction fun q => z ((nn_p1g h8).mpr q)
            rw [z] at h
            exact h
      · have hb := hP.2.2.1 (3 * n + (9 - 9))
        rcases (show fr (3 * n + (9 - 9)) = 0 ∨ fr (3 * n + (9 - 9)) = 1 by omega) with z | z
        · refine ⟨0, fun P h => xn _ (br_f nn_10 (br_f (by decide) (br_f (by decide) (br_f (by decide) (br_f (by decide) (br_f (by decide) (br_f (by decide) (br_f (by decide) (br_f (by decide) (br_f (by decide) (br_f (by decide) (br_f (by decide) (br_t (by decide) (?_)))))))))))))), fun P h => yn _ (br_f nn_10 (yw _ (br_f nn_10 (br_f (by decide) (br_t (by decide) (br_f (by decide) ?_))))))⟩
          · unfold wX_ballot_151
            rw [rm_i9 (by omega), nI_clamp (by omega)]
            exact ⟨vp_in_nI (by omega) (by omega), br_t (by rw [nn_Iap, z]; rfl) h⟩
          · rw [rm_i9 (by omega), nI_clamp (by omega)]
            exact ⟨vp_in_nI (by omega) (by omega), br_t (by rw [nn_Iap, z]; rfl) h⟩
        · refine ⟨1, fun P h => xn _ (br_f nn_10 (br_f (by decide) (br_f (by decide) (br_f (by decide) (br_f (by decide) (br_f (by decide) (br_f (by decide) (br_f (by decide) (br_f (by decide) (br_f (by decide) (br_f (by decide) (br_f (by decide) (br_t (by decide) (?_)))))))))))))), fun P h => yn _ (br_f nn_10 (yw _ (br_f nn_10 (br_f (by decide) (br_t (by decide) (br_f (by decide) ?_))))))⟩
          · unfold wX_ballot_151
            rw [rm_i9 (by omega), nI_clamp (by omega)]
            exact ⟨vp_in_nI (by omega) (by omega), br_f (by rw [nn_Iap, z]; decide) h⟩
          · rw [rm_i9 (by omega), nI_clamp (by omega)]
            exact ⟨vp_in_nI (by omega) (by omega), br_f (by rw [nn_Iap, z]; decide) h⟩
      · have hb := hP.2.2.1 (3 * n + (10 - 9))
        rcases (show fr (3 * n + (10 - 9)) = 0 ∨ fr (3 * n + (10 - 9)) = 1 by omega) with z | z
        · refine ⟨0, fun P h => xn _ (br_f nn_10 (br_f (by decide) (br_f (by decide) (br_f (by decide) (br_f (by decide) (br_f (by decide) (br_f (by decide) (br_f (by decide) (br_f (by decide) (br_f (by decide) (br_f (by decide) (br_f (by decide) (br_f (by decide) (br_t (by decide) (?_))))))))))))))), fun P h => yn _ (br_f nn_10 (yw _ (br_f nn_10 (br_f (by decide) (br_t (by decide) (br_f (by decide) ?_))))))⟩
          · unfold wX_ballot_151
            rw [rm_i9 (by omega), nI_clamp (by omega)]
            exact ⟨vp_in_nI (by omega) (by omega), br_t (by rw [nn_Iap, z]; rfl) h⟩
          · rw [rm_i9 (by omega), nI_clamp (by omega)]
            exact ⟨vp_in_nI (by omega) (by omega), br_t (by rw [nn_Iap, z]; rfl) h⟩
        · refine ⟨1, fun P h => xn _ (br_f nn_10 (br_f (by decide) (br_f (by decide) (br_f (by decide) (br_f (by decide) (br_f (by decide) (br_f (by decide) (br_f (by decide) (br_f (by decide) (br_f (by decide) (br_f (by decide) (br_f (by decide) (br_f (by decide) (br_t (by decide) (?_))))))))))))))), fun P h => yn _ (br_f nn_10 (yw _ (br_f nn_10 (br_f (by decide) (br_t (by decide) (br_f (by decide) ?_))))))⟩
          · unfold wX_ballot_151
            rw [rm_i9 (by omega), nI_clamp (by omega)]
            exact ⟨vp_in_nI (by omega) (by omega), br_f (by rw [nn_Iap, z]; decide) h⟩
          · rw [rm_i9 (by omega), nI_clamp (by omega)]
            exact ⟨vp_in_nI (by omega) (by omega), br_f (by rw [nn_Iap, z]; decide) h⟩
      · have hb := hP.2.2.1 (3 * n + (11 - 9))
        rcases (show fr (3 * n + (11 - 9)) = 0 ∨ fr (3 * n + (11 - 9)) = 1 by omega) with z | z
        · refine ⟨0, fun P h => xn _ (br_f nn_10 (br_f (by decide) (br_f (by decide) (br_f (by decide) (br_f (by decide) (br_f (by decide) (br_f (by decide) (br_f (by decide) (br_f (by decide) (br_f (by decide) (br_f (by decide) (br_f (by decide) (br_f (by decide) (br_f (by decide) (br_t (by decide) (?_)))))))))))))))), fun P h => yn _ (br_f nn_10 (yw _ (br_f nn_10 (br_f (by decide) (br_t (by decide) (br_f (by decide) ?_))))))⟩
          · unfold wX_ballot_151
            rw [rm_i9 (by omega), nI_clamp (by omega)]
            exact ⟨vp_in_nI (by omega) (by omega), br_t (by rw [nn_Iap, z]; rfl) h⟩
          · rw [rm_i9 (by omega), nI_clamp (by omega)]
            exact ⟨vp_in_nI (by omega) (by omega), br_t (by rw [nn_Iap, z]; rfl) h⟩
        · refine ⟨1, fun P h => xn _ (br_f nn_10 (br_f (by decide) (br_f (by decide) (br_f (by decide) (br_f (by decide) (br_f (by decide) (br_f (by decide) (br_f (by decide) (br_f (by decide) (br_f (by decide) (br_f (by decide) (br_f (by decide) (br_f (by decide) (br_f (by decide) (br_t (by decide) (?_)))))))))))))))), fun P h => yn _ (br_f nn_10 (yw _ (br_f nn_10 (br_f (by decide) (br_t (by decide) (br_f (by decide) ?_))))))⟩
          · unfold wX_ballot_151
            rw [rm_i9 (by omega), nI_clamp (by omega)]
            exact ⟨vp_in_nI (by omega) (by omega), br_f (by rw [nn_Iap, z]; decide) h⟩
          · rw [rm_i9 (by omega), nI_clamp (by omega)]
            exact ⟨vp_in_nI (by omega) (by omega), br_f (by rw [nn_Iap, z]; decide) h⟩
    · exact ⟨-1, fun P h => xn _ (br_f nn_10 (xw _ True _ h)), fun P h => yn _ (br_f nn_10 (yw _ (br_t rfl h)))⟩
  · exact ⟨-1, fun P h => xn _ (br_t rfl h), fun P h => yn _ (br_t rfl h)⟩
end
section
/-! chosen, learned, possible -/
def rl_low (Pv : Nat → Prop) (r : Nat) : Prop := r < 8 ∧ ((r = 0 ∧ ∀ v, 1 ≤ v → v < 8 → ¬ Pv v) ∨ (1 ≤ r ∧ Pv r ∧ ∀ v, 1 ≤ v → v < r → ¬ Pv v))
theorem rm_lowd : ∀ C, C < 256 → C ≠ 0 → ∃ r : Fin 8, C / 2 ^ r.val % 2 = 1 ∧ ∀ v, v < r.val → C / 2 ^ v % 2 = 0 := by decide +kernel
theorem rm_low {x : Int32} {Pv : Nat → Prop} (h : rl_bits x Pv) : ∃ r, rl_low Pv r ∧ (x = 0 ↔ r = 0) ∧ ∀ P : Int32 → Prop, P (nI r) → wpX_lowest P x := by
  obtain ⟨C, hC, e, h0, hb⟩ := h
  subst e
  by_cases hz : C = 0
  · subst hz
    refine ⟨0, ⟨by omega, Or.inl ⟨rfl, fun v h1 h8 q => ?_⟩⟩, ⟨fun _ => rfl, fun _ => rfl⟩, fun P hp => ⟨1, br_t rfl hp⟩⟩
    have := (hb v h1 h8).mpr q
    rw [Nat.zero_div] at this
    exact absurd this (by decide)
  · obtain ⟨⟨r, hr⟩, h1, h2⟩ := rm_lowd C hC hz
    have h1 : C / 2 ^ r % 2 = 1 := h1
    have h2 : ∀ v, v < r → C / 2 ^ v % 2 = 0 := h2
    have hr0 : 1 ≤ r := by
      rcases Nat.eq_zero_or_pos r with z | z
      · rw [z, Nat.pow_zero, Nat.div_one] at h1; omega
      · exact z
    have nz : ¬ nI C = 0 := nI_ne0 (by omega) (by omega)
    refine ⟨r, ⟨hr, Or.inr ⟨hr0, (hb r hr0 hr).mp h1, fun v a1 a2 q => ?_⟩⟩, ⟨fun q => absurd q nz, fun q => by omega⟩, fun P hp => ?_⟩
    · have := (hb v a1 (by omega)).mpr q
      rw [h2 v a2] at this
      exact absurd this (by decide)
    · have key : ∀ e k, k + e = r → wX_lowest_2 P (nI C) (e + 1) (nI k) := by
        intro e
        induction e with
        | zero =>
          intro k hk
          have hk : k = r := by omega
          subst hk
          refine br_f nz (pk_eq (C / 2 ^ k % 2) 0 (fun z => by omega) (fun z => hp) (hx := nn_bit (by omega) (by omega)))
        | succ e ih =>
          intro k hk
          refine br_f nz (pk_eq (C / 2 ^ k % 2) 0 (fun z => nm_r (nI_1 k) (ih (k + 1) (by omega))) (fun z => ?_) (hx := nn_bit (by omega) (by omega)))
          exact absurd (h2 k (by omega)) z
      exact ⟨r + 1, key r 0 (by omega)⟩
section ro2
variable {fj : Int32} {nb lc : Nat} {tb df sm ju le ls pi de op ov qb qi qv ch lr : Nat → Int32} {so ba an fa co fr ke up pr vo vt he : Nat → Nat} {Qs : Nat → List (Nat × Nat × Nat)}
variable {st nu pj dw rb ri rv : Nat → Int32}
variable {QQ : Nat → Nat → Nat → Bool} {pk : Nat → Nat}
theorem ym_ch21 {P : Int32 → Prop} {J : Int32 → Prop} {i v : Nat} (hS : rl_S QQ df tb le ls st nu) (hB : rl_B nb lc df so ba fa co) (hP : rl_P nb pk fr pi pj) (hi : i < 3) (h1v : 1 ≤ v) (hv : v < 8) (hvt : ∀ j, vt j < 128)
    (h1 : ∀ b, 1 ≤ b → b ≤ nb → pk (3 * b + i) ≠ 0 → rl_en QQ so pk b i (vt (24 * b + 8 * i + v)) → P (nI v))
    (h0 : (∀ b, 1 ≤ b → b ≤ nb → ¬ (pk (3 * b + i) ≠ 0 ∧ rl_en QQ so pk b i (vt (24 * b + 8 * i + v)))) → J (nI (v + 1))) :
    ∀ e b, b + e = nb + 1 → 1 ≤ b → (∀ b', 1 ≤ b' → b' < b → ¬ (pk (3 * b' + i) ≠ 0 ∧ rl_en QQ so pk b' i (vt (24 * b' + 8 * i + v)))) → wY_chosen_21 P J (nI i) (nI v) (nI nb) st nu (nn_I so) (nn_I ba) (nn_I an) pj (nn_I ke) (nn_I fa) (nn_I co) (nn_I fr) dw (nn_I pr) (nn_I vo) (nn_L Qs) rb ri rv (nn_I vt) (nn_I he) (e + 1) (nI b) := by
  have hnb := hB.1
  intro e
  induction e with
  | zero =>
    intro b hb hb1 I
    exact pk_lt nb b (fun z => nm_r (nI_1 v) (h0 (fun b' a1 a2 => I b' a1 (by omega)))) (fun z => by omega)
  | succ e ih =>
    intro b hb hb1 I
    refine pk_lt nb b (fun z => by omega) (fun z => ?_)
    rw [rm_i24, nI_clamp (by omega)]
    refine ⟨vp_in_nI (by omega) (by omega), rm_en_y hS hB hP hb1 z hi (hvt _) (nn_br (fun q => nm_r (nI_1 b) (ih (b + 1) (by omega) (by omega) (fun b' a1 a2 => ?_))) (fun q => h1 b hb1 z q.1 q.2))⟩
    rcases Nat.lt_or_ge b' b with w | w
    · exact I b' a1 w
    · rw [show b' = b by omega]; exact q
theorem ym_ch {P : Int32 → Prop} {i r : Nat} (hS : rl_S QQ df tb le ls st nu) (hB : rl_B nb lc df so ba fa co) (hP : rl_P nb pk fr pi pj) (hi : i < 3) (hvt : ∀ j, vt j < 128) (hvk : ∀ b i v, b ≤ 12 → i < 3 → v < 8 → rl_vt nb pk b i v (vt (24 * b + 8 * i + v)))
    (hr : rl_low (fun v => ∃ b, b ≤ 12 ∧ vt (24 * b + 8 * i + v) ≠ 0 ∧ rl_en QQ so pk b i (vt (24 * b + 8 * i + v))) r) (h : P (nI r)) : ∃ n, wY_chosen_13 P (nI i) (nI nb) st nu (nn_I so) (nn_I ba) (nn_I an) pj (nn_I ke) (nn_I fa) (nn_I co) (nn_I fr) dw (nn_I pr) (nn_I vo) (nn_L Qs) rb ri rv (nn_I vt) (nn_I he) n 1 := by
  have hnb := hB.1
  have lk : ∀ v, v < 8 → ∀ b, 1 ≤ b → b ≤ nb → pk (3 * b + i) ≠ 0 → rl_en QQ so pk b i (vt (24 * b + 8 * i + v)) → ∃ b, b ≤ 12 ∧ vt (24 * b + 8 * i + v) ≠ 0 ∧ rl_en QQ so pk b i (vt (24 * b + 8 * i + v)) := fun v hv b a1 a2 a3 a4 => by
    refine ⟨b, by omega, fun q => ?_, a4⟩
    rw [q] at a4
    exact rm_en0 hS hB a1 a2 a4
  have kl : ∀ v, v < 8 → (∃ b, b ≤ 12 ∧ vt (24 * b + 8 * i + v) ≠ 0 ∧ rl_en QQ so pk b i (vt (24 * b + 8 * i + v))) → ∃ b, 1 ≤ b ∧ b ≤ nb ∧ pk (3 * b + i) ≠ 0 ∧ rl_en QQ so pk b i (vt (24 * b + 8 * i + v)) := fun v hv ⟨b, a1, a2, a3⟩ => by
    have := hvk b i v a1 hi hv a2
    refine ⟨b, this.1, this.2.1, ?_, a3⟩
    rcases this.2.2.2 with q | q <;> rw [q] <;> omega
  have key : ∀ e v, v + e = 8 → 1 ≤ v → (∀ v', 1 ≤ v' → v' < v → ¬ ∃ b, 1 ≤ b ∧ b ≤ nb ∧ pk (3 * b + i) ≠ 0 ∧ rl_en QQ so pk b i (vt (24 * b + 8 * i + v'))) → wY_chosen_13 P (nI i) (nI nb) st nu (nn_I so) (nn_I ba) (nn_I an) pj (nn_I ke) (nn_I fa) (nn_I co) (nn_I fr) dw (nn_I pr) (nn_I vo) (nn_L Qs) rb ri rv (nn_I vt) (nn_I he) (e + 1) (nI v) := by
    intro e
    induction e with
    | zero =>
      intro v hv h1v I
      refine pk_le 8 v (fun z => ?_) (fun z => by omega)
      rcases hr.2 with q | q
      · rw [q.1] at h; exact h
      · exact absurd (kl r hr.1 q.2.1) (I r q.1 (by have := hr.1; omega))
    | succ e ih =>
      intro v hv h1v I
      refine pk_le 8 v (fun z => by omega) (fun z => ⟨nb + 1, ?_⟩)
      refine ym_ch21 hS hB hP hi h1v z hvt (fun b a1 a2 a3 a4 => ?_) (fun q => ih (v + 1) (by omega) (by omega) (fun v' a1 a2 => ?_)) nb 1 (by omega) (by omega) (fun b' a1 a2 => absurd a2 (by omega))
      · rcases hr.2 with q | q
        · exact absurd (lk v z b a1 a2 a3 a4) (q.2 v h1v z)
        · have e1 : ¬ v < r := fun w => q.2.2 v h1v w (lk v z b a1 a2 a3 a4)
          have e2 : ¬ r < v := fun w => I r q.1 w (kl r hr.1 q.2.1)
          rw [show v = r by omega]
          exact h
      · rcases Nat.lt_or_ge v' v with w | w
        · exact I v' a1 w
        · rw [show v' = v by omega]
          exact fun ⟨b, c1, c2, c3, c4⟩ => q b c1 c2 ⟨c3, c4⟩
  exact ⟨8, key 7 1 (by omega) (by omega) (fun v' a1 a2 => absurd a2 (by omega))⟩
theorem ym_le21 {P : Int32 → Prop} {J : Int32 → Prop} {l i v : Nat} (hS : rl_S QQ df tb le ls st nu) (hB : rl_B nb lc df so ba fa co) (hP : rl_P nb pk fr pi pj) (hi : i < 3) (h1v : 1 ≤ v) (hv : v < 8) (hl : l < 2) (hvt : ∀ j, he j < 128)
    (h1 : ∀ b, 1 ≤ b → b ≤ nb → pk (3 * b + i) ≠ 0 → rl_en QQ so pk b i (he (312 * l + 24 * b + 8 * i + v)) → P (nI v))
    (h0 : (∀ b, 1 ≤ b → b ≤ nb → ¬ (pk (3 * b + i) ≠ 0 ∧ rl_en QQ so pk b i (he (312 * l + 24 * b + 8 * i + v)))) → J (nI (v + 1))) :
    ∀ e b, b + e = nb + 1 → 1 ≤ b → (∀ b', 1 ≤ b' → b' < b → ¬ (pk (3 * b' + i) ≠ 0 ∧ rl_en QQ so pk b' i (he (312 * l + 24 * b' + 8 * i + v)))) → wY_learned_31 P J (nI l) (nI i) (nI v) (nI nb) st nu (nn_I so) (nn_I ba) (nn_I an) pj (nn_I ke) (nn_I fa) (nn_I co) (nn_I fr) dw (nn_I pr) (nn_I vo) (nn_L Qs) rb ri rv (nn_I vt) (nn_I he) (e + 1) (nI b) := by
  have hnb := hB.1
  intro e
  induction e with
  | zero =>
    intro b hb hb1 I
    exact pk_lt nb b (fun z => nm_r (nI_1 v) (h0 (fun b' a1 a2 => I b' a1 (by omega)))) (fun z => by omega)
  | succ e ih =>
    intro b hb hb1 I
    refine pk_lt nb b (fun z => by omega) (fun z => ?_)
    rw [rm_i312, nI_clamp (by omega)]
    refine ⟨vp_in_nI (by omega) (by omega), rm_en_y hS hB hP hb1 z hi (hvt _) (nn_br (fun q => nm_r (nI_1 b) (ih (b + 1) (by omega) (by omega) (fun b' a1 a2 => ?_))) (fun q => h1 b hb1 z q.1 q.2))⟩
    rcases Nat.lt_or_ge b' b with w | w
    · exact I b' a1 w
    · rw [show b' = b by omega]; exact q
theorem ym_le {P : Int32 → Prop} {l i r : Nat} (hS : rl_S QQ df tb le ls st nu) (hB : rl_B nb lc df so ba fa co) (hP : rl_P nb pk fr pi pj) (hi : i < 3) (hl : l < 2) (hvt : ∀ j, he j < 128) (hvk : ∀ b i v, b ≤ 12 → i < 3 → v < 8 → rl_vt nb pk b i v (he (312 * l + 24 * b + 8 * i + v)))
    (hr : rl_low (fun v => ∃ b, b ≤ 12 ∧ he (312 * l + 24 * b + 8 * i + v) ≠ 0 ∧ rl_en QQ so pk b i (he (312 * l + 24 * b + 8 * i + v))) r) (h : P (nI r)) : ∃ n, wY_learned_22 P (nI l) (nI i) (nI nb) st nu (nn_I so) (nn_I ba) (nn_I an) pj (nn_I ke) (nn_I fa) (nn_I co) (nn_I fr) dw (nn_I pr) (nn_I vo) (nn_L Qs) rb ri rv (nn_I vt) (nn_I he) n 1 := by
  have hnb := hB.1
  have lk : ∀ v, v < 8 → ∀ b, 1 ≤ b → b ≤ nb → pk (3 * b + i) ≠ 0 → rl_en QQ so pk b i (he (312 * l + 24 * b + 8 * i + v)) → ∃ b, b ≤ 12 ∧ he (312 * l + 24 * b + 8 * i + v) ≠ 0 ∧ rl_en QQ so pk b i (he (312 * l + 24 * b + 8 * i + v)) := fun v hv b a1 a2 a3 a4 => by
    refine ⟨b, by omega, fun q => ?_, a4⟩
    rw [q] at a4
    exact rm_en0 hS hB a1 a2 a4
  have kl : ∀ v, v < 8 → (∃ b, b ≤ 12 ∧ he (312 * l + 24 * b + 8 * i + v) ≠ 0 ∧ rl_en QQ so pk b i (he (312 * l + 24 * b + 8 * i + v))) → ∃ b, 1 ≤ b ∧ b ≤ nb ∧ pk (3 * b + i) ≠ 0 ∧ rl_en QQ so pk b i (he (312 * l + 24 * b + 8 * i + v)) := fun v hv ⟨b, a1, a2, a3⟩ => by
    have := hvk b i v a1 hi hv a2
    refine ⟨b, this.1, this.2.1, ?_, a3⟩
    rcases this.2.2.2 with q | q <;> rw [q] <;> omega
  have key : ∀ e v, v + e = 8 → 1 ≤ v → (∀ v', 1 ≤ v' → v' < v → ¬ ∃ b, 1 ≤ b ∧ b ≤ nb ∧ pk (3 * b + i) ≠ 0 ∧ rl_en QQ so pk b i (he (312 * l + 24 * b + 8 * i + v'))) → wY_learned_22 P (nI l) (nI i) (nI nb) st nu (nn_I so) (nn_I ba) (nn_I an) pj (nn_I ke) (nn_I fa) (nn_I co) (nn_I fr) dw (nn_I pr) (nn_I vo) (nn_L Qs) rb ri rv (nn_I vt) (nn_I he) (e + 1) (nI v) := by
    intro e
    induction e with
    | zero =>
      intro v hv h1v I
      refine pk_le 8 v (fun z => ?_) (fun z => by omega)
      rcases hr.2 with q | q
      · rw [q.1] at h; exact h
      · exact absurd (kl r hr.1 q.2.1) (I r q.1 (by have := hr.1; omega))
    | succ e ih =>
      intro v hv h1v I
      refine pk_le 8 v (fun z => by omega) (fun z => ⟨nb + 1, ?_⟩)
      refine ym_le21 hS hB hP hi h1v z hl hvt (fun b a1 a2 a3 a4 => ?_) (fun q => ih (v + 1) (by omega) (by omega) (fun v' a1 a2 => ?_)) nb 1 (by omega) (by omega) (fun b' a1 a2 => absurd a2 (by omega))
      · rcases hr.2 with q | q
        · exact absurd (lk v z b a1 a2 a3 a4) (q.2 v h1v z)
        · have e1 : ¬ v < r := fun w => q.2.2 v h1v w (lk v z b a1 a2 a3 a4)
          have e2 : ¬ r < v := fun w => I r q.1 w (kl r hr.1 q.2.1)
          rw [show v = r by omega]
          exact h
      · rcases Nat.lt_or_ge v' v with w | w
        · exact I v' a1 w
        · rw [show v' = v by omega]
          exact fun ⟨b, c1, c2, c3, c4⟩ => q b c1 c2 ⟨c3, c4⟩
  exact ⟨8, key 7 1 (by omega) (by omega) (fun v' a1 a2 => absurd a2 (by omega))⟩
theorem ym_learned {P : Int32 → Prop} {l i r : Nat} (hS : rl_S QQ df tb le ls st nu) (hB : rl_B nb lc df so ba fa co) (hP : rl_P nb pk fr pi pj) (hV : rl_V nb pk an ke pr vo vt he) (hl : l < 2) (hi : i < 3)
    (hr : rl_low (fun v => ∃ b, b ≤ 12 ∧ he (312 * l + 24 * b + 8 * i + v) ≠ 0 ∧ rl_en QQ so pk b i (he (312 * l + 24 * b + 8 * i + v))) r) (h : P (nI r)) : wpY_learned P ((nI nb), st, nu, (nn_I so), (nn_I ba), (nn_I an), pj, (nn_I ke), (nn_I fa), (nn_I co), (nn_I fr), dw, (nn_I pr), (nn_I vo), (nn_L Qs), rb, ri, rv, (nn_I vt), (nn_I he)) (nI l) (nI i) := by
  unfold wpY_learned
  dsimp only
  refine br_f (nI_pos (by omega)) (br_f (nI_nlt (a := 1) (by omega) (by omega)) (br_f nn_10 (br_f (nI_pos (by omega)) (br_f (nI_nlt (a := 2) (by omega) (by omega)) (br_f nn_10 ?_)))))
  exact ym_le hS hB hP hi hl hV.2.2.2.2.2.2.1 (fun b i v a1 a2 a3 => hV.2.2.2.2.2.2.2.2.2 l b i v hl a1 a2 a3) hr h
theorem rm_poi {b i o : Nat} (hS : rl_S QQ df tb le ls st nu) (hB : rl_B nb lc df so ba fa co) (hP : rl_P nb pk fr pi pj) (hV : rl_V nb pk an ke pr vo vt he) (h1 : 1 ≤ b) (hb : b ≤ nb) (hi : i < 3) (ho : o < 128) (hpk : pk (3 * b + i) ≠ 0) : ∀ e v t, v + e = 8 → 1 ≤ v → ∃ t', (∀ (P : Int32 → Prop) (J : Int32 → Int32 → Prop), J (nI t') (nI (b + 1)) → wX_possible_55 P J (nI i) (nI b) (nn_p3 (pk (3 * b + i))) (nI o) fj (nI nb) (nI lc) tb df sm ju le ls (nn_I so) (nn_I ba) (nn_I an) (nn_I fa) (nn_I co) pi (nn_I fr) de (nn_I ke) (nn_I up) (nn_I pr) op (nn_I vo) ov (nn_L Qs) qb qi qv (nn_I vt) (nn_I he) ch lr (e + 1) (nI t) (nI v)) ∧ ∀ (P : Int32 → Prop) (J : Int32 → Int32 → Prop), J (nI t') (nI (b + 1)) → wY_possible_46 P J (nI i) (nI b) (nI o) (nn_p1 (pk (3 * b + i))) (nI nb) st nu (nn_I so) (nn_I ba) (nn_I an) pj (nn_I ke) (nn_I fa) (nn_I co) (nn_I fr) dw (nn_I pr) (nn_I vo) (nn_L Qs) rb ri rv (nn_I vt) (nn_I he) (e + 1) (nI t) (nI v) := by
  have hnb := hB.1
  have h8 := hP.2.1 (3 * b + i)
  intro e
  induction e with
  | zero =>
    intro v t hv h1v
    exact ⟨t, fun P J h => br_t (nI_le (a := 8) (by omega) (by omega)) (nm_r (nI_1 b) h), fun P J h => br_t (nI_le (a := 8) (by omega) (by omega)) (nm_r (nI_1 b) h)⟩
  | succ e ih =>
    intro v t hv h1v
    have z : ¬ (8 : Int32) ≤ nI v := nI_ge (b := 8) (by omega) (by omega)
    have hw := hV.2.2.2.2.2.1 (24 * b + 8 * i + v)
    have cm := rl_cm pk b i v
    by_cases hc : pk (3 * b + i) = 1 ∨ pk (3 * b + i) = v + 1
    · have go : ∀ t2, (rl_en QQ so pk b i (vt (24 * b + 8 * i + v) ||| o) → t2 = t ||| 2 ^ v) → (¬ rl_en QQ so pk b i (vt (24 * b + 8 * i + v) ||| o) → t2 = t) → (∀ (P : Int32 → Prop) (J J' : Int32 → Int32 → Prop), J' (nI t2) (nI (v + 1)) → wX_possible_77 P J J' (nI i) (nI t) (nI b) (nn_p3 (pk (3 * b + i))) (nI o) (nI v) fj (nI nb) (nI lc) tb df sm ju le ls (nn_I so) (nn_I ba) (nn_I an) (nn_I fa) (nn_I co) pi (nn_I fr) de (nn_I ke) (nn_I up) (nn_I pr) op (nn_I vo) ov (nn_L Qs) qb qi qv (nn_I vt) (nn_I he) ch lr) ∧ ∀ (P : Int32 → Prop) (J J' : Int32 → Int32 → Prop), J' (nI t2) (nI (v + 1)) → wY_possible_65 P J J' (nI i) (nI t) (nI b) (nI o) (nn_p1 (pk (3 * b + i))) (nI v) (nI nb) st nu (nn_I so) (nn_I ba) (nn_I an) pj (nn_I ke) (nn_I fa) (nn_I co) (nn_I fr) dw (nn_I pr) (nn_I vo) (nn_L Qs) rb ri rv (nn_I vt) (nn_I he) := fun t2 g1 g0 => by
        have eo : nI t ||| ((1 : Int32) <<< (nI v &&& 31)) = nI (t ||| 2 ^ v) := by rw [nn_shl (by omega), nn_or]
        refine ⟨fun P J J' h => ?_, fun P J J' h => ?_⟩
        · unfold wX_possible_77
          rw [rm_i24, nI_clamp (by omega)]
          refine ⟨vp_in_nI (by omega) (by omega), nm_r (e' := nI (vt (24 * b + 8 * i + v) ||| o)) (by rw [nn_Iap, nn_or, Nat.or_comm]) (rm_en_x hS hB hP h1 hb hi (qq_lor hw ho) (nn_br (fun q => nm_r (nI_1 v) ?_) (fun q => nm_r eo (nm_r (nI_1 v) ?_))))⟩
          · rw [g0 q] at h; exact h
          · rw [g1 q] at h; exact h
        · unfold wY_possible_65
          rw [rm_i24, nI_clamp (by omega), nn_Iap, nn_or]
          refine ⟨vp_in_nI (by omega) (by omega), rm_en_y hS hB hP h1 hb hi (qq_lor hw ho) (nn_br (fun q => nm_r (nI_1 v) ?_) (fun q => nm_r eo (nm_r (nI_1 v) ?_)))⟩
          · rw [g0 (fun w => q ⟨hpk, w⟩)] at h; exact h
          · rw [g1 q.2] at h; exact h
      have go2 : ∃ t2, (∀ (P : Int32 → Prop) (J J' : Int32 → Int32 → Prop), J' (nI t2) (nI (v + 1)) → wX_possible_77 P J J' (nI i) (nI t) (nI b) (nn_p3 (pk (3 * b + i))) (nI o) (nI v) fj (nI nb) (nI lc) tb df sm ju le ls (nn_I so) (nn_I ba) (nn_I an) (nn_I fa) (nn_I co) pi (nn_I fr) de (nn_I ke) (nn_I up) (nn_I pr) op (nn_I vo) ov (nn_L Qs) qb qi qv (nn_I vt) (nn_I he) ch lr) ∧ ∀ (P : Int32 → Prop) (J J' : Int32 → Int32 → Prop), J' (nI t2) (nI (v + 1)) → wY_possible_65 P J J' (nI i) (nI t) (nI b) (nI o) (nn_p1 (pk (3 * b + i))) (nI v) (nI nb) st nu (nn_I so) (nn_I ba) (nn_I an) pj (nn_I ke) (nn_I fa) (nn_I co) (nn_I fr) dw (nn_I pr) (nn_I vo) (nn_L Qs) rb ri rv (nn_I vt) (nn_I he) := by
        rcases Classical.em (rl_en QQ so pk b i (vt (24 * b + 8 * i + v) ||| o)) with q | q
        · exact ⟨_, go _ (fun _ => rfl) (fun w => absurd q w)⟩
        · exact ⟨_, go _ (fun w => absurd w q) (fun _ => rfl)⟩
      obtain ⟨t2, gX, gY⟩ := go2
      obtain ⟨t', hX, hY⟩ := ih (v + 1) t2 (by omega) (by omega)
      refine ⟨t', fun P J h => br_f z (br_c (fun q => gX _ _ _ (hX P J h)) (fun q => br_t ?_ (gX _ _ _ (hX P J h)))), fun P J h => br_f z (br_c (fun q => gY _ _ _ (hY P J h)) (fun q => br_t ?_ (gY _ _ _ (hY P J h))))⟩
      · rcases hc with c | c
        · exact absurd ((nn_p3a h8).mpr c) q
        · exact (nn_p3v h8 (by omega)).mpr c
      · rcases hc with c | c
        · exact absurd ((nn_p1a h8).mpr c) q
        · exact (nn_p1v h8 (by omega)).mpr c
    · obtain ⟨t', hX, hY⟩ := ih (v + 1) t (by omega) (by omega)
      refine ⟨t', fun P J h => br_f z (br_f (fun q => hc (Or.inl ((nn_p3a h8).mp q))) (br_f (fun q => hc (Or.inr ((nn_p3v h8 (by omega)).mp q))) (nm_r (nI_1 v) (hX P J h)))), fun P J h => br_f z (br_f (fun q => hc (Or.inl ((nn_p1a h8).mp q))) (br_f (fun q => hc (Or.inr ((nn_p1v h8 (by omega)).mp q))) (nm_r (nI_1 v) (hY P J h))))⟩
theorem rm_po0 {b i o : Nat} {P : Int32 → Prop} {J : Int32 → Int32 → Prop} {t : Nat} (h : J (nI t) (nI (b + 1))) : ∀ e v, v + e = 8 → wY_possible_46 P J (nI i) (nI b) (nI o) (-1) (nI nb) st nu (nn_I so) (nn_I ba) (nn_I an) pj (nn_I ke) (nn_I fa) (nn_I co) (nn_I fr) dw (nn_I pr) (nn_I vo) (nn_L Qs) rb ri rv (nn_I vt) (nn_I he) (e + 1) (nI t) (nI v) := by
  intro e
  induction e with
  | zero => intro v hv; exact br_t (nI_le (a := 8) (by omega) (by omega)) (nm_r (nI_1 b) h)
  | succ e ih =>
    intro v hv
    refine br_f (nI_ge (b := 8) (by omega) (by omega)) (br_f (by decide) (br_f (fun q => ?_) (nm_r (nI_1 v) (ih (v + 1) (by omega)))))
    have h1 := congrArg Int32.toInt q
    rw [nI_toInt (by omega), show (-1 : Int32).toInt = -1 from by decide] at h1
    omega
theorem rm_pos {i : Nat} (hS : rl_S QQ df tb le ls st nu) (hB : rl_B nb lc df so ba fa co) (hP : rl_P nb pk fr pi pj) (hV : rl_V nb pk an ke pr vo vt he) (hi : i < 3) : ∀ e b t, b + e = nb + 1 → 1 ≤ b → ∃ r, (∀ P : Int32 → Prop, P (nI r) → wX_possible_14 P (nI i) fj (nI nb) (nI lc) tb df sm ju le ls (nn_I so) (nn_I ba) (nn_I an) (nn_I fa) (nn_I co) pi (nn_I fr) de (nn_I ke) (nn_I up) (nn_I pr) op (nn_I vo) ov (nn_L Qs) qb qi qv (nn_I vt) (nn_I he) ch lr (e + 1) (nI t) (nI b)) ∧ ∀ P : Int32 → Prop, P (nI r) → wY_possible_15 P (nI i) (nI nb) st nu (nn_I so) (nn_I ba) (nn_I an) pj (nn_I ke) (nn_I fa) (nn_I co) (nn_I fr) dw (nn_I pr) (nn_I vo) (nn_L Qs) rb ri rv (nn_I vt) (nn_I he) (e + 1) (nI t) (nI b) := by
  have hnb := hB.1
  intro e
  induction e with
  | zero =>
    intro b t hb h1
    exact ⟨t, fun P h => br_t (nI_lt (by omega) (by omega)) h, fun P h => br_t (nI_lt (by omega) (by omega)) h⟩
  | succ e ih =>
    intro b t hb h1
    have z : ¬ nI nb < nI b := nI_nlt (by omega) (by omega)
    obtain ⟨o, ho, oX, oY⟩ := rm_open (fj := fj) (nb := nb) (lc := lc) (tb := tb) (df := df) (sm := sm) (ju := ju) (le := le) (ls := ls) (pi := pi) (de := de) (op := op) (ov := ov) (qb := qb) (qi := qi) (qv := qv) (ch := ch) (lr := lr) (so := so) (ba := ba) (an := an) (fa := fa) (co := co) (fr := fr) (ke := ke) (up := up) (pr := pr) (vo := vo) (vt := vt) (he := he) (Qs := Qs) (st := st) (nu := nu) (pj := pj) (dw := dw) (rb := rb) (ri := ri) (rv := rv) (b := b) (i := i) hB hV (by omega) hi
    have hp := hP.1 (3 * b + i) (by omega)
    have h8 := hP.2.1 (3 * b + i)
    by_cases hk : pk (3 * b + i) = 0
    · obtain ⟨r, hX, hY⟩ := ih (b + 1) t (by omega) (by omega)
      refine ⟨r, fun P h => br_f z ?_, fun P h => br_f z (oY _ ?_)⟩
      · rw [rm_i3, nI_clamp (by omega), hp.1]
        exact ⟨vp_in_nI (by omega) (by omega), nm_e (br_t ((nn_p3e h8).mpr hk) (nm_r (nI_1 b) (hX P h)))⟩
      · rw [rm_i3, nI_clamp (by omega), hp.2, hk]
        exact ⟨vp_in_nI (by omega) (by omega), nm_e ⟨8, rm_po0 (hY P h) 7 1 (by omega)⟩⟩
    · obtain ⟨t', iX, iY⟩ := rm_poi hS hB hP hV h1 (by omega) hi ho hk 7 1 t (by omega) (by omega)
      obtain ⟨r, hX, hY⟩ := ih (b + 1) t' (by omega) (by omega)
      refine ⟨r, fun P h => br_f z ?_, fun P h => br_f z (oY _ ?_)⟩
      · rw [rm_i3, nI_clamp (by omega), hp.1]
        exact ⟨vp_in_nI (by omega) (by omega), nm_e (br_f (fun q => hk ((nn_p3e h8).mp q)) (oX _ ⟨8, iX _ _ (hX P h)⟩))⟩
      · rw [rm_i3, nI_clamp (by omega), hp.2]
        exact ⟨vp_in_nI (by omega) (by omega), nm_e ⟨8, iY _ _ (hY P h)⟩⟩
end ro2
theorem rt_chosen {nb : Nat} {u : SX} {v : SY} (R : rl_R nb u v) (a : Int32) : rl_A (fun P => wpX_chosen P u a) (fun P => wpY_chosen P v a) := by
  refine rl_el (P := fun u v => rl_A (fun P => wpX_chosen P u a) (fun P => wpY_chosen P v a)) R ?_
  intro fj lc tb df sm ju le ls so ba an fa co pi fr de ke up pr op vo ov Qs qb qi qv vt he ch lr st nu pj dw rb ri rv QQ pk hS hB hP hV hQ hC
  unfold rl_A wpX_chosen wpY_chosen
  dsimp only
  rcases nl_in (x := a) (n := 3) (m := 2) 3 (by decide) (by decide) with ⟨i, hi, e, xn, yn⟩ | ⟨xn, yn⟩
  · subst e
    obtain ⟨r, hr, _, hX⟩ := rm_low (hC.2.1 i hi)
    refine ⟨nI r, fun P h => xn _ (br_f nn_10 ⟨vp_in_nI hi (by omega), ?_⟩), fun P h => yn _ (br_f nn_10 ?_)⟩
    · rw [nI_clamp (by omega)]; exact hX _ h
    · exact ym_ch hS hB hP hi hV.2.2.2.2.2.1 hV.2.2.2.2.2.2.2.2.1 hr h
  · exact ⟨-1, fun P h => xn _ (br_t rfl h), fun P h => yn _ (br_t rfl h)⟩
theorem rt_learned {nb : Nat} {u : SX} {v : SY} (R : rl_R nb u v) (a b : Int32) : rl_A (fun P => wpX_learned P u a b) (fun P => wpY_learned P v a b) := by
  refine rl_el (P := fun u v => rl_A (fun P => wpX_learned P u a b) (fun P => wpY_learned P v a b)) R ?_
  intro fj lc tb df sm ju le ls so ba an fa co pi fr de ke up pr op vo ov Qs qb qi qv vt he ch lr st nu pj dw rb ri rv QQ pk hS hB hP hV hQ hC
  unfold rl_A wpX_learned wpY_learned
  dsimp only
  rcases nl_in (x := a) (n := 2) (m := 1) 2 (by decide) (by decide) with ⟨l, hl, e, xl, yl⟩ | ⟨xl, yl⟩
  · subst e
    rcases nl_in (x := b) (n := 3) (m := 2) 3 (by decide) (by decide) with ⟨i, hi, e, xn, yn⟩ | ⟨xn, yn⟩
    · subst e
      obtain ⟨r, hr, _, hX⟩ := rm_low (hC.2.2 l i hl hi)
      refine ⟨nI r, fun P h => xl _ (br_f nn_10 (xn _ (br_f nn_10 ?_))), fun P h => yl _ (br_f nn_10 (yn _ (br_f nn_10 ?_)))⟩
      · rw [rm_i3, nI_clamp (by omega)]; exact ⟨vp_in_nI (by omega) (by omega), hX _ h⟩
      · exact ym_le hS hB hP hi hl hV.2.2.2.2.2.2.1 (fun b i v a1 a2 a3 => hV.2.2.2.2.2.2.2.2.2 l b i v hl a1 a2 a3) hr h
    · exact ⟨-1, fun P h => xl _ (br_f nn_10 (xn _ (br_t rfl h))), fun P h => yl _ (br_f nn_10 (yn _ (br_t rfl h)))⟩
  · exact ⟨-1, fun P h => xl _ (br_t rfl h), fun P h => yl _ (br_t rfl h)⟩
theorem rt_possible {nb : Nat} {u : SX} {v : SY} (R : rl_R nb u v) (a : Int32) : rl_A (fun P => wpX_possible P u a) (fun P => wpY_possible P v a) := by
  refine rl_el (P := fun u v => rl_A (fun P => wpX_possible P u a) (fun P => wpY_possible P v a)) R ?_
  intro fj lc tb df sm ju le ls so ba an fa co pi fr de ke up pr op vo ov Qs qb qi qv vt he ch lr st nu pj dw rb ri rv QQ pk hS hB hP hV hQ hC
  unfold rl_A wpX_possible wpY_possible
  dsimp only
  rcases nl_in (x := a) (n := 3) (m := 2) 3 (by decide) (by decide) with ⟨i, hi, e, xn, yn⟩ | ⟨xn, yn⟩
  · subst e
    obtain ⟨r, hX, hY⟩ := rm_pos (fj := fj) (nb := nb) (lc := lc) (tb := tb) (df := df) (sm := sm) (ju := ju) (le := le) (ls := ls) (pi := pi) (de := de) (op := op) (ov := ov) (qb := qb) (qi := qi) (qv := qv) (ch := ch) (lr := lr) (so := so) (ba := ba) (an := an) (fa := fa) (co := co) (fr := fr) (ke := ke) (up := up) (pr := pr) (vo := vo) (vt := vt) (he := he) (Qs := Qs) (st := st) (nu := nu) (pj := pj) (dw := dw) (rb := rb) (ri := ri) (rv := rv) (i := i) hS hB hP hV hi nb 1 0 (by omega) (by omega)
    exact ⟨nI r, fun P h => xn _ (br_f nn_10 ⟨_, hX P h⟩), fun P h => yn _ (br_f nn_10 ⟨_, hY P h⟩)⟩
  · exact ⟨-1, fun P h => xn _ (br_t rfl h), fun P h => yn _ (br_t rfl h)⟩
end
section
/-! system, common -/
def rs_m (S : Nat → Prop) (a : Nat) : Prop := a ≤ 7 ∧ (a = 7 ∨ S a) ∧ ∀ m, S m → a ≤ m
theorem rs_un {S : Nat → Prop} {a b : Nat} (h1 : rs_m S a) (h2 : rs_m S b) : a = b := by
  have x : b ≤ a := by
    rcases h1.2.1 with q | q
    · have := h2.1; omega
    · exact h2.2.2 a q
  have y : a ≤ b := by
    rcases h2.2.1 with q | q
    · have := h1.1; omega
    · exact h1.2.2 b q
  omega
theorem rs_cg {S T : Nat → Prop} {a : Nat} (h : ∀ m, S m ↔ T m) (h1 : rs_m S a) : rs_m T a :=
  ⟨h1.1, h1.2.1.imp_right (h a).mp, fun m q => h1.2.2 m ((h m).mpr q)⟩
theorem rs_ad {S T : Nat → Prop} {a n : Nat} (h : rs_m S a) (hT : ∀ m, T m ↔ S m ∨ m = n) : (a ≤ n → rs_m T a) ∧ (n < a → rs_m T n) := by
  refine ⟨fun z => ⟨h.1, h.2.1.imp_right (fun q => (hT a).mpr (Or.inl q)), fun m q => ?_⟩, fun z => ⟨by have := h.1; omega, Or.inr ((hT n).mpr (Or.inr rfl)), fun m q => ?_⟩⟩
  · rcases (hT m).mp q with w | w
    · exact h.2.2 m w
    · omega
  · rcases (hT m).mp q with w | w
    · have := h.2.2 m w; omega
    · omega
theorem rs_0 {S : Nat → Prop} (h : ∀ m, ¬ S m) : rs_m S 7 := ⟨by omega, Or.inl rfl, fun m q => absurd q (h m)⟩
def rc_m (S : Nat → Prop) (w : Nat) : Prop := (w = 0 ∧ ∀ m, ¬ S m) ∨ (1 ≤ w ∧ S (w - 1) ∧ ∀ m, S m → w - 1 ≤ m)
theorem rc_un {S : Nat → Prop} {a b : Nat} (h1 : rc_m S a) (h2 : rc_m S b) : a = b := by
  rcases h1 with p | p <;> rcases h2 with q | q
  · omega
  · exact absurd q.2.1 (p.2 _)
  · exact absurd p.2.1 (q.2 _)
  · have := p.2.2 _ q.2.1; have := q.2.2 _ p.2.1; omega
theorem rc_cg {S T : Nat → Prop} {a : Nat} (h : ∀ m, S m ↔ T m) (h1 : rc_m S a) : rc_m T a := by
  rcases h1 with p | p
  · exact Or.inl ⟨p.1, fun m q => p.2 m ((h m).mpr q)⟩
  · exact Or.inr ⟨p.1, (h _).mp p.2.1, fun m q => p.2.2 m ((h m).mpr q)⟩
theorem rc_0 {S : Nat → Prop} (h : ∀ m, ¬ S m) : rc_m S 0 := Or.inl ⟨rfl, h⟩
/-- a new number: taken if nothing was there or it is less -/
theorem rc_tk {S T : Nat → Prop} {w n : Nat} (h : rc_m S w) (hT : ∀ m, T m ↔ S m ∨ m = n) (hw : w = 0 ∨ n < w - 1) : rc_m T (n + 1) := by
  refine Or.inr ⟨by omega, (hT _).mpr (Or.inr (by omega)), fun m q => ?_⟩
  rcases (hT m).mp q with z | z
  · rcases h with p | p
    · exact absurd z (p.2 m)
    · have := p.2.2 m z; omega
  · omega
theorem rc_kp {S T : Nat → Prop} {w n : Nat} (h : rc_m S w) (hT : ∀ m, T m ↔ S m ∨ m = n) (hw : w ≠ 0) (hn : w - 1 ≤ n) : rc_m T w := by
  rcases h with p | p
  · exact absurd p.1 hw
  · refine Or.inr ⟨p.1, (hT _).mpr (Or.inl p.2.1), fun m q => ?_⟩
    rcases (hT m).mp q with z | z
    · exact p.2.2 m z
    · omega
/-- the least number is the same if one set lies in the other and each of the other has one below -/
theorem rc_lk {S T : Nat → Prop} {w : Nat} (h : rc_m S w) (h1 : ∀ m, S m → T m) (h2 : ∀ m, T m → ∃ m', m' ≤ m ∧ S m') : rc_m T w := by
  rcases h with p | p
  · refine Or.inl ⟨p.1, fun m q => ?_⟩
    obtain ⟨m', _, z⟩ := h2 m q
    exact p.2 m' z
  · refine Or.inr ⟨p.1, h1 _ p.2.1, fun m q => ?_⟩
    obtain ⟨m', z1, z⟩ := h2 m q
    have := p.2.2 m' z
    omega
theorem rc_ex (S : Nat → Prop) : ∃ w, rc_m S w := by
  rcases Classical.em (∃ m, S m) with h | h
  · obtain ⟨m, hm⟩ := h
    have key : ∀ n m, m ≤ n → S m → ∃ k, S k ∧ ∀ j, S j → k ≤ j := by
      intro n
      induction n with
      | zero => intro m hm hs; exact ⟨m, hs, fun j _ => by omega⟩
      | succ n ih =>
        intro m hm hs
        rcases Classical.em (∃ j, S j ∧ j < m) with q | q
        · obtain ⟨j, hj, hjm⟩ := q
          exact ih j (by omega) hj
        · exact ⟨m, hs, fun j hj => Nat.le_of_not_lt fun w => q ⟨j, hj, w⟩⟩
    obtain ⟨k, hk, hl⟩ := key m m (Nat.le_refl _) hm
    exact ⟨k + 1, Or.inr ⟨by omega, hk, fun j hj => by have := hl j hj; omega⟩⟩
  · exact ⟨0, Or.inl ⟨rfl, fun m q => h ⟨m, q⟩⟩⟩
theorem rs_127 : ∀ t, t < 128 → nn_pc t = 7 → t = 127 := by decide +kernel
section sys
variable {fj : Int32} {nb lc : Nat} {tb df sm ju le ls pi de op ov qb qi qv ch lr : Nat → Int32} {so ba an fa co fr ke up pr vo vt he : Nat → Nat} {Qs : Nat → List (Nat × Nat × Nat)}
variable {st nu pj dw rb ri rv : Nat → Int32}
variable {QQ : Nat → Nat → Nat → Bool} {pk : Nat → Nat}
theorem ys_least15 {P : Int32 → Prop} {s k t : Nat} (hS : rl_S QQ df tb le ls st nu) (hs : s < 4) (hd : df s = 1) (hk : k < 3) (ht : t < 128) (hq : QQ s k t = true) (h : P (nn_b (qq_mn (QQ s k) t))) :
    ∀ e i, i + e = 7 → (∀ j, j < i → t / 2 ^ j % 2 = 1 → QQ s k (t &&& (127 - 2 ^ j)) = false) → wY_isLeast_15 P (nI s) (nI k) (nI t) (nI nb) st nu (nn_I so) (nn_I ba) (nn_I an) pj (nn_I ke) (nn_I fa) (nn_I co) (nn_I fr) dw (nn_I pr) (nn_I vo) (nn_L Qs) rb ri rv (nn_I vt) (nn_I he) (e + 1) (nI i) := by
  intro e
  induction e with
  | zero =>
    intro i hi I
    refine pk_le 7 i (fun z => ?_) (fun z => by omega)
    rw [nn_bt (show qq_mn (QQ s k) t from ⟨hq, fun j hj => I j (by omega)⟩)] at h
    exact h
  | succ e ih =>
    intro i hi I
    refine pk_le 7 i (fun z => by omega) (fun z => ?_)
    refine pk_eq (t / 2 ^ i % 2) 1 (fun z1 => ?_) (fun z1 => nm_r (nI_1 i) (ih (i + 1) (by omega) (fun j hj e1 => ?_))) (hx := nn_bit (by omega) (by omega))
    · rw [nn_shl (by omega), nn_andn ht (qq_2l i z)]
      refine rm_yq hS hs hd hk (qq_lt ht) (nn_br (fun z2 => nm_r (nI_1 i) (ih (i + 1) (by omega) (fun j hj e1 => ?_))) (fun z2 => ?_))
      · rcases Nat.lt_or_ge j i with w | w
        · exact I j w e1
        · rw [show j = i by omega]; exact qs_tf.mp z2
      · rw [nn_bf (fun q => by rw [q.2 i z z1] at z2; exact absurd z2 (by decide))] at h
        exact h
    · rcases Nat.lt_or_ge j i with w | w
      · exact I j w e1
      · rw [show j = i by omega] at e1; exact absurd e1 z1
theorem ys_least {P : Int32 → Prop} {s k t : Nat} (hS : rl_S QQ df tb le ls st nu) (hs : s < 4) (hd : df s = 1) (hk : k < 3) (ht : t < 128) (h : P (nn_b (qq_mn (QQ s k) t))) : wpY_isLeast P ((nI nb), st, nu, (nn_I so), (nn_I ba), (nn_I an), pj, (nn_I ke), (nn_I fa), (nn_I co), (nn_I fr), dw, (nn_I pr), (nn_I vo), (nn_L Qs), rb, ri, rv, (nn_I vt), (nn_I he)) (nI s) (nI k) (nI t) := by
  unfold wpY_isLeast
  dsimp only
  refine rm_yq hS hs hd hk ht (nn_br (fun z => ?_) (fun z => ⟨8, ys_least15 hS hs hd hk ht z h 7 0 (by omega) (fun j hj => absurd hj (by omega))⟩))
  rw [nn_bf (fun q => z q.1)] at h
  exact h
theorem xs_small {P : Int32 → Prop} {s k : Nat} (hS : rl_S QQ df tb le ls st nu) (hs : s < 4) (hd : df s = 1) (hk : k < 3)
    (h : ∀ a, rs_m (fun m => ∃ q, q < 128 ∧ qq_mn (QQ s k) q ∧ nn_pc q = m) a → P (nI a)) : wpX_smallest P (fj, (nI nb), (nI lc), tb, df, sm, ju, le, ls, (nn_I so), (nn_I ba), (nn_I an), (nn_I fa), (nn_I co), pi, (nn_I fr), de, (nn_I ke), (nn_I up), (nn_I pr), op, (nn_I vo), ov, (nn_L Qs), qb, qi, qv, (nn_I vt), (nn_I he), ch, lr) (nI (3 * s + k)) := by
  obtain ⟨_, _, _, hL, _, hM⟩ := rl_Sd hS hs hd
  obtain ⟨l1, l2⟩ := hL k hk
  have h35 := qq_35 (hM k hk)
  have key : ∀ e x a, x + e = (qq_ms (QQ s k)).length → rs_m (fun m => ∃ y, y < x ∧ nn_pc (xc_nth (qq_ms (QQ s k)) y) = m) a → wX_smallest_8 P (nI (3 * s + k)) fj (nI nb) (nI lc) tb df sm ju le ls (nn_I so) (nn_I ba) (nn_I an) (nn_I fa) (nn_I co) pi (nn_I fr) de (nn_I ke) (nn_I up) (nn_I pr) op (nn_I vo) ov (nn_L Qs) qb qi qv (nn_I vt) (nn_I he) ch lr (e + 1) (nI a) (nI (35 * (3 * s + k) + x)) := by
    intro e
    induction e with
    | zero =>
      intro x a hx I
      refine ⟨vp_in_nI (by omega) (by omega), ?_⟩
      rw [nI_clamp (n := 3 * s + k) (by omega), l1]
      refine pk_le (35 * (3 * s + k) + (qq_ms (QQ s k)).length) (35 * (3 * s + k) + x) (fun z => h a (rs_cg (fun m => ?_) I)) (fun z => by omega) (hx := by rw [nn_m35, nI_add])
      constructor
      · rintro ⟨y, hy, e1⟩
        have := qq_mem.mp (xc_nm (l := qq_ms (QQ s k)) (n := y) (by omega))
        exact ⟨_, this.1, this.2, e1⟩
      · rintro ⟨q, hq, hm, e1⟩
        obtain ⟨y, hy, e2⟩ := xc_mn (qq_mem.mpr ⟨hq, hm⟩)
        exact ⟨y, by omega, by rw [e2]; exact e1⟩
    | succ e ih =>
      intro x a hx I
      refine ⟨vp_in_nI (by omega) (by omega), ?_⟩
      rw [nI_clamp (n := 3 * s + k) (by omega), l1]
      refine pk_le (35 * (3 * s + k) + (qq_ms (QQ s k)).length) (35 * (3 * s + k) + x) (fun z => by omega) (fun z => ⟨vp_in_nI (by omega) (by omega), ?_⟩) (hx := by rw [nn_m35, nI_add])
      rw [nI_clamp (by omega), l2 x (by omega)]
      have hq := qq_mem.mp (xc_nm (l := qq_ms (QQ s k)) (n := x) (by omega))
      have h7 := nn_pc7 _ hq.1
      have ha := I.1
      have ad := rs_ad (T := fun m => ∃ y, y < x + 1 ∧ nn_pc (xc_nth (qq_ms (QQ s k)) y) = m) (n := nn_pc (xc_nth (qq_ms (QQ s k)) x)) I (fun m => by
        constructor
        · rintro ⟨y, hy, e1⟩
          rcases Nat.lt_or_ge y x with w | w
          · exact Or.inl ⟨y, w, e1⟩
          · rw [show y = x by omega] at e1; exact Or.inr e1.symm
        · rintro (⟨y, hy, e1⟩ | e1)
          · exact ⟨y, by omega, e1⟩
          · exact ⟨x, by omega, e1.symm⟩)
      refine xl_ones hq.1 (pk_le a (nn_pc (xc_nth (qq_ms (QQ s k)) x)) (fun z => nm_r (nI_1 _) (ih (x + 1) _ (by omega) (ad.1 z))) (fun z => nm_r (nI_1 _) (ih (x + 1) _ (by omega) (ad.2 z))))
  exact nm_r (nn_m35 _) ⟨_, key (qq_ms (QQ s k)).length 0 7 (by omega) (rs_0 (fun m ⟨y, hy, _⟩ => by omega))⟩
theorem ys_69 {P : Int32 → Prop} {s k w : Nat} (hS : rl_S QQ df tb le ls st nu) (hs : s < 4) (hd : df s = 1) (hk : k < 3) (hw : w < 3)
    (h0 : w = 0 → ∀ a, rs_m (fun m => ∃ q, q < 128 ∧ qq_mn (QQ s k) q ∧ nn_pc q = m) a → P (nI a)) (h2 : w ≠ 0 → P (nI (qq_ms (QQ s k)).length)) :
    ∀ e t a, t + e = 128 → rs_m (fun m => ∃ q, q < t ∧ qq_mn (QQ s k) q ∧ nn_pc q = m) a → wY_system_69 P (nI s) (nI k) (nI w) (nI nb) st nu (nn_I so) (nn_I ba) (nn_I an) pj (nn_I ke) (nn_I fa) (nn_I co) (nn_I fr) dw (nn_I pr) (nn_I vo) (nn_L Qs) rb ri rv (nn_I vt) (nn_I he) (e + 1) (nI a) (nI (xc_ml (QQ s k) t).length) (nI t) := by
  intro e
  induction e with
  | zero =>
    intro t a ht I
    have ht : t = 128 := by omega
    subst ht
    refine pk_lt 127 128 (fun z => pk_eq w 0 (fun q => h0 q a I) (fun q => h2 q)) (fun z => by omega)
  | succ e ih =>
    intro t a ht I
    refine pk_lt 127 t (fun z => by omega) (fun z => ys_least hS hs hd hk (by omega) (nn_br (fun q => nm_r (nI_1 t) ?_) (fun q => ?_)))
    · have := ih (t + 1) a (by omega) (rs_cg (fun m => ⟨fun ⟨x, h1, h2, h3⟩ => ⟨x, by omega, h2, h3⟩, fun ⟨x, h1, h2, h3⟩ => ⟨x, by
        rcases Nat.lt_or_ge x t with u | u
        · exact u
        · rw [show x = t by omega] at h2; exact absurd h2 q, h2, h3⟩⟩) I)
      rw [xc_mlf q] at this
      exact this
    · have h7 := nn_pc7 t (by omega)
      have ha := I.1
      have ad := rs_ad (T := fun m => ∃ x, x < t + 1 ∧ qq_mn (QQ s k) x ∧ nn_pc x = m) (n := nn_pc t) I (fun m => by
        constructor
        · rintro ⟨y, hy, e0, e1⟩
          rcases Nat.lt_or_ge y t with w | w
          · exact Or.inl ⟨y, w, e0, e1⟩
          · rw [show y = t by omega] at e1; exact Or.inr e1.symm
        · rintro (⟨y, hy, e0, e1⟩ | e1)
          · exact ⟨y, by omega, e0, e1⟩
          · exact ⟨t, by omega, q, e1.symm⟩)
      have el : (xc_ml (QQ s k) (t + 1)).length = (xc_ml (QQ s k) t).length + 1 := by rw [xc_mlt q, List.length_append]; rfl
      refine yl_size (by omega) (nm_r (e' := nI (xc_ml (QQ s k) (t + 1)).length) (by rw [el]; exact nI_1 _) (pk_le a (nn_pc t) (fun z => nm_r (nI_1 _) (ih (t + 1) _ (by omega) (ad.1 z))) (fun z => nm_r (nI_1 _) (ih (t + 1) _ (by omega) (ad.2 z)))))
theorem rs_spare {s k : Nat} (hS : rl_S QQ df tb le ls st nu) (hs : s < 4) (hd : df s = 1) (hk : k < 3) : ∀ e t a a', t + e = 128 → a ≤ 7 → a' ≤ 8 → (a = a' ∨ (a = 7 ∧ a' = 8 ∧ t ≤ 127)) → ∃ r, (∀ P : Int32 → Prop, P r → wX_spare_6 P (nI s) (nI k) fj (nI nb) (nI lc) tb df sm ju le ls (nn_I so) (nn_I ba) (nn_I an) (nn_I fa) (nn_I co) pi (nn_I fr) de (nn_I ke) (nn_I up) (nn_I pr) op (nn_I vo) ov (nn_L Qs) qb qi qv (nn_I vt) (nn_I he) ch lr (e + 1) (nI a) (nI t)) ∧ ∀ P : Int32 → Prop, P r → wY_spare_6 P (nI s) (nI k) (nI nb) st nu (nn_I so) (nn_I ba) (nn_I an) pj (nn_I ke) (nn_I fa) (nn_I co) (nn_I fr) dw (nn_I pr) (nn_I vo) (nn_L Qs) rb ri rv (nn_I vt) (nn_I he) (e + 1) (nI a') (nI t) := by
  obtain ⟨_, _, _, _, hE, _⟩ := rl_Sd hS hs hd
  intro e
  induction e with
  | zero =>
    intro t a a' ht ha ha' I
    have ht : t = 128 := by omega
    subst ht
    have e1 : a = a' := by omega
    subst e1
    exact ⟨nI a - 1, fun P h => br_t (by decide) h, fun P h => br_t (by decide) h⟩
  | succ e ih =>
    intro t a a' ht ha ha' I
    have h7 := nn_pc7 t (by omega)
    have zX : ¬ (128 : Int32) ≤ nI t := nI_ge (b := 128) (by omega) (by omega)
    have zY : ¬ (127 : Int32) < nI t := nI_nlt (a := 127) (by omega) (by omega)
    by_cases hn : nn_pc t < a
    · have hn' : nn_pc t < a' := by omega
      have nX : ¬ nI a ≤ nI (nn_pc t) := nI_ge hn (by omega)
      have nY : ¬ nI a' ≤ nI (nn_pc t) := nI_ge hn' (by omega)
      cases hq : QQ s k (127 - t) with
      | false =>
        obtain ⟨r, hX, hY⟩ := ih (t + 1) (nn_pc t) (nn_pc t) (by omega) (by omega) (by omega) (Or.inl rfl)
        refine ⟨r, fun P h => br_f zX (xl_ones (by omega) (br_f nX ?_)), fun P h => br_f zY (yl_size (by omega) (br_f nY ?_))⟩
        · rw [nn_sub127 (by omega)]
          exact rm_xq hS hs hd hk (by omega) (by rw [hq, nn_bF]; exact br_t rfl (nm_r (nI_1 t) (hX P h)))
        · rw [nn_not t (by omega)]
          exact rm_yq hS hs hd hk (by omega) (by rw [hq, nn_bF]; exact br_t rfl (nm_r (nI_1 t) (hY P h)))
      | true =>
        have hI : a = a' ∨ (a = 7 ∧ a' = 8 ∧ t + 1 ≤ 127) := by
          rcases I with q | q
          · exact Or.inl q
          · refine Or.inr ⟨q.1, q.2.1, ?_⟩
            have : t ≠ 127 := fun e1 => by rw [e1, show nn_pc 127 = 7 from by decide] at hn; omega
            omega
        obtain ⟨r, hX, hY⟩ := ih (t + 1) a a' (by omega) ha ha' hI
        refine ⟨r, fun P h => br_f zX (xl_ones (by omega) (br_f nX ?_)), fun P h => br_f zY (yl_size (by omega) (br_f nY ?_))⟩
        · rw [nn_sub127 (by omega)]
          exact rm_xq hS hs hd hk (by omega) (by rw [hq, nn_bT]; exact br_f nn_10 (nm_r (nI_1 t) (hX P h)))
        · rw [nn_not t (by omega)]
          exact rm_yq hS hs hd hk (by omega) (by rw [hq, nn_bT]; exact br_f nn_10 (nm_r (nI_1 t) (hY P h)))
    · have nX : nI a ≤ nI (nn_pc t) := nI_le (by omega) (by omega)
      by_cases hn' : nn_pc t < a'
      · have nY : ¬ nI a' ≤ nI (nn_pc t) := nI_ge hn' (by omega)
        have e7 : nn_pc t = 7 := by omega
        have et := rs_127 t (by omega) e7
        subst et
        obtain ⟨r, hX, hY⟩ := ih 128 7 7 (by omega) (by omega) (by omega) (Or.inl rfl)
        have ea : a = 7 := by omega
        subst ea
        refine ⟨r, fun P h => br_f zX (xl_ones (by omega) (br_t nX (nm_r (nI_1 127) (hX P h)))), fun P h => br_f zY (yl_size (by omega) (br_f nY ?_))⟩
        rw [nn_not 127 (by omega)]
        refine rm_yq hS hs hd hk (t := 127 - 127) (by omega) ?_
        rw [hE k hk, nn_bF]
        refine br_t rfl (nm_r (nI_1 127) ?_)
        rw [e7]
        exact hY P h
      · have nY : nI a' ≤ nI (nn_pc t) := nI_le (by omega) (by omega)
        obtain ⟨r, hX, hY⟩ := ih (t + 1) a a' (by omega) ha ha' (by omega)
        exact ⟨r, fun P h => br_f zX (xl_ones (by omega) (br_t nX (nm_r (nI_1 t) (hX P h)))), fun P h => br_f zY (yl_size (by omega) (br_t nY (nm_r (nI_1 t) (hY P h))))⟩
end sys
theorem rt_system {nb : Nat} {u : SX} {v : SY} (R : rl_R nb u v) (a b c : Int32) : rl_A (fun P => wpX_system P u a b c) (fun P => wpY_system P v a b c) := by
  refine rl_el (P := fun u v => rl_A (fun P => wpX_system P u a b c) (fun P => wpY_system P v a b c)) R ?_
  intro fj lc tb df sm ju le ls so ba an fa co pi fr de ke up pr op vo ov Qs qb qi qv vt he ch lr st nu pj dw rb ri rv QQ pk hS hB hP hV hQ hC
  unfold rl_A wpX_system wpY_system
  dsimp only
  rcases rm_isS (fj := fj) (nb := nb) (lc := lc) (tb := tb) (df := df) (sm := sm) (ju := ju) (le := le) (ls := ls) (pi := pi) (de := de) (op := op) (ov := ov) (qb := qb) (qi := qi) (qv := qv) (ch := ch) (lr := lr) (so := so) (ba := ba) (an := an) (fa := fa) (co := co) (fr := fr) (ke := ke) (up := up) (pr := pr) (vo := vo) (vt := vt) (he := he) (Qs := Qs) (st := st) (nu := nu) (pj := pj) (dw := dw) (rb := rb) (ri := ri) (rv := rv) (x := a) hS with ⟨s, hs, e, hd, xs, ys⟩ | ⟨xs, ys⟩
  · subst e
    rcases nl_in (x := b) (n := 3) (m := 2) 3 (by decide) (by decide) with ⟨k, hk, e, xk, yk⟩ | ⟨xk, yk⟩
    · subst e
      rcases nl_in (x := c) (n := 3) (m := 2) 3 (by decide) (by decide) with ⟨w, hw, e, xt, yt⟩ | ⟨xt, yt⟩
      · subst e
        obtain ⟨_, _, _, hL, hE, hM⟩ := rl_Sd hS hs hd
        obtain ⟨l1, _⟩ := hL k hk
        have h35 := qq_35 (hM k hk)
        have hne := qq_ne (hM k hk)
        have c4 : (nI (3 * s + k)).toNatClampNeg = 3 * s + k := nI_clamp (by omega)
        have v4 : vp_in (nI (3 * s + k)) 12 := vp_in_nI (by omega) (by omega)
        rcases (show w = 2 ∨ w = 0 ∨ w = 1 by omega) with e | e | e <;> subst e
        · refine ⟨nI (qq_ms (QQ s k)).length, fun P h => xs _ (br_f nn_10 (xk _ (br_f nn_10 (xt _ (br_f nn_10 (nm_r (rm_i3 s k) (br_t (by decide) ⟨v4, ?_⟩))))))), fun P h => ys _ (br_f nn_10 (yk _ (br_f nn_10 (yt _ (br_f nn_10 (br_t (by decide) (br_f (by decide) ⟨129, ?_⟩)))))))⟩
          · rw [c4, l1]; exact h
          · exact ys_69 hS hs hd hk (by omega) (fun q => absurd q (by omega)) (fun _ => h) 128 0 7 (by omega) (rs_0 (fun m ⟨y, hy, _⟩ => by omega))
        · cases hq : QQ s k 127 with
          | false =>
            refine ⟨-3, fun P h => xs _ (br_f nn_10 (xk _ (br_f nn_10 (xt _ (br_f nn_10 (nm_r (rm_i3 s k) (br_f (by decide) ⟨v4, br_t ?_ h⟩))))))), fun P h => ys _ (br_f nn_10 (yk _ (br_f nn_10 (yt _ (br_f nn_10 (br_f (by decide) (rm_yq (t := 127) hS hs hd hk (by omega) ?_)))))))⟩
            · rw [c4, l1, hne.mpr hq]; rfl
            · rw [hq, nn_bF]; exact br_t rfl h
          | true =>
            have hl : ¬ (qq_ms (QQ s k)).length = 0 := fun q => by rw [hne.mp q] at hq; exact absurd hq (by decide)
            have hex : ∃ a, rs_m (fun m => ∃ q, q < 128 ∧ qq_mn (QQ s k) q ∧ nn_pc q = m) a := by
              obtain ⟨w, hw⟩ := rc_ex (fun m => ∃ q, q < 128 ∧ qq_mn (QQ s k) q ∧ nn_pc q = m)
              rcases hw with p | p
              · exact ⟨7, rs_0 p.2⟩
              · obtain ⟨q, hq, _, e1⟩ := p.2.1
                exact ⟨w - 1, by rw [← e1]; exact nn_pc7 q hq, Or.inr p.2.1, p.2.2⟩
            obtain ⟨a, ha⟩ := hex
            refine ⟨nI a, fun P h => xs _ (br_f nn_10 (xk _ (br_f nn_10 (xt _ (br_f nn_10 (nm_r (rm_i3 s k) (br_f (by decide) ⟨v4, br_f ?_ (br_t (by decide) (xs_small hS hs hd hk (fun a' h' => ?_)))⟩))))))), fun P h => ys _ (br_f nn_10 (yk _ (br_f nn_10 (yt _ (br_f nn_10 (br_f (by decide) (rm_yq (t := 127) hS hs hd hk (by omega) ?_)))))))⟩
            · rw [c4, l1]; exact nI_ne0 (by omega) (by omega)
            · rw [rs_un h' ha]; exact h
            · rw [hq, nn_bT]
              refine br_f nn_10 (br_f (by decide) ⟨129, ?_⟩)
              exact ys_69 hS hs hd hk (by omega) (fun _ a' h' => by rw [rs_un h' ha]; exact h) (fun q => absurd rfl q) 128 0 7 (by omega) (rs_0 (fun m ⟨y, hy, _⟩ => by omega))
        · cases hq : QQ s k 127 with
          | false =>
            refine ⟨-3, fun P h => xs _ (br_f nn_10 (xk _ (br_f nn_10 (xt _ (br_f nn_10 (nm_r (rm_i3 s k) (br_f (by decide) ⟨v4, br_t ?_ h⟩))))))), fun P h => ys _ (br_f nn_10 (yk _ (br_f nn_10 (yt _ (br_f nn_10 (br_f (by decide) (rm_yq (t := 127) hS hs hd hk (by omega) ?_)))))))⟩
            · rw [c4, l1, hne.mpr hq]; rfl
            · rw [hq, nn_bF]; exact br_t rfl h
          | true =>
            have hl : ¬ (qq_ms (QQ s k)).length = 0 := fun q => by rw [hne.mp q] at hq; exact absurd hq (by decide)
            obtain ⟨r, hX, hY⟩ := rs_spare (fj := fj) (nb := nb) (lc := lc) (tb := tb) (df := df) (sm := sm) (ju := ju) (le := le) (ls := ls) (pi := pi) (de := de) (op := op) (ov := ov) (qb := qb) (qi := qi) (qv := qv) (ch := ch) (lr := lr) (so := so) (ba := ba) (an := an) (fa := fa) (co := co) (fr := fr) (ke := ke) (up := up) (pr := pr) (vo := vo) (vt := vt) (he := he) (Qs := Qs) (st := st) (nu := nu) (pj := pj) (dw := dw) (rb := rb) (ri := ri) (rv := rv) hS hs hd hk 128 0 7 8 (by omega) (by omega) (by omega) (Or.inr ⟨rfl, rfl, by omega⟩)
            refine ⟨r, fun P h => xs _ (br_f nn_10 (xk _ (br_f nn_10 (xt _ (br_f nn_10 (nm_r (rm_i3 s k) (br_f (by decide) ⟨v4, br_f ?_ (br_f (by decide) ⟨_, hX _ h⟩)⟩))))))), fun P h => ys _ (br_f nn_10 (yk _ (br_f nn_10 (yt _ (br_f nn_10 (br_f (by decide) (rm_yq (t := 127) hS hs hd hk (by omega) ?_)))))))⟩
            · rw [c4, l1]; exact nI_ne0 (by omega) (by omega)
            · rw [hq, nn_bT]
              exact br_f nn_10 (br_t (by decide) ⟨_, hY _ h⟩)
      · exact ⟨-1, fun P h => xs _ (br_f nn_10 (xk _ (br_f nn_10 (xt _ (br_t rfl h))))), fun P h => ys _ (br_f nn_10 (yk _ (br_f nn_10 (yt _ (br_t rfl h)))))⟩
    · exact ⟨-1, fun P h => xs _ (br_f nn_10 (xk _ (br_t rfl h))), fun P h => ys _ (br_f nn_10 (yk _ (br_t rfl h)))⟩
  · exact ⟨-1, fun P h => xs _ (br_t rfl h), fun P h => ys _ (br_t rfl h)⟩
end
section
/-! parts of a set, from the whole one on -/
theorem rf_gap : ∀ M, M < 128 → ∀ p, p < 128 → (p &&& M = p ∧ p ≠ 0) → ∀ d, d < p - 1 - ((p - 1) &&& M) → ¬ (((p - 1) &&& M) + 1 + d) &&& M = ((p - 1) &&& M) + 1 + d := by decide +kernel
theorem rf_pre {M p q : Nat} (hM : M < 128) (hp : p < 128) (hs : p &&& M = p) (h0 : p ≠ 0) (hq : q &&& M = q) (hlt : q < p) : q ≤ (p - 1) &&& M := by
  rcases Nat.lt_or_ge ((p - 1) &&& M) q with z | z
  · have h1 := rf_gap M hM p hp ⟨hs, h0⟩ (q - ((p - 1) &&& M) - 1) (by omega)
    rw [show ((p - 1) &&& M) + 1 + (q - ((p - 1) &&& M) - 1) = q by omega] at h1
    exact absurd hq h1
  · exact z
end
section
/-! common, answers, votes -/
theorem rf_p3 (n : Nat) : nI n = nn_p3 (n + 1) := rfl
theorem rf_un {S T : Nat → Prop} {w n : Nat} (h : rc_m S w) (hT : ∀ m, T m ↔ S m) : rc_m T w := rc_cg (fun m => (hT m).symm) h
section few
variable {fj : Int32} {nb lc : Nat} {tb df sm ju le ls pi de op ov qb qi qv ch lr : Nat → Int32} {so ba an fa co fr ke up pr vo vt he : Nat → Nat} {Qs : Nat → List (Nat × Nat × Nat)}
variable {st nu pj dw rb ri rv : Nat → Int32}
variable {QQ : Nat → Nat → Nat → Bool} {pk : Nat → Nat}
theorem xf_86 {P : Int32 → Prop} {J : Int32 → Int32 → Prop} {L1 L2 : List Nat} {r1 r2 x : Nat} {S0 : Nat → Prop} (hr1 : r1 < 12) (hr2 : r2 < 12) (hl1 : L1.length ≤ 35) (hl2 : L2.length ≤ 35) (hx : x < L1.length)
    (m1 : ∀ a, a ∈ L1 → a < 128) (m2 : ls r2 = nI L2.length)
    (e1 : ∀ x, x < L1.length → le (35 * r1 + x) = nI (xc_nth L1 x)) (e2 : ∀ x, x < L2.length → le (35 * r2 + x) = nI (xc_nth L2 x))
    (h : ∀ w, w ≤ 8 → rc_m (fun m => S0 m ∨ ∃ y, y < L2.length ∧ nn_pc (xc_nth L1 x &&& xc_nth L2 y) = m) w → J (nn_p3 w) (nI (35 * r1 + x + 1))) :
    ∀ e y w, y + e = L2.length → w ≤ 8 → rc_m (fun m => S0 m ∨ ∃ y', y' < y ∧ nn_pc (xc_nth L1 x &&& xc_nth L2 y') = m) w → wX_common_86 P J (nI r1) (nI r2) (nI (35 * r1 + x)) fj (nI nb) (nI lc) tb df sm ju le ls (nn_I so) (nn_I ba) (nn_I an) (nn_I fa) (nn_I co) pi (nn_I fr) de (nn_I ke) (nn_I up) (nn_I pr) op (nn_I vo) ov (nn_L Qs) qb qi qv (nn_I vt) (nn_I he) ch lr (e + 1) (nn_p3 w) (nI (35 * r2 + y)) := by
  intro e
  induction e with
  | zero =>
    intro y w hy hw I
    refine ⟨vp_in_nI (by omega) (by omega), ?_⟩
    rw [nI_clamp (n := r2) (by omega), m2]
    refine pk_le (35 * r2 + L2.length) (35 * r2 + y) (fun z => nm_r (nI_1 _) (h w hw ?_)) (fun z => by omega) (hx := by rw [nn_m35, nI_add])
    rw [show y = L2.length by omega] at I
    exact I
  | succ e ih =>
    intro y w hy hw I
    refine ⟨vp_in_nI (by omega) (by omega), ?_⟩
    rw [nI_clamp (n := r2) (by omega), m2]
    refine pk_le (35 * r2 + L2.length) (35 * r2 + y) (fun z => by omega) (fun z => ⟨vp_in_nI (by omega) (by omega), vp_in_nI (by omega) (by omega), ?_⟩) (hx := by rw [nn_m35, nI_add])
    rw [nI_clamp (n := 35 * r1 + x) (by omega), nI_clamp (n := 35 * r2 + y) (by omega), e1 x hx, e2 y (by omega), nx_and]
    have ha := qq_lt (b := xc_nth L2 y) (m1 _ (xc_nm hx))
    have h7 := nn_pc7 _ ha
    have hT : ∀ m, (S0 m ∨ ∃ y', y' < y + 1 ∧ nn_pc (xc_nth L1 x &&& xc_nth L2 y') = m) ↔ ((S0 m ∨ ∃ y', y' < y ∧ nn_pc (xc_nth L1 x &&& xc_nth L2 y') = m) ∨ m = nn_pc (xc_nth L1 x &&& xc_nth L2 y)) := fun m => by
      constructor
      · rintro (q | ⟨y', hy', e1⟩)
        · exact Or.inl (Or.inl q)
        · rcases Nat.lt_or_ge y' y with u | u
          · exact Or.inl (Or.inr ⟨y', u, e1⟩)
          · rw [show y' = y by omega] at e1; exact Or.inr e1.symm
      · rintro ((q | ⟨y', hy', e1⟩) | e1)
        · exact Or.inl q
        · exact Or.inr ⟨y', by omega, e1⟩
        · exact Or.inr ⟨y, by omega, e1.symm⟩
    refine xl_ones ha ?_
    by_cases w0 : w = 0
    · subst w0
      refine br_t (by decide) (nm_r (nI_1 _) ?_)
      exact ih (y + 1) (nn_pc (xc_nth L1 x &&& xc_nth L2 y) + 1) (by omega) (by omega) (rc_tk I hT (Or.inl rfl))
    · have ew : nn_p3 w = nI (w - 1) := if_neg w0
      refine br_f (fun q => w0 ((nn_p3n hw).mp q)) (pk_le (w - 1) (nn_pc (xc_nth L1 x &&& xc_nth L2 y)) (fun z => nm_r (nI_1 _) ?_) (fun z => nm_r (nI_1 _) ?_) (hx := ew))
      · exact ih (y + 1) w (by omega) hw (rc_kp I hT w0 z)
      · exact ih (y + 1) (nn_pc (xc_nth L1 x &&& xc_nth L2 y) + 1) (by omega) (by omega) (rc_tk I hT (Or.inr z))
theorem xf_61 {P : Int32 → Prop} {L1 L2 : List Nat} {r1 r2 : Nat} (hr1 : r1 < 12) (hr2 : r2 < 12) (hl1 : L1.length ≤ 35) (hl2 : L2.length ≤ 35)
    (m0 : ∀ a, a ∈ L1 → a < 128) (m1 : ls r1 = nI L1.length) (m2 : ls r2 = nI L2.length)
    (e1 : ∀ x, x < L1.length → le (35 * r1 + x) = nI (xc_nth L1 x)) (e2 : ∀ x, x < L2.length → le (35 * r2 + x) = nI (xc_nth L2 x))
    (h : ∀ w, w ≤ 8 → rc_m (fun m => ∃ x, x < L1.length ∧ ∃ y, y < L2.length ∧ nn_pc (xc_nth L1 x &&& xc_nth L2 y) = m) w → P (nn_p3 w)) :
    ∀ e x w, x + e = L1.length → w ≤ 8 → rc_m (fun m => ∃ x', x' < x ∧ ∃ y, y < L2.length ∧ nn_pc (xc_nth L1 x' &&& xc_nth L2 y) = m) w → wX_common_61 P (nI r1) (nI r2) fj (nI nb) (nI lc) tb df sm ju le ls (nn_I so) (nn_I ba) (nn_I an) (nn_I fa) (nn_I co) pi (nn_I fr) de (nn_I ke) (nn_I up) (nn_I pr) op (nn_I vo) ov (nn_L Qs) qb qi qv (nn_I vt) (nn_I he) ch lr (e + 1) (nn_p3 w) (nI (35 * r1 + x)) := by
  intro e
  induction e with
  | zero =>
    intro x w hx hw I
    refine ⟨vp_in_nI (by omega) (by omega), ?_⟩
    rw [nI_clamp (n := r1) (by omega), m1]
    refine pk_le (35 * r1 + L1.length) (35 * r1 + x) (fun z => h w hw ?_) (fun z => by omega) (hx := by rw [nn_m35, nI_add])
    rw [show x = L1.length by omega] at I
    exact I
  | succ e ih =>
    intro x w hx hw I
    refine ⟨vp_in_nI (by omega) (by omega), ?_⟩
    rw [nI_clamp (n := r1) (by omega), m1]
    refine pk_le (35 * r1 + L1.length) (35 * r1 + x) (fun z => by omega) (fun z => nm_r (nn_m35 _) ⟨L2.length + 1, ?_⟩) (hx := by rw [nn_m35, nI_add])
    refine xf_86 (S0 := fun m => ∃ x', x' < x ∧ ∃ y, y < L2.length ∧ nn_pc (xc_nth L1 x' &&& xc_nth L2 y) = m) hr1 hr2 hl1 hl2 (by omega) m0 m2 e1 e2 (fun w' hw' I' => ih (x + 1) w' (by omega) hw' (rc_cg (fun m => ?_) I')) L2.length 0 w (by omega) hw (rc_cg (fun m => ?_) I)
    · constructor
      · rintro (⟨x', a1, a2⟩ | ⟨y, a1, a2⟩)
        · exact ⟨x', by omega, a2⟩
        · exact ⟨x, by omega, y, a1, a2⟩
      · rintro ⟨x', a1, y, a2, a3⟩
        rcases Nat.lt_or_ge x' x with u | u
        · exact Or.inl ⟨x', u, y, a2, a3⟩
        · rw [show x' = x by omega] at a3; exact Or.inr ⟨y, a2, a3⟩
    · exact ⟨fun q => Or.inl q, fun q => q.elim id (fun ⟨y, a1, _⟩ => by omega)⟩
theorem yf_68 {P : Int32 → Prop} {J : Int32 → Int32 → Prop} {s k t o q : Nat} {S0 : Nat → Prop} (hS : rl_S QQ df tb le ls st nu) (ht : t < 4) (hdt : df t = 1) (ho : o < 3) (hq : q < 128)
    (h : ∀ w, w ≤ 8 → rc_m (fun m => S0 m ∨ ∃ y, y < 128 ∧ QQ t o y = true ∧ nn_pc (q &&& y) = m) w → J (nn_p3 w) (nI (q + 1))) :
    ∀ e y w, y + e = 128 → w ≤ 8 → rc_m (fun m => S0 m ∨ ∃ y', y' < y ∧ QQ t o y' = true ∧ nn_pc (q &&& y') = m) w → wY_common_68 P J (nI s) (nI k) (nI t) (nI o) (nI q) (nI nb) st nu (nn_I so) (nn_I ba) (nn_I an) pj (nn_I ke) (nn_I fa) (nn_I co) (nn_I fr) dw (nn_I pr) (nn_I vo) (nn_L Qs) rb ri rv (nn_I vt) (nn_I he) (e + 1) (nn_p3 w) (nI y) := by
  intro e
  induction e with
  | zero =>
    intro y w hy hw I
    refine pk_lt 127 y (fun z => nm_r (nI_1 _) (h w hw ?_)) (fun z => by omega)
    rw [show y = 128 by omega] at I
    exact I
  | succ e ih =>
    intro y w hy hw I
    refine pk_lt 127 y (fun z => by omega) (fun z => ?_)
    rw [nx_and]
    have ha := qq_lt (b := y) hq
    have h7 := nn_pc7 _ ha
    have hTt : QQ t o y = true → ∀ m, (S0 m ∨ ∃ y', y' < y + 1 ∧ QQ t o y' = true ∧ nn_pc (q &&& y') = m) ↔ ((S0 m ∨ ∃ y', y' < y ∧ QQ t o y' = true ∧ nn_pc (q &&& y') = m) ∨ m = nn_pc (q &&& y)) := fun hqt m => by
      constructor
      · rintro (u | ⟨y', hy', e0, e1⟩)
        · exact Or.inl (Or.inl u)
        · rcases Nat.lt_or_ge y' y with u | u
          · exact Or.inl (Or.inr ⟨y', u, e0, e1⟩)
          · rw [show y' = y by omega] at e1; exact Or.inr e1.symm
      · rintro ((u | ⟨y', hy', e0, e1⟩) | e1)
        · exact Or.inl u
        · exact Or.inr ⟨y', by omega, e0, e1⟩
        · exact Or.inr ⟨y, by omega, hqt, e1.symm⟩
    have hTf : ¬ QQ t o y = true → ∀ m, (S0 m ∨ ∃ y', y' < y + 1 ∧ QQ t o y' = true ∧ nn_pc (q &&& y') = m) ↔ (S0 m ∨ ∃ y', y' < y ∧ QQ t o y' = true ∧ nn_pc (q &&& y') = m) := fun hqt m => by
      constructor
      · rintro (u | ⟨y', hy', e0, e1⟩)
        · exact Or.inl u
        · rcases Nat.lt_or_ge y' y with u | u
          · exact Or.inr ⟨y', u, e0, e1⟩
          · rw [show y' = y by omega] at e0; exact absurd e0 hqt
      · rintro (u | ⟨y', hy', e0, e1⟩)
        · exact Or.inl u
        · exact Or.inr ⟨y', by omega, e0, e1⟩
    have go : (w = 0 ∨ nn_pc (q &&& y) < w - 1) → wY_common_99 P J (wY_common_68 P J (nI s) (nI k) (nI t) (nI o) (nI q) (nI nb) st nu (nn_I so) (nn_I ba) (nn_I an) pj (nn_I ke) (nn_I fa) (nn_I co) (nn_I fr) dw (nn_I pr) (nn_I vo) (nn_L Qs) rb ri rv (nn_I vt) (nn_I he) (e + 1)) (nI s) (nI k) (nI t) (nI o) (nn_p3 w) (nI q) (nI y) (nI (nn_pc (q &&& y))) (nI nb) st nu (nn_I so) (nn_I ba) (nn_I an) pj (nn_I ke) (nn_I fa) (nn_I co) (nn_I fr) dw (nn_I pr) (nn_I vo) (nn_L Qs) rb ri rv (nn_I vt) (nn_I he) := fun c => by
      refine rm_yq hS ht hdt ho (by omega) (nn_br (fun z1 => nm_r (nI_1 _) ?_) (fun z1 => nm_r (nI_1 _) ?_))
      · exact ih (y + 1) w (by omega) hw (rc_cg (fun m => (hTf z1 m).symm) I)
      · exact ih (y + 1) (nn_pc (q &&& y) + 1) (by omega) (by omega) (rc_tk I (hTt z1) c)
    refine yl_size ha ?_
    by_cases w0 : w = 0
    · subst w0
      exact br_t rfl (go (Or.inl rfl))
    · have ew : nn_p3 w = nI (w - 1) := if_neg w0
      refine br_f (fun u => w0 ((nn_p3e hw).mp u)) (pk_le (w - 1) (nn_pc (q &&& y)) (fun z1 => nm_r (nI_1 _) ?_) (fun z1 => go (Or.inr z1)) (hx := ew))
      refine ih (y + 1) w (by omega) hw ?_
      by_cases hqt : QQ t o y = true
      · exact rc_kp I (hTt hqt) w0 z1
      · exact rc_cg (fun m => (hTf hqt m).symm) I
theorem yf_44 {P : Int32 → Prop} {s k t o : Nat} (hS : rl_S QQ df tb le ls st nu) (hs : s < 4) (hd : df s = 1) (hk : k < 3) (ht : t < 4) (hdt : df t = 1) (ho : o < 3)
    (h : ∀ w, w ≤ 8 → rc_m (fun m => ∃ q, q < 128 ∧ qq_mn (QQ s k) q ∧ ∃ y, y < 128 ∧ QQ t o y = true ∧ nn_pc (q &&& y) = m) w → P (nn_p3 w)) :
    ∀ e q w, q + e = 128 → w ≤ 8 → rc_m (fun m => ∃ q', q' < q ∧ qq_mn (QQ s k) q' ∧ ∃ y, y < 128 ∧ QQ t o y = true ∧ nn_pc (q' &&& y) = m) w → wY_common_44 P (nI s) (nI k) (nI t) (nI o) (nI nb) st nu (nn_I so) (nn_I ba) (nn_I an) pj (nn_I ke) (nn_I fa) (nn_I co) (nn_I fr) dw (nn_I pr) (nn_I vo) (nn_L Qs) rb ri rv (nn_I vt) (nn_I he) (e + 1) (nn_p3 w) (nI q) := by
  intro e
  induction e with
  | zero =>
    intro q w hq hw I
    refine pk_lt 127 q (fun z => h w hw ?_) (fun z => by omega)
    rw [show q = 128 by omega] at I
    exact I
  | succ e ih =>
    intro q w hq hw I
    refine pk_lt 127 q (fun z => by omega) (fun z => ys_least hS hs hd hk (by omega) (nn_br (fun z1 => nm_r (nI_1 _) ?_) (fun z1 => ⟨129, ?_⟩)))
    · refine ih (q + 1) w (by omega) hw (rc_cg (fun m => ?_) I)
      constructor
      · rintro ⟨q', a1, a2⟩
        exact ⟨q', by omega, a2⟩
      · rintro ⟨q', a1, a2, a3⟩
        rcases Nat.lt_or_ge q' q with u | u
        · exact ⟨q', u, a2, a3⟩
        · rw [show q' = q by omega] at a2; exact absurd a2 z1
    · refine yf_68 (S0 := fun m => ∃ q', q' < q ∧ qq_mn (QQ s k) q' ∧ ∃ y, y < 128 ∧ QQ t o y = true ∧ nn_pc (q' &&& y) = m) hS ht hdt ho (by omega) (fun w' hw' I' => ih (q + 1) w' (by omega) hw' (rc_cg (fun m => ?_) I')) 128 0 w (by omega) hw (rc_cg (fun m => ?_) I)
      · constructor
        · rintro (⟨q', a1, a2⟩ | a2)
          · exact ⟨q', by omega, a2⟩
          · exact ⟨q, by omega, z1, a2⟩
        · rintro ⟨q', a1, a2, a3⟩
          rcases Nat.lt_or_ge q' q with u | u
          · exact Or.inl ⟨q', u, a2, a3⟩
          · rw [show q' = q by omega] at a3; exact Or.inr a3
      · exact ⟨fun u => Or.inl u, fun u => u.elim id (fun ⟨y, a1, _⟩ => by omega)⟩
/-! fewest -/
theorem xf_32 {P : Int32 → Prop} {D : Nat → Prop} {b i : Int32} {th M : Nat} (hth : th < 128) (hM : M < 128)
    (hD : ∀ t, t < 128 → ∀ P : Int32 → Prop, P (nn_b (D t)) → wpX_does P (fj, (nI nb), (nI lc), tb, df, sm, ju, le, ls, (nn_I so), (nn_I ba), (nn_I an), (nn_I fa), (nn_I co), pi, (nn_I fr), de, (nn_I ke), (nn_I up), (nn_I pr), op, (nn_I vo), ov, (nn_L Qs), qb, qi, qv, (nn_I vt), (nn_I he), ch, lr) b i (nI t))
    (h : ∀ w, w ≤ 8 → rc_m (fun m => ∃ q, q < 128 ∧ q &&& M = q ∧ D (th ||| q) ∧ nn_pc q = m) w → P (nn_p3 w)) :
    ∀ n p w, p + 1 < n → p < 128 → p &&& M = p → w ≤ 8 → rc_m (fun m => ∃ q, (q < 128 ∧ p < q) ∧ q &&& M = q ∧ D (th ||| q) ∧ nn_pc q = m) w → wX_fewest_32 P b i (nI th) (nI M) fj (nI nb) (nI lc) tb df sm ju le ls (nn_I so) (nn_I ba) (nn_I an) (nn_I fa) (nn_I co) pi (nn_I fr) de (nn_I ke) (nn_I up) (nn_I pr) op (nn_I vo) ov (nn_L Qs) qb qi qv (nn_I vt) (nn_I he) ch lr n (nn_p3 w) (nI p) := by
  intro n
  induction n with
  | zero => intro p w hn; omega
  | succ n ih =>
    intro p w hn hp hs hw I
    have h7 := nn_pc7 p hp
    have go : ∀ w', w' ≤ 8 → rc_m (fun m => ∃ q, (q < 128 ∧ p ≤ q) ∧ q &&& M = q ∧ D (th ||| q) ∧ nn_pc q = m) w' → wX_fewest_73 P (wX_fewest_32 P b i (nI th) (nI M) fj (nI nb) (nI lc) tb df sm ju le ls (nn_I so) (nn_I ba) (nn_I an) (nn_I fa) (nn_I co) pi (nn_I fr) de (nn_I ke) (nn_I up) (nn_I pr) op (nn_I vo) ov (nn_L Qs) qb qi qv (nn_I vt) (nn_I he) ch lr n) b i (nI th) (nI M) (nn_p3 w') (nI p) fj (nI nb) (nI lc) tb df sm ju le ls (nn_I so) (nn_I ba) (nn_I an) (nn_I fa) (nn_I co) pi (nn_I fr) de (nn_I ke) (nn_I up) (nn_I pr) op (nn_I vo) ov (nn_L Qs) qb qi qv (nn_I vt) (nn_I he) ch lr := fun w' hw' I' => by
      refine pk_eq p 0 (fun z => ?_) (fun z => nm_r (e' := nI ((p - 1) &&& M)) ?_ ?_)
      · obtain ⟨n', rfl⟩ : ∃ n', n = n' + 1 := ⟨n - 1, by omega⟩
        refine br_t (by decide) (h w' hw' (rc_cg (fun m => ?_) I'))
        exact ⟨fun ⟨q, a1, a2⟩ => ⟨q, a1.1, a2⟩, fun ⟨q, a1, a2⟩ => ⟨q, ⟨a1, by omega⟩, a2⟩⟩
      · rw [← nx_and, ← pk_sub (a := p) (b := 1) (by omega)]; rfl
      · have hle : (p - 1) &&& M ≤ p - 1 := Nat.and_le_left
        refine ih _ w' (by omega) (by omega) (by rw [Nat.and_assoc, Nat.and_self]) hw' (rc_cg (fun m => ?_) I')
        constructor
        · rintro ⟨q, a1, a2⟩
          exact ⟨q, ⟨a1.1, by omega⟩, a2⟩
        · rintro ⟨q, a1, a2, a3⟩
          refine ⟨q, ⟨a1.1, ?_⟩, a2, a3⟩
          rcases Nat.lt_or_ge q p with u | u
          · have := rf_pre hM hp hs z a2 u; omega
          · exact u
    have hTt : D (th ||| p) → ∀ m, (∃ q, (q < 128 ∧ p ≤ q) ∧ q &&& M = q ∧ D (th ||| q) ∧ nn_pc q = m) ↔ ((∃ q, (q < 128 ∧ p < q) ∧ q &&& M = q ∧ D (th ||| q) ∧ nn_pc q = m) ∨ m = nn_pc p) := fun hd m => by
      constructor
      · rintro ⟨q, a1, a2, a3, a4⟩
        by_cases e : q = p
        · rw [e] at a4; exact Or.inr a4.symm
        · exact Or.inl ⟨q, ⟨a1.1, by omega⟩, a2, a3, a4⟩
      · rintro (⟨q, a1, a2⟩ | e)
        · exact ⟨q, ⟨a1.1, by omega⟩, a2⟩
        · exact ⟨p, ⟨hp, by omega⟩, hs, hd, e.symm⟩
    have hTf : ¬ D (th ||| p) → ∀ m, (∃ q, (q < 128 ∧ p < q) ∧ q &&& M = q ∧ D (th ||| q) ∧ nn_pc q = m) ↔ (∃ q, (q < 128 ∧ p ≤ q) ∧ q &&& M = q ∧ D (th ||| q) ∧ nn_pc q = m) := fun hd m => by
      constructor
      · rintro ⟨q, a1, a2⟩
        exact ⟨q, ⟨a1.1, by omega⟩, a2⟩
      · rintro ⟨q, a1, a2, a3, a4⟩
        by_cases e : q = p
        · rw [e] at a3; exact absurd a3 hd
        · exact ⟨q, ⟨a1.1, by omega⟩, a2, a3, a4⟩
    have g56 : (w = 0 ∨ nn_pc p < w - 1) → wX_fewest_56 P (wX_fewest_32 P b i (nI th) (nI M) fj (nI nb) (nI lc) tb df sm ju le ls (nn_I so) (nn_I ba) (nn_I an) (nn_I fa) (nn_I co) pi (nn_I fr) de (nn_I ke) (nn_I up) (nn_I pr) op (nn_I vo) ov (nn_L Qs) qb qi qv (nn_I vt) (nn_I he) ch lr n) b i (nI th) (nI M) (nn_p3 w) (nI p) (nI (nn_pc p)) fj (nI nb) (nI lc) tb df sm ju le ls (nn_I so) (nn_I ba) (nn_I an) (nn_I fa) (nn_I co) pi (nn_I fr) de (nn_I ke) (nn_I up) (nn_I pr) op (nn_I vo) ov (nn_L Qs) qb qi qv (nn_I vt) (nn_I he) ch lr := fun c => by
      unfold wX_fewest_56
      rw [nn_or]
      refine hD _ (qq_lor hth hp) _ (nn_br (fun z1 => go w hw (rc_cg (hTf z1) I)) (fun z1 => ?_))
      exact go (nn_pc p + 1) (by omega) (rc_tk I (hTt z1) c)
    refine br_f (nI_pos (by omega)) (xl_ones hp ?_)
    by_cases w0 : w = 0
    · subst w0
      exact br_t (by decide) (g56 (Or.inl rfl))
    · have ew : nn_p3 w = nI (w - 1) := if_neg w0
      refine br_f (fun u => w0 ((nn_p3n hw).mp u)) (pk_le (w - 1) (nn_pc p) (fun z1 => go w hw ?_) (fun z1 => g56 (Or.inr z1)) (hx := ew))
      by_cases hd : D (th ||| p)
      · exact rc_kp I (hTt hd) w0 z1
      · exact rc_cg (hTf hd) I
theorem xf_few {P : Int32 → Prop} {D : Nat → Prop} {b i : Int32} {th o : Nat} (hth : th < 128) (ho : o < 128)
    (hD : ∀ t, t < 128 → ∀ P : Int32 → Prop, P (nn_b (D t)) → wpX_does P (fj, (nI nb), (nI lc), tb, df, sm, ju, le, ls, (nn_I so), (nn_I ba), (nn_I an), (nn_I fa), (nn_I co), pi, (nn_I fr), de, (nn_I ke), (nn_I up), (nn_I pr), op, (nn_I vo), ov, (nn_L Qs), qb, qi, qv, (nn_I vt), (nn_I he), ch, lr) b i (nI t)) (hm : ∀ a c, a < 128 → c < 128 → a &&& c = a → D a → D c)
    (h : ∀ w, w ≤ 8 → rc_m (fun m => ∃ q, q < 128 ∧ q &&& (o &&& (127 - th)) = q ∧ D (th ||| q) ∧ nn_pc q = m) w → P (nn_p3 w)) : wpX_fewest P (fj, (nI nb), (nI lc), tb, df, sm, ju, le, ls, (nn_I so), (nn_I ba), (nn_I an), (nn_I fa), (nn_I co), pi, (nn_I fr), de, (nn_I ke), (nn_I up), (nn_I pr), op, (nn_I vo), ov, (nn_L Qs), qb, qi, qv, (nn_I vt), (nn_I he), ch, lr) b i (nI th) (nI o) := by
  have hM := qq_lt (b := 127 - th) ho
  unfold wpX_fewest
  dsimp only
  refine nm_r (nn_andn ho hth) ?_
  rw [nn_or]
  refine hD _ (qq_lor hth hM) _ (nn_br (fun z => h 0 (by omega) (rc_0 (fun m ⟨q, a1, a2, a3, a4⟩ => z ?_))) (fun z => ⟨130, ?_⟩))
  · refine hm _ _ (qq_lor hth a1) (qq_lor hth hM) (qq_ssi (qq_lor hth a1) fun k hk u => ?_) a3
    rw [Nat.testBit_or, Bool.or_eq_true] at u ⊢
    rcases u with u | u
    · exact Or.inl u
    · exact Or.inr (qq_ssb a2 u)
  · refine xf_32 hth hM hD h 130 (o &&& (127 - th)) 0 (by omega) hM (Nat.and_self _) (by omega) (rc_0 (fun m ⟨q, a1, a2, a3, a4⟩ => ?_))
    have : q &&& (o &&& (127 - th)) ≤ o &&& (127 - th) := Nat.and_le_right
    omega
/-- the two searches find the same number -/
theorem rf_lk {D : Nat → Prop} {th o w : Nat} (hth : th < 128) (ho : o < 128) (h : rc_m (fun m => ∃ q, q < 128 ∧ q &&& (o &&& (127 - th)) = q ∧ D (th ||| q) ∧ nn_pc q = m) w) :
    rc_m (fun m => ∃ q, q < 128 ∧ q &&& o = q ∧ D (th ||| q) ∧ nn_pc q = m) w := by
  refine rc_lk h (fun m ⟨q, a1, a2, a3⟩ => ⟨q, a1, ?_, a3⟩) (fun m ⟨q, a1, a2, a3, a4⟩ => ⟨nn_pc (q &&& (127 - th)), ?_, q &&& (127 - th), qq_lt a1, ?_, ?_, rfl⟩)
  · exact qq_ssi a1 fun k hk u => by
      have := qq_ssb a2 u
      rw [Nat.testBit_and, Bool.and_eq_true] at this
      exact this.1
  · rw [← a4]
    exact qq_pm _ (qq_lt a1) _ a1 (by rw [Nat.and_assoc, Nat.and_comm (127 - th) q, ← Nat.and_assoc, Nat.and_self])
  · refine qq_ssi (qq_lt a1) fun k hk u => ?_
    rw [Nat.testBit_and, Bool.and_eq_true] at u ⊢
    exact ⟨qq_ssb a2 u.1, u.2⟩
  · have e : th ||| (q &&& (127 - th)) = th ||| q := by
      refine qq_ext (qq_lor hth (qq_lt a1)) (qq_lor hth a1) fun k hk => ?_
      rw [Nat.testBit_or, Nat.testBit_or, Nat.testBit_and, qq_nb th hth k hk]
      cases th.testBit k <;> cases q.testBit k <;> simp
    rw [e]; exact a3
theorem yf_48 {P : Int32 → Prop} {D : Nat → Prop} {b th o : Nat} (hS : rl_S QQ df tb le ls st nu) (hB : rl_B nb lc df so ba fa co) (hth : th < 128) (ho : o < 128) (hb : b ≤ nb) (eth : th = an b) (eD : D = rm_rd QQ so ba b)
    (h : ∀ w, w ≤ 8 → rc_m (fun m => ∃ q, q < 128 ∧ q &&& o = q ∧ D (th ||| q) ∧ nn_pc q = m) w → P (nn_p3 w)) :
    ∀ e p w, p + e = 128 → w ≤ 8 → rc_m (fun m => ∃ q, q < p ∧ q &&& o = q ∧ D (th ||| q) ∧ nn_pc q = m) w → wY_answers_48 P (nI b) (nI o) (nI nb) st nu (nn_I so) (nn_I ba) (nn_I an) pj (nn_I ke) (nn_I fa) (nn_I co) (nn_I fr) dw (nn_I pr) (nn_I vo) (nn_L Qs) rb ri rv (nn_I vt) (nn_I he) (e + 1) (nn_p3 w) (nI p) := by
  intro e
  induction e with
  | zero =>
    intro p w hp hw I
    refine pk_lt 127 p (fun z => h w hw ?_) (fun z => by omega)
    rw [show p = 128 by omega] at I
    exact I
  | succ e ih =>
    intro p w hp hw I
    have h7 := nn_pc7 p (by omega)
    have hTt : p &&& o = p → D (th ||| p) → ∀ m, (∃ q, q < p + 1 ∧ q &&& o = q ∧ D (th ||| q) ∧ nn_pc q = m) ↔ ((∃ q, q < p ∧ q &&& o = q ∧ D (th ||| q) ∧ nn_pc q = m) ∨ m = nn_pc p) := fun hs hd m => by
      constructor
      · rintro ⟨q, a1, a2, a3, a4⟩
        by_cases e : q = p
        · rw [e] at a4; exact Or.inr a4.symm
        · exact Or.inl ⟨q, by omega, a2, a3, a4⟩
      · rintro (⟨q, a1, a2⟩ | e)
        · exact ⟨q, by omega, a2⟩
        · exact ⟨p, by omega, hs, hd, e.symm⟩
    have hTf : ¬ (p &&& o = p ∧ D (th ||| p)) → ∀ m, (∃ q, q < p ∧ q &&& o = q ∧ D (th ||| q) ∧ nn_pc q = m) ↔ (∃ q, q < p + 1 ∧ q &&& o = q ∧ D (th ||| q) ∧ nn_pc q = m) := fun hd m => by
      constructor
      · rintro ⟨q, a1, a2⟩
        exact ⟨q, by omega, a2⟩
      · rintro ⟨q, a1, a2, a3, a4⟩
        by_cases e : q = p
        · rw [e] at a3 a2; exact absurd ⟨a2, a3⟩ hd
        · exact ⟨q, by omega, a2, a3, a4⟩
    have go : p &&& o = p → (w = 0 ∨ nn_pc p < w - 1) → wY_answers_83 P (wY_answers_48 P (nI b) (nI o) (nI nb) st nu (nn_I so) (nn_I ba) (nn_I an) pj (nn_I ke) (nn_I fa) (nn_I co) (nn_I fr) dw (nn_I pr) (nn_I vo) (nn_L Qs) rb ri rv (nn_I vt) (nn_I he) (e + 1)) (nI b) (nI o) (nn_p3 w) (nI p) (nI (nn_pc p)) (nI nb) st nu (nn_I so) (nn_I ba) (nn_I an) pj (nn_I ke) (nn_I fa) (nn_I co) (nn_I fr) dw (nn_I pr) (nn_I vo) (nn_L Qs) rb ri rv (nn_I vt) (nn_I he) := fun hs c => by
      have hnb := hB.1
      unfold wY_answers_83
      rw [nI_clamp (by omega), nn_Iap, ← eth, nn_or]
      refine ⟨vp_in_nI (by omega) (by omega), rm_suf hS hB hb (qq_lor hth (by omega)) ?_⟩
      rw [← eD]
      refine nn_br (fun z1 => nm_r (nI_1 _) ?_) (fun z1 => nm_r (nI_1 _) ?_)
      · exact ih (p + 1) w (by omega) hw (rc_cg (hTf (fun u => z1 u.2)) I)
      · exact ih (p + 1) (nn_pc p + 1) (by omega) (by omega) (rc_tk I (hTt hs z1) c)
    refine pk_lt 127 p (fun z => by omega) (fun z => yl_size (by omega) ?_)
    refine pk_eq (p &&& (127 - o)) 0 (fun z1 => ?_) (fun z1 => nm_r (nI_1 _) (ih (p + 1) w (by omega) hw (rc_cg (hTf (fun u => z1 ((yq_dis p (by omega) o ho).mpr u.1))) I))) (hx := nn_andn (by omega) ho) (ha := by have := qq_lt (b := 127 - o) (show p < 128 by omega); omega)
    have hs := (yq_dis p (by omega) o ho).mp z1
    by_cases w0 : w = 0
    · subst w0
      exact br_t rfl (go hs (Or.inl rfl))
    · have ew : nn_p3 w = nI (w - 1) := if_neg w0
      refine br_f (fun u => w0 ((nn_p3e hw).mp u)) (pk_le (w - 1) (nn_pc p) (fun z1 => nm_r (nI_1 _) (ih (p + 1) w (by omega) hw ?_)) (fun z1 => go hs (Or.inr z1)) (hx := ew))
      by_cases hd : D (th ||| p)
      · exact rc_kp I (hTt hs hd) w0 z1
      · exact rc_cg (hTf (fun u => hd u.2)) I
theorem yf_70 {P : Int32 → Prop} {D : Nat → Prop} {b i v th o : Nat} (hS : rl_S QQ df tb le ls st nu) (hB : rl_B nb lc df so ba fa co) (hP : rl_P nb pk fr pi pj) (hth : th < 128) (ho : o < 128) (h1 : 1 ≤ b) (hb : b ≤ nb) (hi : i < 3) (hv : v < 8) (hpk : pk (3 * b + i) ≠ 0) (eth : th = vt (24 * b + 8 * i + v)) (eD : D = rl_en QQ so pk b i)
    (h : ∀ w, w ≤ 8 → rc_m (fun m => ∃ q, q < 128 ∧ q &&& o = q ∧ D (th ||| q) ∧ nn_pc q = m) w → P (nn_p3 w)) :
    ∀ e p w, p + e = 128 → w ≤ 8 → rc_m (fun m => ∃ q, q < p ∧ q &&& o = q ∧ D (th ||| q) ∧ nn_pc q = m) w → wY_votes_70 P (nI b) (nI i) (nI v) (nI o) (nI nb) st nu (nn_I so) (nn_I ba) (nn_I an) pj (nn_I ke) (nn_I fa) (nn_I co) (nn_I fr) dw (nn_I pr) (nn_I vo) (nn_L Qs) rb ri rv (nn_I vt) (nn_I he) (e + 1) (nn_p3 w) (nI p) := by
  intro e
  induction e with
  | zero =>
    intro p w hp hw I
    refine pk_lt 127 p (fun z => h w hw ?_) (fun z => by omega)
    rw [show p = 128 by omega] at I
    exact I
  | succ e ih =>
    intro p w hp hw I
    have h7 := nn_pc7 p (by omega)
    have hTt : p &&& o = p → D (th ||| p) → ∀ m, (∃ q, q < p + 1 ∧ q &&& o = q ∧ D (th ||| q) ∧ nn_pc q = m) ↔ ((∃ q, q < p ∧ q &&& o = q ∧ D (th ||| q) ∧ nn_pc q = m) ∨ m = nn_pc p) := fun hs hd m => by
      constructor
      · rintro ⟨q, a1, a2, a3, a4⟩
        by_cases e : q = p
        · rw [e] at a4; exact Or.inr a4.symm
        · exact Or.inl ⟨q, by omega, a2, a3, a4⟩
      · rintro (⟨q, a1, a2⟩ | e)
        · exact ⟨q, by omega, a2⟩
        · exact ⟨p, by omega, hs, hd, e.symm⟩
    have hTf : ¬ (p &&& o = p ∧ D (th ||| p)) → ∀ m, (∃ q, q < p ∧ q &&& o = q ∧ D (th ||| q) ∧ nn_pc q = m) ↔ (∃ q, q < p + 1 ∧ q &&& o = q ∧ D (th ||| q) ∧ nn_pc q = m) := fun hd m => by
      constructor
      · rintro ⟨q, a1, a2⟩
        exact ⟨q, by omega, a2⟩
      · rintro ⟨q, a1, a2, a3, a4⟩
        by_cases e : q = p
        · rw [e] at a3 a2; exact absurd ⟨a2, a3⟩ hd
        · exact ⟨q, by omega, a2, a3, a4⟩
    have go : p &&& o = p → (w = 0 ∨ nn_pc p < w - 1) → wY_votes_108 P (wY_votes_70 P (nI b) (nI i) (nI v) (nI o) (nI nb) st nu (nn_I so) (nn_I ba) (nn_I an) pj (nn_I ke) (nn_I fa) (nn_I co) (nn_I fr) dw (nn_I pr) (nn_I vo) (nn_L Qs) rb ri rv (nn_I vt) (nn_I he) (e + 1)) (nI b) (nI i) (nI v) (nI o) (nn_p3 w) (nI p) (nI (nn_pc p)) (nI nb) st nu (nn_I so) (nn_I ba) (nn_I an) pj (nn_I ke) (nn_I fa) (nn_I co) (nn_I fr) dw (nn_I pr) (nn_I vo) (nn_L Qs) rb ri rv (nn_I vt) (nn_I he) := fun hs c => by
      have hnb := hB.1
      unfold wY_votes_108
      rw [rm_i24, nI_clamp (by omega), nn_Iap, ← eth, nn_or]
      refine ⟨vp_in_nI (by omega) (by omega), rm_en_y hS hB hP h1 hb hi (qq_lor hth (by omega)) ?_⟩
      rw [nn_bc (Q := D (th ||| p)) (by rw [eD]; exact ⟨fun u => u.2, fun u => ⟨hpk, u⟩⟩)]
      refine nn_br (fun z1 => nm_r (nI_1 _) ?_) (fun z1 => nm_r (nI_1 _) ?_)
      · exact ih (p + 1) w (by omega) hw (rc_cg (hTf (fun u => z1 u.2)) I)
      · exact ih (p + 1) (nn_pc p + 1) (by omega) (by omega) (rc_tk I (hTt hs z1) c)
    refine pk_lt 127 p (fun z => by omega) (fun z => yl_size (by omega) ?_)
    refine pk_eq (p &&& (127 - o)) 0 (fun z1 => ?_) (fun z1 => nm_r (nI_1 _) (ih (p + 1) w (by omega) hw (rc_cg (hTf (fun u => z1 ((yq_dis p (by omega) o ho).mpr u.1))) I))) (hx := nn_andn (by omega) ho) (ha := by have := qq_lt (b := 127 - o) (show p < 128 by omega); omega)
    have hs := (yq_dis p (by omega) o ho).mp z1
    by_cases w0 : w = 0
    · subst w0
      exact br_t rfl (go hs (Or.inl rfl))
    · have ew : nn_p3 w = nI (w - 1) := if_neg w0
      refine br_f (fun u => w0 ((nn_p3e hw).mp u)) (pk_le (w - 1) (nn_pc p) (fun z1 => nm_r (nI_1 _) (ih (p + 1) w (by omega) hw ?_)) (fun z1 => go hs (Or.inr z1)) (hx := ew))
      by_cases hd : D (th ||| p)
      · exact rc_kp I (hTt hs hd) w0 z1
      · exact rc_cg (hTf (fun u => hd u.2)) I
theorem rf_open {b : Nat} (hS : rl_S QQ df tb le ls st nu) (hB : rl_B nb lc df so ba fa co) (hV : rl_V nb pk an ke pr vo vt he) (hb : b ≤ nb) : ∀ e n t, n + e = 7 → t < 128 → ∃ o, o < 128 ∧ (∀ P : Int32 → Prop, wpX_fewest P (fj, (nI nb), (nI lc), tb, df, sm, ju, le, ls, (nn_I so), (nn_I ba), (nn_I an), (nn_I fa), (nn_I co), pi, (nn_I fr), de, (nn_I ke), (nn_I up), (nn_I pr), op, (nn_I vo), ov, (nn_L Qs), qb, qi, qv, (nn_I vt), (nn_I he), ch, lr) (nI b) (-1) (nI (an b)) (nI o) → wX_answers_14 P (nI b) fj (nI nb) (nI lc) tb df sm ju le ls (nn_I so) (nn_I ba) (nn_I an) (nn_I fa) (nn_I co) pi (nn_I fr) de (nn_I ke) (nn_I up) (nn_I pr) op (nn_I vo) ov (nn_L Qs) qb qi qv (nn_I vt) (nn_I he) ch lr (e + 1) (nI t) (nI n)) ∧ ∀ P : Int32 → Prop, (∃ n48 : Nat, wY_answers_48 P (nI b) (nI o) (nI nb) st nu (nn_I so) (nn_I ba) (nn_I an) pj (nn_I ke) (nn_I fa) (nn_I co) (nn_I fr) dw (nn_I pr) (nn_I vo) (nn_L Qs) rb ri rv (nn_I vt) (nn_I he) n48 (-3) 0) → wY_answers_14 P (nI b) (nI nb) st nu (nn_I so) (nn_I ba) (nn_I an) pj (nn_I ke) (nn_I fa) (nn_I co) (nn_I fr) dw (nn_I pr) (nn_I vo) (nn_L Qs) rb ri rv (nn_I vt) (nn_I he) (e + 1) (nI t) (nI n) := by
  have hnb := hB.1
  intro e
  induction e with
  | zero =>
    intro n t hn ht
    refine ⟨t, ht, fun P h => br_t (nI_le (a := 7) (by omega) (by omega)) ⟨vp_in_nI (by omega) (by omega), ?_⟩, fun P h => br_t (nI_le (a := 7) (by omega) (by omega)) h⟩
    rw [nI_clamp (by omega)]
    exact h
  | succ e ih =>
    intro n t hn ht
    have z : ¬ (7 : Int32) ≤ nI n := nI_ge (b := 7) (by omega) (by omega)
    have hpr := hV.2.2.2.2.2.2.2.1 n
    have c2 : (nI n).toNatClampNeg = n := nI_clamp (by omega)
    by_cases h1 : b ≤ pr n
    · obtain ⟨o, ho, hX, hY⟩ := ih (n + 1) t (by omega) ht
      have z1 : nI b ≤ nn_I pr n := nI_le h1 (by omega)
      refine ⟨o, ho, fun P h => br_f z ⟨vp_in_nI (by omega) (by omega), ?_⟩, fun P h => br_f z ⟨vp_in_nI (by omega) (by omega), ?_⟩⟩
      · rw [c2]; exact br_t z1 (nm_r (nI_1 n) (hX P h))
      · rw [c2]; exact br_t z1 (nm_r (nI_1 n) (hY P h))
    · have h2n := qq_2l n (by omega)
      obtain ⟨o, ho, hX, hY⟩ := ih (n + 1) (t ||| 2 ^ n) (by omega) (qq_lor ht h2n)
      have z1 : ¬ nI b ≤ nn_I pr n := nI_ge (by omega) (by omega)
      have eo : nI t ||| ((1 : Int32) <<< (nI n &&& 31)) = nI (t ||| 2 ^ n) := by rw [nn_shl (by omega), nn_or]
      refine ⟨o, ho, fun P h => br_f z ⟨vp_in_nI (by omega) (by omega), ?_⟩, fun P h => br_f z ⟨vp_in_nI (by omega) (by omega), ?_⟩⟩
      · rw [c2]; exact br_f z1 (nm_r eo (nm_r (nI_1 n) (hX P h)))
      · rw [c2]; exact br_f z1 (nm_r eo (nm_r (nI_1 n) (hY P h)))
theorem rf_doesA {P : Int32 → Prop} {b t : Nat} (hS : rl_S QQ df tb le ls st nu) (hB : rl_B nb lc df so ba fa co) (hb : b ≤ nb) (ht : t < 128) (h : P (nn_b (rm_rd QQ so ba b t))) : wpX_does P (fj, (nI nb), (nI lc), tb, df, sm, ju, le, ls, (nn_I so), (nn_I ba), (nn_I an), (nn_I fa), (nn_I co), pi, (nn_I fr), de, (nn_I ke), (nn_I up), (nn_I pr), op, (nn_I vo), ov, (nn_L Qs), qb, qi, qv, (nn_I vt), (nn_I he), ch, lr) (nI b) (-1) (nI t) := by
  have hnb := hB.1
  have hba := hB.2.2.2.1 b
  unfold wpX_does
  dsimp only
  rw [nI_clamp (by omega)]
  refine br_t (by decide) ⟨vp_in_nI (by omega) (by omega), pk_eq (ba b) 0 (fun z => ?_) (fun z => ?_)⟩
  · exact ⟨b + 1, rm_does33 hS hB hb ht h (b + 1) 1 (by omega) (by omega) (by omega) (by omega) (fun c' a1 a2 a3 => by omega)⟩
  · exact ⟨vp_in_nI (by omega) (by omega), nm_e ⟨b + 1, rm_does33 hS hB hb ht h (b + 1) (ba b) (by omega) (by omega) (by omega) (by omega) (fun c' a1 a2 a3 => by omega)⟩⟩
theorem rf_doesV {P : Int32 → Prop} {b i t : Nat} (hS : rl_S QQ df tb le ls st nu) (hB : rl_B nb lc df so ba fa co) (hP : rl_P nb pk fr pi pj) (h1 : 1 ≤ b) (hb : b ≤ nb) (hi : i < 3) (ht : t < 128) (h : P (nn_b (rl_en QQ so pk b i t))) : wpX_does P (fj, (nI nb), (nI lc), tb, df, sm, ju, le, ls, (nn_I so), (nn_I ba), (nn_I an), (nn_I fa), (nn_I co), pi, (nn_I fr), de, (nn_I ke), (nn_I up), (nn_I pr), op, (nn_I vo), ov, (nn_L Qs), qb, qi, qv, (nn_I vt), (nn_I he), ch, lr) (nI b) (nI i) (nI t) := by
  unfold wpX_does
  dsimp only
  exact br_f (nI_pos (by omega)) (rm_en_x hS hB hP h1 hb hi ht ⟨nn_bn _, h⟩)
theorem rf_moA (hS : rl_S QQ df tb le ls st nu) (hB : rl_B nb lc df so ba fa co) {b : Nat} (hb : b ≤ nb) {a c : Nat} (ha : a < 128) (hc : c < 128) (hs : a &&& c = a) (h : rm_rd QQ so ba b a) : rm_rd QQ so ba b c := fun x h1 h2 h3 =>
  (rl_Sd hS (hB.2.1 x) (hB.2.2.1 x h1 (by omega))).2.2.2.2.2 0 (by omega) a c ha hc hs (h x h1 h2 h3)
theorem rf_moV (hS : rl_S QQ df tb le ls st nu) (hB : rl_B nb lc df so ba fa co) {b i : Nat} (h1 : 1 ≤ b) (hb : b ≤ nb) {a c : Nat} (ha : a < 128) (hc : c < 128) (hs : a &&& c = a) (h : rl_en QQ so pk b i a) : rl_en QQ so pk b i c := by
  unfold rl_en at h ⊢
  exact (rl_Sd hS (hB.2.1 b) (hB.2.2.1 b h1 hb)).2.2.2.2.2 _ (by by_cases z : pk (3 * b + i) = 1 <;> simp [z]) a c ha hc hs h
end few
theorem rt_common {nb : Nat} {u : SX} {v : SY} (R : rl_R nb u v) (a b c d : Int32) : rl_A (fun P => wpX_common P u a b c d) (fun P => wpY_common P v a b c d) := by
  refine rl_el (P := fun u v => rl_A (fun P => wpX_common P u a b c d) (fun P => wpY_common P v a b c d)) R ?_
  intro fj lc tb df sm ju le ls so ba an fa co pi fr de ke up pr op vo ov Qs qb qi qv vt he ch lr st nu pj dw rb ri rv QQ pk hS hB hP hV hQ hC
  unfold rl_A wpX_common wpY_common
  dsimp only
  rcases rm_isS (fj := fj) (nb := nb) (lc := lc) (tb := tb) (df := df) (sm := sm) (ju := ju) (le := le) (ls := ls) (pi := pi) (de := de) (op := op) (ov := ov) (qb := qb) (qi := qi) (qv := qv) (ch := ch) (lr := lr) (so := so) (ba := ba) (an := an) (fa := fa) (co := co) (fr := fr) (ke := ke) (up := up) (pr := pr) (vo := vo) (vt := vt) (he := he) (Qs := Qs) (st := st) (nu := nu) (pj := pj) (dw := dw) (rb := rb) (ri := ri) (rv := rv) (x := a) hS with ⟨s, hs, e, hd, xs, ys⟩ | ⟨xs, ys⟩
  · subst e
    rcases rm_isS (fj := fj) (nb := nb) (lc := lc) (tb := tb) (df := df) (sm := sm) (ju := ju) (le := le) (ls := ls) (pi := pi) (de := de) (op := op) (ov := ov) (qb := qb) (qi := qi) (qv := qv) (ch := ch) (lr := lr) (so := so) (ba := ba) (an := an) (fa := fa) (co := co) (fr := fr) (ke := ke) (up := up) (pr := pr) (vo := vo) (vt := vt) (he := he) (Qs := Qs) (st := st) (nu := nu) (pj := pj) (dw := dw) (rb := rb) (ri := ri) (rv := rv) (x := c) hS with ⟨t, ht, e, hdt, xt, yt⟩ | ⟨xt, yt⟩
    · subst e
      rcases nl_in (x := b) (n := 3) (m := 2) 3 (by decide) (by decide) with ⟨k, hk, e, xk, yk⟩ | ⟨xk, yk⟩
      · subst e
        rcases nl_in (x := d) (n := 3) (m := 2) 3 (by decide) (by decide) with ⟨o, ho, e, xo, yo⟩ | ⟨xo, yo⟩
        · subst e
          obtain ⟨_, _, _, hL, _, hM⟩ := rl_Sd hS hs hd
          obtain ⟨_, _, _, hL2, _, hM2⟩ := rl_Sd hS ht hdt
          obtain ⟨l1, l2⟩ := hL k hk
          obtain ⟨l3, l4⟩ := hL2 o ho
          obtain ⟨w, hw⟩ := rc_ex (fun m => ∃ q, q < 128 ∧ qq_mn (QQ s k) q ∧ ∃ y, y < 128 ∧ qq_mn (QQ t o) y ∧ nn_pc (q &&& y) = m)
          refine ⟨nn_p3 w, fun P h => xs _ (br_f nn_10 (xt _ (br_f nn_10 (xk _ (br_f nn_10 (xo _ (br_f nn_10 (nm_r (rm_i3 s k) (nm_r (rm_i3 t o) (nm_r (nn_m35 _) ⟨(qq_ms (QQ s k)).length + 1, ?_⟩)))))))))), fun P h => ys _ (br_f nn_10 (yt _ (br_f nn_10 (yk _ (br_f nn_10 (yo _ (br_f nn_10 ⟨129, ?_⟩)))))))⟩
          · refine xf_61 (L1 := qq_ms (QQ s k)) (L2 := qq_ms (QQ t o)) (by omega) (by omega) (qq_35 (hM k hk)) (qq_35 (hM2 o ho)) (fun a ha => (qq_mem.mp ha).1) l1 l3 l2 l4 (fun w' _ I => ?_) (qq_ms (QQ s k)).length 0 0 (by omega) (by omega) (rc_0 (fun m ⟨x, hx, _⟩ => by omega))
            rw [← rc_un hw (rc_cg (fun m => ?_) I)]
            · exact h
            · constructor
              · rintro ⟨x, hx, y, hy, e1⟩
                have p1 := qq_mem.mp (xc_nm hx)
                have p2 := qq_mem.mp (xc_nm hy)
                exact ⟨_, p1.1, p1.2, _, p2.1, p2.2, e1⟩
              · rintro ⟨q, hq, hm, y, hy, hmy, e1⟩
                obtain ⟨x1, hx1, f1⟩ := xc_mn (qq_mem.mpr ⟨hq, hm⟩)
                obtain ⟨x2, hx2, f2⟩ := xc_mn (qq_mem.mpr ⟨hy, hmy⟩)
                exact ⟨x1, hx1, x2, hx2, by rw [f1, f2]; exact e1⟩
          · refine yf_44 hS hs hd hk ht hdt ho (fun w' _ I => ?_) 128 0 0 (by omega) (by omega) (rc_0 (fun m ⟨x, hx, _⟩ => by omega))
            rw [← rc_un (rc_lk hw (fun m ⟨q, a1, a2, y, a3, a4, a5⟩ => ⟨q, a1, a2, y, a3, a4.1, a5⟩) (fun m ⟨q, a1, a2, y, a3, a4, a5⟩ => ?_)) I]
            · exact h
            · obtain ⟨z, hz, mz, sz⟩ := qq_sub y a3 a4
              refine ⟨nn_pc (q &&& z), ?_, q, a1, a2, z, hz, mz, rfl⟩
              rw [← a5]
              refine qq_pm _ (qq_lt a1) _ (qq_lt a1) (qq_ssi (qq_lt a1) fun j hj g => ?_)
              rw [Nat.testBit_and, Bool.and_eq_true] at g ⊢
              exact ⟨g.1, qq_ssb sz g.2⟩
        · exact ⟨-1, fun P h => xs _ (br_f nn_10 (xt _ (br_f nn_10 (xk _ (br_f nn_10 (xo _ (br_t rfl h))))))), fun P h => ys _ (br_f nn_10 (yt _ (br_f nn_10 (yk _ (br_f nn_10 (yo _ (br_t rfl h)))))))⟩
      · exact ⟨-1, fun P h => xs _ (br_f nn_10 (xt _ (br_f nn_10 (xk _ (br_t rfl h))))), fun P h => ys _ (br_f nn_10 (yt _ (br_f nn_10 (yk _ (br_t rfl h)))))⟩
    · exact ⟨-1, fun P h => xs _ (br_f nn_10 (xt _ (br_t rfl h))), fun P h => ys _ (br_f nn_10 (yt _ (br_t rfl h)))⟩
  · exact ⟨-1, fun P h => xs _ (br_t rfl h), fun P h => ys _ (br_t rfl h)⟩
theorem rt_answers {nb : Nat} {u : SX} {v : SY} (R : rl_R nb u v) (a : Int32) : rl_A (fun P => wpX_answers P u a) (fun P => wpY_answers P v a) := by
  refine rl_el (P := fun u v => rl_A (fun P => wpX_answers P u a) (fun P => wpY_answers P v a)) R ?_
  intro fj lc tb df sm ju le ls so ba an fa co pi fr de ke up pr op vo ov Qs qb qi qv vt he ch lr st nu pj dw rb ri rv QQ pk hS hB hP hV hQ hC
  unfold rl_A wpX_answers wpY_answers
  dsimp only
  have hnb := hB.1
  rcases rm_isB (fj := fj) (nb := nb) (lc := lc) (tb := tb) (df := df) (sm := sm) (ju := ju) (le := le) (ls := ls) (pi := pi) (de := de) (op := op) (ov := ov) (qb := qb) (qi := qi) (qv := qv) (ch := ch) (lr := lr) (so := so) (ba := ba) (an := an) (fa := fa) (co := co) (fr := fr) (ke := ke) (up := up) (pr := pr) (vo := vo) (vt := vt) (he := he) (Qs := Qs) (st := st) (nu := nu) (pj := pj) (dw := dw) (rb := rb) (ri := ri) (rv := rv) (x := a) hnb with ⟨b, h1, hb, e, xs, ys⟩ | ⟨xs, ys⟩
  · subst e
    have han := hV.2.2.2.2.1 b
    obtain ⟨o, ho, hX, hY⟩ := rf_open (fj := fj) (nb := nb) (lc := lc) (tb := tb) (df := df) (sm := sm) (ju := ju) (le := le) (ls := ls) (pi := pi) (de := de) (op := op) (ov := ov) (qb := qb) (qi := qi) (qv := qv) (ch := ch) (lr := lr) (so := so) (ba := ba) (an := an) (fa := fa) (co := co) (fr := fr) (ke := ke) (up := up) (pr := pr) (vo := vo) (vt := vt) (he := he) (Qs := Qs) (st := st) (nu := nu) (pj := pj) (dw := dw) (rb := rb) (ri := ri) (rv := rv) (b := b) hS hB hV hb 7 0 0 (by omega) (by omega)
    obtain ⟨w, hw⟩ := rc_ex (fun m => ∃ q, q < 128 ∧ q &&& (o &&& (127 - an b)) = q ∧ rm_rd QQ so ba b (an b ||| q) ∧ nn_pc q = m)
    refine ⟨nn_p3 w, fun P h => xs _ (br_f nn_10 ⟨_, hX P ?_⟩), fun P h => ys _ (br_f nn_10 ⟨_, hY P ⟨129, ?_⟩⟩)⟩
    · refine xf_few (D := rm_rd QQ so ba b) han ho (fun t ht P h => rf_doesA hS hB hb ht h) (fun a c ha hc hs h => rf_moA hS hB hb ha hc hs h) (fun w' _ I => ?_)
      rw [rc_un I hw]; exact h
    · refine yf_48 (D := rm_rd QQ so ba b) (th := an b) hS hB han ho hb rfl rfl (fun w' _ I => ?_) 128 0 0 (by omega) (by omega) (rc_0 (fun m ⟨x, hx, _⟩ => by omega))
      rw [rc_un I (rf_lk han ho hw)]; exact h
  · exact ⟨-1, fun P h => xs _ (br_t rfl h), fun P h => ys _ (br_t rfl h)⟩
theorem rt_votes {nb : Nat} {u : SX} {v : SY} (R : rl_R nb u v) (a b c : Int32) : rl_A (fun P => wpX_votes P u a b c) (fun P => wpY_votes P v a b c) := by
  refine rl_el (P := fun u v => rl_A (fun P => wpX_votes P u a b c) (fun P => wpY_votes P v a b c)) R ?_
  intro fj lc tb df sm ju le ls so ba an fa co pi fr de ke up pr op vo ov Qs qb qi qv vt he ch lr st nu pj dw rb ri rv QQ pk hS hB hP hV hQ hC
  unfold rl_A wpX_votes wpY_votes
  dsimp only
  have hnb := hB.1
  rcases rm_isB (fj := fj) (nb := nb) (lc := lc) (tb := tb) (df := df) (sm := sm) (ju := ju) (le := le) (ls := ls) (pi := pi) (de := de) (op := op) (ov := ov) (qb := qb) (qi := qi) (qv := qv) (ch := ch) (lr := lr) (so := so) (ba := ba) (an := an) (fa := fa) (co := co) (fr := fr) (ke := ke) (up := up) (pr := pr) (vo := vo) (vt := vt) (he := he) (Qs := Qs) (st := st) (nu := nu) (pj := pj) (dw := dw) (rb := rb) (ri := ri) (rv := rv) (x := a) hnb with ⟨j, hj1, hj, e, xs, ys⟩ | ⟨xs, ys⟩
  · subst e
    rcases nl_in (x := b) (n := 3) (m := 2) 3 (by decide) (by decide) with ⟨i, hi, e, xk, yk⟩ | ⟨xk, yk⟩
    · subst e
      rcases nl_bt (x := c) (a := 1) (b := 7) 1 7 (by decide) (by decide) with ⟨t, ht1, ht, e, xt, yt⟩ | ⟨xt, yt⟩
      · subst e
        have hp := hP.1 (3 * j + i) (by omega)
        have h8 := hP.2.1 (3 * j + i)
        have hvt := hV.2.2.2.2.2.1 (24 * j + 8 * i + t)
        have ei := rm_i3 j i
        have ci : (nI (3 * j + i)).toNatClampNeg = 3 * j + i := nI_clamp (by omega)
        rw [ei, ci, hp.1, hp.2]
        by_cases hc : pk (3 * j + i) = 1 ∨ pk (3 * j + i) = t + 1
        · have hpk : pk (3 * j + i) ≠ 0 := by omega
          obtain ⟨o, ho, oX, oY⟩ := rm_open (fj := fj) (nb := nb) (lc := lc) (tb := tb) (df := df) (sm := sm) (ju := ju) (le := le) (ls := ls) (pi := pi) (de := de) (op := op) (ov := ov) (qb := qb) (qi := qi) (qv := qv) (ch := ch) (lr := lr) (so := so) (ba := ba) (an := an) (fa := fa) (co := co) (fr := fr) (ke := ke) (up := up) (pr := pr) (vo := vo) (vt := vt) (he := he) (Qs := Qs) (st := st) (nu := nu) (pj := pj) (dw := dw) (rb := rb) (ri := ri) (rv := rv) (b := j) (i := i) hB hV hj hi
          obtain ⟨w, hw⟩ := rc_ex (fun m => ∃ q, q < 128 ∧ q &&& (o &&& (127 - vt (24 * j + 8 * i + t))) = q ∧ rl_en QQ so pk j i (vt (24 * j + 8 * i + t) ||| q) ∧ nn_pc q = m)
          have gX : ∀ P : Int32 → Prop, P (nn_p3 w) → wX_votes_61 P (nI j) (nI i) (nI t) fj (nI nb) (nI lc) tb df sm ju le ls (nn_I so) (nn_I ba) (nn_I an) (nn_I fa) (nn_I co) pi (nn_I fr) de (nn_I ke) (nn_I up) (nn_I pr) op (nn_I vo) ov (nn_L Qs) qb qi qv (nn_I vt) (nn_I he) ch lr := fun P h => by
            refine oX _ ?_
            rw [rm_i24, nI_clamp (by omega)]
            refine ⟨vp_in_nI (by omega) (by omega), xf_few (D := rl_en QQ so pk j i) hvt ho (fun t ht P h => rf_doesV hS hB hP hj1 hj hi ht h) (fun a c ha hc hs h => rf_moV hS hB hj1 hj ha hc hs h) (fun w' _ I => ?_)⟩
            rw [rc_un I hw]; exact h
          have gY : ∀ P : Int32 → Prop, P (nn_p3 w) → wY_votes_55 P (nI j) (nI i) (nI t) (nI nb) st nu (nn_I so) (nn_I ba) (nn_I an) pj (nn_I ke) (nn_I fa) (nn_I co) (nn_I fr) dw (nn_I pr) (nn_I vo) (nn_L Qs) rb ri rv (nn_I vt) (nn_I he) := fun P h => by
            refine oY _ ⟨129, ?_⟩
            refine yf_70 (D := rl_en QQ so pk j i) (th := vt (24 * j + 8 * i + t)) hS hB hP hvt ho hj1 hj hi (by omega) hpk rfl rfl (fun w' _ I => ?_) 128 0 0 (by omega) (by omega) (rc_0 (fun m ⟨x, hx, _⟩ => by omega))
            rw [rc_un I (rf_lk hvt ho hw)]; exact h
          refine ⟨nn_p3 w, fun P h => xs _ (br_f nn_10 (xk _ (br_f nn_10 (xt _ (br_f nn_10 ⟨vp_in_nI (by omega) (by omega), nm_e (br_f (fun q => hpk ((nn_p3e h8).mp q)) (br_c (fun _ => gX P h) (fun q => br_t ?_ (gX P h))))⟩))))), fun P h => ys _ (br_f nn_10 (yk _ (br_f nn_10 (yt _ (br_f nn_10 ⟨vp_in_nI (by omega) (by omega), nm_e (br_c (fun _ => gY P h) (fun q => br_t ?_ (gY P h)))⟩)))))⟩
          · rcases hc with z | z
            · exact absurd ((nn_p3a h8).mpr z) q
            · exact (nn_p3v h8 ht).mpr z
          · rcases hc with z | z
            · exact absurd ((nn_p1a h8).mpr z) q
            · exact (nn_p1v h8 ht).mpr z
        · refine ⟨-3, fun P h => xs _ (br_f nn_10 (xk _ (br_f nn_10 (xt _ (br_f nn_10 ⟨vp_in_nI (by omega) (by omega), nm_e (br_c (fun _ => h) (fun _ => br_f (fun q => hc (Or.inl ((nn_p3a h8).mp q))) (br_f (fun q => hc (Or.inr ((nn_p3v h8 ht).mp q))) h)))⟩))))), fun P h => ys _ (br_f nn_10 (yk _ (br_f nn_10 (yt _ (br_f nn_10 ⟨vp_in_nI (by omega) (by omega), nm_e (br_f (fun q => hc (Or.inl ((nn_p1a h8).mp q))) (br_f (fun q => hc (Or.inr ((nn_p1v h8 ht).mp q))) h))⟩)))))⟩
      · exact ⟨-1, fun P h => xs _ (br_f nn_10 (xk _ (br_f nn_10 (xt _ (br_t rfl h))))), fun P h => ys _ (br_f nn_10 (yk _ (br_f nn_10 (yt _ (br_t rfl h)))))⟩
    · exact ⟨-1, fun P h => xs _ (br_f nn_10 (xk _ (br_t rfl h))), fun P h => ys _ (br_f nn_10 (yk _ (br_t rfl h)))⟩
  · exact ⟨-1, fun P h => xs _ (br_t rfl h), fun P h => ys _ (br_t rfl h)⟩
end
section
/-! writing into a queue: ask, cast, vote, propose; power -/
def rl_W (nb : Nat) (u : SX) (v : SY) (Z : Int32 → Prop) (WX : (Int32 → SX → Prop) → Prop) (WY : (Int32 → SY → Prop) → Prop) : Prop := ∃ r u' v', rl_R nb u' v' ∧ (Z r → u' = u ∧ v' = v) ∧ (∀ P : Int32 → SX → Prop, P r u' → WX P) ∧ ∀ P : Int32 → SY → Prop, P r v' → WY P
theorem rl_Wi {nb : Nat} {u : SX} {v : SY} {Z : Int32 → Prop} {WX : (Int32 → SX → Prop) → Prop} {WY : (Int32 → SY → Prop) → Prop} {R : SX → SY → Prop} (h : rl_W nb u v Z WX WY) (hR : ∀ u v, rl_R nb u v → R u v) : WX (fun r u' => WY (fun r' v' => r' = r ∧ R u' v')) := by
  obtain ⟨r, u', v', hr, _, hX, hY⟩ := h
  exact hX _ (hY _ ⟨rfl, hR _ _ hr⟩)
theorem rl_Qapp {nb : Nat} {pk : Nat → Nat} {Qs : Nat → List (Nat × Nat × Nat)} {up : Nat → Nat} {dw : Nat → Int32} {pr vo : Nat → Nat} {op ov ov' qb qi qv rb ri rv : Nat → Int32} {n : Nat} {e : Nat × Nat × Nat}
    (hQ : rl_Q nb pk Qs up dw pr vo op ov qb qi qv rb ri rv) (hn : n < 7) (hu : up n = 1) (hl : (Qs n).length < 6) (hr : rl_rk nb pk e)
    (hov : ∀ n' i', n' < 7 → i' < 3 → ov' (3 * n' + i') = if n' = n ∧ e.2.1 = i' then nI (8 * e.1 + e.2.2) else ov (3 * n' + i')) :
    rl_Q nb pk (nn_u Qs n (Qs n ++ [e])) up dw pr vo (upd op n (nI e.1)) ov' (upd qb (6 * n + (Qs n).length) (nI e.1)) (upd qi (6 * n + (Qs n).length) (rl_ti e.2.1)) (upd qv (6 * n + (Qs n).length) (nI e.2.2)) (upd rb (6 * n + (Qs n).length) (nI e.1)) (upd ri (6 * n + (Qs n).length) (nI e.2.1)) (upd rv (6 * n + (Qs n).length) (nI e.2.2)) := by
  intro n' hn'
  by_cases en : n' = n
  · subst en
    obtain ⟨q1, q2, q3, q4, q5, q6⟩ := hQ n' hn
    rw [show nn_u Qs n' (Qs n' ++ [e]) n' = Qs n' ++ [e] from nn_us]
    refine ⟨q1, q2, fun z => by omega, ⟨?_, ?_, ?_⟩, ?_, ?_⟩
    · rw [List.length_append]; exact Nat.succ_le_of_lt hl
    · intro a ha
      rcases List.mem_append.mp ha with z | z
      · exact q4.2.1 a z
      · rw [List.mem_singleton.mp z]; exact hr
    · intro x hx
      rw [List.length_append] at hx
      rcases Nat.lt_or_ge x (Qs n').length with z | z
      · rw [rl_glt z]
        have := q4.2.2 x z
        rw [pk_un (by omega), pk_un (by omega), pk_un (by omega), pk_un (by omega), pk_un (by omega), pk_un (by omega)]
        exact this
      · have ex : x = (Qs n').length := by simp at hx; omega
        subst ex
        rw [rl_geq, pk_us, pk_us, pk_us, pk_us, pk_us, pk_us]
        exact ⟨rfl, rfl, rfl, rfl, rfl, rfl⟩
    · rw [pk_us, rl_opa]
    · intro i hi
      rw [hov n' i hn hi, rl_ova]
      by_cases z : e.2.1 = i
      · rw [if_pos ⟨rfl, z⟩, if_pos z]
      · rw [if_neg (fun q => z q.2), if_neg z]; exact q6 i hi
  · obtain ⟨q1, q2, q3, q4, q5, q6⟩ := hQ n' hn'
    rw [show nn_u Qs n (Qs n ++ [e]) n' = Qs n' from nn_un en]
    have h6 := q4.1
    refine ⟨q1, q2, q3, ⟨q4.1, q4.2.1, ?_⟩, ?_, ?_⟩
    · intro x hx
      rw [pk_un (by omega), pk_un (by omega), pk_un (by omega), pk_un (by omega), pk_un (by omega), pk_un (by omega)]
      exact q4.2.2 x hx
    · rw [pk_un en]; exact q5
    · intro i hi
      rw [hov n' i hn' hi, if_neg (fun q => en q.1)]; exact q6 i hi
section cast
variable {fj : Int32} {nb lc : Nat} {tb df sm ju le ls pi de op ov qb qi qv ch lr : Nat → Int32} {so ba an fa co fr ke up pr vo vt he : Nat → Nat} {Qs : Nat → List (Nat × Nat × Nat)}
variable {st nu pj dw rb ri rv : Nat → Int32}
variable {QQ : Nat → Nat → Nat → Bool} {pk : Nat → Nat}
theorem xm_write {P : SX → Prop} {b n i v : Nat} {xi : Int32} (hn : n < 7) (hl : (Qs n).length < 6) (hb : b < 128) (hv : v < 128) (hi : vp_nar .byte xi.toInt8.toInt32 = rl_ti i)
    (h : P (fj, (nI nb), (nI lc), tb, df, sm, ju, le, ls, (nn_I so), (nn_I ba), (nn_I an), (nn_I fa), (nn_I co), pi, (nn_I fr), de, (nn_I ke), (nn_I up), (nn_I pr), (upd op n (nI b)), (nn_I vo), ov, (nn_L (nn_u Qs n (Qs n ++ [(b, i, v)]))), (upd qb (6 * n + (Qs n).length) (nI b)), (upd qi (6 * n + (Qs n).length) (rl_ti i)), (upd qv (6 * n + (Qs n).length) (nI v)), (nn_I vt), (nn_I he), ch, lr)) : wpX_write P (fj, (nI nb), (nI lc), tb, df, sm, ju, le, ls, (nn_I so), (nn_I ba), (nn_I an), (nn_I fa), (nn_I co), pi, (nn_I fr), de, (nn_I ke), (nn_I up), (nn_I pr), op, (nn_I vo), ov, (nn_L Qs), qb, qi, qv, (nn_I vt), (nn_I he), ch, lr) (nI b) (nI n) xi (nI v) := by
  unfold wpX_write
  dsimp only
  have ce : (nI n).toNatClampNeg = n := nI_clamp (by omega)
  rw [ce, hi, nn_v8b hb, nn_v8b hv]
  refine ⟨vp_in_nI hn (by omega), vp_in_nI hn (by omega), nm_r (e' := nn_L (nn_u Qs n (Qs n ++ [(b, i, v)]))) ?_ (nm_r (e' := nI (6 * n + (Qs n).length)) (by rw [nn_m6, nn_Lap, nI_add]) ?_)⟩
  · rw [nn_Lap, nI_1, nn_v8b (by omega)]
    exact nn_updL (by rw [List.length_append]; rfl)
  · rw [nI_clamp (by omega)]
    exact ⟨vp_in_nI (by omega) (by omega), nm_e ⟨vp_in_nI (by omega) (by omega), nm_e ⟨vp_in_nI (by omega) (by omega), nm_e ⟨vp_in_nI hn (by omega), nm_e h⟩⟩⟩⟩
theorem ym_write {P : Int32 → SY → Prop} {b n i v : Nat} (hn : n < 7) (hl : (Qs n).length < 6)
    (h : P 1 ((nI nb), st, nu, (nn_I so), (nn_I ba), (nn_I an), pj, (nn_I ke), (nn_I fa), (nn_I co), (nn_I fr), dw, (nn_I pr), (nn_I vo), (nn_L (nn_u Qs n (Qs n ++ [(b, i, v)]))), (upd rb (6 * n + (Qs n).length) (nI b)), (upd ri (6 * n + (Qs n).length) (nI i)), (upd rv (6 * n + (Qs n).length) (nI v)), (nn_I vt), (nn_I he))) : wpY_write P ((nI nb), st, nu, (nn_I so), (nn_I ba), (nn_I an), pj, (nn_I ke), (nn_I fa), (nn_I co), (nn_I fr), dw, (nn_I pr), (nn_I vo), (nn_L Qs), rb, ri, rv, (nn_I vt), (nn_I he)) (nI n) (nI b) (nI i) (nI v) := by
  unfold wpY_write
  dsimp only
  have ce : (nI n).toNatClampNeg = n := nI_clamp (by omega)
  rw [ce]
  refine ⟨vp_in_nI hn (by omega), pk_eq (Qs n).length 6 (fun z => by omega) (fun z => ⟨vp_in_nI hn (by omega), vp_in_nI hn (by omega), nm_r (e' := nn_L (nn_u Qs n (Qs n ++ [(b, i, v)]))) ?_ (nm_r (e' := nI (6 * n + (Qs n).length)) (by rw [nn_m6, nn_Lap, nI_add]) ?_)⟩)⟩
  · rw [nn_Lap, nI_1]
    exact nn_updL (by rw [List.length_append]; rfl)
  · rw [nI_clamp (by omega)]
    exact ⟨vp_in_nI (by omega) (by omega), nm_e ⟨vp_in_nI (by omega) (by omega), nm_e ⟨vp_in_nI (by omega) (by omega), nm_e h⟩⟩⟩
theorem ym_wfull {P : Int32 → SY → Prop} {n : Nat} {b i v : Int32} (hn : n < 7) (hl : (Qs n).length = 6) (h : P 0 ((nI nb), st, nu, (nn_I so), (nn_I ba), (nn_I an), pj, (nn_I ke), (nn_I fa), (nn_I co), (nn_I fr), dw, (nn_I pr), (nn_I vo), (nn_L Qs), rb, ri, rv, (nn_I vt), (nn_I he))) : wpY_write P ((nI nb), st, nu, (nn_I so), (nn_I ba), (nn_I an), pj, (nn_I ke), (nn_I fa), (nn_I co), (nn_I fr), dw, (nn_I pr), (nn_I vo), (nn_L Qs), rb, ri, rv, (nn_I vt), (nn_I he)) (nI n) b i v := by
  unfold wpY_write
  dsimp only
  have ce : (nI n).toNatClampNeg = n := nI_clamp (by omega)
  rw [ce]
  exact ⟨vp_in_nI hn (by omega), br_t (by rw [nn_Lap, hl]; rfl) h⟩
theorem xm_wr {P : Int32 → Prop} {n : Nat} (hn : n < 7) (hu : up n ≤ 1) (hl : (Qs n).length ≤ 6) (h : P (nn_b (up n = 1 ∧ (Qs n).length < 6))) : wpX_isWriting P (fj, (nI nb), (nI lc), tb, df, sm, ju, le, ls, (nn_I so), (nn_I ba), (nn_I an), (nn_I fa), (nn_I co), pi, (nn_I fr), de, (nn_I ke), (nn_I up), (nn_I pr), op, (nn_I vo), ov, (nn_L Qs), qb, qi, qv, (nn_I vt), (nn_I he), ch, lr) (nI n) := by
  unfold wpX_isWriting
  dsimp only
  have ce : (nI n).toNatClampNeg = n := nI_clamp (by omega)
  rw [ce]
  refine br_f (nI_pos (by omega)) (br_f (nI_ge (b := 7) hn (by omega)) (br_f nn_10 ⟨vp_in_nI hn (by omega), pk_eq (up n) 0 (fun z => ?_) (fun z => ⟨vp_in_nI hn (by omega), pk_le 6 (Qs n).length (fun z1 => ?_) (fun z1 => ?_)⟩)⟩))
  · rw [nn_bf (by omega)] at h; exact h
  · rw [nn_bf (by omega)] at h; exact h
  · rw [nn_bt (by omega)] at h; exact h
theorem rm_cast {b i n v : Nat} (hS : rl_S QQ df tb le ls st nu) (hB : rl_B nb lc df so ba fa co) (hP : rl_P nb pk fr pi pj) (hV : rl_V nb pk an ke pr vo vt he) (hQ : rl_Q nb pk Qs up dw pr vo op ov qb qi qv rb ri rv) (hC : rl_C QQ so pk vt he de ch lr) (h1 : 1 ≤ b) (hb : b ≤ nb) (hi : i < 3) (hn : n < 7) (hv1 : 1 ≤ v) (hv : v ≤ 7) (hcm : rl_cm pk b i v) : rl_W nb (fj, (nI nb), (nI lc), tb, df, sm, ju, le, ls, (nn_I so), (nn_I ba), (nn_I an), (nn_I fa), (nn_I co), pi, (nn_I fr), de, (nn_I ke), (nn_I up), (nn_I pr), op, (nn_I vo), ov, (nn_L Qs), qb, qi, qv, (nn_I vt), (nn_I he), ch, lr) ((nI nb), st, nu, (nn_I so), (nn_I ba), (nn_I an), pj, (nn_I ke), (nn_I fa), (nn_I co), (nn_I fr), dw, (nn_I pr), (nn_I vo), (nn_L Qs), rb, ri, rv, (nn_I vt), (nn_I he)) (fun r => r = 0) (fun P => wpX_cast P (fj, (nI nb), (nI lc), tb, df, sm, ju, le, ls, (nn_I so), (nn_I ba), (nn_I an), (nn_I fa), (nn_I co), pi, (nn_I fr), de, (nn_I ke), (nn_I up), (nn_I pr), op, (nn_I vo), ov, (nn_L Qs), qb, qi, qv, (nn_I vt), (nn_I he), ch, lr) (nI b) (nI i) (nI n) (nI v)) (fun P => wpY_cast P ((nI nb), st, nu, (nn_I so), (nn_I ba), (nn_I an), pj, (nn_I ke), (nn_I fa), (nn_I co), (nn_I fr), dw, (nn_I pr), (nn_I vo), (nn_L Qs), rb, ri, rv, (nn_I vt), (nn_I he)) (nI b) (nI i) (nI n) (nI v)) := by
  have hnb := hB.1
  obtain ⟨q1, q2, q3, q4, q5, q6⟩ := hQ n hn
  have hop : rl_op (pr n) (Qs n) ≤ 12 := rl_oplt q4.2.1 (hV.2.2.2.2.2.2.2.1 n) hnb
  have hov : rl_ov i (vo (3 * n + i)) (Qs n) < 128 := rl_ovlt hi q4.2.1 (hV.2.2.1 _) hnb
  have ce : (nI n).toNatClampNeg = n := nI_clamp (by omega)
  have c3 : (nI (3 * n + i)).toNatClampNeg = 3 * n + i := nI_clamp (by omega)
  have R := rl_mk (fj := fj) (sm := sm) (ju := ju) hS hB hP hV hQ hC
  have h6 := q4.1
  unfold rl_W wpX_cast wpY_cast
  dsimp only
  rw [rm_i3, ce, c3, q5, q6 i hi, nn_s3 (show rl_ov i (vo (3 * n + i)) (Qs n) < 2 ^ 31 by omega), q2]
  by_cases ok : up n = 1 ∧ (Qs n).length < 6 ∧ rl_op (pr n) (Qs n) ≤ b ∧ rl_ov i (vo (3 * n + i)) (Qs n) / 8 < b
  · obtain ⟨hu, hl, ho, hw⟩ := ok
    have hQ' := rl_Qapp (e := (b, i, v)) (ov' := upd ov (3 * n + i) (nI (8 * b + v))) hQ hn hu hl ⟨h1, hb, Or.inr ⟨hi, hv1, hv, hcm⟩⟩ (fun n' i' hn' hi' => by
      by_cases e : n' = n ∧ i = i'
      · rw [if_pos e, ← e.2, e.1, pk_us]
      · rw [if_neg e, pk_un (fun q => e (by omega))])
    refine ⟨1, _, _, rl_mk (fj := fj) (sm := sm) (ju := ju) hS hB hP hV hQ' hC, fun z => absurd z nn_10, fun P h => ?_, fun P h => ?_⟩
    · refine xm_wr hn q1 h6 ?_
      rw [nn_bt ⟨hu, hl⟩]
      refine br_f nn_10 ⟨vp_in_nI hn (by omega), br_f (nI_nlt (by omega) (by omega)) ⟨vp_in_nI (by omega) (by omega), br_t (nI_lt hw (by omega)) ?_⟩⟩
      refine xm_write hn hl (by omega) (by omega) (i := i) ?_ ⟨vp_in_nI (by omega) (by omega), nm_r (e' := upd ov (3 * n + i) (nI (8 * b + v))) (by rw [nn_m8, nI_add, nn_v8b (by omega)]) h⟩
      rw [nn_v8b (by omega)]
      exact (if_neg (by omega)).symm
    · refine ⟨vp_in_nI hn (by omega), br_t (by rw [hu]; rfl) (ym_op hQ hn (br_f (nI_nlt (by omega) (by omega)) (ym_ov hQ hn hi ⟨yq_80, br_t ?_ (ym_write hn hl ⟨rfl, h⟩)⟩)))⟩
      rw [nn_d8 (by omega)]
      exact nI_lt hw (by omega)
  · refine ⟨0, _, _, R, fun _ => ⟨rfl, rfl⟩, fun P h => ?_, fun P h => ?_⟩
    · refine xm_wr hn q1 h6 (nn_br (fun _ => h) (fun c => ⟨vp_in_nI hn (by omega), pk_lt b (rl_op (pr n) (Qs n)) (fun _ => h) (fun z => ⟨vp_in_nI (by omega) (by omega), pk_lt (rl_ov i (vo (3 * n + i)) (Qs n) / 8) b (fun z1 => ?_) (fun _ => h)⟩)⟩))
      exact absurd ⟨c.1, c.2, z, z1⟩ ok
    · refine ⟨vp_in_nI hn (by omega), pk_eq (1 - up n) 0 (fun z => ym_op hQ hn (pk_lt b (rl_op (pr n) (Qs n)) (fun _ => h) (fun z1 => ym_ov hQ hn hi ⟨yq_80, ?_⟩))) (fun _ => h)⟩
      rw [nn_d8 (by omega)]
      refine pk_lt (rl_ov i (vo (3 * n + i)) (Qs n) / 8) b (fun z2 => ?_) (fun _ => h)
      exact ym_wfull hn (Classical.byContradiction fun q => ok ⟨by omega, by omega, z1, z2⟩) ⟨rfl, h⟩
theorem rm_ask {b n : Nat} (hS : rl_S QQ df tb le ls st nu) (hB : rl_B nb lc df so ba fa co) (hP : rl_P nb pk fr pi pj) (hV : rl_V nb pk an ke pr vo vt he) (hQ : rl_Q nb pk Qs up dw pr vo op ov qb qi qv rb ri rv) (hC : rl_C QQ so pk vt he de ch lr) (h1 : 1 ≤ b) (hb : b ≤ nb) (hn : n < 7) : rl_W nb (fj, (nI nb), (nI lc), tb, df, sm, ju, le, ls, (nn_I so), (nn_I ba), (nn_I an), (nn_I fa), (nn_I co), pi, (nn_I fr), de, (nn_I ke), (nn_I up), (nn_I pr), op, (nn_I vo), ov, (nn_L Qs), qb, qi, qv, (nn_I vt), (nn_I he), ch, lr) ((nI nb), st, nu, (nn_I so), (nn_I ba), (nn_I an), pj, (nn_I ke), (nn_I fa), (nn_I co), (nn_I fr), dw, (nn_I pr), (nn_I vo), (nn_L Qs), rb, ri, rv, (nn_I vt), (nn_I he)) (fun r => r = 0) (fun P => wpX_ask P (fj, (nI nb), (nI lc), tb, df, sm, ju, le, ls, (nn_I so), (nn_I ba), (nn_I an), (nn_I fa), (nn_I co), pi, (nn_I fr), de, (nn_I ke), (nn_I up), (nn_I pr), op, (nn_I vo), ov, (nn_L Qs), qb, qi, qv, (nn_I vt), (nn_I he), ch, lr) (nI b) (nI n)) (fun P => wpY_ask P ((nI nb), st, nu, (nn_I so), (nn_I ba), (nn_I an), pj, (nn_I ke), (nn_I fa), (nn_I co), (nn_I fr), dw, (nn_I pr), (nn_I vo), (nn_L Qs), rb, ri, rv, (nn_I vt), (nn_I he)) (nI b) (nI n)) := by
  have hnb := hB.1
  obtain ⟨q1, q2, q3, q4, q5, q6⟩ := hQ n hn
  have hop : rl_op (pr n) (Qs n) ≤ 12 := rl_oplt q4.2.1 (hV.2.2.2.2.2.2.2.1 n) hnb
  have ce : (nI n).toNatClampNeg = n := nI_clamp (by omega)
  have R := rl_mk (fj := fj) (sm := sm) (ju := ju) hS hB hP hV hQ hC
  have h6 := q4.1
  have xb : ∀ P : Int32 → Prop, P 1 → wpX_isBallot P (fj, (nI nb), (nI lc), tb, df, sm, ju, le, ls, (nn_I so), (nn_I ba), (nn_I an), (nn_I fa), (nn_I co), pi, (nn_I fr), de, (nn_I ke), (nn_I up), (nn_I pr), op, (nn_I vo), ov, (nn_L Qs), qb, qi, qv, (nn_I vt), (nn_I he), ch, lr) (nI b) := fun P h => br_f (nI_nle (by omega) (by omega)) (br_f (nI_nlt (by omega) (by omega)) h)
  have yb : ∀ P : Int32 → Prop, P 1 → wpY_isBallot P ((nI nb), st, nu, (nn_I so), (nn_I ba), (nn_I an), pj, (nn_I ke), (nn_I fa), (nn_I co), (nn_I fr), dw, (nn_I pr), (nn_I vo), (nn_L Qs), rb, ri, rv, (nn_I vt), (nn_I he)) (nI b) := fun P h => br_f (nI_nlt (b := 1) (by omega) (by omega)) (br_f (nI_nlt (by omega) (by omega)) ⟨rfl, h⟩)
  have yn : ∀ P : Int32 → Prop, P 1 → wpY_in P (nI n) 0 6 := fun P h => br_f (nI_pos (by omega)) (br_f (nI_nlt (a := 6) (by omega) (by omega)) h)
  unfold rl_W wpX_ask wpY_ask
  dsimp only
  rw [ce, q5, q2]
  by_cases ok : up n = 1 ∧ (Qs n).length < 6 ∧ rl_op (pr n) (Qs n) < b
  · obtain ⟨hu, hl, ho⟩ := ok
    have hQ' := rl_Qapp (e := (b, 3, 0)) (ov' := ov) hQ hn hu hl ⟨h1, hb, Or.inl ⟨rfl, rfl⟩⟩ (fun n' i' hn' hi' => by
      rw [if_neg (fun q => by have e3 : 3 = i' := q.2; omega)])
    refine ⟨1, _, _, rl_mk (fj := fj) (sm := sm) (ju := ju) hS hB hP hV hQ' hC, fun z => absurd z nn_10, fun P h => xb _ (br_f nn_10 ?_), fun P h => yb _ (br_f nn_10 (yn _ (br_f nn_10 ?_)))⟩
    · refine xm_wr hn q1 h6 ?_
      rw [nn_bt ⟨hu, hl⟩]
      exact br_f nn_10 ⟨vp_in_nI hn (by omega), br_t (nI_lt ho (by omega)) (xm_write (v := 0) (i := 3) hn hl (by omega) (by omega) nn_v8m1b h)⟩
    · exact ⟨vp_in_nI hn (by omega), br_t (by rw [hu]; rfl) (ym_op hQ hn (br_f (nI_ge ho (by omega)) (ym_write (i := 3) (v := 0) hn hl (br_f nn_10 h))))⟩
  · refine ⟨0, _, _, R, fun _ => ⟨rfl, rfl⟩, fun P h => xb _ (br_f nn_10 ?_), fun P h => yb _ (br_f nn_10 (yn _ (br_f nn_10 ?_)))⟩
    · refine xm_wr hn q1 h6 (nn_br (fun _ => h) (fun c => ⟨vp_in_nI hn (by omega), pk_lt (rl_op (pr n) (Qs n)) b (fun z => ?_) (fun _ => h)⟩))
      exact absurd ⟨c.1, c.2, z⟩ ok
    · refine ⟨vp_in_nI hn (by omega), pk_eq (1 - up n) 0 (fun z => ym_op hQ hn (pk_le b (rl_op (pr n) (Qs n)) (fun _ => h) (fun z1 => ?_))) (fun _ => h)⟩
      exact ym_wfull hn (Classical.byContradiction fun q => ok ⟨by omega, by omega, z1⟩) (br_t rfl h)
end cast
theorem rt_ask {nb : Nat} {u : SX} {v : SY} (R : rl_R nb u v) (a b : Int32) : rl_W nb u v (fun r => r = 0) (fun P => wpX_ask P u a b) (fun P => wpY_ask P v a b) := by
  refine rl_el (P := fun u v => rl_W nb u v (fun r => r = 0) (fun P => wpX_ask P u a b) (fun P => wpY_ask P v a b)) R ?_
  intro fj lc tb df sm ju le ls so ba an fa co pi fr de ke up pr op vo ov Qs qb qi qv vt he ch lr st nu pj dw rb ri rv QQ pk hS hB hP hV hQ hC
  have hnb := hB.1
  have R := rl_mk (fj := fj) (sm := sm) (ju := ju) hS hB hP hV hQ hC
  rcases rm_isB (fj := fj) (nb := nb) (lc := lc) (tb := tb) (df := df) (sm := sm) (ju := ju) (le := le) (ls := ls) (pi := pi) (de := de) (op := op) (ov := ov) (qb := qb) (qi := qi) (qv := qv) (ch := ch) (lr := lr) (so := so) (ba := ba) (an := an) (fa := fa) (co := co) (fr := fr) (ke := ke) (up := up) (pr := pr) (vo := vo) (vt := vt) (he := he) (Qs := Qs) (st := st) (nu := nu) (pj := pj) (dw := dw) (rb := rb) (ri := ri) (rv := rv) (x := a) hnb with ⟨j, hj1, hj, e, xs, ys⟩ | ⟨xs, ys⟩
  · rcases nl_in (x := b) (n := 7) (m := 6) 7 (by decide) (by decide) with ⟨n, hn, e2, xk, yk⟩ | ⟨xk, yk⟩
    · subst e; subst e2
      exact rm_ask hS hB hP hV hQ hC hj1 hj hn
    · unfold rl_W wpX_ask wpY_ask wpX_isWriting
      dsimp only
      exact ⟨0, _, _, R, fun _ => ⟨rfl, rfl⟩, fun P h => xs _ (br_f nn_10 (xk _ (br_t rfl (br_t rfl h)))), fun P h => ys _ (br_f nn_10 (yk _ (br_t rfl h)))⟩
  · unfold rl_W wpX_ask wpY_ask
    dsimp only
    exact ⟨0, _, _, R, fun _ => ⟨rfl, rfl⟩, fun P h => xs _ (br_t rfl h), fun P h => ys _ (br_t rfl h)⟩
end
section
/-! vote, propose, begin, power -/
theorem rt_vote {nb : Nat} {u : SX} {v : SY} (R : rl_R nb u v) (a b c : Int32) : rl_W nb u v (fun r => r = 0) (fun P => wpX_vote P u a b c) (fun P => wpY_vote P v a b c) := by
  refine rl_el (P := fun u v => rl_W nb u v (fun r => r = 0) (fun P => wpX_vote P u a b c) (fun P => wpY_vote P v a b c)) R ?_
  intro fj lc tb df sm ju le ls so ba an fa co pi fr de ke up pr op vo ov Qs qb qi qv vt he ch lr st nu pj dw rb ri rv QQ pk hS hB hP hV hQ hC
  have hnb := hB.1
  have R := rl_mk (fj := fj) (sm := sm) (ju := ju) hS hB hP hV hQ hC
  unfold rl_W wpX_vote wpY_vote
  dsimp only
  rcases rm_isB (fj := fj) (nb := nb) (lc := lc) (tb := tb) (df := df) (sm := sm) (ju := ju) (le := le) (ls := ls) (pi := pi) (de := de) (op := op) (ov := ov) (qb := qb) (qi := qi) (qv := qv) (ch := ch) (lr := lr) (so := so) (ba := ba) (an := an) (fa := fa) (co := co) (fr := fr) (ke := ke) (up := up) (pr := pr) (vo := vo) (vt := vt) (he := he) (Qs := Qs) (st := st) (nu := nu) (pj := pj) (dw := dw) (rb := rb) (ri := ri) (rv := rv) (x := a) hnb with ⟨j, hj1, hj, e, xs, ys⟩ | ⟨xs, ys⟩
  · subst e
    rcases nl_in (x := b) (n := 3) (m := 2) 3 (by decide) (by decide) with ⟨i, hi, e, xk, yk⟩ | ⟨xk, yk⟩
    · subst e
      have hp := hP.1 (3 * j + i) (by omega)
      have h8 := hP.2.1 (3 * j + i)
      have ci : (nI (3 * j + i)).toNatClampNeg = 3 * j + i := nI_clamp (by omega)
      unfold wX_vote_21
      rw [rm_i3, ci, hp.1, hp.2]
      rcases nl_in (x := c) (n := 7) (m := 6) 7 (by decide) (by decide) with ⟨n, hn, e, xn, yn⟩ | ⟨xn, yn⟩
      · subst e
        by_cases hk : pk (3 * j + i) ≤ 1
        · exact ⟨0, _, _, R, fun _ => ⟨rfl, rfl⟩, fun P h => xs _ (br_f nn_10 (xk _ (br_f nn_10 (br_f nn_10 ⟨vp_in_nI (by omega) (by omega), br_t ((nn_p3l h8).mpr hk) h⟩)))), fun P h => ys _ (br_f nn_10 (yk _ (br_f nn_10 (yn _ (br_f nn_10 ⟨vp_in_nI (by omega) (by omega), br_t ((nn_p1l h8).mpr hk) h⟩)))))⟩
        · have e3 : nn_p3 (pk (3 * j + i)) = nI (pk (3 * j + i) - 1) := if_neg (by omega)
          have e1 : nn_p1 (pk (3 * j + i)) = nI (pk (3 * j + i) - 1) := if_neg (by omega)
          have n3 : ¬ nn_p3 (pk (3 * j + i)) ≤ 0 := fun q => hk ((nn_p3l h8).mp q)
          have n1 : ¬ nn_p1 (pk (3 * j + i)) ≤ 0 := fun q => hk ((nn_p1l h8).mp q)
          obtain ⟨r, u', v', R', hz, hX, hY⟩ := rm_cast (fj := fj) (sm := sm) (ju := ju) (b := j) (i := i) (n := n) (v := pk (3 * j + i) - 1) hS hB hP hV hQ hC hj1 hj hi hn (by omega) (by omega) (Or.inr (by omega))
          by_cases hr : r = 0
          · refine ⟨0, u', v', R', fun _ => hz hr, fun P h => xs _ (br_f nn_10 (xk _ (br_f nn_10 (br_f nn_10 ⟨vp_in_nI (by omega) (by omega), br_f n3 ⟨vp_in_nI (by omega) (by omega), ?_⟩⟩)))), fun P h => ys _ (br_f nn_10 (yk _ (br_f nn_10 (yn _ (br_f nn_10 ⟨vp_in_nI (by omega) (by omega), br_f n1 ⟨vp_in_nI (by omega) (by omega), ?_⟩⟩)))))⟩
            · rw [e3]; exact hX _ (br_t hr h)
            · rw [e1]; exact hY _ (br_t hr h)
          · refine ⟨1, u', v', R', fun q => absurd q nn_10, fun P h => xs _ (br_f nn_10 (xk _ (br_f nn_10 (br_f nn_10 ⟨vp_in_nI (by omega) (by omega), br_f n3 ⟨vp_in_nI (by omega) (by omega), ?_⟩⟩)))), fun P h => ys _ (br_f nn_10 (yk _ (br_f nn_10 (yn _ (br_f nn_10 ⟨vp_in_nI (by omega) (by omega), br_f n1 ⟨vp_in_nI (by omega) (by omega), ?_⟩⟩)))))⟩
            · rw [e3]; exact hX _ (br_f hr h)
            · rw [e1]; exact hY _ (br_f hr h)
      · refine ⟨0, _, _, R, fun _ => ⟨rfl, rfl⟩, fun P h => xs _ (br_f nn_10 (xk _ (br_f nn_10 (br_f nn_10 ⟨vp_in_nI (by omega) (by omega), br_c (fun _ => h) (fun _ => ⟨vp_in_nI (by omega) (by omega), ?_⟩)⟩)))), fun P h => ys _ (br_f nn_10 (yk _ (br_f nn_10 (yn _ (br_t rfl h)))))⟩
        unfold wpX_cast wpX_isWriting
        exact xn _ (br_t rfl (br_t rfl (br_t rfl h)))
    · exact ⟨0, _, _, R, fun _ => ⟨rfl, rfl⟩, fun P h => xs _ (br_f nn_10 (xk _ (br_t rfl (br_t rfl h)))), fun P h => ys _ (br_f nn_10 (yk _ (br_t rfl h)))⟩
  · exact ⟨0, _, _, R, fun _ => ⟨rfl, rfl⟩, fun P h => xs _ (br_t rfl (br_t rfl h)), fun P h => ys _ (br_t rfl h)⟩
theorem rt_propose {nb : Nat} {u : SX} {v : SY} (R : rl_R nb u v) (a b c d : Int32) : rl_W nb u v (fun r => r = 0) (fun P => wpX_propose P u a b c d) (fun P => wpY_propose P v a b c d) := by
  refine rl_el (P := fun u v => rl_W nb u v (fun r => r = 0) (fun P => wpX_propose P u a b c d) (fun P => wpY_propose P v a b c d)) R ?_
  intro fj lc tb df sm ju le ls so ba an fa co pi fr de ke up pr op vo ov Qs qb qi qv vt he ch lr st nu pj dw rb ri rv QQ pk hS hB hP hV hQ hC
  have hnb := hB.1
  have R := rl_mk (fj := fj) (sm := sm) (ju := ju) hS hB hP hV hQ hC
  unfold rl_W wpX_propose wpY_propose
  dsimp only
  rcases rm_isB (fj := fj) (nb := nb) (lc := lc) (tb := tb) (df := df) (sm := sm) (ju := ju) (le := le) (ls := ls) (pi := pi) (de := de) (op := op) (ov := ov) (qb := qb) (qi := qi) (qv := qv) (ch := ch) (lr := lr) (so := so) (ba := ba) (an := an) (fa := fa) (co := co) (fr := fr) (ke := ke) (up := up) (pr := pr) (vo := vo) (vt := vt) (he := he) (Qs := Qs) (st := st) (nu := nu) (pj := pj) (dw := dw) (rb := rb) (ri := ri) (rv := rv) (x := a) hnb with ⟨j, hj1, hj, e, xs, ys⟩ | ⟨xs, ys⟩
  · subst e
    rcases nl_in (x := b) (n := 3) (m := 2) 3 (by decide) (by decide) with ⟨i, hi, e, xk, yk⟩ | ⟨xk, yk⟩
    · subst e
      have hp := hP.1 (3 * j + i) (by omega)
      have h8 := hP.2.1 (3 * j + i)
      have ci : (nI (3 * j + i)).toNatClampNeg = 3 * j + i := nI_clamp (by omega)
      unfold wX_propose_32
      rw [rm_i3, ci, hp.1, hp.2]
      rcases nl_bt (x := d) (a := 1) (b := 7) 1 7 (by decide) (by decide) with ⟨t, ht1, ht, e, xt, yt⟩ | ⟨xt, yt⟩
      · subst e
        rcases nl_in (x := c) (n := 7) (m := 6) 7 (by decide) (by decide) with ⟨n, hn, e, xn, yn⟩ | ⟨xn, yn⟩
        · subst e
          by_cases hk : pk (3 * j + i) = 1
          · have n3 := (nn_p3a h8).mpr hk
            have n1 := (nn_p1a h8).mpr hk
            obtain ⟨r, u', v', R', hz, hX, hY⟩ := rm_cast (fj := fj) (sm := sm) (ju := ju) (b := j) (i := i) (n := n) (v := t) hS hB hP hV hQ hC hj1 hj hi hn ht1 ht (Or.inl hk)
            by_cases hr : r = 0
            · exact ⟨0, u', v', R', fun _ => hz hr, fun P h => xs _ (br_f nn_10 (xk _ (br_f nn_10 (xt _ (br_f nn_10 (br_f nn_10 ⟨vp_in_nI (by omega) (by omega), br_t n3 (hX _ (br_t hr h))⟩)))))), fun P h => ys _ (br_f nn_10 (yk _ (br_f nn_10 (yn _ (br_f nn_10 (yt _ (br_f nn_10 ⟨vp_in_nI (by omega) (by omega), br_t n1 (hY _ (br_t hr h))⟩)))))))⟩
            · exact ⟨1, u', v', R', fun q => absurd q nn_10, fun P h => xs _ (br_f nn_10 (xk _ (br_f nn_10 (xt _ (br_f nn_10 (br_f nn_10 ⟨vp_in_nI (by omega) (by omega), br_t n3 (hX _ (br_f hr h))⟩)))))), fun P h => ys _ (br_f nn_10 (yk _ (br_f nn_10 (yn _ (br_f nn_10 (yt _ (br_f nn_10 ⟨vp_in_nI (by omega) (by omega), br_t n1 (hY _ (br_f hr h))⟩)))))))⟩
          · exact ⟨0, _, _, R, fun _ => ⟨rfl, rfl⟩, fun P h => xs _ (br_f nn_10 (xk _ (br_f nn_10 (xt _ (br_f nn_10 (br_f nn_10 ⟨vp_in_nI (by omega) (by omega), br_f (fun q => hk ((nn_p3a h8).mp q)) h⟩)))))), fun P h => ys _ (br_f nn_10 (yk _ (br_f nn_10 (yn _ (br_f nn_10 (yt _ (br_f nn_10 ⟨vp_in_nI (by omega) (by omega), br_f (fun q => hk ((nn_p1a h8).mp q)) h⟩)))))))⟩
        · refine ⟨0, _, _, R, fun _ => ⟨rfl, rfl⟩, fun P h => xs _ (br_f nn_10 (xk _ (br_f nn_10 (xt _ (br_f nn_10 (br_f nn_10 ⟨vp_in_nI (by omega) (by omega), br_c (fun _ => ?_) (fun _ => h)⟩)))))), fun P h => ys _ (br_f nn_10 (yk _ (br_f nn_10 (yn _ (br_t rfl h)))))⟩
          unfold wpX_cast wpX_isWriting
          exact xn _ (br_t rfl (br_t rfl (br_t rfl h)))
      · refine ⟨0, _, _, R, fun _ => ⟨rfl, rfl⟩, fun P h => xs _ (br_f nn_10 (xk _ (br_f nn_10 (xt _ (br_t rfl (br_t rfl h)))))), fun P h => ys _ (br_f nn_10 (yk _ (br_f nn_10 ?_)))⟩
        rcases nl_in (x := c) (n := 7) (m := 6) 7 (by decide) (by decide) with ⟨n, hn, e, xn, yn⟩ | ⟨xn, yn⟩
        · exact yn _ (br_f nn_10 (yt _ (br_t rfl h)))
        · exact yn _ (br_t rfl h)
    · exact ⟨0, _, _, R, fun _ => ⟨rfl, rfl⟩, fun P h => xs _ (br_f nn_10 (xk _ (br_t rfl (br_t rfl h)))), fun P h => ys _ (br_f nn_10 (yk _ (br_t rfl h)))⟩
  · exact ⟨0, _, _, R, fun _ => ⟨rfl, rfl⟩, fun P h => xs _ (br_t rfl (br_t rfl h)), fun P h => ys _ (br_t rfl h)⟩
/-! what stays when ballots or picks grow -/
theorem rl_vkm {nb nb' : Nat} {pk pk' : Nat → Nat} {i x : Nat} (hn : nb ≤ nb') (hc : ∀ c j v, rl_cm pk c j v → rl_cm pk' c j v) (h : rl_vk nb pk i x) : rl_vk nb' pk' i x := by
  rcases h with h | ⟨c, v, a1, a2, a3, a4, a5, a6⟩
  · exact Or.inl h
  · exact Or.inr ⟨c, v, a1, a2, by omega, a4, a5, hc _ _ _ a6⟩
theorem rl_vtm {nb nb' : Nat} {pk pk' : Nat → Nat} {b i v x : Nat} (hn : nb ≤ nb') (hc : ∀ c j v, rl_cm pk c j v → rl_cm pk' c j v) (h : rl_vt nb pk b i v x) : rl_vt nb' pk' b i v x := fun z => by
  have := h z
  exact ⟨this.1, by omega, this.2.2.1, hc _ _ _ this.2.2.2⟩
theorem rl_rkm {nb nb' : Nat} {pk pk' : Nat → Nat} {e : Nat × Nat × Nat} (hn : nb ≤ nb') (hc : ∀ c j v, rl_cm pk c j v → rl_cm pk' c j v) (h : rl_rk nb pk e) : rl_rk nb' pk' e :=
  ⟨h.1, by have := h.2.1; omega, h.2.2.imp_right fun q => ⟨q.1, q.2.1, q.2.2.1, hc _ _ _ q.2.2.2⟩⟩
theorem rl_Vm {nb nb' : Nat} {pk pk' an ke pr vo vt he : Nat → Nat} (hn : nb ≤ nb') (hc : ∀ c j v, rl_cm pk c j v → rl_cm pk' c j v) (hV : rl_V nb pk an ke pr vo vt he) : rl_V nb' pk' an ke pr vo vt he :=
  ⟨fun n i a1 a2 => rl_vkm hn hc (hV.1 n i a1 a2), fun b n i a1 a2 => rl_vkm hn hc (hV.2.1 b n i a1 a2), hV.2.2.1, hV.2.2.2.1, hV.2.2.2.2.1, hV.2.2.2.2.2.1, hV.2.2.2.2.2.2.1, hV.2.2.2.2.2.2.2.1, fun b i v a1 a2 a3 => rl_vtm hn hc (hV.2.2.2.2.2.2.2.2.1 b i v a1 a2 a3), fun l b i v a0 a1 a2 a3 => rl_vtm hn hc (hV.2.2.2.2.2.2.2.2.2 l b i v a0 a1 a2 a3)⟩
theorem rl_Qm {nb nb' : Nat} {pk pk' : Nat → Nat} {Qs : Nat → List (Nat × Nat × Nat)} {up : Nat → Nat} {dw : Nat → Int32} {pr vo : Nat → Nat} {op ov qb qi qv rb ri rv : Nat → Int32} (hn : nb ≤ nb') (hc : ∀ c j v, rl_cm pk c j v → rl_cm pk' c j v) (hQ : rl_Q nb pk Qs up dw pr vo op ov qb qi qv rb ri rv) : rl_Q nb' pk' Qs up dw pr vo op ov qb qi qv rb ri rv := fun n h => by
  obtain ⟨q1, q2, q3, q4, q5, q6⟩ := hQ n h
  exact ⟨q1, q2, q3, ⟨q4.1, fun e he => rl_rkm hn hc (q4.2.1 e he), q4.2.2⟩, q5, q6⟩
theorem rl_bc {x : Int32} {P Q : Nat → Prop} (h : rl_bits x P) (hPQ : ∀ v, 1 ≤ v → v < 8 → (P v ↔ Q v)) : rl_bits x Q := by
  obtain ⟨C, h1, h2, h3, h4⟩ := h
  exact ⟨C, h1, h2, h3, fun v a1 a2 => (h4 v a1 a2).trans (hPQ v a1 a2)⟩
theorem rl_cmn {pk : Nat → Nat} {b i v : Nat} (h : rl_cm pk b i v) : pk (3 * b + i) ≠ 0 := by
  rcases h with h | h <;> omega
theorem rl_Ccg {nb : Nat} {QQ QQ' : Nat → Nat → Nat → Bool} {so so' pk pk' an ke pr vo vt he : Nat → Nat} {de ch lr : Nat → Int32} (hV : rl_V nb pk an ke pr vo vt he)
    (h : ∀ b i t, 1 ≤ b → b ≤ nb → i < 3 → pk (3 * b + i) ≠ 0 → (rl_en QQ so pk b i t ↔ rl_en QQ' so' pk' b i t)) (hC : rl_C QQ so pk vt he de ch lr) : rl_C QQ' so' pk' vt he de ch lr := by
  refine ⟨fun b i hb hi => ?_, fun i hi => ?_, fun l i hl hi => ?_⟩
  · rw [hC.1 b i hb hi]
    refine nn_bc ⟨fun ⟨v, a1, a2, a3⟩ => ⟨v, a1, a2, ?_⟩, fun ⟨v, a1, a2, a3⟩ => ⟨v, a1, a2, ?_⟩⟩
    · have := hV.2.2.2.2.2.2.2.2.1 b i v hb hi a1 a2
      exact (h b i _ this.1 this.2.1 hi (rl_cmn this.2.2.2)).mp a3
    · have := hV.2.2.2.2.2.2.2.2.1 b i v hb hi a1 a2
      exact (h b i _ this.1 this.2.1 hi (rl_cmn this.2.2.2)).mpr a3
  · refine rl_bc (hC.2.1 i hi) fun v h1 h8 => ⟨fun ⟨b, a1, a2, a3⟩ => ⟨b, a1, a2, ?_⟩, fun ⟨b, a1, a2, a3⟩ => ⟨b, a1, a2, ?_⟩⟩
    · have := hV.2.2.2.2.2.2.2.2.1 b i v a1 hi h8 a2
      exact (h b i _ this.1 this.2.1 hi (rl_cmn this.2.2.2)).mp a3
    · have := hV.2.2.2.2.2.2.2.2.1 b i v a1 hi h8 a2
      exact (h b i _ this.1 this.2.1 hi (rl_cmn this.2.2.2)).mpr a3
  · refine rl_bc (hC.2.2 l i hl hi) fun v h1 h8 => ⟨fun ⟨b, a1, a2, a3⟩ => ⟨b, a1, a2, ?_⟩, fun ⟨b, a1, a2, a3⟩ => ⟨b, a1, a2, ?_⟩⟩
    · have := hV.2.2.2.2.2.2.2.2.2 l b i v hl a1 hi h8 a2
      exact (h b i _ this.1 this.2.1 hi (rl_cmn this.2.2.2)).mp a3
    · have := hV.2.2.2.2.2.2.2.2.2 l b i v hl a1 hi h8 a2
      exact (h b i _ this.1 this.2.1 hi (rl_cmn this.2.2.2)).mpr a3
section beg
variable {fj : Int32} {nb lc : Nat} {tb df sm ju le ls pi de op ov qb qi qv ch lr : Nat → Int32} {so ba an fa co fr ke up pr vo vt he : Nat → Nat} {Qs : Nat → List (Nat × Nat × Nat)}
variable {st nu pj dw rb ri rv : Nat → Int32}
variable {QQ : Nat → Nat → Nat → Bool} {pk : Nat → Nat}
theorem ym_base {P : Int32 → SY → Prop} {s z : Nat} (hB : rl_B nb lc df so ba fa co) (hlt : nb < 12) (hz : z ≤ 1)
    (h : P (nI (nb + 1)) ((nI (nb + 1)), st, nu, (nn_I (nn_u so (nb + 1) s)), (nn_I (nn_u ba (nb + 1) lc)), (nn_I an), pj, (nn_I ke), (nn_I (nn_u fa (nb + 1) z)), (nn_I co), (nn_I fr), dw, (nn_I pr), (nn_I vo), (nn_L Qs), rb, ri, rv, (nn_I vt), (nn_I he))) :
    ∀ e b x, b + e = nb + 1 → 1 ≤ b → (b ≤ lc → x ≤ lc) → (lc < b → x = lc) → wY_begin_42 P (nI s) (nI z) (nI nb) st nu (nn_I so) (nn_I ba) (nn_I an) pj (nn_I ke) (nn_I fa) (nn_I co) (nn_I fr) dw (nn_I pr) (nn_I vo) (nn_L Qs) rb ri rv (nn_I vt) (nn_I he) (e + 1) (nI x) (nI b) := by
  intro e
  induction e with
  | zero =>
    intro b x hb h1 I1 I2
    have hlc := hB.2.2.2.2.2.2.1
    rw [I2 (by omega)]
    refine pk_lt nb b (fun q => nm_r (nI_1 nb) ?_) (fun q => by omega)
    have ce : (nI (nb + 1)).toNatClampNeg = nb + 1 := nI_clamp (by omega)
    rw [ce, nn_upd, nn_upd]
    refine ⟨vp_in_nI (by omega) (by omega), nm_e ⟨vp_in_nI (by omega) (by omega), nm_r (e' := nn_I (nn_u fa (nb + 1) z)) ?_ ⟨vp_in_nI (by omega) (by omega), nm_e h⟩⟩⟩
    rw [show vp_nar .boolean (nI z) = nI z by rcases (show z = 0 ∨ z = 1 by omega) with q | q <;> rw [q] <;> rfl]
    exact nn_upd
  | succ e ih =>
    intro b x hb h1 I1 I2
    obtain ⟨_, _, _, _, _, co1, hlc, lc1, lc2⟩ := hB
    refine pk_lt nb b (fun q => by omega) (fun q => ⟨vp_in_nI (by omega) (by omega), ?_⟩)
    rw [nI_clamp (by omega)]
    have c1 := co1 b
    refine pk_eq (co b) 0 (fun z => nm_r (nI_1 b) (ih (b + 1) x (by omega) (by omega) (fun q => I1 (by omega)) (fun q => ?_))) (fun z => nm_r (nI_1 b) (ih (b + 1) b (by omega) (by omega) (fun q => by omega) (fun q => ?_)))
    · rcases Nat.lt_or_ge lc b with w | w
      · exact I2 w
      · have e1 : b = lc := by omega
        rcases lc1 with g | g
        · omega
        · rw [← e1, z] at g; exact absurd g (by decide)
    · rcases Nat.lt_or_ge lc b with w | w
      · exact absurd (lc2 b w) z
      · omega
end beg
theorem rt_begin {nb : Nat} {u : SX} {v : SY} (R : rl_R nb u v) (a b : Int32) : ∃ nb', rl_W nb' u v (fun _ => False) (fun P => wpX_begin P u a (lw_bz b)) (fun P => wpY_begin P v a (lw_bz b)) := by
  refine rl_el (P := fun u v => ∃ nb', rl_W nb' u v (fun _ => False) (fun P => wpX_begin P u a (lw_bz b)) (fun P => wpY_begin P v a (lw_bz b))) R ?_
  intro fj lc tb df sm ju le ls so ba an fa co pi fr de ke up pr op vo ov Qs qb qi qv vt he ch lr st nu pj dw rb ri rv QQ pk hS hB hP hV hQ hC
  have hnb := hB.1
  have R := rl_mk (fj := fj) (sm := sm) (ju := ju) hS hB hP hV hQ hC
  have hlc := hB.2.2.2.2.2.2.1
  unfold rl_W wpX_begin wpY_begin
  dsimp only
  rcases rm_isS (fj := fj) (nb := nb) (lc := lc) (tb := tb) (df := df) (sm := sm) (ju := ju) (le := le) (ls := ls) (pi := pi) (de := de) (op := op) (ov := ov) (qb := qb) (qi := qi) (qv := qv) (ch := ch) (lr := lr) (so := so) (ba := ba) (an := an) (fa := fa) (co := co) (fr := fr) (ke := ke) (up := up) (pr := pr) (vo := vo) (vt := vt) (he := he) (Qs := Qs) (st := st) (nu := nu) (pj := pj) (dw := dw) (rb := rb) (ri := ri) (rv := rv) (x := a) hS with ⟨s, hs, e, hd, xs, ys⟩ | ⟨xs, ys⟩
  · subst e
    obtain ⟨z, hz, ez⟩ : ∃ z, z ≤ 1 ∧ lw_bz b = nI z := by
      rcases lw_bz_01 b with h | h
      · exact ⟨0, by omega, h⟩
      · exact ⟨1, by omega, h⟩
    rw [ez]
    by_cases hq : z = 1 ∧ QQ s 2 127 = false
    · refine ⟨nb, -1, _, _, R, fun q => q.elim, fun P h => xs _ (br_f nn_10 (br_f (by rw [hq.1]; decide) (rm_xq (k := 2) (t := 127) hS hs hd (by omega) (by omega) ?_))), fun P h => ys _ (br_f nn_10 (br_f (by rw [hq.1]; decide) (rm_yq (k := 2) (t := 127) hS hs hd (by omega) (by omega) ?_)))⟩
      · rw [hq.2, nn_bF]; exact br_t rfl h
      · rw [hq.2, nn_bF]; exact br_t rfl h
    · have gX : ∀ P : Int32 → SX → Prop, wX_begin_25 P (nI s) (nI z) fj (nI nb) (nI lc) tb df sm ju le ls (nn_I so) (nn_I ba) (nn_I an) (nn_I fa) (nn_I co) pi (nn_I fr) de (nn_I ke) (nn_I up) (nn_I pr) op (nn_I vo) ov (nn_L Qs) qb qi qv (nn_I vt) (nn_I he) ch lr → (nI z = 0 → wX_begin_25 P (nI s) (nI z) fj (nI nb) (nI lc) tb df sm ju le ls (nn_I so) (nn_I ba) (nn_I an) (nn_I fa) (nn_I co) pi (nn_I fr) de (nn_I ke) (nn_I up) (nn_I pr) op (nn_I vo) ov (nn_L Qs) qb qi qv (nn_I vt) (nn_I he) ch lr) ∧ (¬ nI z = 0 → wpX_isQuorum (fun r_43 => (r_43 = 0 → P (-1) (fj, (nI nb), (nI lc), tb, df, sm, ju, le, ls, (nn_I so), (nn_I ba), (nn_I an), (nn_I fa), (nn_I co), pi, (nn_I fr), de, (nn_I ke), (nn_I up), (nn_I pr), op, (nn_I vo), ov, (nn_L Qs), qb, qi, qv, (nn_I vt), (nn_I he), ch, lr)) ∧ (¬ r_43 = 0 → wX_begin_25 P (nI s) (nI z) fj (nI nb) (nI lc) tb df sm ju le ls (nn_I so) (nn_I ba) (nn_I an) (nn_I fa) (nn_I co) pi (nn_I fr) de (nn_I ke) (nn_I up) (nn_I pr) op (nn_I vo) ov (nn_L Qs) qb qi qv (nn_I vt) (nn_I he) ch lr)) (fj, (nI nb), (nI lc), tb, df, sm, ju, le, ls, (nn_I so), (nn_I ba), (nn_I an), (nn_I fa), (nn_I co), pi, (nn_I fr), de, (nn_I ke), (nn_I up), (nn_I pr), op, (nn_I vo), ov, (nn_L Qs), qb, qi, qv, (nn_I vt), (nn_I he), ch, lr) (nI s) 2 127) := fun P h => by
        refine pk_eq z 0 (fun _ => h) (fun z1 => rm_xq (k := 2) (t := 127) hS hs hd (by omega) (by omega) (nn_br (fun q => ?_) (fun _ => h)))
        exact absurd ⟨by omega, qs_tf.mp q⟩ hq
      have gY : ∀ P : Int32 → SY → Prop, wY_begin_25 P (nI s) (nI z) (nI nb) st nu (nn_I so) (nn_I ba) (nn_I an) pj (nn_I ke) (nn_I fa) (nn_I co) (nn_I fr) dw (nn_I pr) (nn_I vo) (nn_L Qs) rb ri rv (nn_I vt) (nn_I he) → (nI z = 0 → wY_begin_25 P (nI s) (nI z) (nI nb) st nu (nn_I so) (nn_I ba) (nn_I an) pj (nn_I ke) (nn_I fa) (nn_I co) (nn_I fr) dw (nn_I pr) (nn_I vo) (nn_L Qs) rb ri rv (nn_I vt) (nn_I he)) ∧ (¬ nI z = 0 → wpY_isQuorum (fun r_43 => (r_43 = 0 → P (-1) ((nI nb), st, nu, (nn_I so), (nn_I ba), (nn_I an), pj, (nn_I ke), (nn_I fa), (nn_I co), (nn_I fr), dw, (nn_I pr), (nn_I vo), (nn_L Qs), rb, ri, rv, (nn_I vt), (nn_I he))) ∧ (¬ r_43 = 0 → wY_begin_25 P (nI s) (nI z) (nI nb) st nu (nn_I so) (nn_I ba) (nn_I an) pj (nn_I ke) (nn_I fa) (nn_I co) (nn_I fr) dw (nn_I pr) (nn_I vo) (nn_L Qs) rb ri rv (nn_I vt) (nn_I he))) ((nI nb), st, nu, (nn_I so), (nn_I ba), (nn_I an), pj, (nn_I ke), (nn_I fa), (nn_I co), (nn_I fr), dw, (nn_I pr), (nn_I vo), (nn_L Qs), rb, ri, rv, (nn_I vt), (nn_I he)) (nI s) 2 127) := fun P h => by
        refine pk_eq z 0 (fun _ => h) (fun z1 => rm_yq (k := 2) (t := 127) hS hs hd (by omega) (by omega) (nn_br (fun q => ?_) (fun _ => h)))
        exact absurd ⟨by omega, qs_tf.mp q⟩ hq
      by_cases h12 : nb = 12
      · refine ⟨nb, -2, _, _, R, fun q => q.elim, fun P h => xs _ (br_f nn_10 (gX P (br_t ?_ h))), fun P h => ys _ (br_f nn_10 (gY P (br_t ?_ h)))⟩
        · rw [h12]; rfl
        · rw [h12]; rfl
      · have n12 : ¬ nI nb = 12 := fun q => h12 ((nI_eq (b := 12) (by omega) (by omega)).mp q)
        have hc : ∀ c j v, rl_cm pk c j v → rl_cm pk c j v := fun _ _ _ q => q
        obtain ⟨_, so4, sod, ba12, fa1, co1, _, lc1, lc2⟩ := hB
        have hB' : rl_B (nb + 1) lc df (nn_u so (nb + 1) s) (nn_u ba (nb + 1) lc) (nn_u fa (nb + 1) z) co := by
          refine ⟨by omega, fun x => ?_, fun x a1 a2 => ?_, fun x => ?_, fun x => ?_, co1, by omega, lc1, lc2⟩
          · by_cases q : x = nb + 1
            · rw [q, nn_us]; exact hs
            · rw [nn_un q]; exact so4 x
          · by_cases q : x = nb + 1
            · rw [q, nn_us]; exact hd
            · rw [nn_un q]; exact sod x a1 (by omega)
          · by_cases q : x = nb + 1
            · rw [q, nn_us]; omega
            · rw [nn_un q]; exact ba12 x
          · by_cases q : x = nb + 1
            · rw [q, nn_us]; exact hz
            · rw [nn_un q]; exact fa1 x
        have hP' : rl_P (nb + 1) pk fr pi pj := ⟨hP.1, hP.2.1, hP.2.2.1, hP.2.2.2.1, fun x i a1 a2 => hP.2.2.2.2 x i (by omega) a2⟩
        have hC' : rl_C QQ (nn_u so (nb + 1) s) pk vt he de ch lr := rl_Ccg hV (fun x i t a1 a2 a3 a4 => by
          unfold rl_en
          rw [nn_un (show x ≠ nb + 1 by omega)]) hC
        refine ⟨nb + 1, nI (nb + 1), _, _, rl_mk (fj := fj) (sm := sm) (ju := ju) hS hB' hP' (rl_Vm (by omega) hc hV) (rl_Qm (by omega) hc hQ) hC', fun q => q.elim, fun P h => xs _ (br_f nn_10 (gX P (br_f n12 (nm_r (nI_1 nb) ?_)))), fun P h => ys _ (br_f nn_10 (gY P (br_f n12 ⟨nb + 1, ?_⟩)))⟩
        · have ce : (nI (nb + 1)).toNatClampNeg = nb + 1 := nI_clamp (by omega)
          rw [ce, nn_v8b (show s < 128 by omega), nn_v8b (show lc < 128 by omega), nn_upd, nn_upd]
          refine ⟨vp_in_nI (by omega) (by omega), nm_e ⟨vp_in_nI (by omega) (by omega), nm_r (e' := nn_I (nn_u fa (nb + 1) z)) ?_ ⟨vp_in_nI (by omega) (by omega), nm_e h⟩⟩⟩
          rw [show vp_nar .boolean (nI z) = nI z by rcases (show z = 0 ∨ z = 1 by omega) with q | q <;> rw [q] <;> rfl]
          exact nn_upd
        · exact ym_base ⟨hnb, so4, sod, ba12, fa1, co1, hlc, lc1, lc2⟩ (by omega) hz h nb 1 0 (by omega) (by omega) (fun _ => by omega) (fun q => by omega)
  · exact ⟨nb, -1, _, _, R, fun q => q.elim, fun P h => xs _ (br_t rfl h), fun P h => ys _ (br_t rfl h)⟩
end
section
/-! power, pick, complete -/
def rl_ow (n : Nat) (vo : Nat → Nat) (ov : Nat → Int32) (i : Nat) : Nat → Int32 := fun j => if 3 * n ≤ j ∧ j < 3 * n + i then nI (vo j) else ov j
theorem rl_ow0 {n : Nat} {vo : Nat → Nat} {ov : Nat → Int32} : rl_ow n vo ov 0 = ov := by
  funext j
  exact if_neg (by omega)
theorem rl_ows {n i : Nat} {vo : Nat → Nat} {ov : Nat → Int32} : upd (rl_ow n vo ov i) (3 * n + i) (nI (vo (3 * n + i))) = rl_ow n vo ov (i + 1) := by
  funext j
  by_cases e : j = 3 * n + i
  · rw [e, pk_us]; exact (if_pos (by omega)).symm
  · rw [pk_un e]
    unfold rl_ow
    by_cases c : 3 * n ≤ j ∧ j < 3 * n + i
    · rw [if_pos c, if_pos (by omega)]
    · rw [if_neg c, if_neg (by omega)]
theorem rl_Lsame {Qs : Nat → List (Nat × Nat × Nat)} {n : Nat} (h : Qs n = []) : upd (nn_L Qs) n 0 = nn_L Qs := by
  funext j
  by_cases e : j = n
  · rw [e, pk_us, nn_Lap, h]; rfl
  · rw [pk_un e]
section pow
variable {fj : Int32} {nb lc : Nat} {tb df sm ju le ls pi de op ov qb qi qv ch lr : Nat → Int32} {so ba an fa co fr ke up pr vo vt he : Nat → Nat} {Qs : Nat → List (Nat × Nat × Nat)}
variable {st nu pj dw rb ri rv : Nat → Int32}
variable {QQ : Nat → Nat → Nat → Bool} {pk : Nat → Nat}
theorem xm_p57 {P : Int32 → SX → Prop} {n : Nat} (hn : n < 7) (hvo : ∀ j, vo j < 128) (h : P 1 (fj, (nI nb), (nI lc), tb, df, sm, ju, le, ls, (nn_I so), (nn_I ba), (nn_I an), (nn_I fa), (nn_I co), pi, (nn_I fr), de, (nn_I ke), (nn_I up), (nn_I pr), op, (nn_I vo), (rl_ow n vo ov 3), (nn_L Qs), qb, qi, qv, (nn_I vt), (nn_I he), ch, lr)) : ∀ e i, i + e = 3 → wX_power_57 P (nI n) fj (nI nb) (nI lc) (e + 1) (nI (3 * n + i)) tb df sm ju le ls (nn_I so) (nn_I ba) (nn_I an) (nn_I fa) (nn_I co) pi (nn_I fr) de (nn_I ke) (nn_I up) (nn_I pr) op (nn_I vo) (rl_ow n vo ov i) (nn_L Qs) qb qi qv (nn_I vt) (nn_I he) ch lr := by
  intro e
  induction e with
  | zero =>
    intro i hi
    refine pk_le (3 * n + 3) (3 * n + i) (fun z => ?_) (fun z => by omega) (hx := by rw [nn_m3]; exact nI_add _ 3)
    rw [show i = 3 by omega]
    exact h
  | succ e ih =>
    intro i hi
    refine pk_le (3 * n + 3) (3 * n + i) (fun z => by omega) (fun z => ⟨vp_in_nI (by omega) (by omega), vp_in_nI (by omega) (by omega), nm_r (e' := rl_ow n vo ov (i + 1)) ?_ (nm_r (nI_1 _) (ih (i + 1) (by omega)))⟩) (hx := by rw [nn_m3]; exact nI_add _ 3)
    rw [nI_clamp (by omega), nn_Iap, nn_v8 (hvo _), rl_ows]
theorem rm_p0 {n : Nat} (hV : rl_V nb pk an ke pr vo vt he) (hQ : rl_Q nb pk Qs up dw pr vo op ov qb qi qv rb ri rv) (hn : n < 7) : rl_Q nb pk (nn_u Qs n []) (nn_u up n 0) (upd dw n 1) pr vo (upd op n (nI (pr n))) (rl_ow n vo ov 3) qb qi qv rb ri rv := by
  intro n' hn'
  obtain ⟨q1, q2, q3, q4, q5, q6⟩ := hQ n' hn'
  by_cases e : n' = n
  · subst e
    rw [show nn_u Qs n' [] n' = [] from nn_us]
    refine ⟨by rw [nn_us]; omega, by rw [pk_us, nn_us]; rfl, fun _ => rfl, ⟨by simp, fun e he => absurd he (by simp), fun x hx => absurd hx (by simp)⟩, by rw [pk_us]; rfl, fun i hi => if_pos (by omega)⟩
  · rw [show nn_u Qs n [] n' = Qs n' from nn_un e]
    refine ⟨by rw [nn_un e]; exact q1, by rw [pk_un e, nn_un e]; exact q2, fun z => q3 (by rw [nn_un e] at z; exact z), q4, by rw [pk_un e]; exact q5, fun i hi => ?_⟩
    unfold rl_ow
    rw [if_neg (by omega)]
    exact q6 i hi
theorem rm_p1 {n : Nat} (hV : rl_V nb pk an ke pr vo vt he) (hQ : rl_Q nb pk Qs up dw pr vo op ov qb qi qv rb ri rv) (hn : n < 7) (hu : up n = 0) : rl_Q nb pk Qs (nn_u up n 1) (upd dw n 0) pr vo op ov qb qi qv rb ri rv := by
  intro n' hn'
  obtain ⟨q1, q2, q3, q4, q5, q6⟩ := hQ n' hn'
  by_cases e : n' = n
  · subst e
    exact ⟨by rw [nn_us]; omega, by rw [pk_us, nn_us]; rfl, fun z => by rw [nn_us] at z; omega, q4, q5, q6⟩
  · exact ⟨by rw [nn_un e]; exact q1, by rw [pk_un e, nn_un e]; exact q2, fun z => q3 (by rw [nn_un e] at z; exact z), q4, q5, q6⟩
end pow
theorem rt_power {nb : Nat} {u : SX} {v : SY} (R : rl_R nb u v) (a b : Int32) : rl_W nb u v (fun _ => False) (fun P => wpX_power P u a (lw_bz b)) (fun P => wpY_power P v a (lw_bz b)) := by
  refine rl_el (P := fun u v => rl_W nb u v (fun _ => False) (fun P => wpX_power P u a (lw_bz b)) (fun P => wpY_power P v a (lw_bz b))) R ?_
  intro fj lc tb df sm ju le ls so ba an fa co pi fr de ke up pr op vo ov Qs qb qi qv vt he ch lr st nu pj dw rb ri rv QQ pk hS hB hP hV hQ hC
  have hnb := hB.1
  have R := rl_mk (fj := fj) (sm := sm) (ju := ju) hS hB hP hV hQ hC
  unfold rl_W wpX_power wpY_power
  dsimp only
  rcases nl_in (x := a) (n := 7) (m := 6) 7 (by decide) (by decide) with ⟨n, hn, e, xn, yn⟩ | ⟨xn, yn⟩
  · subst e
    have ce : (nI n).toNatClampNeg = n := nI_clamp (by omega)
    have vi : vp_in (nI n) 7 := vp_in_nI hn (by omega)
    obtain ⟨q1, q2, q3, q4, q5, q6⟩ := hQ n hn
    have hpr := hV.2.2.2.2.2.2.2.1 n
    rw [ce, q2]
    rcases lw_bz_01 b with hb | hb <;> rw [hb] <;> rcases (show up n = 0 ∨ up n = 1 by omega) with hu | hu
    · exact ⟨0, _, _, R, fun q => q.elim, fun P h => xn _ (br_f nn_10 ⟨vi, br_t (by rw [nn_Iap, hu]; rfl) h⟩), fun P h => yn _ (br_f nn_10 ⟨vi, br_f (by rw [hu]; decide) h⟩)⟩
    · refine ⟨1, _, _, rl_mk (fj := fj) (sm := sm) (ju := ju) hS hB hP hV (rm_p0 hV hQ hn) hC, fun q => q.elim, fun P h => xn _ (br_f nn_10 ⟨vi, br_f (by rw [nn_Iap, hu]; decide) ⟨vi, nm_r (e' := nn_I (nn_u up n 0)) (nn_upd (v := 0)) (br_t rfl ⟨vi, nm_r (e' := nn_L (nn_u Qs n [])) (nn_updL (v := 0) rfl) ⟨vi, vi, nm_r (e' := upd op n (nI (pr n))) ?_ (nm_r (nn_m3 n) ⟨4, ?_⟩)⟩⟩)⟩⟩), fun P h => yn _ (br_f nn_10 ⟨vi, br_t (by rw [hu]; rfl) (br_t rfl ?_)⟩)⟩
      · rw [nn_Iap, nn_v8 (by omega)]
      · have := xm_p57 (fj := fj) (nb := nb) (lc := lc) (tb := tb) (df := df) (sm := sm) (ju := ju) (le := le) (ls := ls) (pi := pi) (de := de) (op := upd op n (nI (pr n))) (ov := ov) (qb := qb) (qi := qi) (qv := qv) (ch := ch) (lr := lr) (so := so) (ba := ba) (an := an) (fa := fa) (co := co) (fr := fr) (ke := ke) (up := nn_u up n 0) (pr := pr) (vo := vo) (vt := vt) (he := he) (Qs := nn_u Qs n []) (P := P) hn hV.2.2.1 h 3 0 (by omega)
        rw [rl_ow0] at this
        exact this
      · unfold wY_power_36
        rw [ce, nn_vb1]
        exact ⟨vi, nm_e ⟨vi, nm_r (e' := nn_L (nn_u Qs n [])) (nn_updL (v := 0) rfl) h⟩⟩
    · refine ⟨1, _, _, rl_mk (fj := fj) (sm := sm) (ju := ju) hS hB hP hV (rm_p1 hV hQ hn hu) hC, fun q => q.elim, fun P h => xn _ (br_f nn_10 ⟨vi, br_f (by rw [nn_Iap, hu]; decide) ⟨vi, nm_r (e' := nn_I (nn_u up n 1)) (nn_upd (v := 1)) (br_f nn_10 h)⟩⟩), fun P h => yn _ (br_f nn_10 ⟨vi, br_t (by rw [hu]; rfl) (br_f nn_10 ?_)⟩)⟩
      unfold wY_power_36
      rw [ce, nn_vb0]
      exact ⟨vi, nm_e ⟨vi, nm_r (rl_Lsame (q3 hu)) h⟩⟩
    · exact ⟨0, _, _, R, fun q => q.elim, fun P h => xn _ (br_f nn_10 ⟨vi, br_t (by rw [nn_Iap, hu]; rfl) h⟩), fun P h => yn _ (br_f nn_10 ⟨vi, br_f (by rw [hu]; decide) h⟩)⟩
  · exact ⟨0, _, _, R, fun q => q.elim, fun P h => xn _ (br_t rfl h), fun P h => yn _ (br_t rfl h)⟩
/-! pick -/
section pick
variable {fj : Int32} {nb lc : Nat} {tb df sm ju le ls pi de op ov qb qi qv ch lr : Nat → Int32} {so ba an fa co fr ke up pr vo vt he : Nat → Nat} {Qs : Nat → List (Nat × Nat × Nat)}
variable {st nu pj dw rb ri rv : Nat → Int32}
variable {QQ : Nat → Nat → Nat → Bool} {pk : Nat → Nat}
theorem rp_lat {b i : Nat} (hB : rl_B nb lc df so ba fa co) (hP : rl_P nb pk fr pi pj) (hV : rl_V nb pk an ke pr vo vt he) (hb : b ≤ nb) (hi : i < 3) : ∀ e n k, n + e = 7 → (k = 0 ∨ (1 ≤ k ∧ k ≤ nb ∧ pk (3 * k + i) ≠ 0)) → ∃ k', (k' = 0 ∨ (1 ≤ k' ∧ k' ≤ nb ∧ pk (3 * k' + i) ≠ 0)) ∧ (∀ P : Int32 → Prop, wX_bound_5 P (nI b) (nI i) fj (nI nb) (nI lc) tb df sm ju le ls (nn_I so) (nn_I ba) (nn_I an) (nn_I fa) (nn_I co) pi (nn_I fr) de (nn_I ke) (nn_I up) (nn_I pr) op (nn_I vo) ov (nn_L Qs) qb qi qv (nn_I vt) (nn_I he) ch lr 1 (nI k') 7 → wX_bound_5 P (nI b) (nI i) fj (nI nb) (nI lc) tb df sm ju le ls (nn_I so) (nn_I ba) (nn_I an) (nn_I fa) (nn_I co) pi (nn_I fr) de (nn_I ke) (nn_I up) (nn_I pr) op (nn_I vo) ov (nn_L Qs) qb qi qv (nn_I vt) (nn_I he) ch lr (e + 1) (nI k) (nI n)) ∧ ∀ P : Int32 → Prop, P (nI k') → wY_latest_5 P (nI b) (nI i) (nI nb) st nu (nn_I so) (nn_I ba) (nn_I an) pj (nn_I ke) (nn_I fa) (nn_I co) (nn_I fr) dw (nn_I pr) (nn_I vo) (nn_L Qs) rb ri rv (nn_I vt) (nn_I he) (e + 1) (nI k) (nI n) := by
  have hnb := hB.1
  have hba := hB.2.2.2.1 b
  intro e
  induction e with
  | zero =>
    intro n k hn hk
    have hn : n = 7 := by omega
    subst hn
    exact ⟨k, hk, fun P h => h, fun P h => br_t (by decide) h⟩
  | succ e ih =>
    intro n k hn hk
    have z : ¬ (7 : Int32) ≤ nI n := nI_ge (b := 7) (by omega) (by omega)
    have hke := hV.2.2.2.1 (21 * b + 3 * n + i)
    have hvk := hV.2.1 b n i (by omega) hi
    have ei := rm_i21 b n i
    have c1 : (nI (21 * b + 3 * n + i)).toNatClampNeg = 21 * b + 3 * n + i := nI_clamp (by omega)
    have c2 : (nI b).toNatClampNeg = b := nI_clamp (by omega)
    have es : (nn_I ke (21 * b + 3 * n + i)) >>> ((3 : Int32) &&& 31) = nI (ke (21 * b + 3 * n + i) / 8) := nn_s3 (by omega)
    have ed : (nn_I ke (21 * b + 3 * n + i)) / 8 = nI (ke (21 * b + 3 * n + i) / 8) := nn_d8 (by omega)
    have v1 : vp_in (nI (21 * b + 3 * n + i)) 273 := vp_in_nI (by omega) (by omega)
    have v2 : vp_in (nI b) 13 := vp_in_nI (by omega) (by omega)
    by_cases h1 : ke (21 * b + 3 * n + i) / 8 < ba b
    · obtain ⟨k', hk', hX, hY⟩ := ih (n + 1) k (by omega) hk
      have z1 : nI (ke (21 * b + 3 * n + i) / 8) < nn_I ba b := nI_lt h1 (by omega)
      refine ⟨k', hk', fun P h => br_f z ?_, fun P h => br_f z ?_⟩
      · rw [ei, c1, c2]; exact ⟨v1, nm_r es ⟨v2, br_t z1 (nm_r (nI_1 n) (hX P h))⟩⟩
      · rw [ei, c1, c2]; exact ⟨v1, yq_80, nm_r ed ⟨v2, br_t z1 (nm_r (nI_1 n) (hY P h))⟩⟩
    · have z1 : ¬ nI (ke (21 * b + 3 * n + i) / 8) < nn_I ba b := nI_nlt (by omega) (by omega)
      by_cases h2 : ke (21 * b + 3 * n + i) / 8 ≤ k
      · obtain ⟨k', hk', hX, hY⟩ := ih (n + 1) k (by omega) hk
        have z2 : nI (ke (21 * b + 3 * n + i) / 8) ≤ nI k := nI_le h2 (by omega)
        refine ⟨k', hk', fun P h => br_f z ?_, fun P h => br_f z ?_⟩
        · rw [ei, c1, c2]; exact ⟨v1, nm_r es ⟨v2, br_f z1 (br_t z2 (nm_r (nI_1 n) (hX P h)))⟩⟩
        · rw [ei, c1, c2]; exact ⟨v1, yq_80, nm_r ed ⟨v2, br_f z1 (br_t z2 (nm_r (nI_1 n) (hY P h)))⟩⟩
      · have z2 : ¬ nI (ke (21 * b + 3 * n + i) / 8) ≤ nI k := nI_ge (by omega) (by omega)
        have hk2 : ke (21 * b + 3 * n + i) / 8 = 0 ∨ (1 ≤ ke (21 * b + 3 * n + i) / 8 ∧ ke (21 * b + 3 * n + i) / 8 ≤ nb ∧ pk (3 * (ke (21 * b + 3 * n + i) / 8) + i) ≠ 0) := by
          rcases hvk with q | ⟨c, v, a1, a2, a3, a4, a5, a6⟩
          · left; rw [q]
          · right
            have e8 : ke (21 * b + 3 * n + i) / 8 = c := by omega
            rw [e8]
            exact ⟨a2, a3, rl_cmn a6⟩
        obtain ⟨k', hk', hX, hY⟩ := ih (n + 1) _ (by omega) hk2
        refine ⟨k', hk', fun P h => br_f z ?_, fun P h => br_f z ?_⟩
        · rw [ei, c1, c2]; exact ⟨v1, nm_r es ⟨v2, br_f z1 (br_f z2 (nm_r (nI_1 n) (hX P h)))⟩⟩
        · rw [ei, c1, c2]; exact ⟨v1, yq_80, nm_r ed ⟨v2, br_f z1 (br_f z2 (nm_r (nI_1 n) (hY P h)))⟩⟩
theorem rp_114 {b i k v : Nat} (hB : rl_B nb lc df so ba fa co) (hV : rl_V nb pk an ke pr vo vt he) (hb : b ≤ nb) (hi : i < 3) (hk : k ≤ nb) (hv : v < 8) : ∀ e n t, n + e = 7 → t < 128 → ∃ t', t' < 128 ∧ (∀ (P : Int32 → Prop) (J : Int32 → Prop), wX_bound_114 P J (nI b) (nI i) (nI k) (nI v) fj (nI nb) (nI lc) tb df sm ju le ls (nn_I so) (nn_I ba) (nn_I an) (nn_I fa) (nn_I co) pi (nn_I fr) de (nn_I ke) (nn_I up) (nn_I pr) op (nn_I vo) ov (nn_L Qs) qb qi qv (nn_I vt) (nn_I he) ch lr 1 (nI t') 7 → wX_bound_114 P J (nI b) (nI i) (nI k) (nI v) fj (nI nb) (nI lc) tb df sm ju le ls (nn_I so) (nn_I ba) (nn_I an) (nn_I fa) (nn_I co) pi (nn_I fr) de (nn_I ke) (nn_I up) (nn_I pr) op (nn_I vo) ov (nn_L Qs) qb qi qv (nn_I vt) (nn_I he) ch lr (e + 1) (nI t) (nI n)) ∧ ∀ (P : Int32 → Prop) (J : Int32 → Prop), wY_due_63 P J (nI b) (nI i) (nI k) (nI v) (nI nb) st nu (nn_I so) (nn_I ba) (nn_I an) pj (nn_I ke) (nn_I fa) (nn_I co) (nn_I fr) dw (nn_I pr) (nn_I vo) (nn_L Qs) rb ri rv (nn_I vt) (nn_I he) 1 (nI t') 7 → wY_due_63 P J (nI b) (nI i) (nI k) (nI v) (nI nb) st nu (nn_I so) (nn_I ba) (nn_I an) pj (nn_I ke) (nn_I fa) (nn_I co) (nn_I fr) dw (nn_I pr) (nn_I vo) (nn_L Qs) rb ri rv (nn_I vt) (nn_I he) (e + 1) (nI t) (nI n) := by
  have hnb := hB.1
  intro e
  induction e with
  | zero =>
    intro n t hn ht
    have hn : n = 7 := by omega
    subst hn
    exact ⟨t, ht, fun P J h => h, fun P J h => h⟩
  | succ e ih =>
    intro n t hn ht
    have z : ¬ (7 : Int32) ≤ nI n := nI_ge (b := 7) (by omega) (by omega)
    have hke := hV.2.2.2.1 (21 * b + 3 * n + i)
    have ei := rm_i21 b n i
    have c1 : (nI (21 * b + 3 * n + i)).toNatClampNeg = 21 * b + 3 * n + i := nI_clamp (by omega)
    have e8 : (8 : Int32) * nI k + nI v = nI (8 * k + v) := by rw [nn_m8, nI_add]
    have v1 : vp_in (nI (21 * b + 3 * n + i)) 273 := vp_in_nI (by omega) (by omega)
    by_cases h1 : ke (21 * b + 3 * n + i) = 8 * k + v
    · obtain ⟨t', ht', hX, hY⟩ := ih (n + 1) (t ||| 2 ^ n) (by omega) (qq_lor ht (qq_2l n (by omega)))
      have eo : nI t ||| ((1 : Int32) <<< (nI n &&& 31)) = nI (t ||| 2 ^ n) := by rw [nn_shl (by omega), nn_or]
      have z1 : nn_I ke (21 * b + 3 * n + i) = nI (8 * k + v) := by rw [nn_Iap, h1]
      refine ⟨t', ht', fun P J h => br_f z ?_, fun P J h => br_f z ?_⟩
      · rw [ei, c1, e8]; exact ⟨v1, br_t z1 (nm_r eo (nm_r (nI_1 n) (hX P J h)))⟩
      · rw [ei, c1, e8]; exact ⟨v1, br_t z1 (nm_r eo (nm_r (nI_1 n) (hY P J h)))⟩
    · obtain ⟨t', ht', hX, hY⟩ := ih (n + 1) t (by omega) ht
      have z1 : ¬ nn_I ke (21 * b + 3 * n + i) = nI (8 * k + v) := fun q => h1 ((nI_eq (by omega) (by omega)).mp q)
      refine ⟨t', ht', fun P J h => br_f z ?_, fun P J h => br_f z ?_⟩
      · rw [ei, c1, e8]; exact ⟨v1, br_f z1 (nm_r (nI_1 n) (hX P J h))⟩
      · rw [ei, c1, e8]; exact ⟨v1, br_f z1 (nm_r (nI_1 n) (hY P J h))⟩
theorem rp_91 {b i k : Nat} (hS : rl_S QQ df tb le ls st nu) (hB : rl_B nb lc df so ba fa co) (hV : rl_V nb pk an ke pr vo vt he) (hb : b ≤ nb) (hi : i < 3) (hk1 : 1 ≤ k) (hk : k ≤ nb) : ∀ e v, v + e = 8 → 1 ≤ v → ∃ r, r ≤ 7 ∧ (∀ P : Int32 → Prop, P (nI r) → wX_bound_91 P (nI b) (nI i) (nI k) fj (nI nb) (nI lc) tb df sm ju le ls (nn_I so) (nn_I ba) (nn_I an) (nn_I fa) (nn_I co) pi (nn_I fr) de (nn_I ke) (nn_I up) (nn_I pr) op (nn_I vo) ov (nn_L Qs) qb qi qv (nn_I vt) (nn_I he) ch lr (e + 1) (nI v)) ∧ ∀ P : Int32 → Prop, P (nI r) → wY_due_40 P (nI b) (nI i) (nI k) (nI nb) st nu (nn_I so) (nn_I ba) (nn_I an) pj (nn_I ke) (nn_I fa) (nn_I co) (nn_I fr) dw (nn_I pr) (nn_I vo) (nn_L Qs) rb ri rv (nn_I vt) (nn_I he) (e + 1) (nI v) := by
  have hnb := hB.1
  intro e
  induction e with
  | zero =>
    intro v hv h1
    exact ⟨0, by omega, fun P h => br_t (nI_le (a := 8) (by omega) (by omega)) h, fun P h => br_t (nI_le (a := 8) (by omega) (by omega)) h⟩
  | succ e ih =>
    intro v hv h1
    have z : ¬ (8 : Int32) ≤ nI v := nI_ge (b := 8) (by omega) (by omega)
    have han := hV.2.2.2.2.1 b
    have c2 : (nI b).toNatClampNeg = b := nI_clamp (by omega)
    have c3 : (nI k).toNatClampNeg = k := nI_clamp (by omega)
    have v2 : vp_in (nI b) 13 := vp_in_nI (by omega) (by omega)
    have v3 : vp_in (nI k) 13 := vp_in_nI (by omega) (by omega)
    have en : (127 : Int32) &&& (nn_I an b ^^^ (-1)) = nI (127 - an b) := nn_not _ han
    obtain ⟨t', ht', iX, iY⟩ := rp_114 (fj := fj) (nb := nb) (lc := lc) (tb := tb) (df := df) (sm := sm) (ju := ju) (le := le) (ls := ls) (pi := pi) (de := de) (op := op) (ov := ov) (qb := qb) (qi := qi) (qv := qv) (ch := ch) (lr := lr) (so := so) (ba := ba) (an := an) (fa := fa) (co := co) (fr := fr) (ke := ke) (up := up) (pr := pr) (vo := vo) (vt := vt) (he := he) (Qs := Qs) (st := st) (nu := nu) (pj := pj) (dw := dw) (rb := rb) (ri := ri) (rv := rv) (b := b) (i := i) (k := k) (v := v) hB hV hb hi hk (by omega) 7 0 (127 - an b) (by omega) (by omega)
    have hd := hB.2.2.1 k hk1 hk
    cases hq : QQ (so k) 2 t' with
    | true =>
      refine ⟨v, by omega, fun P h => br_f z ⟨v2, ?_⟩, fun P h => br_f z ⟨v2, ?_⟩⟩
      · rw [c2]
        refine nm_r en ⟨8, iX _ _ (br_t (by decide) ⟨v3, ?_⟩)⟩
        rw [c3]
        refine rm_xq (k := 2) hS (hB.2.1 k) hd (by omega) ht' ?_
        rw [hq, nn_bT]
        exact br_f nn_10 h
      · rw [c2]
        refine nm_r en ⟨8, iY _ _ (br_t (by decide) ⟨v3, ?_⟩)⟩
        rw [c3]
        refine rm_yq (k := 2) hS (hB.2.1 k) hd (by omega) ht' ?_
        rw [hq, nn_bT]
        exact br_f nn_10 h
    | false =>
      obtain ⟨r, hr, hX, hY⟩ := ih (v + 1) (by omega) (by omega)
      refine ⟨r, hr, fun P h => br_f z ⟨v2, ?_⟩, fun P h => br_f z ⟨v2, ?_⟩⟩
      · rw [c2]
        refine nm_r en ⟨8, iX _ _ (br_t (by decide) ⟨v3, ?_⟩)⟩
        rw [c3]
        refine rm_xq (k := 2) hS (hB.2.1 k) hd (by omega) ht' ?_
        rw [hq, nn_bF]
        exact br_t rfl (nm_r (nI_1 v) (hX P h))
      · rw [c2]
        refine nm_r en ⟨8, iY _ _ (br_t (by decide) ⟨v3, ?_⟩)⟩
        rw [c3]
        refine rm_yq (k := 2) hS (hB.2.1 k) hd (by omega) ht' ?_
        rw [hq, nn_bF]
        exact br_t rfl (nm_r (nI_1 v) (hY P h))
theorem rp_due {b i : Nat} (hS : rl_S QQ df tb le ls st nu) (hB : rl_B nb lc df so ba fa co) (hP : rl_P nb pk fr pi pj) (hV : rl_V nb pk an ke pr vo vt he) (hb : b ≤ nb) (hi : i < 3) : ∃ r, r ≤ 7 ∧ (∀ P : Int32 → Prop, P (nI r) → wpX_bound P (fj, (nI nb), (nI lc), tb, df, sm, ju, le, ls, (nn_I so), (nn_I ba), (nn_I an), (nn_I fa), (nn_I co), pi, (nn_I fr), de, (nn_I ke), (nn_I up), (nn_I pr), op, (nn_I vo), ov, (nn_L Qs), qb, qi, qv, (nn_I vt), (nn_I he), ch, lr) (nI b) (nI i)) ∧ ∀ P : Int32 → Prop, P (nI r) → wpY_due P ((nI nb), st, nu, (nn_I so), (nn_I ba), (nn_I an), pj, (nn_I ke), (nn_I fa), (nn_I co), (nn_I fr), dw, (nn_I pr), (nn_I vo), (nn_L Qs), rb, ri, rv, (nn_I vt), (nn_I he)) (nI b) (nI i) := by
  have hnb := hB.1
  obtain ⟨k, hk, lX, lY⟩ := rp_lat (fj := fj) (nb := nb) (lc := lc) (tb := tb) (df := df) (sm := sm) (ju := ju) (le := le) (ls := ls) (pi := pi) (de := de) (op := op) (ov := ov) (qb := qb) (qi := qi) (qv := qv) (ch := ch) (lr := lr) (so := so) (ba := ba) (an := an) (fa := fa) (co := co) (fr := fr) (ke := ke) (up := up) (pr := pr) (vo := vo) (vt := vt) (he := he) (Qs := Qs) (st := st) (nu := nu) (pj := pj) (dw := dw) (rb := rb) (ri := ri) (rv := rv) (b := b) (i := i) hB hP hV hb hi 7 0 0 (by omega) (Or.inl rfl)
  unfold wpX_bound wpY_due wpY_latest
  dsimp only
  by_cases k0 : k = 0
  · subst k0
    exact ⟨0, by omega, fun P h => ⟨8, lX P (br_t (by decide) (br_t rfl h))⟩, fun P h => ⟨8, lY _ (br_t rfl h)⟩⟩
  · obtain ⟨hk1, hkn, hkp⟩ : 1 ≤ k ∧ k ≤ nb ∧ pk (3 * k + i) ≠ 0 := by
      rcases hk with q | q
      · exact absurd q k0
      · exact q
    have nz : ¬ nI k = 0 := nI_ne0 (by omega) (by omega)
    have hp := hP.1 (3 * k + i) (by omega)
    have h8 := hP.2.1 (3 * k + i)
    have ei := rm_i3 k i
    have c3 : (nI (3 * k + i)).toNatClampNeg = 3 * k + i := nI_clamp (by omega)
    have v3 : vp_in (nI (3 * k + i)) 39 := vp_in_nI (by omega) (by omega)
    by_cases h1 : pk (3 * k + i) = 1
    · obtain ⟨r, hr, hX, hY⟩ := rp_91 (fj := fj) (nb := nb) (lc := lc) (tb := tb) (df := df) (sm := sm) (ju := ju) (le := le) (ls := ls) (pi := pi) (de := de) (op := op) (ov := ov) (qb := qb) (qi := qi) (qv := qv) (ch := ch) (lr := lr) (so := so) (ba := ba) (an := an) (fa := fa) (co := co) (fr := fr) (ke := ke) (up := up) (pr := pr) (vo := vo) (vt := vt) (he := he) (Qs := Qs) (st := st) (nu := nu) (pj := pj) (dw := dw) (rb := rb) (ri := ri) (rv := rv) (b := b) (i := i) (k := k) hS hB hV hb hi hk1 hkn 7 1 (by omega) (by omega)
      refine ⟨r, hr, fun P h => ⟨8, lX P (br_t (by decide) (br_f nz ?_))⟩, fun P h => ⟨8, lY _ (br_f nz ?_)⟩⟩
      · rw [ei, c3, hp.1]
        exact ⟨v3, br_t ((nn_p3a h8).mpr h1) ⟨8, hX P h⟩⟩
      · rw [ei, c3, hp.2]
        exact ⟨v3, br_t ((nn_p1l h8).mpr (by omega)) ⟨8, hY P h⟩⟩
    · refine ⟨pk (3 * k + i) - 1, by omega, fun P h => ⟨8, lX P (br_t (by decide) (br_f nz ?_))⟩, fun P h => ⟨8, lY _ (br_f nz ?_)⟩⟩
      · rw [ei, c3, hp.1]
        refine ⟨v3, br_f (fun q => h1 ((nn_p3a h8).mp q)) ⟨v3, ?_⟩⟩
        rw [show nn_p3 (pk (3 * k + i)) = nI (pk (3 * k + i) - 1) from if_neg hkp]
        exact h
      · rw [ei, c3, hp.2]
        refine ⟨v3, br_f (fun q => by have := (nn_p1l h8).mp q; omega) ⟨v3, ?_⟩⟩
        rw [show nn_p1 (pk (3 * k + i)) = nI (pk (3 * k + i) - 1) from if_neg hkp]
        exact h
theorem rp_cm {c j v b i p : Nat} (h0 : pk (3 * b + i) = 0) (h : rl_cm pk c j v) : rl_cm (nn_u pk (3 * b + i) p) c j v := by
  have := rl_cmn h
  unfold rl_cm at h ⊢
  rw [nn_un (fun e => this (by rw [e]; exact h0))]
  exact h
theorem rp_R {b i p f : Nat} (hS : rl_S QQ df tb le ls st nu) (hB : rl_B nb lc df so ba fa co) (hP : rl_P nb pk fr pi pj) (hV : rl_V nb pk an ke pr vo vt he) (hQ : rl_Q nb pk Qs up dw pr vo op ov qb qi qv rb ri rv) (hC : rl_C QQ so pk vt he de ch lr) (hb : b ≤ nb) (hi : i < 3) (h0 : pk (3 * b + i) = 0) (hp1 : 1 ≤ p) (hp : p ≤ 8) (hf : f ≤ 1) (hpf : p = 1 → f = 1) :
    rl_R nb (fj, (nI nb), (nI lc), tb, df, sm, ju, le, ls, (nn_I so), (nn_I ba), (nn_I an), (nn_I fa), (nn_I co), (upd pi (3 * b + i) (nI (p - 1))), (nn_I (nn_u fr (3 * b + i) f)), de, (nn_I ke), (nn_I up), (nn_I pr), op, (nn_I vo), ov, (nn_L Qs), qb, qi, qv, (nn_I vt), (nn_I he), ch, lr) ((nI nb), st, nu, (nn_I so), (nn_I ba), (nn_I an), (upd pj (3 * b + i) (nI (p - 1))), (nn_I ke), (nn_I fa), (nn_I co), (nn_I (nn_u fr (3 * b + i) f)), dw, (nn_I pr), (nn_I vo), (nn_L Qs), rb, ri, rv, (nn_I vt), (nn_I he)) := by
  have hP' : rl_P nb (nn_u pk (3 * b + i) p) (nn_u fr (3 * b + i) f) (upd pi (3 * b + i) (nI (p - 1))) (upd pj (3 * b + i) (nI (p - 1))) := by
    obtain ⟨p1, p2, p3, p4, p5⟩ := hP
    refine ⟨fun j hj => ?_, fun j => ?_, fun j => ?_, fun j => ?_, fun c j a1 a2 => ?_⟩
    · by_cases e : j = 3 * b + i
      · rw [e, pk_us, pk_us, nn_us]
        exact ⟨(if_neg (by omega)).symm, (if_neg (by omega)).symm⟩
      · rw [pk_un e, pk_un e, nn_un e]; exact p1 j hj
    · by_cases e : j = 3 * b + i
      · rw [e, nn_us]; exact hp
      · rw [nn_un e]; exact p2 j
    · by_cases e : j = 3 * b + i
      · rw [e, nn_us]; exact hf
      · rw [nn_un e]; exact p3 j
    · by_cases e : j = 3 * b + i
      · rw [e, nn_us, nn_us]; exact hpf
      · rw [nn_un e, nn_un e]; exact p4 j
    · rw [nn_un (by omega)]; exact p5 c j a1 a2
  have hc : ∀ c j v, rl_cm pk c j v → rl_cm (nn_u pk (3 * b + i) p) c j v := fun c j v q => rp_cm h0 q
  have hC' : rl_C QQ so (nn_u pk (3 * b + i) p) vt he de ch lr := rl_Ccg hV (fun c j t a1 a2 a3 a4 => by
    unfold rl_en
    rw [nn_un (fun e => a4 (by rw [e]; exact h0))]) hC
  exact rl_mk hS hB hP' (rl_Vm (Nat.le_refl _) hc hV) (rl_Qm (Nat.le_refl _) hc hQ) hC'
theorem rm_pick {b i v : Nat} (hS : rl_S QQ df tb le ls st nu) (hB : rl_B nb lc df so ba fa co) (hP : rl_P nb pk fr pi pj) (hV : rl_V nb pk an ke pr vo vt he) (hQ : rl_Q nb pk Qs up dw pr vo op ov qb qi qv rb ri rv) (hC : rl_C QQ so pk vt he de ch lr) (h1 : 1 ≤ b) (hb : b ≤ nb) (hi : i < 3) (hv1 : 1 ≤ v) (hv : v ≤ 7) : ∃ r u' v', rl_R nb u' v' ∧ (r = -1 → u' = (fj, (nI nb), (nI lc), tb, df, sm, ju, le, ls, (nn_I so), (nn_I ba), (nn_I an), (nn_I fa), (nn_I co), pi, (nn_I fr), de, (nn_I ke), (nn_I up), (nn_I pr), op, (nn_I vo), ov, (nn_L Qs), qb, qi, qv, (nn_I vt), (nn_I he), ch, lr) ∧ v' = ((nI nb), st, nu, (nn_I so), (nn_I ba), (nn_I an), pj, (nn_I ke), (nn_I fa), (nn_I co), (nn_I fr), dw, (nn_I pr), (nn_I vo), (nn_L Qs), rb, ri, rv, (nn_I vt), (nn_I he))) ∧ (pk (3 * b + i) = 0 → rm_rd QQ so ba b (an b) → ¬ r < 0) ∧ (∀ P : Int32 → SX → Prop, P r u' → wpX_pick P (fj, (nI nb), (nI lc), tb, df, sm, ju, le, ls, (nn_I so), (nn_I ba), (nn_I an), (nn_I fa), (nn_I co), pi, (nn_I fr), de, (nn_I ke), (nn_I up), (nn_I pr), op, (nn_I vo), ov, (nn_L Qs), qb, qi, qv, (nn_I vt), (nn_I he), ch, lr) (nI b) (nI i) (nI v)) ∧ ∀ P : Int32 → SY → Prop, P r v' → wpY_pick P ((nI nb), st, nu, (nn_I so), (nn_I ba), (nn_I an), pj, (nn_I ke), (nn_I fa), (nn_I co), (nn_I fr), dw, (nn_I pr), (nn_I vo), (nn_L Qs), rb, ri, rv, (nn_I vt), (nn_I he)) (nI b) (nI i) (nI v) := by
  have hnb := hB.1
  have R := rl_mk (fj := fj) (sm := sm) (ju := ju) hS hB hP hV hQ hC
  have han := hV.2.2.2.2.1 b
  have hp := hP.1 (3 * b + i) (by omega)
  have h8 := hP.2.1 (3 * b + i)
  have ei := rm_i3 b i
  have c3 : (nI (3 * b + i)).toNatClampNeg = 3 * b + i := nI_clamp (by omega)
  have cb : (nI b).toNatClampNeg = b := nI_clamp (by omega)
  have v3 : vp_in (nI (3 * b + i)) 39 := vp_in_nI (by omega) (by omega)
  have vb : vp_in (nI b) 13 := vp_in_nI (by omega) (by omega)
  have xb : ∀ P : Int32 → Prop, P 1 → wpX_isBallot P (fj, (nI nb), (nI lc), tb, df, sm, ju, le, ls, (nn_I so), (nn_I ba), (nn_I an), (nn_I fa), (nn_I co), pi, (nn_I fr), de, (nn_I ke), (nn_I up), (nn_I pr), op, (nn_I vo), ov, (nn_L Qs), qb, qi, qv, (nn_I vt), (nn_I he), ch, lr) (nI b) := fun P h => br_f (nI_nle (by omega) (by omega)) (br_f (nI_nlt (by omega) (by omega)) h)
  have yb : ∀ P : Int32 → Prop, P 1 → wpY_isBallot P ((nI nb), st, nu, (nn_I so), (nn_I ba), (nn_I an), pj, (nn_I ke), (nn_I fa), (nn_I co), (nn_I fr), dw, (nn_I pr), (nn_I vo), (nn_L Qs), rb, ri, rv, (nn_I vt), (nn_I he)) (nI b) := fun P h => br_f (nI_nlt (b := 1) (by omega) (by omega)) (br_f (nI_nlt (by omega) (by omega)) ⟨rfl, h⟩)
  have xi : ∀ P : Int32 → Prop, P 1 → wpX_among P (nI i) 3 := fun P h => br_f (nI_pos (by omega)) (br_f (nI_ge (b := 3) (by omega) (by omega)) h)
  have yi : ∀ P : Int32 → Prop, P 1 → wpY_in P (nI i) 0 2 := fun P h => br_f (nI_pos (by omega)) (br_f (nI_nlt (a := 2) (by omega) (by omega)) h)
  have xv : ∀ P : Int32 → Prop, P 1 → wpX_between P (nI v) 1 7 := fun P h => br_f (nI_nlt (b := 1) (by omega) (by omega)) (br_f (nI_nlt (a := 7) (by omega) (by omega)) h)
  have yv : ∀ P : Int32 → Prop, P 1 → wpY_in P (nI v) 1 7 := fun P h => br_f (nI_nlt (b := 1) (by omega) (by omega)) (br_f (nI_nlt (a := 7) (by omega) (by omega)) h)
  unfold wpX_pick wpY_pick
  dsimp only
  rw [ei]
  by_cases ok : pk (3 * b + i) = 0 ∧ rm_rd QQ so ba b (an b)
  · obtain ⟨k0, hrd⟩ := ok
    obtain ⟨r, hr, dX, dY⟩ := rp_due (fj := fj) (nb := nb) (lc := lc) (tb := tb) (df := df) (sm := sm) (ju := ju) (le := le) (ls := ls) (pi := pi) (de := de) (op := op) (ov := ov) (qb := qb) (qi := qi) (qv := qv) (ch := ch) (lr := lr) (so := so) (ba := ba) (an := an) (fa := fa) (co := co) (fr := fr) (ke := ke) (up := up) (pr := pr) (vo := vo) (vt := vt) (he := he) (Qs := Qs) (st := st) (nu := nu) (pj := pj) (dw := dw) (rb := rb) (ri := ri) (rv := rv) (b := b) (i := i) hS hB hP hV hb hi
    have hfa := hB.2.2.2.2.1 b
    have x3 : nn_p3 (pk (3 * b + i)) = -3 := by rw [k0]; rfl
    have y3 : nn_p1 (pk (3 * b + i)) < 0 := (nn_p1n h8).mpr k0
    have key : ∀ p f, 1 ≤ p → p ≤ 8 → f ≤ 1 → (f = 1 ↔ r = 0) → (p = if 0 < r then r + 1 else if fa b = 0 then v + 1 else 1) →
        ∃ r u' v', rl_R nb u' v' ∧ (r = -1 → u' = (fj, (nI nb), (nI lc), tb, df, sm, ju, le, ls, (nn_I so), (nn_I ba), (nn_I an), (nn_I fa), (nn_I co), pi, (nn_I fr), de, (nn_I ke), (nn_I up), (nn_I pr), op, (nn_I vo), ov, (nn_L Qs), qb, qi, qv, (nn_I vt), (nn_I he), ch, lr) ∧ v' = ((nI nb), st, nu, (nn_I so), (nn_I ba), (nn_I an), pj, (nn_I ke), (nn_I fa), (nn_I co), (nn_I fr), dw, (nn_I pr), (nn_I vo), (nn_L Qs), rb, ri, rv, (nn_I vt), (nn_I he))) ∧ (pk (3 * b + i) = 0 → rm_rd QQ so ba b (an b) → ¬ r < 0) ∧ (∀ P : Int32 → SX → Prop, P r u' → wX_pick_60 P (nI b) (nI i) (nI v) (nI (3 * b + i)) 1 fj (nI nb) (nI lc) tb df sm ju le ls (nn_I so) (nn_I ba) (nn_I an) (nn_I fa) (nn_I co) pi (nn_I fr) de (nn_I ke) (nn_I up) (nn_I pr) op (nn_I vo) ov (nn_L Qs) qb qi qv (nn_I vt) (nn_I he) ch lr) ∧ ∀ P : Int32 → SY → Prop, P r v' → wpY_due (fun r_51 => (r_51 = 0 → wY_pick_77 P (nI b) (nI i) (nI v) r_51 1 (nI (3 * b + i)) (nI nb) st nu (nn_I so) (nn_I ba) (nn_I an) pj (nn_I ke) (nn_I fa) (nn_I co) (nn_I fr) dw (nn_I pr) (nn_I vo) (nn_L Qs) rb ri rv (nn_I vt) (nn_I he)) ∧ (¬ r_51 = 0 → wY_pick_77 P (nI b) (nI i) (nI v) r_51 0 (nI (3 * b + i)) (nI nb) st nu (nn_I so) (nn_I ba) (nn_I an) pj (nn_I ke) (nn_I fa) (nn_I co) (nn_I fr) dw (nn_I pr) (nn_I vo) (nn_L Qs) rb ri rv (nn_I vt) (nn_I he))) ((nI nb), st, nu, (nn_I so), (nn_I ba), (nn_I an), pj, (nn_I ke), (nn_I fa), (nn_I co), (nn_I fr), dw, (nn_I pr), (nn_I vo), (nn_L Qs), rb, ri, rv, (nn_I vt), (nn_I he)) (nI b) (nI i) := fun p f hp1 hp8 hf1 hf hpe => by
      refine ⟨nI (p - 1), _, _, rp_R (p := p) (f := f) (fj := fj) (sm := sm) (ju := ju) hS hB hP hV hQ hC hb hi k0 hp1 hp8 hf1 (fun q => hf.mpr ?_), fun q => ?_, fun _ _ => nI_pos (by omega), fun P h => br_f nn_10 (dX _ ?_), fun P h => dY _ ?_⟩
      · by_cases c : 0 < r
        · rw [if_pos c] at hpe; omega
        · omega
      · exfalso
        have h1 := congrArg Int32.toInt q
        rw [nI_toInt (by omega), show (-1 : Int32).toInt = -1 from by decide] at h1
        omega
      · have g : ∀ zf : Int32, zf = nI f → wX_pick_93 P (nI b) (nI v) (nI (3 * b + i)) (nI r) zf (nI (3 * b + i)) fj (nI nb) (nI lc) tb df sm ju le ls (nn_I so) (nn_I ba) (nn_I an) (nn_I fa) (nn_I co) pi (nn_I fr) de (nn_I ke) (nn_I up) (nn_I pr) op (nn_I vo) ov (nn_L Qs) qb qi qv (nn_I vt) (nn_I he) ch lr := fun zf hzf => by
          unfold wX_pick_93
          rw [c3, cb, hzf, show vp_nar .boolean (nI f) = nI f by rcases (show f = 0 ∨ f = 1 by omega) with q | q <;> rw [q] <;> rfl, nn_upd]
          refine ⟨v3, nm_e (pk_le r 0 (fun z => ⟨vb, pk_eq (fa b) 0 (fun z1 => ?_) (fun z1 => ?_)⟩) (fun z => ?_))⟩
          · rw [if_neg (by omega), if_pos z1] at hpe
            rw [hpe] at h
            rw [nn_v8b (by omega)]
            refine ⟨v3, nm_e ⟨v3, ?_⟩⟩
            rw [pk_us]
            exact h
          · rw [if_neg (by omega), if_neg z1] at hpe
            rw [hpe] at h
            rw [show vp_nar .byte ((0 : Int32).toInt8.toInt32) = nI 0 from nn_v8b (a := 0) (by omega)]
            refine ⟨v3, nm_e ⟨v3, ?_⟩⟩
            rw [pk_us]
            exact h
          · rw [if_pos z] at hpe
            rw [hpe] at h
            rw [nn_v8b (by omega)]
            refine ⟨v3, nm_e ⟨v3, ?_⟩⟩
            rw [pk_us]
            exact h
        refine pk_eq r 0 (fun z => g 1 ?_) (fun z => g 0 ?_)
        · rw [hf.mpr z]; rfl
        · rw [show f = 0 by omega]; rfl
      · have g : ∀ zf : Int32, zf = nI f → wY_pick_77 P (nI b) (nI i) (nI v) (nI r) zf (nI (3 * b + i)) (nI nb) st nu (nn_I so) (nn_I ba) (nn_I an) pj (nn_I ke) (nn_I fa) (nn_I co) (nn_I fr) dw (nn_I pr) (nn_I vo) (nn_L Qs) rb ri rv (nn_I vt) (nn_I he) := fun zf hzf => by
          unfold wY_pick_77 wY_pick_111
          rw [c3, cb, hzf, show vp_nar .boolean (nI f) = nI f by rcases (show f = 0 ∨ f = 1 by omega) with q | q <;> rw [q] <;> rfl, nn_upd, ei, c3]
          refine ⟨v3, nm_e (pk_le r 0 (fun z => ⟨vb, pk_eq (fa b) 0 (fun z1 => ?_) (fun z1 => ?_)⟩) (fun z => ?_))⟩
          · rw [if_neg (by omega), if_pos z1] at hpe
            rw [hpe] at h
            refine ⟨v3, nm_e ⟨v3, ?_⟩⟩
            rw [pk_us]
            exact h
          · rw [if_neg (by omega), if_neg z1] at hpe
            rw [hpe] at h
            refine ⟨v3, nm_e ⟨v3, ?_⟩⟩
            rw [pk_us]
            exact h
          · rw [if_pos z] at hpe
            rw [hpe] at h
            refine ⟨v3, nm_e ⟨v3, ?_⟩⟩
            rw [pk_us]
            exact h
        refine pk_eq r 0 (fun z => g 1 ?_) (fun z => g 0 ?_)
        · rw [hf.mpr z]; rfl
        · rw [show f = 0 by omega]; rfl
    have hex : ∃ p f, 1 ≤ p ∧ p ≤ 8 ∧ f ≤ 1 ∧ (f = 1 ↔ r = 0) ∧ (p = if 0 < r then r + 1 else if fa b = 0 then v + 1 else 1) := by
      refine ⟨if 0 < r then r + 1 else if fa b = 0 then v + 1 else 1, if r = 0 then 1 else 0, ?_, ?_, ?_, ?_, rfl⟩
      · by_cases c : 0 < r <;> by_cases c2 : fa b = 0 <;> simp [c, c2]
      · by_cases c : 0 < r <;> by_cases c2 : fa b = 0 <;> simp [c, c2] <;> omega
      · by_cases c : r = 0 <;> simp [c]
      · by_cases c : r = 0 <;> simp [c]
    obtain ⟨p, f, a1, a2, a3, a4, a5⟩ := hex
    obtain ⟨r', u', v', R', z1, z2, hX, hY⟩ := key p f a1 a2 a3 a4 a5
    refine ⟨r', u', v', R', z1, z2, fun P h => xb _ (br_f nn_10 (xi _ (br_f nn_10 (xv _ (br_f nn_10 (nm_e ⟨v3, ?_⟩)))))), fun P h => yb _ (br_f nn_10 (yi _ (br_f nn_10 (yv _ (br_f nn_10 (rm_yready hS hB hb han ?_))))))⟩
    · rw [c3, hp.1]
      refine br_t x3 (rm_xready hS hB hb han ?_)
      rw [nn_bt hrd]
      exact br_f nn_10 (hX P h)
    · rw [nn_bt hrd, c3, hp.2]
      exact br_f nn_10 ⟨v3, br_t y3 (hY P h)⟩
  · refine ⟨-1, _, _, R, fun _ => ⟨rfl, rfl⟩, fun q1 q2 => absurd ⟨q1, q2⟩ ok, fun P h => xb _ (br_f nn_10 (xi _ (br_f nn_10 (xv _ (br_f nn_10 (nm_e ⟨v3, ?_⟩)))))), fun P h => yb _ (br_f nn_10 (yi _ (br_f nn_10 (yv _ (br_f nn_10 (rm_yready hS hB hb han (nn_br (fun _ => h) (fun q => ⟨v3, ?_⟩))))))))⟩
    · rw [c3, hp.1]
      refine br_c (fun q => rm_xready hS hB hb han (nn_br (fun _ => br_t rfl h) (fun q2 => absurd ⟨(nn_p3e h8).mp q, q2⟩ ok))) (fun _ => br_t rfl h)
    · rw [c3, hp.2]
      exact br_c (fun q2 => absurd ⟨(nn_p1n h8).mp q2, q⟩ ok) (fun _ => h)
end pick
theorem rt_pick {nb : Nat} {u : SX} {v : SY} (R : rl_R nb u v) (a b c : Int32) : rl_W nb u v (fun _ => False) (fun P => wpX_pick P u a b c) (fun P => wpY_pick P v a b c) := by
  refine rl_el (P := fun u v => rl_W nb u v (fun _ => False) (fun P => wpX_pick P u a b c) (fun P => wpY_pick P v a b c)) R ?_
  intro fj lc tb df sm ju le ls so ba an fa co pi fr de ke up pr op vo ov Qs qb qi qv vt he ch lr st nu pj dw rb ri rv QQ pk hS hB hP hV hQ hC
  have hnb := hB.1
  have R := rl_mk (fj := fj) (sm := sm) (ju := ju) hS hB hP hV hQ hC
  rcases rm_isB (fj := fj) (nb := nb) (lc := lc) (tb := tb) (df := df) (sm := sm) (ju := ju) (le := le) (ls := ls) (pi := pi) (de := de) (op := op) (ov := ov) (qb := qb) (qi := qi) (qv := qv) (ch := ch) (lr := lr) (so := so) (ba := ba) (an := an) (fa := fa) (co := co) (fr := fr) (ke := ke) (up := up) (pr := pr) (vo := vo) (vt := vt) (he := he) (Qs := Qs) (st := st) (nu := nu) (pj := pj) (dw := dw) (rb := rb) (ri := ri) (rv := rv) (x := a) hnb with ⟨j, hj1, hj, e, xs, ys⟩ | ⟨xs, ys⟩
  · subst e
    rcases nl_in (x := b) (n := 3) (m := 2) 3 (by decide) (by decide) with ⟨i, hi, e, xk, yk⟩ | ⟨xk, yk⟩
    · subst e
      rcases nl_bt (x := c) (a := 1) (b := 7) 1 7 (by decide) (by decide) with ⟨t, ht1, ht, e, xt, yt⟩ | ⟨xt, yt⟩
      · subst e
        obtain ⟨r, u', v', R', _, _, hX, hY⟩ := rm_pick (fj := fj) (sm := sm) (ju := ju) hS hB hP hV hQ hC hj1 hj hi ht1 ht
        exact ⟨r, u', v', R', fun q => q.elim, hX, hY⟩
      · unfold rl_W wpX_pick wpY_pick
        dsimp only
        exact ⟨-1, _, _, R, fun q => q.elim, fun P h => xs _ (br_f nn_10 (xk _ (br_f nn_10 (xt _ (br_t rfl h))))), fun P h => ys _ (br_f nn_10 (yk _ (br_f nn_10 (yt _ (br_t rfl h)))))⟩
    · unfold rl_W wpX_pick wpY_pick
      dsimp only
      exact ⟨-1, _, _, R, fun q => q.elim, fun P h => xs _ (br_f nn_10 (xk _ (br_t rfl h))), fun P h => ys _ (br_f nn_10 (yk _ (br_t rfl h)))⟩
  · unfold rl_W wpX_pick wpY_pick
    dsimp only
    exact ⟨-1, _, _, R, fun q => q.elim, fun P h => xs _ (br_t rfl h), fun P h => ys _ (br_t rfl h)⟩
end
section
/-! complete -/
def rc_ok (QQ : Nat → Nat → Nat → Bool) (so pk fr vt : Nat → Nat) (b i : Nat) : Prop := pk (3 * b + i) ≠ 0 ∧ (fr (3 * b + i) ≠ 0 ∨ ∃ v, v < 8 ∧ vt (24 * b + 8 * i + v) ≠ 0 ∧ rl_en QQ so pk b i (vt (24 * b + 8 * i + v)))
theorem rc_a0 (P : Prop) : nn_b P &&& 0 = nn_b False := by rcases nn_b01 P with h | h <;> rw [h, nn_bf (fun q => q)] <;> decide
theorem rc_a1 (P : Prop) : nn_b P &&& 1 = nn_b P := by rcases nn_b01 P with h | h <;> rw [h] <;> decide
section comp
variable {fj : Int32} {nb lc : Nat} {tb df sm ju le ls pi de op ov qb qi qv ch lr : Nat → Int32} {so ba an fa co fr ke up pr vo vt he : Nat → Nat} {Qs : Nat → List (Nat × Nat × Nat)}
variable {st nu pj dw rb ri rv : Nat → Int32}
variable {QQ : Nat → Nat → Nat → Bool} {pk : Nat → Nat}
theorem xm_c29 {P : Int32 → SX → Prop} {b : Nat} {A : Prop} (hB : rl_B nb lc df so ba fa co) (hP : rl_P nb pk fr pi pj) (hC : rl_C QQ so pk vt he de ch lr) (hb : b ≤ nb)
    (h1 : A → (∀ i, i < 3 → rc_ok QQ so pk fr vt b i) → P 1 (fj, (nI nb), (nI (if b ≤ lc then lc else b)), tb, df, sm, ju, le, ls, (nn_I so), (nn_I ba), (nn_I an), (nn_I fa), (nn_I (nn_u co b 1)), pi, (nn_I fr), de, (nn_I ke), (nn_I up), (nn_I pr), op, (nn_I vo), ov, (nn_L Qs), qb, qi, qv, (nn_I vt), (nn_I he), ch, lr))
    (h0 : ¬ (A ∧ ∀ i, i < 3 → rc_ok QQ so pk fr vt b i) → P 0 (fj, (nI nb), (nI lc), tb, df, sm, ju, le, ls, (nn_I so), (nn_I ba), (nn_I an), (nn_I fa), (nn_I co), pi, (nn_I fr), de, (nn_I ke), (nn_I up), (nn_I pr), op, (nn_I vo), ov, (nn_L Qs), qb, qi, qv, (nn_I vt), (nn_I he), ch, lr)) :
    ∀ e i, i + e = 3 → wX_complete_29 P (nI b) fj (nI nb) (nI lc) tb df sm ju le ls (nn_I so) (nn_I ba) (nn_I an) (nn_I fa) (nn_I co) pi (nn_I fr) de (nn_I ke) (nn_I up) (nn_I pr) op (nn_I vo) ov (nn_L Qs) qb qi qv (nn_I vt) (nn_I he) ch lr (e + 1) (nn_b (A ∧ ∀ j, j < i → rc_ok QQ so pk fr vt b j)) (nI (3 * b + i)) := by
  have hnb := hB.1
  have hlc := hB.2.2.2.2.2.2.1
  intro e
  induction e with
  | zero =>
    intro i hi
    have hi : i = 3 := by omega
    subst hi
    refine pk_le (3 * b + 3) (3 * b + 3) (fun z => nn_br (fun q => h0 q) (fun q => ⟨vp_in_nI (by omega) (by omega), nm_r (e' := nn_I (nn_u co b 1)) ?_ ?_⟩)) (fun z => by omega) (hx := by rw [nn_m3]; exact nI_add _ 3)
    · rw [nI_clamp (by omega)]; exact nn_upd (v := 1)
    · have h1 := h1 q.1 q.2
      refine pk_le b lc (fun z1 => ?_) (fun z1 => ?_)
      · rw [if_pos z1] at h1; exact h1
      · rw [if_neg (by omega)] at h1; exact h1
  | succ e ih =>
    intro i hi
    have ih := ih (i + 1) (by omega)
    have hp := hP.1 (3 * b + i) (by omega)
    have h8 := hP.2.1 (3 * b + i)
    have hf := hP.2.2.1 (3 * b + i)
    have v3 : vp_in (nI (3 * b + i)) 39 := vp_in_nI (by omega) (by omega)
    have kT : rc_ok QQ so pk fr vt b i → wX_complete_29 P (nI b) fj (nI nb) (nI lc) tb df sm ju le ls (nn_I so) (nn_I ba) (nn_I an) (nn_I fa) (nn_I co) pi (nn_I fr) de (nn_I ke) (nn_I up) (nn_I pr) op (nn_I vo) ov (nn_L Qs) qb qi qv (nn_I vt) (nn_I he) ch lr (e + 1) (nn_b (A ∧ ∀ j, j < i → rc_ok QQ so pk fr vt b j)) (nI (3 * b + i + 1)) := fun q => by
      rw [nn_bc (Q := A ∧ ∀ j, j < i + 1 → rc_ok QQ so pk fr vt b j) ⟨fun w => ⟨w.1, fun j hj => by
        rcases Nat.lt_or_ge j i with u | u
        · exact w.2 j u
        · rw [show j = i by omega]; exact q⟩, fun w => ⟨w.1, fun j hj => w.2 j (by omega)⟩⟩]
      exact ih
    have kF : ¬ rc_ok QQ so pk fr vt b i → wX_complete_29 P (nI b) fj (nI nb) (nI lc) tb df sm ju le ls (nn_I so) (nn_I ba) (nn_I an) (nn_I fa) (nn_I co) pi (nn_I fr) de (nn_I ke) (nn_I up) (nn_I pr) op (nn_I vo) ov (nn_L Qs) qb qi qv (nn_I vt) (nn_I he) ch lr (e + 1) (nn_b False) (nI (3 * b + i + 1)) := fun q => by
      rw [nn_bc (P := False) (Q := A ∧ ∀ j, j < i + 1 → rc_ok QQ so pk fr vt b j) ⟨fun w => w.elim, fun w => q (w.2 i (by omega))⟩]
      exact ih
    refine pk_le (3 * b + 3) (3 * b + i) (fun z => by omega) (fun z => ⟨v3, ?_⟩) (hx := by rw [nn_m3]; exact nI_add _ 3)
    rw [nI_clamp (by omega), hp.1, hC.1 b i (by omega) (by omega)]
    refine br_c (fun z1 => nm_r (rc_a0 _) (nm_r (nI_1 _) (kF (fun q => q.1 ((nn_p3e h8).mp z1))))) (fun z1 => ⟨v3, pk_eq (fr (3 * b + i)) 0 (fun z2 => ⟨v3, nn_br (fun z3 => nm_r (rc_a0 _) (nm_r (nI_1 _) (kF (fun q => ?_)))) (fun z3 => nm_r (rc_a1 _) (nm_r (nI_1 _) (kT ⟨fun q => z1 ((nn_p3e h8).mpr q), Or.inr z3⟩)))⟩) (fun z2 => nm_r (rc_a1 _) (nm_r (nI_1 _) (kT ⟨fun q => z1 ((nn_p3e h8).mpr q), Or.inl z2⟩)))⟩)
    rcases q.2 with w | w
    · exact w z2
    · exact z3 w
theorem ym_c29 {P : Int32 → SY → Prop} {b : Nat} (hS : rl_S QQ df tb le ls st nu) (hB : rl_B nb lc df so ba fa co) (hP : rl_P nb pk fr pi pj) (hV : rl_V nb pk an ke pr vo vt he) (h1b : 1 ≤ b) (hb : b ≤ nb)
    (h1 : (∀ i, i < 3 → rc_ok QQ so pk fr vt b i) → P 1 ((nI nb), st, nu, (nn_I so), (nn_I ba), (nn_I an), pj, (nn_I ke), (nn_I fa), (nn_I (nn_u co b 1)), (nn_I fr), dw, (nn_I pr), (nn_I vo), (nn_L Qs), rb, ri, rv, (nn_I vt), (nn_I he)))
    (h0 : (¬ ∀ i, i < 3 → rc_ok QQ so pk fr vt b i) → P 0 ((nI nb), st, nu, (nn_I so), (nn_I ba), (nn_I an), pj, (nn_I ke), (nn_I fa), (nn_I co), (nn_I fr), dw, (nn_I pr), (nn_I vo), (nn_L Qs), rb, ri, rv, (nn_I vt), (nn_I he))) :
    ∀ e i, i + e = 3 → (∀ j, j < i → rc_ok QQ so pk fr vt b j) → wY_complete_29 P (nI b) (nI nb) st nu (nn_I so) (nn_I ba) (nn_I an) pj (nn_I ke) (nn_I fa) (nn_I co) (nn_I fr) dw (nn_I pr) (nn_I vo) (nn_L Qs) rb ri rv (nn_I vt) (nn_I he) (e + 1) (nI i) := by
  have hnb := hB.1
  intro e
  induction e with
  | zero =>
    intro i hi I
    have hi : i = 3 := by omega
    subst hi
    refine br_t (by decide) ⟨vp_in_nI (by omega) (by omega), nm_r (e' := nn_I (nn_u co b 1)) ?_ (h1 I)⟩
    rw [nI_clamp (by omega)]; exact nn_upd (v := 1)
  | succ e ih =>
    intro i hi I
    have hp := hP.1 (3 * b + i) (by omega)
    have h8 := hP.2.1 (3 * b + i)
    have hf := hP.2.2.1 (3 * b + i)
    have v3 : vp_in (nI (3 * b + i)) 39 := vp_in_nI (by omega) (by omega)
    have z : ¬ (3 : Int32) ≤ nI i := nI_ge (b := 3) (by omega) (by omega)
    have nx : rc_ok QQ so pk fr vt b i → wY_complete_29 P (nI b) (nI nb) st nu (nn_I so) (nn_I ba) (nn_I an) pj (nn_I ke) (nn_I fa) (nn_I co) (nn_I fr) dw (nn_I pr) (nn_I vo) (nn_L Qs) rb ri rv (nn_I vt) (nn_I he) (e + 1) (nI (i + 1)) := fun q => ih (i + 1) (by omega) (fun j hj => by
      rcases Nat.lt_or_ge j i with u | u
      · exact I j u
      · rw [show j = i by omega]; exact q)
    have no : ¬ rc_ok QQ so pk fr vt b i → P 0 ((nI nb), st, nu, (nn_I so), (nn_I ba), (nn_I an), pj, (nn_I ke), (nn_I fa), (nn_I co), (nn_I fr), dw, (nn_I pr), (nn_I vo), (nn_L Qs), rb, ri, rv, (nn_I vt), (nn_I he)) := fun q => h0 (fun w => q (w i (by omega)))
    refine br_f z ?_
    rw [rm_i3, nI_clamp (by omega), hp.2]
    refine ⟨v3, nm_e (br_c (fun z1 => no (fun q => q.1 ((nn_p1n h8).mp z1))) (fun z1 => ?_))⟩
    have k0 : pk (3 * b + i) ≠ 0 := fun q => z1 ((nn_p1n h8).mpr q)
    refine ⟨v3, pk_eq (fr (3 * b + i)) 0 (fun z2 => ?_) (fun z2 => nm_r (nI_1 _) (nx ⟨k0, Or.inl z2⟩))⟩
    have k1 : pk (3 * b + i) ≠ 1 := fun q => by have := hP.2.2.2.1 _ q; omega
    have ep : nn_p1 (pk (3 * b + i)) = nI (pk (3 * b + i) - 1) := if_neg k0
    rw [ep, rm_i24, nI_clamp (by omega)]
    have hvt := hV.2.2.2.2.2.1 (24 * b + 8 * i + (pk (3 * b + i) - 1))
    refine ⟨vp_in_nI (by omega) (by omega), rm_en_y hS hB hP h1b hb (by omega) hvt (nn_br (fun q => no (fun w => q ⟨k0, ?_⟩)) (fun q => nm_r (nI_1 _) (nx ⟨k0, Or.inr ⟨pk (3 * b + i) - 1, by omega, fun w => ?_, q.2⟩⟩)))⟩
    · rcases w.2 with g | ⟨v, a1, a2, a3⟩
      · exact absurd z2 g
      · have := hV.2.2.2.2.2.2.2.2.1 b i v (by omega) (by omega) a1 a2
        have e2 : v = pk (3 * b + i) - 1 := by
          rcases this.2.2.2 with g | g
          · exact absurd g k1
          · omega
        rw [e2] at a3
        exact a3
    · have q2 := q.2
      rw [w] at q2
      exact rm_en0 hS hB h1b hb q2
theorem rm_comp {b : Nat} (hS : rl_S QQ df tb le ls st nu) (hB : rl_B nb lc df so ba fa co) (hP : rl_P nb pk fr pi pj) (hV : rl_V nb pk an ke pr vo vt he) (hQ : rl_Q nb pk Qs up dw pr vo op ov qb qi qv rb ri rv) (hC : rl_C QQ so pk vt he de ch lr) (h1 : 1 ≤ b) (hb : b ≤ nb) : ∃ r u' v', rl_R nb u' v' ∧ (r = 0 → u' = (fj, (nI nb), (nI lc), tb, df, sm, ju, le, ls, (nn_I so), (nn_I ba), (nn_I an), (nn_I fa), (nn_I co), pi, (nn_I fr), de, (nn_I ke), (nn_I up), (nn_I pr), op, (nn_I vo), ov, (nn_L Qs), qb, qi, qv, (nn_I vt), (nn_I he), ch, lr) ∧ v' = ((nI nb), st, nu, (nn_I so), (nn_I ba), (nn_I an), pj, (nn_I ke), (nn_I fa), (nn_I co), (nn_I fr), dw, (nn_I pr), (nn_I vo), (nn_L Qs), rb, ri, rv, (nn_I vt), (nn_I he))) ∧ (r = 0 ∨ r = 1) ∧ (∀ P : Int32 → SX → Prop, P r u' → wpX_complete P (fj, (nI nb), (nI lc), tb, df, sm, ju, le, ls, (nn_I so), (nn_I ba), (nn_I an), (nn_I fa), (nn_I co), pi, (nn_I fr), de, (nn_I ke), (nn_I up), (nn_I pr), op, (nn_I vo), ov, (nn_L Qs), qb, qi, qv, (nn_I vt), (nn_I he), ch, lr) (nI b)) ∧ ∀ P : Int32 → SY → Prop, P r v' → wpY_complete P ((nI nb), st, nu, (nn_I so), (nn_I ba), (nn_I an), pj, (nn_I ke), (nn_I fa), (nn_I co), (nn_I fr), dw, (nn_I pr), (nn_I vo), (nn_L Qs), rb, ri, rv, (nn_I vt), (nn_I he)) (nI b) := by
  have hnb := hB.1
  have R := rl_mk (fj := fj) (sm := sm) (ju := ju) hS hB hP hV hQ hC
  have han := hV.2.2.2.2.1 b
  have cb : (nI b).toNatClampNeg = b := nI_clamp (by omega)
  have vb : vp_in (nI b) 13 := vp_in_nI (by omega) (by omega)
  have xb : ∀ P : Int32 → Prop, P 1 → wpX_isBallot P (fj, (nI nb), (nI lc), tb, df, sm, ju, le, ls, (nn_I so), (nn_I ba), (nn_I an), (nn_I fa), (nn_I co), pi, (nn_I fr), de, (nn_I ke), (nn_I up), (nn_I pr), op, (nn_I vo), ov, (nn_L Qs), qb, qi, qv, (nn_I vt), (nn_I he), ch, lr) (nI b) := fun P h => br_f (nI_nle (by omega) (by omega)) (br_f (nI_nlt (by omega) (by omega)) h)
  have yb : ∀ P : Int32 → Prop, P 1 → wpY_isBallot P ((nI nb), st, nu, (nn_I so), (nn_I ba), (nn_I an), pj, (nn_I ke), (nn_I fa), (nn_I co), (nn_I fr), dw, (nn_I pr), (nn_I vo), (nn_L Qs), rb, ri, rv, (nn_I vt), (nn_I he)) (nI b) := fun P h => br_f (nI_nlt (b := 1) (by omega) (by omega)) (br_f (nI_nlt (by omega) (by omega)) ⟨rfl, h⟩)
  unfold wpX_complete wpY_complete
  dsimp only
  rw [cb]
  by_cases hc0 : co b = 0
  · have zc : nn_I co b = 0 := by rw [nn_Iap, hc0]; rfl
    have xg : ∀ (P : Int32 → SX → Prop), (rm_rd QQ so ba b (an b) → (∀ i, i < 3 → rc_ok QQ so pk fr vt b i) → P 1 (fj, (nI nb), (nI (if b ≤ lc then lc else b)), tb, df, sm, ju, le, ls, (nn_I so), (nn_I ba), (nn_I an), (nn_I fa), (nn_I (nn_u co b 1)), pi, (nn_I fr), de, (nn_I ke), (nn_I up), (nn_I pr), op, (nn_I vo), ov, (nn_L Qs), qb, qi, qv, (nn_I vt), (nn_I he), ch, lr)) → (¬ (rm_rd QQ so ba b (an b) ∧ ∀ i, i < 3 → rc_ok QQ so pk fr vt b i) → P 0 (fj, (nI nb), (nI lc), tb, df, sm, ju, le, ls, (nn_I so), (nn_I ba), (nn_I an), (nn_I fa), (nn_I co), pi, (nn_I fr), de, (nn_I ke), (nn_I up), (nn_I pr), op, (nn_I vo), ov, (nn_L Qs), qb, qi, qv, (nn_I vt), (nn_I he), ch, lr)) → wpX_isReady (fun r_36 => ∀ x3_68 : Int32, x3_68 = 3 * nI b → ∃ n29 : Nat, wX_complete_29 P (nI b) fj (nI nb) (nI lc) tb df sm ju le ls (nn_I so) (nn_I ba) (nn_I an) (nn_I fa) (nn_I co) pi (nn_I fr) de (nn_I ke) (nn_I up) (nn_I pr) op (nn_I vo) ov (nn_L Qs) qb qi qv (nn_I vt) (nn_I he) ch lr n29 r_36 x3_68) (fj, (nI nb), (nI lc), tb, df, sm, ju, le, ls, (nn_I so), (nn_I ba), (nn_I an), (nn_I fa), (nn_I co), pi, (nn_I fr), de, (nn_I ke), (nn_I up), (nn_I pr), op, (nn_I vo), ov, (nn_L Qs), qb, qi, qv, (nn_I vt), (nn_I he), ch, lr) (nI b) := fun P g1 g0 => by
      refine rm_xready hS hB hb han (nm_r (nn_m3 b) ⟨4, ?_⟩)
      have := xm_c29 (fj := fj) (nb := nb) (lc := lc) (tb := tb) (df := df) (sm := sm) (ju := ju) (le := le) (ls := ls) (pi := pi) (de := de) (op := op) (ov := ov) (qb := qb) (qi := qi) (qv := qv) (ch := ch) (lr := lr) (so := so) (ba := ba) (an := an) (fa := fa) (co := co) (fr := fr) (ke := ke) (up := up) (pr := pr) (vo := vo) (vt := vt) (he := he) (Qs := Qs) (P := P) (A := rm_rd QQ so ba b (an b)) hB hP hC hb g1 g0 3 0 (by omega)
      rw [nn_bc (Q := rm_rd QQ so ba b (an b)) ⟨fun q => q.1, fun q => ⟨q, fun j hj => absurd hj (by omega)⟩⟩] at this
      exact this
    have yg : ∀ (P : Int32 → SY → Prop), (rm_rd QQ so ba b (an b) → (∀ i, i < 3 → rc_ok QQ so pk fr vt b i) → P 1 ((nI nb), st, nu, (nn_I so), (nn_I ba), (nn_I an), pj, (nn_I ke), (nn_I fa), (nn_I (nn_u co b 1)), (nn_I fr), dw, (nn_I pr), (nn_I vo), (nn_L Qs), rb, ri, rv, (nn_I vt), (nn_I he))) → (¬ (rm_rd QQ so ba b (an b) ∧ ∀ i, i < 3 → rc_ok QQ so pk fr vt b i) → P 0 ((nI nb), st, nu, (nn_I so), (nn_I ba), (nn_I an), pj, (nn_I ke), (nn_I fa), (nn_I co), (nn_I fr), dw, (nn_I pr), (nn_I vo), (nn_L Qs), rb, ri, rv, (nn_I vt), (nn_I he))) → wpY_isReady (fun r_25 => (r_25 = 0 → P 0 ((nI nb), st, nu, (nn_I so), (nn_I ba), (nn_I an), pj, (nn_I ke), (nn_I fa), (nn_I co), (nn_I fr), dw, (nn_I pr), (nn_I vo), (nn_L Qs), rb, ri, rv, (nn_I vt), (nn_I he))) ∧ (¬ r_25 = 0 → ∃ n29 : Nat, wY_complete_29 P (nI b) (nI nb) st nu (nn_I so) (nn_I ba) (nn_I an) pj (nn_I ke) (nn_I fa) (nn_I co) (nn_I fr) dw (nn_I pr) (nn_I vo) (nn_L Qs) rb ri rv (nn_I vt) (nn_I he) n29 0)) ((nI nb), st, nu, (nn_I so), (nn_I ba), (nn_I an), pj, (nn_I ke), (nn_I fa), (nn_I co), (nn_I fr), dw, (nn_I pr), (nn_I vo), (nn_L Qs), rb, ri, rv, (nn_I vt), (nn_I he)) (nI b) := fun P g1 g0 => by
      refine rm_yready hS hB hb han (nn_br (fun q => g0 (fun w => q w.1)) (fun q => ⟨4, ?_⟩))
      exact ym_c29 hS hB hP hV h1 hb (g1 q) (fun w => g0 (fun u => w u.2)) 3 0 (by omega) (fun j hj => absurd hj (by omega))
    by_cases ok : rm_rd QQ so ba b (an b) ∧ ∀ i, i < 3 → rc_ok QQ so pk fr vt b i
    · obtain ⟨_, so4, sod, ba12, fa1, co1, hlc, lc1, lc2⟩ := hB
      have hB' : rl_B nb (if b ≤ lc then lc else b) df so ba fa (nn_u co b 1) := by
        refine ⟨hnb, so4, sod, ba12, fa1, fun x => ?_, ?_, ?_, fun x hx => ?_⟩
        · by_cases e : x = b
          · rw [e, nn_us]; exact Nat.le_refl _
          · rw [nn_un e]; exact co1 x
        · by_cases z : b ≤ lc
          · rw [if_pos z]; exact hlc
          · rw [if_neg z]; exact hb
        · by_cases z : b ≤ lc
          · rw [if_pos z]
            by_cases e : lc = b
            · right; rw [e, nn_us]
            · rw [nn_un e]; exact lc1
          · rw [if_neg z]; right; rw [nn_us]
        · by_cases z : b ≤ lc
          · rw [if_pos z] at hx
            rw [nn_un (by omega)]; exact lc2 x hx
          · rw [if_neg z] at hx
            rw [nn_un (by omega)]; exact lc2 x (by omega)
      exact ⟨1, _, _, rl_mk (fj := fj) (sm := sm) (ju := ju) hS hB' hP hV hQ hC, fun q => absurd q nn_10, Or.inr rfl, fun P h => xb _ (br_f nn_10 ⟨vb, br_t zc (xg P (fun _ _ => h) (fun w => absurd ok w))⟩), fun P h => yb _ (br_f nn_10 ⟨vb, br_t zc (yg P (fun _ _ => h) (fun w => absurd ok w))⟩)⟩
    · exact ⟨0, _, _, R, fun _ => ⟨rfl, rfl⟩, Or.inl rfl, fun P h => xb _ (br_f nn_10 ⟨vb, br_t zc (xg P (fun q1 q2 => absurd ⟨q1, q2⟩ ok) (fun _ => h))⟩), fun P h => yb _ (br_f nn_10 ⟨vb, br_t zc (yg P (fun q1 q2 => absurd ⟨q1, q2⟩ ok) (fun _ => h))⟩)⟩
  · have hco := hB.2.2.2.2.2.1 b
    have zc : ¬ nn_I co b = 0 := nI_ne0 (by omega) (by omega)
    exact ⟨0, _, _, R, fun _ => ⟨rfl, rfl⟩, Or.inl rfl, fun P h => xb _ (br_f nn_10 ⟨vb, br_f zc h⟩), fun P h => yb _ (br_f nn_10 ⟨vb, br_f zc h⟩)⟩
end comp
theorem rt_complete {nb : Nat} {u : SX} {v : SY} (R : rl_R nb u v) (a : Int32) : rl_W nb u v (fun r => r = 0) (fun P => wpX_complete P u a) (fun P => wpY_complete P v a) := by
  refine rl_el (P := fun u v => rl_W nb u v (fun r => r = 0) (fun P => wpX_complete P u a) (fun P => wpY_complete P v a)) R ?_
  intro fj lc tb df sm ju le ls so ba an fa co pi fr de ke up pr op vo ov Qs qb qi qv vt he ch lr st nu pj dw rb ri rv QQ pk hS hB hP hV hQ hC
  have hnb := hB.1
  have R := rl_mk (fj := fj) (sm := sm) (ju := ju) hS hB hP hV hQ hC
  rcases rm_isB (fj := fj) (nb := nb) (lc := lc) (tb := tb) (df := df) (sm := sm) (ju := ju) (le := le) (ls := ls) (pi := pi) (de := de) (op := op) (ov := ov) (qb := qb) (qi := qi) (qv := qv) (ch := ch) (lr := lr) (so := so) (ba := ba) (an := an) (fa := fa) (co := co) (fr := fr) (ke := ke) (up := up) (pr := pr) (vo := vo) (vt := vt) (he := he) (Qs := Qs) (st := st) (nu := nu) (pj := pj) (dw := dw) (rb := rb) (ri := ri) (rv := rv) (x := a) hnb with ⟨j, hj1, hj, e, xs, ys⟩ | ⟨xs, ys⟩
  · subst e
    obtain ⟨r, u', v', R', z1, _, hX, hY⟩ := rm_comp (fj := fj) (sm := sm) (ju := ju) hS hB hP hV hQ hC hj1 hj
    exact ⟨r, u', v', R', z1, hX, hY⟩
  · unfold rl_W wpX_complete wpY_complete
    dsimp only
    exact ⟨0, _, _, R, fun _ => ⟨rfl, rfl⟩, fun P h => xs _ (br_t rfl h), fun P h => ys _ (br_t rfl h)⟩
end
section
/-! bits that are added; hear -/
theorem rl_bup {f f1 : Nat → Nat → Nat} {en : Nat → Nat → Prop} {b0 v0 : Nat} (hb0 : b0 ≤ 12) (h1 : ∀ b v, v < 8 → ¬ (b = b0 ∧ v = v0) → f1 b v = f b v) (hne : f1 b0 v0 ≠ 0) (hmo : en b0 (f b0 v0) → en b0 (f1 b0 v0)) (v : Nat) (hv : v < 8) :
    (∃ b, b ≤ 12 ∧ f1 b v ≠ 0 ∧ en b (f1 b v)) ↔ ((∃ b, b ≤ 12 ∧ f b v ≠ 0 ∧ en b (f b v)) ∨ (v = v0 ∧ en b0 (f1 b0 v0))) := by
  constructor
  · rintro ⟨b, a1, a2, a3⟩
    by_cases e : b = b0 ∧ v = v0
    · obtain ⟨e1, e2⟩ := e
      subst e1; subst e2
      exact Or.inr ⟨rfl, a3⟩
    · rw [h1 b v hv e] at a2 a3
      exact Or.inl ⟨b, a1, a2, a3⟩
  · rintro (⟨b, a1, a2, a3⟩ | ⟨e, a3⟩)
    · by_cases e : b = b0 ∧ v = v0
      · obtain ⟨e1, e2⟩ := e
        subst e1; subst e2
        exact ⟨b, hb0, hne, hmo a3⟩
      · exact ⟨b, a1, by rw [h1 b v hv e]; exact a2, by rw [h1 b v hv e]; exact a3⟩
    · subst e; exact ⟨b0, hb0, hne, a3⟩
theorem rl_bset {x : Int32} {P Q : Nat → Prop} {v : Nat} (h : rl_bits x P) (h1 : 1 ≤ v) (h8 : v < 8) (hQ : ∀ w, 1 ≤ w → w < 8 → (Q w ↔ P w ∨ w = v)) : rl_bits (vp_nar .short ((x ||| ((1 : Int32) <<< (nI v &&& 31))).toInt16.toInt32)) Q := by
  obtain ⟨C, hC, e, h0, hb⟩ := h
  have hl : C ||| 2 ^ v < 256 := Nat.or_lt_two_pow (n := 8) hC (Nat.pow_lt_pow_right (by decide) h8)
  refine ⟨C ||| 2 ^ v, hl, ?_, ?_, fun w a1 a2 => ?_⟩
  · rw [e, nn_shl (by omega), nn_or, nn_v16 hl]
  · have : ¬ (C ||| 2 ^ v) / 2 ^ 0 % 2 = 1 := fun q => by
      have q := (qq_tb _ _).mpr q
      rw [Nat.testBit_or, Bool.or_eq_true, Nat.testBit_two_pow, decide_eq_true_eq, qq_tb, Nat.pow_zero, Nat.div_one] at q
      omega
    rw [Nat.pow_zero, Nat.div_one] at this
    omega
  · rw [hQ w a1 a2, ← hb w a1 a2, ← qq_tb, ← qq_tb, Nat.testBit_or, Bool.or_eq_true, Nat.testBit_two_pow, decide_eq_true_eq]
    exact ⟨fun q => q.imp_right Eq.symm, fun q => q.imp_right Eq.symm⟩
theorem rh_or0 {a n : Nat} (hn : n < 7) : a ||| 2 ^ n ≠ 0 := fun e => by
  have : (a ||| 2 ^ n).testBit n = true := by rw [Nat.testBit_or, Nat.testBit_two_pow, decide_eq_true rfl, Bool.or_true]
  rw [e, Nat.zero_testBit] at this
  exact absurd this (by decide)
theorem rh_sub (a b : Nat) : a &&& (a ||| b) = a := by
  apply Nat.eq_of_testBit_eq
  intro i
  rw [Nat.testBit_and, Nat.testBit_or]
  cases a.testBit i <;> simp
section hear
variable {fj : Int32} {nb lc : Nat} {tb df sm ju le ls pi de op ov qb qi qv ch lr : Nat → Int32} {so ba an fa co fr ke up pr vo vt he : Nat → Nat} {Qs : Nat → List (Nat × Nat × Nat)}
variable {st nu pj dw rb ri rv : Nat → Int32}
variable {QQ : Nat → Nat → Nat → Bool} {pk : Nat → Nat}
theorem rh_V {l n i b v : Nat} (hV : rl_V nb pk an ke pr vo vt he) (hl : l < 2) (hn : n < 7) (hi : i < 3) (h1 : 1 ≤ b) (hb : b ≤ nb) (hv1 : 1 ≤ v) (hv : v ≤ 7) (hcm : rl_cm pk b i v) (hnb : nb ≤ 12) :
    rl_V nb pk an ke pr vo vt (nn_u he (312 * l + 24 * b + 8 * i + v) (he (312 * l + 24 * b + 8 * i + v) ||| 2 ^ n)) := by
  obtain ⟨v1, v2, v3, v4, v5, v6, v7, v8, v9, v10⟩ := hV
  refine ⟨v1, v2, v3, v4, v5, v6, fun j => ?_, v8, v9, fun l' b' i' v' a0 a1 a2 a3 => ?_⟩
  · by_cases e : j = 312 * l + 24 * b + 8 * i + v
    · rw [e, nn_us]; exact qq_lor (v7 _) (qq_2l n hn)
    · rw [nn_un e]; exact v7 j
  · by_cases e : 312 * l' + 24 * b' + 8 * i' + v' = 312 * l + 24 * b + 8 * i + v
    · have e1 : b' = b := by omega
      have e2 : i' = i := by omega
      have e3 : v' = v := by omega
      rw [e1, e2, e3]
      exact fun _ => ⟨h1, hb, hv1, hcm⟩
    · rw [nn_un e]; exact v10 l' b' i' v' a0 a1 a2 a3
theorem rh_note {l n i b v : Nat} (hS : rl_S QQ df tb le ls st nu) (hB : rl_B nb lc df so ba fa co) (hP : rl_P nb pk fr pi pj) (hV : rl_V nb pk an ke pr vo vt he) (hC : rl_C QQ so pk vt he de ch lr) (hl : l < 2) (hn : n < 7) (hi : i < 3) (h1 : 1 ≤ b) (hb : b ≤ nb) (hv1 : 1 ≤ v) (hv : v ≤ 7) :
    ∃ lr' : Nat → Int32, rl_C QQ so pk vt (nn_u he (312 * l + 24 * b + 8 * i + v) (he (312 * l + 24 * b + 8 * i + v) ||| 2 ^ n)) de ch lr' ∧ ∀ P : SX → Prop, P (fj, (nI nb), (nI lc), tb, df, sm, ju, le, ls, (nn_I so), (nn_I ba), (nn_I an), (nn_I fa), (nn_I co), pi, (nn_I fr), de, (nn_I ke), (nn_I up), (nn_I pr), op, (nn_I vo), ov, (nn_L Qs), qb, qi, qv, (nn_I vt), (nn_I (nn_u he (312 * l + 24 * b + 8 * i + v) (he (312 * l + 24 * b + 8 * i + v) ||| 2 ^ n))), ch, lr') → wpX_note P (fj, (nI nb), (nI lc), tb, df, sm, ju, le, ls, (nn_I so), (nn_I ba), (nn_I an), (nn_I fa), (nn_I co), pi, (nn_I fr), de, (nn_I ke), (nn_I up), (nn_I pr), op, (nn_I vo), ov, (nn_L Qs), qb, qi, qv, (nn_I vt), (nn_I he), ch, lr) (nI l) (nI n) (nI i) (nI (8 * b + v)) := by
  have hnb := hB.1
  have hhe := hV.2.2.2.2.2.2.1 (312 * l + 24 * b + 8 * i + v)
  have hor : he (312 * l + 24 * b + 8 * i + v) ||| 2 ^ n < 128 := qq_lor hhe (qq_2l n hn)
  have bup : ∀ w, w < 8 → ((∃ b', b' ≤ 12 ∧ nn_u he (312 * l + 24 * b + 8 * i + v) (he (312 * l + 24 * b + 8 * i + v) ||| 2 ^ n) (312 * l + 24 * b' + 8 * i + w) ≠ 0 ∧ rl_en QQ so pk b' i (nn_u he (312 * l + 24 * b + 8 * i + v) (he (312 * l + 24 * b + 8 * i + v) ||| 2 ^ n) (312 * l + 24 * b' + 8 * i + w))) ↔ ((∃ b', b' ≤ 12 ∧ he (312 * l + 24 * b' + 8 * i + w) ≠ 0 ∧ rl_en QQ so pk b' i (he (312 * l + 24 * b' + 8 * i + w))) ∨ (w = v ∧ rl_en QQ so pk b i (he (312 * l + 24 * b + 8 * i + v) ||| 2 ^ n)))) := fun w hw => by
    have := rl_bup (f := fun b' w' => he (312 * l + 24 * b' + 8 * i + w')) (f1 := fun b' w' => nn_u he (312 * l + 24 * b + 8 * i + v) (he (312 * l + 24 * b + 8 * i + v) ||| 2 ^ n) (312 * l + 24 * b' + 8 * i + w')) (en := fun b' t => rl_en QQ so pk b' i t) (b0 := b) (v0 := v) (by omega) (fun b' w' h8 q => nn_un (fun e => q (by omega))) (by rw [nn_us]; exact rh_or0 hn) (fun q => by rw [nn_us]; exact rf_moV hS hB h1 hb hhe hor (rh_sub _ _) q) w hw
    rw [nn_us] at this
    exact this
  have oth : ∀ l' i' b' w, l' < 2 → i' < 3 → w < 8 → b' ≤ 12 → ¬ (l' = l ∧ i' = i) → nn_u he (312 * l + 24 * b + 8 * i + v) (he (312 * l + 24 * b + 8 * i + v) ||| 2 ^ n) (312 * l' + 24 * b' + 8 * i' + w) = he (312 * l' + 24 * b' + 8 * i' + w) := fun l' i' b' w a1 a2 a3 a4 q => nn_un (fun e => q (by omega))
  have ex5 : nI (8 * b + v) >>> ((3 : Int32) &&& 31) = nI b := by rw [nn_s3 (by omega), show (8 * b + v) / 8 = b by omega]
  have ex6 : nI (8 * b + v) &&& 7 = nI v := by rw [nn_and7 (by omega), show (8 * b + v) % 8 = v by omega]
  have ct : (nI (312 * l + 24 * b + 8 * i + v)).toNatClampNeg = 312 * l + 24 * b + 8 * i + v := nI_clamp (by omega)
  have vt6 : vp_in (nI (312 * l + 24 * b + 8 * i + v)) 624 := vp_in_nI (by omega) (by omega)
  have walk : ∀ (P : SX → Prop), (rl_en QQ so pk b i (he (312 * l + 24 * b + 8 * i + v) ||| 2 ^ n) → P (fj, (nI nb), (nI lc), tb, df, sm, ju, le, ls, (nn_I so), (nn_I ba), (nn_I an), (nn_I fa), (nn_I co), pi, (nn_I fr), de, (nn_I ke), (nn_I up), (nn_I pr), op, (nn_I vo), ov, (nn_L Qs), qb, qi, qv, (nn_I vt), (nn_I (nn_u he (312 * l + 24 * b + 8 * i + v) (he (312 * l + 24 * b + 8 * i + v) ||| 2 ^ n))), ch, (upd lr (3 * l + i) (vp_nar .short ((lr (3 * l + i) ||| ((1 : Int32) <<< (nI v &&& 31))).toInt16.toInt32))))) → (¬ rl_en QQ so pk b i (he (312 * l + 24 * b + 8 * i + v) ||| 2 ^ n) → P (fj, (nI nb), (nI lc), tb, df, sm, ju, le, ls, (nn_I so), (nn_I ba), (nn_I an), (nn_I fa), (nn_I co), pi, (nn_I fr), de, (nn_I ke), (nn_I up), (nn_I pr), op, (nn_I vo), ov, (nn_L Qs), qb, qi, qv, (nn_I vt), (nn_I (nn_u he (312 * l + 24 * b + 8 * i + v) (he (312 * l + 24 * b + 8 * i + v) ||| 2 ^ n))), ch, lr)) → wpX_note P (fj, (nI nb), (nI lc), tb, df, sm, ju, le, ls, (nn_I so), (nn_I ba), (nn_I an), (nn_I fa), (nn_I co), pi, (nn_I fr), de, (nn_I ke), (nn_I up), (nn_I pr), op, (nn_I vo), ov, (nn_L Qs), qb, qi, qv, (nn_I vt), (nn_I he), ch, lr) (nI l) (nI n) (nI i) (nI (8 * b + v)) := fun P g1 g0 => by
    unfold wpX_note
    dsimp only
    refine nm_r ex5 (nm_r ex6 (nm_r (rm_i312 l b i v) ⟨vt6, vt6, nm_r (e' := nn_I (nn_u he (312 * l + 24 * b + 8 * i + v) (he (312 * l + 24 * b + 8 * i + v) ||| 2 ^ n))) ?_ ⟨vt6, ?_⟩⟩))
    · rw [ct, nn_Iap, nn_shl (by omega), nn_or, nn_v8b hor, nn_upd]
    · rw [ct, nn_Iap, nn_us]
      refine rm_en_x hS hB hP h1 hb hi hor (nn_br g0 (fun q => ?_))
      rw [rm_i3, nI_clamp (by omega)]
      exact ⟨vp_in_nI (by omega) (by omega), vp_in_nI (by omega) (by omega), nm_e (g1 q)⟩
  by_cases hen : rl_en QQ so pk b i (he (312 * l + 24 * b + 8 * i + v) ||| 2 ^ n)
  · refine ⟨_, ⟨hC.1, hC.2.1, fun l' i' hl' hi' => ?_⟩, fun P h => walk P (fun _ => h) (fun q => absurd hen q)⟩
    by_cases e : l' = l ∧ i' = i
    · rw [e.1, e.2, pk_us]
      refine rl_bset (hC.2.2 l i hl hi) hv1 (by omega) (fun w a1 a2 => (bup w a2).trans ⟨fun q => q.imp_right And.left, fun q => q.imp_right (fun z => ⟨z, hen⟩)⟩)
    · rw [pk_un (fun q => e (by omega))]
      refine rl_bc (hC.2.2 l' i' hl' hi') fun w a1 a2 => ⟨fun ⟨b', c1, c2, c3⟩ => ⟨b', c1, ?_, ?_⟩, fun ⟨b', c1, c2, c3⟩ => ⟨b', c1, ?_, ?_⟩⟩
      · rw [oth l' i' b' w hl' hi' a2 c1 e]; exact c2
      · rw [oth l' i' b' w hl' hi' a2 c1 e]; exact c3
      · rw [oth l' i' b' w hl' hi' a2 c1 e] at c2; exact c2
      · rw [oth l' i' b' w hl' hi' a2 c1 e] at c3; exact c3
  · refine ⟨_, ⟨hC.1, hC.2.1, fun l' i' hl' hi' => ?_⟩, fun P h => walk P (fun q => absurd q hen) (fun _ => h)⟩
    by_cases e : l' = l ∧ i' = i
    · rw [e.1, e.2]
      exact rl_bc (hC.2.2 l i hl hi) (fun w a1 a2 => ((bup w a2).trans ⟨fun q => q.elim id (fun z => absurd z.2 hen), Or.inl⟩).symm)
    · refine rl_bc (hC.2.2 l' i' hl' hi') fun w a1 a2 => ⟨fun ⟨b', c1, c2, c3⟩ => ⟨b', c1, ?_, ?_⟩, fun ⟨b', c1, c2, c3⟩ => ⟨b', c1, ?_, ?_⟩⟩
      · rw [oth l' i' b' w hl' hi' a2 c1 e]; exact c2
      · rw [oth l' i' b' w hl' hi' a2 c1 e]; exact c3
      · rw [oth l' i' b' w hl' hi' a2 c1 e] at c2; exact c2
      · rw [oth l' i' b' w hl' hi' a2 c1 e] at c3; exact c3
theorem rh_67 {l n i k : Nat} (hS : rl_S QQ df tb le ls st nu) (hB : rl_B nb lc df so ba fa co) (hP : rl_P nb pk fr pi pj) (hV : rl_V nb pk an ke pr vo vt he) (hC : rl_C QQ so pk vt he de ch lr) (hl : l < 2) (hi : i < 3) : ∃ k', (∀ (P : Int32 → SX → Prop) (J : Int32 → Int32 → Int32 → Int32 → Int32 → (Nat → Int32) → (Nat → Int32) → (Nat → Int32) → (Nat → Int32) → (Nat → Int32) → (Nat → Int32) → (Nat → Int32) → (Nat → Int32) → (Nat → Int32) → (Nat → Int32) → (Nat → Int32) → (Nat → Int32) → (Nat → Int32) → (Nat → Int32) → (Nat → Int32) → (Nat → Int32) → (Nat → Int32) → (Nat → Int32) → (Nat → Int32) → (Nat → Int32) → (Nat → Int32) → (Nat → Int32) → (Nat → Int32) → (Nat → Int32) → (Nat → Int32) → (Nat → Int32) → (Nat → Int32) → (Nat → Int32) → Prop), J (nI k') (nI (i + 1)) fj (nI nb) (nI lc) tb df sm ju le ls (nn_I so) (nn_I ba) (nn_I an) (nn_I fa) (nn_I co) pi (nn_I fr) de (nn_I ke) (nn_I up) (nn_I pr) op (nn_I vo) ov (nn_L Qs) qb qi qv (nn_I vt) (nn_I he) ch lr → wX_hear_67 P J (nI l) (nI n) (nI k) (nI i) fj (nI nb) (nI lc) tb df sm ju le ls (nn_I so) (nn_I ba) (nn_I an) (nn_I fa) (nn_I co) pi (nn_I fr) de (nn_I ke) (nn_I up) (nn_I pr) op (nn_I vo) ov (nn_L Qs) qb qi qv (nn_I vt) (nn_I he) ch lr) ∧ ∀ (P : Int32 → SY → Prop) (J : Int32 → Int32 → (Nat → Int32) → (Nat → Int32) → (Nat → Int32) → (Nat → Int32) → (Nat → Int32) → (Nat → Int32) → (Nat → Int32) → (Nat → Int32) → (Nat → Int32) → (Nat → Int32) → (Nat → Int32) → (Nat → Int32) → (Nat → Int32) → (Nat → Int32) → (Nat → Int32) → (Nat → Int32) → (Nat → Int32) → (Nat → Int32) → (Nat → Int32) → Prop), J (nI k') (nI (i + 1)) st nu (nn_I so) (nn_I ba) (nn_I an) pj (nn_I ke) (nn_I fa) (nn_I co) (nn_I fr) dw (nn_I pr) (nn_I vo) (nn_L Qs) rb ri rv (nn_I vt) (nn_I he) → wY_hear_96 P J (nI l) (nI n) (nI k) (nI i) (nI nb) st nu (nn_I so) (nn_I ba) (nn_I an) pj (nn_I ke) (nn_I fa) (nn_I co) (nn_I fr) dw (nn_I pr) (nn_I vo) (nn_L Qs) rb ri rv (nn_I vt) (nn_I he) := by
  obtain ⟨r, hr, h0, _⟩ := rm_low (hC.2.2 l i hl hi)
  have hr8 := hr.1
  have vi : vp_in (nI (3 * l + i)) 6 := vp_in_nI (by omega) (by omega)
  have ci : (nI (3 * l + i)).toNatClampNeg = 3 * l + i := nI_clamp (by omega)
  by_cases r0 : r = 0
  · refine ⟨k, fun P J h => ?_, fun P J h => ?_⟩
    · unfold wX_hear_67
      rw [rm_i3, ci]
      exact ⟨vi, br_t (h0.mpr r0) (nm_r (nI_1 i) h)⟩
    · refine ym_learned hS hB hP hV hl hi hr ?_
      rw [r0]
      exact br_t (by decide) (nm_r (nI_1 i) h)
  · refine ⟨k + 1, fun P J h => ?_, fun P J h => ?_⟩
    · unfold wX_hear_67
      rw [rm_i3, ci]
      exact ⟨vi, br_f (fun q => r0 (h0.mp q)) (nm_r (nI_1 k) (nm_r (nI_1 i) h))⟩
    · refine ym_learned hS hB hP hV hl hi hr ?_
      exact br_f (nI_nle (by omega) (by omega)) (nm_r (nI_1 k) (nm_r (nI_1 i) h))
theorem rh_lp {l n : Nat} (hS : rl_S QQ df tb le ls st nu) (hB : rl_B nb lc df so ba fa co) (hP : rl_P nb pk fr pi pj) (hl : l < 2) (hn : n < 7) : ∀ e i k (he : Nat → Nat) (lr : Nat → Int32), i + e = 3 → rl_V nb pk an ke pr vo vt he → rl_C QQ so pk vt he de ch lr →
    ∃ (k' : Nat) (he' : Nat → Nat) (lr' : Nat → Int32), rl_V nb pk an ke pr vo vt he' ∧ rl_C QQ so pk vt he' de ch lr' ∧ (∀ P : Int32 → SX → Prop, P (nI k') (fj, (nI nb), (nI lc), tb, df, sm, ju, le, ls, (nn_I so), (nn_I ba), (nn_I an), (nn_I fa), (nn_I co), pi, (nn_I fr), de, (nn_I ke), (nn_I up), (nn_I pr), op, (nn_I vo), ov, (nn_L Qs), qb, qi, qv, (nn_I vt), (nn_I he'), ch, lr') → wX_hear_33 P (nI l) (nI n) (e + 1) (nI k) (nI i) fj (nI nb) (nI lc) tb df sm ju le ls (nn_I so) (nn_I ba) (nn_I an) (nn_I fa) (nn_I co) pi (nn_I fr) de (nn_I ke) (nn_I up) (nn_I pr) op (nn_I vo) ov (nn_L Qs) qb qi qv (nn_I vt) (nn_I he) ch lr) ∧ ∀ P : Int32 → SY → Prop, P (nI k') ((nI nb), st, nu, (nn_I so), (nn_I ba), (nn_I an), pj, (nn_I ke), (nn_I fa), (nn_I co), (nn_I fr), dw, (nn_I pr), (nn_I vo), (nn_L Qs), rb, ri, rv, (nn_I vt), (nn_I he')) → wY_hear_35 P (nI l) (nI n) (nI nb) (e + 1) (nI k) (nI i) st nu (nn_I so) (nn_I ba) (nn_I an) pj (nn_I ke) (nn_I fa) (nn_I co) (nn_I fr) dw (nn_I pr) (nn_I vo) (nn_L Qs) rb ri rv (nn_I vt) (nn_I he) := by
  have hnb := hB.1
  intro e
  induction e with
  | zero =>
    intro i k he lr hi hV hC
    have hi : i = 3 := by omega
    subst hi
    exact ⟨k, he, lr, hV, hC, fun P h => br_t (by decide) h, fun P h => br_t (by decide) h⟩
  | succ e ih =>
    intro i k he lr hi hV hC
    have z : ¬ (3 : Int32) ≤ nI i := nI_ge (b := 3) (by omega) (by omega)
    have hi3 : i < 3 := by omega
    have hvo := hV.2.2.1 (3 * n + i)
    have vi : vp_in (nI (3 * n + i)) 21 := vp_in_nI (by omega) (by omega)
    have ci : (nI (3 * n + i)).toNatClampNeg = 3 * n + i := nI_clamp (by omega)
    rcases hV.1 n i hn hi3 with hz | ⟨b, v, e8, a1, a2, a3, a4, a5⟩
    · obtain ⟨k1, sX, sY⟩ := rh_67 (fj := fj) (nb := nb) (lc := lc) (tb := tb) (df := df) (sm := sm) (ju := ju) (le := le) (ls := ls) (pi := pi) (de := de) (op := op) (ov := ov) (qb := qb) (qi := qi) (qv := qv) (ch := ch) (lr := lr) (so := so) (ba := ba) (an := an) (fa := fa) (co := co) (fr := fr) (ke := ke) (up := up) (pr := pr) (vo := vo) (vt := vt) (he := he) (Qs := Qs) (st := st) (nu := nu) (pj := pj) (dw := dw) (rb := rb) (ri := ri) (rv := rv) (l := l) (n := n) (i := i) (k := k) hS hB hP hV hC hl hi3
      obtain ⟨k', he', lr', hV', hC', hX, hY⟩ := ih (i + 1) k1 he lr (by omega) hV hC
      have ez : nn_I vo (3 * n + i) = nI 0 := by rw [nn_Iap, hz]
      refine ⟨k', he', lr', hV', hC', fun P h => br_f z ?_, fun P h => br_f z ?_⟩
      · rw [rm_i3, ci]
        exact ⟨vi, nm_r ez (br_t (by decide) (sX _ _ (hX P h)))⟩
      · rw [rm_i3, ci]
        exact ⟨vi, nm_r ez (br_t (by decide) (sY _ _ (hY P h)))⟩
    · have hV1 := rh_V hV hl hn hi3 a1 a2 a3 a4 a5 hnb
      obtain ⟨lr1, hC1, nX⟩ := rh_note (fj := fj) (nb := nb) (lc := lc) (tb := tb) (df := df) (sm := sm) (ju := ju) (le := le) (ls := ls) (pi := pi) (de := de) (op := op) (ov := ov) (qb := qb) (qi := qi) (qv := qv) (ch := ch) (lr := lr) (so := so) (ba := ba) (an := an) (fa := fa) (co := co) (fr := fr) (ke := ke) (up := up) (pr := pr) (vo := vo) (vt := vt) (he := he) (Qs := Qs) (l := l) (n := n) (i := i) (b := b) (v := v) hS hB hP hV hC hl hn hi3 a1 a2 a3 a4
      obtain ⟨k1, sX, sY⟩ := rh_67 (fj := fj) (nb := nb) (lc := lc) (tb := tb) (df := df) (sm := sm) (ju := ju) (le := le) (ls := ls) (pi := pi) (de := de) (op := op) (ov := ov) (qb := qb) (qi := qi) (qv := qv) (ch := ch) (lr := lr1) (so := so) (ba := ba) (an := an) (fa := fa) (co := co) (fr := fr) (ke := ke) (up := up) (pr := pr) (vo := vo) (vt := vt) (he := nn_u he (312 * l + 24 * b + 8 * i + v) (he (312 * l + 24 * b + 8 * i + v) ||| 2 ^ n)) (Qs := Qs) (st := st) (nu := nu) (pj := pj) (dw := dw) (rb := rb) (ri := ri) (rv := rv) (l := l) (n := n) (i := i) (k := k) hS hB hP hV1 hC1 hl hi3
      obtain ⟨k', he', lr', hV', hC', hX, hY⟩ := ih (i + 1) k1 _ lr1 (by omega) hV1 hC1
      have ez : nn_I vo (3 * n + i) = nI (8 * b + v) := by rw [nn_Iap, e8]
      have np : ¬ nI (8 * b + v) ≤ 0 := nI_nle (by omega) (by omega)
      refine ⟨k', he', lr', hV', hC', fun P h => br_f z ?_, fun P h => br_f z ?_⟩
      · rw [rm_i3, ci]
        exact ⟨vi, nm_r ez (br_f np (nX _ (sX _ _ (hX P h))))⟩
      · rw [rm_i3, ci]
        refine ⟨vi, nm_r ez (br_f np ⟨yq_80, yq_80, ?_⟩)⟩
        have ed : nI (8 * b + v) / 8 = nI b := by rw [nn_d8 (by omega), show (8 * b + v) / 8 = b by omega]
        have er : nI (8 * b + v) - nI b * 8 = nI v := by
          rw [← ed, nn_r8 (by omega), show (8 * b + v) % 8 = v by omega]
        rw [ed, er, rm_i312, nI_clamp (by omega)]
        refine ⟨vp_in_nI (by omega) (by omega), vp_in_nI (by omega) (by omega), nm_r (e' := nn_I (nn_u he (312 * l + 24 * b + 8 * i + v) (he (312 * l + 24 * b + 8 * i + v) ||| 2 ^ n))) ?_ (sY _ _ (hY P h))⟩
        rw [nn_Iap, nn_shl (by omega), nn_or, nn_upd]
end hear
theorem rt_hear {nb : Nat} {u : SX} {v : SY} (R : rl_R nb u v) (a b : Int32) : rl_W nb u v (fun _ => False) (fun P => wpX_hear P u a b) (fun P => wpY_hear P v a b) := by
  refine rl_el (P := fun u v => rl_W nb u v (fun _ => False) (fun P => wpX_hear P u a b) (fun P => wpY_hear P v a b)) R ?_
  intro fj lc tb df sm ju le ls so ba an fa co pi fr de ke up pr op vo ov Qs qb qi qv vt he ch lr st nu pj dw rb ri rv QQ pk hS hB hP hV hQ hC
  have hnb := hB.1
  have R := rl_mk (fj := fj) (sm := sm) (ju := ju) hS hB hP hV hQ hC
  unfold rl_W wpX_hear wpY_hear
  dsimp only
  rcases nl_in (x := a) (n := 2) (m := 1) 2 (by decide) (by decide) with ⟨l, hl, e, xl, yl⟩ | ⟨xl, yl⟩
  · subst e
    rcases nl_in (x := b) (n := 7) (m := 6) 7 (by decide) (by decide) with ⟨n, hn, e, xn, yn⟩ | ⟨xn, yn⟩
    · subst e
      have ce : (nI n).toNatClampNeg = n := nI_clamp (by omega)
      have vi : vp_in (nI n) 7 := vp_in_nI hn (by omega)
      obtain ⟨q1, q2, _, _, _, _⟩ := hQ n hn
      rw [ce, q2]
      rcases (show up n = 0 ∨ up n = 1 by omega) with hu | hu
      · exact ⟨-1, _, _, R, fun q => q.elim, fun P h => xl _ (br_f nn_10 (xn _ (br_f nn_10 ⟨vi, br_t (by rw [nn_Iap, hu]; rfl) h⟩))), fun P h => yl _ (br_f nn_10 (yn _ (br_f nn_10 ⟨vi, br_f (by rw [hu]; decide) h⟩)))⟩
      · obtain ⟨k', he', lr', hV', hC', hX, hY⟩ := rh_lp (fj := fj) (nb := nb) (lc := lc) (tb := tb) (df := df) (sm := sm) (ju := ju) (le := le) (ls := ls) (pi := pi) (de := de) (op := op) (ov := ov) (qb := qb) (qi := qi) (qv := qv) (ch := ch) (so := so) (ba := ba) (an := an) (fa := fa) (co := co) (fr := fr) (ke := ke) (up := up) (pr := pr) (vo := vo) (vt := vt) (Qs := Qs) (st := st) (nu := nu) (pj := pj) (dw := dw) (rb := rb) (ri := ri) (rv := rv) (l := l) (n := n) hS hB hP hl hn 3 0 0 he lr (by omega) hV hC
        exact ⟨nI k', _, _, rl_mk (fj := fj) (sm := sm) (ju := ju) hS hB hP hV' hQ hC', fun q => q.elim, fun P h => xl _ (br_f nn_10 (xn _ (br_f nn_10 ⟨vi, br_f (by rw [nn_Iap, hu]; decide) ⟨4, hX P h⟩⟩))), fun P h => yl _ (br_f nn_10 (yn _ (br_f nn_10 ⟨vi, br_t (by rw [hu]; rfl) ⟨4, hY P h⟩⟩)))⟩
    · exact ⟨-1, _, _, R, fun q => q.elim, fun P h => xl _ (br_f nn_10 (xn _ (br_t rfl h))), fun P h => yl _ (br_f nn_10 (yn _ (br_t rfl h)))⟩
  · exact ⟨-1, _, _, R, fun q => q.elim, fun P h => xl _ (br_t rfl h), fun P h => yl _ (br_t rfl h)⟩
end
section
/-! settle and sync -/
def rl_sh (n m k : Nat) (f : Nat → Int32) : Nat → Int32 := fun j => if 6 * n ≤ j ∧ j < 6 * n + k then f (j + m) else f j
theorem rl_sh0 {n m : Nat} {f : Nat → Int32} : rl_sh n m 0 f = f := by
  funext j
  exact if_neg (by omega)
theorem rl_shi {n m k : Nat} {f : Nat → Int32} {y : Nat} (h : y < k) : rl_sh n m k f (6 * n + y) = f (6 * n + y + m) := if_pos (by omega)
theorem rl_sho {n m k : Nat} {f : Nat → Int32} {j : Nat} (h : j < 6 * n ∨ 6 * n + k ≤ j) : rl_sh n m k f j = f j := if_neg (by omega)
theorem rl_shs {n m k : Nat} {f : Nat → Int32} : upd (rl_sh n m k f) (6 * n + k) (f (6 * n + k + m)) = rl_sh n m (k + 1) f := by
  funext j
  by_cases e : j = 6 * n + k
  · rw [e, pk_us]; exact (if_pos (by omega)).symm
  · rw [pk_un e]
    unfold rl_sh
    by_cases c : 6 * n ≤ j ∧ j < 6 * n + k
    · rw [if_pos c, if_pos (by omega)]
    · rw [if_neg c, if_neg (by omega)]
theorem nn_uu {α : Type} {f : Nat → α} {k : Nat} {x y : α} : nn_u (nn_u f k x) k y = nn_u f k y := by
  funext j
  by_cases e : j = k
  · rw [e, nn_us, nn_us]
  · rw [nn_un e, nn_un e, nn_un e]
theorem nn_uself {α : Type} {f : Nat → α} {k : Nat} : nn_u f k (f k) = f := by
  funext j
  by_cases e : j = k
  · rw [e, nn_us]
  · rw [nn_un e]
theorem rl_tiv {i : Nat} (h : i ≤ 3) : vp_nar .byte (rl_ti i) = rl_ti i := by
  unfold rl_ti
  by_cases e : i = 3
  · rw [if_pos e]; exact nn_v8m1
  · rw [if_neg e]; exact nn_v8 (by omega)
/-- entries moved one place down for node n, the others as they were -/
def rl_mv (n len : Nat) (f g : Nat → Int32) : Prop := (∀ y, y < len → g (6 * n + y) = f (6 * n + (y + 1))) ∧ ∀ n' y, n' < 7 → n' ≠ n → y < 6 → g (6 * n' + y) = f (6 * n' + y)
theorem rl_mv1 {n len : Nat} {f : Nat → Int32} (h : len ≤ 6) : rl_mv n len f (rl_sh n 1 len f) :=
  ⟨fun y hy => by rw [rl_shi hy]; rfl, fun n' y _ h2 h3 => rl_sho (by omega)⟩
theorem rl_mvx {n len x : Nat} {f : Nat → Int32} (h : len < 6) : rl_mv n len (rl_sh n x 6 f) (rl_sh n (x + 1) 6 f) :=
  ⟨fun y hy => by rw [rl_shi (by omega), rl_shi (by omega)]; congr 1; omega, fun n' y _ h2 h3 => by rw [rl_sho (by omega), rl_sho (by omega)]⟩
theorem rl_Qpop {nb : Nat} {pk : Nat → Nat} {Qs : Nat → List (Nat × Nat × Nat)} {up : Nat → Nat} {dw : Nat → Int32} {pr vo vo1 : Nat → Nat} {op ov qb qi qv rb ri rv qb1 qi1 qv1 rb1 ri1 rv1 : Nat → Int32} {n b i v : Nat} {l : List (Nat × Nat × Nat)}
    (hQ : rl_Q nb pk Qs up dw pr vo op ov qb qi qv rb ri rv) (hn : n < 7) (hL : Qs n = (b, i, v) :: l)
    (hvo : ∀ n' i', n' < 7 → i' < 3 → vo1 (3 * n' + i') = if n' = n ∧ i = i' then 8 * b + v else vo (3 * n' + i'))
    (m1 : rl_mv n l.length qb qb1) (m2 : rl_mv n l.length qi qi1) (m3 : rl_mv n l.length qv qv1) (m4 : rl_mv n l.length rb rb1) (m5 : rl_mv n l.length ri ri1) (m6 : rl_mv n l.length rv rv1) :
    rl_Q nb pk (nn_u Qs n l) up dw (nn_u pr n b) vo1 op ov qb1 qi1 qv1 rb1 ri1 rv1 := by
  intro n' hn'
  obtain ⟨q1, q2, q3, q4, q5, q6⟩ := hQ n' hn'
  by_cases e : n' = n
  · subst e
    rw [show nn_u Qs n' l n' = l from nn_us]
    rw [hL] at q3 q4 q5 q6
    refine ⟨q1, q2, fun z => absurd (q3 z) (by simp), ⟨by have := q4.1; simp at this; omega, fun a ha => q4.2.1 a (List.mem_cons_of_mem _ ha), fun y hy => ?_⟩, ?_, fun j hj => ?_⟩
    · have := q4.2.2 (y + 1) (by simp; omega)
      rw [m1.1 y hy, m2.1 y hy, m3.1 y hy, m4.1 y hy, m5.1 y hy, m6.1 y hy]
      exact this
    · rw [q5, nn_us]; rfl
    · rw [q6 j hj, hvo n' j hn hj]
      show nI (rl_ov j (if i = j then 8 * b + v else vo (3 * n' + j)) l) = _
      by_cases c : i = j
      · rw [if_pos c, if_pos ⟨rfl, c⟩]
      · rw [if_neg c, if_neg (fun q => c q.2)]
  · rw [show nn_u Qs n l n' = Qs n' from nn_un e]
    have h6 := q4.1
    refine ⟨q1, q2, q3, ⟨q4.1, q4.2.1, fun y hy => ?_⟩, by rw [nn_un e]; exact q5, fun j hj => ?_⟩
    · rw [m1.2 n' y hn' e (by omega), m2.2 n' y hn' e (by omega), m3.2 n' y hn' e (by omega), m4.2 n' y hn' e (by omega), m5.2 n' y hn' e (by omega), m6.2 n' y hn' e (by omega)]
      exact q4.2.2 y hy
    · rw [q6 j hj, hvo n' j hn' hj, if_neg (fun q => e q.1)]
theorem rl_Qcg {nb : Nat} {pk : Nat → Nat} {Qs : Nat → List (Nat × Nat × Nat)} {up : Nat → Nat} {dw : Nat → Int32} {pr vo : Nat → Nat} {op ov qb qi qv rb ri rv qb1 qi1 qv1 : Nat → Int32}
    (hQ : rl_Q nb pk Qs up dw pr vo op ov qb qi qv rb ri rv) (h : ∀ n y, n < 7 → y < (Qs n).length → qb1 (6 * n + y) = qb (6 * n + y) ∧ qi1 (6 * n + y) = qi (6 * n + y) ∧ qv1 (6 * n + y) = qv (6 * n + y)) :
    rl_Q nb pk Qs up dw pr vo op ov qb1 qi1 qv1 rb ri rv := by
  intro n hn
  obtain ⟨q1, q2, q3, q4, q5, q6⟩ := hQ n hn
  refine ⟨q1, q2, q3, ⟨q4.1, q4.2.1, fun y hy => ?_⟩, q5, q6⟩
  have := h n y hn hy
  rw [this.1, this.2.1, this.2.2]
  exact q4.2.2 y hy
section sync
variable {fj : Int32} {nb lc : Nat} {tb df sm ju le ls pi de op ov qb qi qv ch lr : Nat → Int32} {so ba an fa co fr ke up pr vo vt he : Nat → Nat} {Qs : Nat → List (Nat × Nat × Nat)}
variable {st nu pj dw rb ri rv : Nat → Int32}
variable {QQ : Nat → Nat → Nat → Bool} {pk : Nat → Nat}
theorem ys_140 {P : SY → Prop} {n : Nat} {a : Nat × Nat × Nat} {l : List (Nat × Nat × Nat)} (hn : n < 7) (hL : Qs n = a :: l) (h6 : (Qs n).length ≤ 6)
    (h : P ((nI nb), st, nu, (nn_I so), (nn_I ba), (nn_I an), pj, (nn_I ke), (nn_I fa), (nn_I co), (nn_I fr), dw, (nn_I pr), (nn_I vo), (nn_L (nn_u Qs n l)), (rl_sh n 1 l.length rb), (rl_sh n 1 l.length ri), (rl_sh n 1 l.length rv), (nn_I vt), (nn_I he))) : wY_settle_140 P (nI n) (nI nb) st nu (nn_I so) (nn_I ba) (nn_I an) pj (nn_I ke) (nn_I fa) (nn_I co) (nn_I fr) dw (nn_I pr) (nn_I vo) (nn_L Qs) rb ri rv (nn_I vt) (nn_I he) := by
  have ce : (nI n).toNatClampNeg = n := nI_clamp (by omega)
  have hl : (Qs n).length = l.length + 1 := by rw [hL]; rfl
  have key : ∀ e k, k + e = l.length → wY_settle_156 P (nI n) (nI nb) (e + 1) (nI (6 * n + k)) st nu (nn_I so) (nn_I ba) (nn_I an) pj (nn_I ke) (nn_I fa) (nn_I co) (nn_I fr) dw (nn_I pr) (nn_I vo) (nn_L (nn_u Qs n l)) (rl_sh n 1 k rb) (rl_sh n 1 k ri) (rl_sh n 1 k rv) (nn_I vt) (nn_I he) := by
    intro e
    induction e with
    | zero =>
      intro k hk
      refine ⟨vp_in_nI hn (by omega), ?_⟩
      rw [ce, nn_Lap, nn_us]
      refine pk_le (6 * n + l.length) (6 * n + k) (fun z => ?_) (fun z => by omega) (hx := by rw [nn_m6, nI_add])
      rw [show k = l.length by omega]
      exact h
    | succ e ih =>
      intro k hk
      refine ⟨vp_in_nI hn (by omega), ?_⟩
      rw [ce, nn_Lap, nn_us, nI_1]
      have c1 : (nI (6 * n + k)).toNatClampNeg = 6 * n + k := nI_clamp (by omega)
      have c2 : (nI (6 * n + k + 1)).toNatClampNeg = 6 * n + k + 1 := nI_clamp (by omega)
      rw [c1, c2, rl_sho (by omega), rl_sho (by omega), rl_sho (by omega), rl_shs, rl_shs, rl_shs]
      refine pk_le (6 * n + l.length) (6 * n + k) (fun z => by omega) (fun z => ⟨vp_in_nI (by omega) (by omega), vp_in_nI (by omega) (by omega), nm_e ⟨vp_in_nI (by omega) (by omega), vp_in_nI (by omega) (by omega), nm_e ⟨vp_in_nI (by omega) (by omega), vp_in_nI (by omega) (by omega), nm_e (nm_e (ih (k + 1) (by omega)))⟩⟩⟩) (hx := by rw [nn_m6, nI_add])
  refine ⟨vp_in_nI hn (by omega), vp_in_nI hn (by omega), nm_r (e' := nn_L (nn_u Qs n l)) ?_ (nm_r (nn_m6 n) ⟨l.length + 1, ?_⟩)⟩
  · rw [ce, nn_Lap, hl, nI_pred]
    exact nn_updL rfl
  · have := key l.length 0 (by omega)
    rw [rl_sh0, rl_sh0, rl_sh0] at this
    exact this
theorem rs_V3 {n b : Nat} (hB : rl_B nb lc df so ba fa co) (hV : rl_V nb pk an ke pr vo vt he) (hn : n < 7) (h1 : 1 ≤ b) (hb : b ≤ nb) : rl_V nb pk (nn_u an b (an b ||| 2 ^ n)) (nn_u (nn_u (nn_u ke (21 * b + 3 * n + 0) (vo (3 * n + 0))) (21 * b + 3 * n + 1) (vo (3 * n + 1))) (21 * b + 3 * n + 2) (vo (3 * n + 2))) (nn_u pr n b) vo vt he := by
  have hnb := hB.1
  obtain ⟨v1, v2, v3, v4, v5, v6, v7, v8, v9, v10⟩ := hV
  refine ⟨v1, fun b' n' i' a1 a2 => ?_, v3, fun j => ?_, fun j => ?_, v6, v7, fun j => ?_, v9, v10⟩
  · by_cases e2 : 21 * b' + 3 * n' + i' = 21 * b + 3 * n + 2
    · rw [e2, nn_us, show i' = 2 by omega]; exact v1 n 2 hn (by omega)
    · rw [nn_un e2]
      by_cases e1 : 21 * b' + 3 * n' + i' = 21 * b + 3 * n + 1
      · rw [e1, nn_us, show i' = 1 by omega]; exact v1 n 1 hn (by omega)
      · rw [nn_un e1]
        by_cases e0 : 21 * b' + 3 * n' + i' = 21 * b + 3 * n + 0
        · rw [e0, nn_us, show i' = 0 by omega]; exact v1 n 0 hn (by omega)
        · rw [nn_un e0]; exact v2 b' n' i' a1 a2
  · by_cases e2 : j = 21 * b + 3 * n + 2
    · rw [e2, nn_us]; exact v3 _
    · rw [nn_un e2]
      by_cases e1 : j = 21 * b + 3 * n + 1
      · rw [e1, nn_us]; exact v3 _
      · rw [nn_un e1]
        by_cases e0 : j = 21 * b + 3 * n + 0
        · rw [e0, nn_us]; exact v3 _
        · rw [nn_un e0]; exact v4 j
  · by_cases e : j = b
    · rw [e, nn_us]; exact qq_lor (v5 b) (qq_2l n hn)
    · rw [nn_un e]; exact v5 j
  · by_cases e : j = n
    · rw [e, nn_us]; omega
    · rw [nn_un e]; exact v8 j
theorem rs_Vv {n b i v : Nat} (hB : rl_B nb lc df so ba fa co) (hV : rl_V nb pk an ke pr vo vt he) (hn : n < 7) (hi : i < 3) (h1 : 1 ≤ b) (hb : b ≤ nb) (hv1 : 1 ≤ v) (hv : v ≤ 7) (hcm : rl_cm pk b i v) : rl_V nb pk an ke (nn_u pr n b) (nn_u vo (3 * n + i) (8 * b + v)) (nn_u vt (24 * b + 8 * i + v) (vt (24 * b + 8 * i + v) ||| 2 ^ n)) he := by
  have hnb := hB.1
  obtain ⟨v1, v2, v3, v4, v5, v6, v7, v8, v9, v10⟩ := hV
  refine ⟨fun n' i' a1 a2 => ?_, v2, fun j => ?_, v4, v5, fun j => ?_, v7, fun j => ?_, fun b' i' v' a1 a2 a3 => ?_, v10⟩
  · by_cases e : 3 * n' + i' = 3 * n + i
    · rw [e, nn_us, show i' = i by omega]; exact Or.inr ⟨b, v, rfl, h1, hb, hv1, hv, hcm⟩
    · rw [nn_un e]; exact v1 n' i' a1 a2
  · by_cases e : j = 3 * n + i
    · rw [e, nn_us]; omega
    · rw [nn_un e]; exact v3 j
  · by_cases e : j = 24 * b + 8 * i + v
    · rw [e, nn_us]; exact qq_lor (v6 _) (qq_2l n hn)
    · rw [nn_un e]; exact v6 j
  · by_cases e : j = n
    · rw [e, nn_us]; omega
    · rw [nn_un e]; exact v8 j
  · by_cases e : 24 * b' + 8 * i' + v' = 24 * b + 8 * i + v
    · have e1 : b' = b := by omega
      have e2 : i' = i := by omega
      have e3 : v' = v := by omega
      rw [e1, e2, e3]
      exact fun _ => ⟨h1, hb, hv1, hcm⟩
    · rw [nn_un e]; exact v9 b' i' v' a1 a2 a3
theorem rs_C {n b i v : Nat} (hS : rl_S QQ df tb le ls st nu) (hB : rl_B nb lc df so ba fa co) (hV : rl_V nb pk an ke pr vo vt he) (hC : rl_C QQ so pk vt he de ch lr) (hn : n < 7) (hi : i < 3) (h1 : 1 ≤ b) (hb : b ≤ nb) (hv1 : 1 ≤ v) (hv : v ≤ 7) :
    (rl_en QQ so pk b i (vt (24 * b + 8 * i + v) ||| 2 ^ n) → rl_C QQ so pk (nn_u vt (24 * b + 8 * i + v) (vt (24 * b + 8 * i + v) ||| 2 ^ n)) he (upd de (3 * b + i) 1) (upd ch i (vp_nar .short ((ch i ||| ((1 : Int32) <<< (nI v &&& 31))).toInt16.toInt32))) lr) ∧ (¬ rl_en QQ so pk b i (vt (24 * b + 8 * i + v) ||| 2 ^ n) → rl_C QQ so pk (nn_u vt (24 * b + 8 * i + v) (vt (24 * b + 8 * i + v) ||| 2 ^ n)) he de ch lr) := by
  have hnb := hB.1
  have hvt := hV.2.2.2.2.2.1 (24 * b + 8 * i + v)
  have hor : vt (24 * b + 8 * i + v) ||| 2 ^ n < 128 := qq_lor hvt (qq_2l n hn)
  have hmo : rl_en QQ so pk b i (vt (24 * b + 8 * i + v)) → rl_en QQ so pk b i (vt (24 * b + 8 * i + v) ||| 2 ^ n) := fun q => rf_moV hS hB h1 hb hvt hor (rh_sub _ _) q
  have bup : ∀ w, w < 8 → ((∃ b', b' ≤ 12 ∧ nn_u vt (24 * b + 8 * i + v) (vt (24 * b + 8 * i + v) ||| 2 ^ n) (24 * b' + 8 * i + w) ≠ 0 ∧ rl_en QQ so pk b' i (nn_u vt (24 * b + 8 * i + v) (vt (24 * b + 8 * i + v) ||| 2 ^ n) (24 * b' + 8 * i + w))) ↔ ((∃ b', b' ≤ 12 ∧ vt (24 * b' + 8 * i + w) ≠ 0 ∧ rl_en QQ so pk b' i (vt (24 * b' + 8 * i + w))) ∨ (w = v ∧ rl_en QQ so pk b i (vt (24 * b + 8 * i + v) ||| 2 ^ n)))) := fun w hw => by
    have := rl_bup (f := fun b' w' => vt (24 * b' + 8 * i + w')) (f1 := fun b' w' => nn_u vt (24 * b + 8 * i + v) (vt (24 * b + 8 * i + v) ||| 2 ^ n) (24 * b' + 8 * i + w')) (en := fun b' t => rl_en QQ so pk b' i t) (b0 := b) (v0 := v) (by omega) (fun b' w' h8 q => nn_un (fun e => q (by omega))) (by rw [nn_us]; exact rh_or0 hn) (fun q => by rw [nn_us]; exact hmo q) w hw
    rw [nn_us] at this
    exact this
  have oth : ∀ i' b' w, i' < 3 → w < 8 → ¬ (i' = i ∧ b' = b ∧ w = v) → nn_u vt (24 * b + 8 * i + v) (vt (24 * b + 8 * i + v) ||| 2 ^ n) (24 * b' + 8 * i' + w) = vt (24 * b' + 8 * i' + w) := fun i' b' w a2 a3 q => nn_un (fun e => q (by omega))
  have dec : ∀ b' i', i' < 3 → ((∃ w, w < 8 ∧ nn_u vt (24 * b + 8 * i + v) (vt (24 * b + 8 * i + v) ||| 2 ^ n) (24 * b' + 8 * i' + w) ≠ 0 ∧ rl_en QQ so pk b' i' (nn_u vt (24 * b + 8 * i + v) (vt (24 * b + 8 * i + v) ||| 2 ^ n) (24 * b' + 8 * i' + w))) ↔ ((∃ w, w < 8 ∧ vt (24 * b' + 8 * i' + w) ≠ 0 ∧ rl_en QQ so pk b' i' (vt (24 * b' + 8 * i' + w))) ∨ (b' = b ∧ i' = i ∧ rl_en QQ so pk b i (vt (24 * b + 8 * i + v) ||| 2 ^ n)))) := fun b' i' hi' => by
    constructor
    · rintro ⟨w, a1, a2, a3⟩
      by_cases e : i' = i ∧ b' = b ∧ w = v
      · obtain ⟨e1, e2, e3⟩ := e
        subst e1; subst e2; subst e3
        rw [nn_us] at a3
        exact Or.inr ⟨rfl, rfl, a3⟩
      · rw [oth i' b' w hi' a1 e] at a2 a3
        exact Or.inl ⟨w, a1, a2, a3⟩
    · rintro (⟨w, a1, a2, a3⟩ | ⟨e1, e2, a3⟩)
      · by_cases e : i' = i ∧ b' = b ∧ w = v
        · obtain ⟨e1, e2, e3⟩ := e
          subst e1; subst e2; subst e3
          exact ⟨w, a1, by rw [nn_us]; exact rh_or0 hn, by rw [nn_us]; exact hmo a3⟩
        · exact ⟨w, a1, by rw [oth i' b' w hi' a1 e]; exact a2, by rw [oth i' b' w hi' a1 e]; exact a3⟩
      · subst e1; subst e2
        exact ⟨v, by omega, by rw [nn_us]; exact rh_or0 hn, by rw [nn_us]; exact a3⟩
  have chO : ∀ i', i' < 3 → i' ≠ i → rl_bits (ch i') (fun w => ∃ b', b' ≤ 12 ∧ nn_u vt (24 * b + 8 * i + v) (vt (24 * b + 8 * i + v) ||| 2 ^ n) (24 * b' + 8 * i' + w) ≠ 0 ∧ rl_en QQ so pk b' i' (nn_u vt (24 * b + 8 * i + v) (vt (24 * b + 8 * i + v) ||| 2 ^ n) (24 * b' + 8 * i' + w))) := fun i' hi' e => by
    refine rl_bc (hC.2.1 i' hi') fun w a1 a2 => ⟨fun ⟨b', c1, c2, c3⟩ => ⟨b', c1, ?_, ?_⟩, fun ⟨b', c1, c2, c3⟩ => ⟨b', c1, ?_, ?_⟩⟩
    · rw [oth i' b' w hi' a2 (fun q => e q.1)]; exact c2
    · rw [oth i' b' w hi' a2 (fun q => e q.1)]; exact c3
    · rw [oth i' b' w hi' a2 (fun q => e q.1)] at c2; exact c2
    · rw [oth i' b' w hi' a2 (fun q => e q.1)] at c3; exact c3
  refine ⟨fun hen => ⟨fun b' i' hb' hi' => ?_, fun i' hi' => ?_, hC.2.2⟩, fun hen => ⟨fun b' i' hb' hi' => ?_, fun i' hi' => ?_, hC.2.2⟩⟩
  · by_cases e : 3 * b' + i' = 3 * b + i
    · rw [e, pk_us, nn_bt ((dec b' i' hi').mpr (Or.inr ⟨by omega, by omega, hen⟩))]
    · rw [pk_un e, hC.1 b' i' hb' hi']
      exact nn_bc ((dec b' i' hi').trans ⟨fun q => q.elim id (fun z => absurd (show 3 * b' + i' = 3 * b + i by omega) e), Or.inl⟩).symm
  · by_cases e : i' = i
    · subst e
      rw [pk_us]
      exact rl_bset (hC.2.1 i' hi') hv1 (by omega) (fun w a1 a2 => (bup w a2).trans ⟨fun q => q.imp_right And.left, fun q => q.imp_right (fun z => ⟨z, hen⟩)⟩)
    · rw [pk_un e]; exact chO i' hi' e
  · rw [hC.1 b' i' hb' hi']
    exact nn_bc ((dec b' i' hi').trans ⟨fun q => q.elim id (fun z => absurd z.2.2 hen), Or.inl⟩).symm
  · by_cases e : i' = i
    · subst e
      exact rl_bc (hC.2.1 i' hi') (fun w a1 a2 => ((bup w a2).trans ⟨fun q => q.elim id (fun z => absurd z.2 hen), Or.inl⟩).symm)
    · exact chO i' hi' e
theorem rs_core {n b i v : Nat} (hS : rl_S QQ df tb le ls st nu) (hB : rl_B nb lc df so ba fa co) (hP : rl_P nb pk fr pi pj) (hV : rl_V nb pk an ke pr vo vt he) (hC : rl_C QQ so pk vt he de ch lr) (hn : n < 7) (hr : rl_rk nb pk (b, i, v)) : ∃ (an1 ke1 vo1 vt1 : Nat → Nat) (de1 ch1 : Nat → Int32), rl_V nb pk an1 ke1 (nn_u pr n b) vo1 vt1 he ∧ rl_C QQ so pk vt1 he de1 ch1 lr ∧
    (∀ n' i', n' < 7 → i' < 3 → vo1 (3 * n' + i') = if n' = n ∧ i = i' then 8 * b + v else vo (3 * n' + i')) ∧
    (∀ (qux qbx qix qvx : Nat → Int32) (P : SX → Prop), P (fj, (nI nb), (nI lc), tb, df, sm, ju, le, ls, (nn_I so), (nn_I ba), (nn_I an1), (nn_I fa), (nn_I co), pi, (nn_I fr), de1, (nn_I ke1), (nn_I up), (nn_I (nn_u pr n b)), op, (nn_I vo1), ov, qux, qbx, qix, qvx, (nn_I vt1), (nn_I he), ch1, lr) → wpX_settle P (fj, (nI nb), (nI lc), tb, df, sm, ju, le, ls, (nn_I so), (nn_I ba), (nn_I an), (nn_I fa), (nn_I co), pi, (nn_I fr), de, (nn_I ke), (nn_I up), (nn_I pr), op, (nn_I vo), ov, qux, qbx, qix, qvx, (nn_I vt), (nn_I he), ch, lr) (nI n) (nI b) (rl_ti i) (nI v)) ∧
    ∀ P : SY → Prop, rb (6 * n) = nI b → ri (6 * n) = nI i → rv (6 * n) = nI v → wY_settle_140 P (nI n) (nI nb) st nu (nn_I so) (nn_I ba) (nn_I an1) pj (nn_I ke1) (nn_I fa) (nn_I co) (nn_I fr) dw (nn_I (nn_u pr n b)) (nn_I vo1) (nn_L Qs) rb ri rv (nn_I vt1) (nn_I he) → wpY_settle P ((nI nb), st, nu, (nn_I so), (nn_I ba), (nn_I an), pj, (nn_I ke), (nn_I fa), (nn_I co), (nn_I fr), dw, (nn_I pr), (nn_I vo), (nn_L Qs), rb, ri, rv, (nn_I vt), (nn_I he)) (nI n) := by
  have hnb := hB.1
  obtain ⟨h1, hb, hc⟩ := hr
  have h1 : 1 ≤ b := h1
  have hb : b ≤ nb := hb
  have ce : (nI n).toNatClampNeg = n := nI_clamp (by omega)
  have vi : vp_in (nI n) 7 := vp_in_nI hn (by omega)
  have cb : (nI b).toNatClampNeg = b := nI_clamp (by omega)
  have vb : vp_in (nI b) 13 := vp_in_nI (by omega) (by omega)
  have c6 : ((6 : Int32) * nI n).toNatClampNeg = 6 * n := by rw [nn_m6]; exact nI_clamp (by omega)
  have v6 : vp_in ((6 : Int32) * nI n) 42 := by rw [nn_m6]; exact vp_in_nI (by omega) (by omega)
  have epr : upd (nn_I pr) n (nI b) = nn_I (nn_u pr n b) := nn_upd
  have en : ∀ x, nI x ||| ((1 : Int32) <<< (nI n &&& 31)) = nI (x ||| 2 ^ n) := fun x => by rw [nn_shl (by omega), nn_or]
  rcases hc with ⟨e3, e0⟩ | ⟨hi, hv1, hv, hcm⟩
  · have e3 : i = 3 := e3
    have e0 : v = 0 := e0
    subst e3; subst e0
    have han := hV.2.2.2.2.1 b
    have hor : an b ||| 2 ^ n < 128 := qq_lor han (qq_2l n hn)
    have hvo := hV.2.2.1
    have ix : ∀ j : Nat, j < 3 → ((21 : Int32) * nI b + 3 * nI n) + nI j = nI (21 * b + 3 * n + j) := fun j _ => rm_i21 b n j
    have cx : ∀ j : Nat, j < 3 → (nI (21 * b + 3 * n + j)).toNatClampNeg = 21 * b + 3 * n + j := fun j _ => nI_clamp (by omega)
    have vx : ∀ j : Nat, j < 3 → vp_in (nI (21 * b + 3 * n + j)) 273 := fun j _ => vp_in_nI (by omega) (by omega)
    have cw : ∀ j : Nat, j < 3 → (nI (3 * n + j)).toNatClampNeg = 3 * n + j := fun j _ => nI_clamp (by omega)
    have vw : ∀ j : Nat, j < 3 → vp_in (nI (3 * n + j)) 21 := fun j _ => vp_in_nI (by omega) (by omega)
    refine ⟨_, _, vo, vt, de, ch, rs_V3 hB hV hn h1 hb, hC, fun n' i' a1 a2 => (if_neg (fun q => by have := q.2; omega)).symm, fun qux qbx qix qvx P h => ?_, fun P r1 r2 r3 h => ?_⟩
    · unfold wpX_settle
      dsimp only
      rw [ce, cb, nn_v8b (show b < 128 by omega), epr, nn_Iap an b, en, nn_v8b hor, nn_upd]
      refine ⟨vi, nm_e (br_f (by decide) ⟨vb, vb, nm_e ⟨4, ?_⟩⟩)⟩
      refine br_f (by decide) ?_
      rw [show (0 : Int32) = nI 0 from rfl, rm_i3, ix 0 (by omega), cx 0 (by omega), cw 0 (by omega), nn_Iap, nn_v8 (hvo _), nn_upd]
      refine ⟨vw 0 (by omega), vx 0 (by omega), nm_e (nm_r (nI_1 0) (br_f (by decide) ?_))⟩
      rw [rm_i3, ix 1 (by omega), cx 1 (by omega), cw 1 (by omega), nn_Iap, nn_v8 (hvo _), nn_upd]
      refine ⟨vw 1 (by omega), vx 1 (by omega), nm_e (nm_r (nI_1 1) (br_f (by decide) ?_))⟩
      rw [rm_i3, ix 2 (by omega), cx 2 (by omega), cw 2 (by omega), nn_Iap, nn_v8 (hvo _), nn_upd]
      exact ⟨vw 2 (by omega), vx 2 (by omega), nm_e (nm_r (nI_1 2) (br_t (by decide) h))⟩
    · unfold wpY_settle
      dsimp only
      rw [c6, r1, r2, r3]
      refine ⟨v6, nm_e ⟨v6, nm_e ⟨v6, nm_e ⟨vi, ?_⟩⟩⟩⟩
      rw [ce, cb, epr, nn_Iap an b, en, nn_upd]
      refine nm_e (br_t (by decide) ⟨vb, vb, nm_e ⟨4, ?_⟩⟩)
      refine br_f (by decide) ?_
      rw [show (0 : Int32) = nI 0 from rfl, rm_i3, ix 0 (by omega), cx 0 (by omega), cw 0 (by omega), nn_Iap, nn_upd]
      refine ⟨vw 0 (by omega), vx 0 (by omega), nm_e (nm_r (nI_1 0) (br_f (by decide) ?_))⟩
      rw [rm_i3, ix 1 (by omega), cx 1 (by omega), cw 1 (by omega), nn_Iap, nn_upd]
      refine ⟨vw 1 (by omega), vx 1 (by omega), nm_e (nm_r (nI_1 1) (br_f (by decide) ?_))⟩
      rw [rm_i3, ix 2 (by omega), cx 2 (by omega), cw 2 (by omega), nn_Iap, nn_upd]
      exact ⟨vw 2 (by omega), vx 2 (by omega), nm_e (nm_r (nI_1 2) (br_t (by decide) h))⟩
  · have hi : i < 3 := hi
    have hv1 : 1 ≤ v := hv1
    have hv : v ≤ 7 := hv
    have hcm : rl_cm pk b i v := hcm
    have hvt := hV.2.2.2.2.2.1 (24 * b + 8 * i + v)
    have hor : vt (24 * b + 8 * i + v) ||| 2 ^ n < 128 := qq_lor hvt (qq_2l n hn)
    have eti : rl_ti i = nI i := if_neg (by omega)
    have cvi : (nI (3 * n + i)).toNatClampNeg = 3 * n + i := nI_clamp (by omega)
    have ctt : (nI (24 * b + 8 * i + v)).toNatClampNeg = 24 * b + 8 * i + v := nI_clamp (by omega)
    have vtt : vp_in (nI (24 * b + 8 * i + v)) 312 := vp_in_nI (by omega) (by omega)
    have vvi : vp_in (nI (3 * n + i)) 21 := vp_in_nI (by omega) (by omega)
    have e8 : (8 : Int32) * nI b + nI v = nI (8 * b + v) := by rw [nn_m8, nI_add]
    have hvo1 : ∀ n' i', n' < 7 → i' < 3 → nn_u vo (3 * n + i) (8 * b + v) (3 * n' + i') = if n' = n ∧ i = i' then 8 * b + v else vo (3 * n' + i') := fun n' i' a1 a2 => by
      by_cases e : n' = n ∧ i = i'
      · rw [if_pos e, ← e.2, e.1, nn_us]
      · rw [if_neg e, nn_un (fun q => e (by omega))]
    have yw : ∀ P : SY → Prop, rb (6 * n) = nI b → ri (6 * n) = nI i → rv (6 * n) = nI v → wY_settle_140 P (nI n) (nI nb) st nu (nn_I so) (nn_I ba) (nn_I an) pj (nn_I ke) (nn_I fa) (nn_I co) (nn_I fr) dw (nn_I (nn_u pr n b)) (nn_I (nn_u vo (3 * n + i) (8 * b + v))) (nn_L Qs) rb ri rv (nn_I (nn_u vt (24 * b + 8 * i + v) (vt (24 * b + 8 * i + v) ||| 2 ^ n))) (nn_I he) → wpY_settle P ((nI nb), st, nu, (nn_I so), (nn_I ba), (nn_I an), pj, (nn_I ke), (nn_I fa), (nn_I co), (nn_I fr), dw, (nn_I pr), (nn_I vo), (nn_L Qs), rb, ri, rv, (nn_I vt), (nn_I he)) (nI n) := fun P r1 r2 r3 h => by
      unfold wpY_settle
      dsimp only
      rw [c6, r1, r2, r3]
      refine ⟨v6, nm_e ⟨v6, nm_e ⟨v6, nm_e ⟨vi, ?_⟩⟩⟩⟩
      rw [ce, epr, rm_i3, rm_i24, e8, cvi, ctt, nn_Iap vt, en, nn_upd, nn_upd]
      exact nm_e (br_f (nI_ge (b := 3) hi (by omega)) ⟨vvi, nm_e ⟨vtt, vtt, nm_e h⟩⟩)
    have xw : ∀ (qux qbx qix qvx : Nat → Int32) (P : SX → Prop), (rl_en QQ so pk b i (vt (24 * b + 8 * i + v) ||| 2 ^ n) → P (fj, (nI nb), (nI lc), tb, df, sm, ju, le, ls, (nn_I so), (nn_I ba), (nn_I an), (nn_I fa), (nn_I co), pi, (nn_I fr), (upd de (3 * b + i) 1), (nn_I ke), (nn_I up), (nn_I (nn_u pr n b)), op, (nn_I (nn_u vo (3 * n + i) (8 * b + v))), ov, qux, qbx, qix, qvx, (nn_I (nn_u vt (24 * b + 8 * i + v) (vt (24 * b + 8 * i + v) ||| 2 ^ n))), (nn_I he), (upd ch i (vp_nar .short ((ch i ||| ((1 : Int32) <<< (nI v &&& 31))).toInt16.toInt32))), lr)) → (¬ rl_en QQ so pk b i (vt (24 * b + 8 * i + v) ||| 2 ^ n) → P (fj, (nI nb), (nI lc), tb, df, sm, ju, le, ls, (nn_I so), (nn_I ba), (nn_I an), (nn_I fa), (nn_I co), pi, (nn_I fr), de, (nn_I ke), (nn_I up), (nn_I (nn_u pr n b)), op, (nn_I (nn_u vo (3 * n + i) (8 * b + v))), ov, qux, qbx, qix, qvx, (nn_I (nn_u vt (24 * b + 8 * i + v) (vt (24 * b + 8 * i + v) ||| 2 ^ n))), (nn_I he), ch, lr)) → wpX_settle P (fj, (nI nb), (nI lc), tb, df, sm, ju, le, ls, (nn_I so), (nn_I ba), (nn_I an), (nn_I fa), (nn_I co), pi, (nn_I fr), de, (nn_I ke), (nn_I up), (nn_I pr), op, (nn_I vo), ov, qux, qbx, qix, qvx, (nn_I vt), (nn_I he), ch, lr) (nI n) (nI b) (rl_ti i) (nI v) := fun qux qbx qix qvx P g1 g0 => by
      rw [eti]
      unfold wpX_settle
      dsimp only
      rw [ce, nn_v8b (show b < 128 by omega), epr, rm_i3, rm_i24, e8, cvi, nn_v8b (show 8 * b + v < 128 by omega), nn_upd]
      refine ⟨vi, nm_e (br_t (nI_pos' (by omega)) ⟨vvi, nm_e (nm_e ⟨vtt, vtt, ?_⟩)⟩)⟩
      rw [ctt, nn_Iap vt, en, nn_v8b hor, nn_upd]
      refine nm_e ⟨vtt, ?_⟩
      rw [nn_Iap, nn_us]
      have cq := nI_clamp (n := i) (by omega)
      have key : ∀ (Z : Int32 → Prop), Z (nn_b (rl_en QQ so pk b i (vt (24 * b + 8 * i + v) ||| 2 ^ n))) → wpX_isEnough Z (fj, (nI nb), (nI lc), tb, df, sm, ju, le, ls, (nn_I so), (nn_I ba), (nn_I an), (nn_I fa), (nn_I co), pi, (nn_I fr), de, (nn_I ke), (nn_I up), (nn_I (nn_u pr n b)), op, (nn_I (nn_u vo (3 * n + i) (8 * b + v))), ov, qux, qbx, qix, qvx, (nn_I (nn_u vt (24 * b + 8 * i + v) (vt (24 * b + 8 * i + v) ||| 2 ^ n))), (nn_I he), ch, lr) (nI b) (nI i) (nI (vt (24 * b + 8 * i + v) ||| 2 ^ n)) := fun Z hZ => by
        have hd := hB.2.2.1 b h1 hb
        have hs4 := hB.2.1 b
        have hTb := (rl_Sd hS hs4 hd).2.2.1
        have hpp := hP.1 (3 * b + i) (by omega)
        have h8 := hP.2.1 (3 * b + i)
        unfold wpX_isEnough
        dsimp only
        rw [rm_i3, nI_clamp (by omega), nI_clamp (by omega), hpp.1]
        unfold rl_en at hZ
        refine ⟨vp_in_nI (by omega) (by omega), vp_in_nI (by omega) (by omega), br_c (fun z => ?_) (fun z => ?_)⟩
        · rw [if_pos ((nn_p3a h8).mp z)] at hZ
          exact xq_R (k := 2) (by omega) (by omega) hor (hTb 2 _ (by omega) hor) ⟨nn_bn _, hZ⟩
        · rw [if_neg (fun q => z ((nn_p3a h8).mpr q))] at hZ
          exact xq_R (k := 1) (by omega) (by omega) hor (hTb 1 _ (by omega) hor) ⟨nn_bn _, hZ⟩
      refine key _ (nn_br g0 (fun q => ?_))
      rw [cq, rm_i3, nI_clamp (by omega), nn_vb1]
      exact ⟨vp_in_nI hi (by omega), vp_in_nI hi (by omega), nm_e ⟨vp_in_nI (by omega) (by omega), nm_e (g1 q)⟩⟩
    have cc := rs_C hS hB hV hC hn hi h1 hb hv1 hv
    by_cases hen : rl_en QQ so pk b i (vt (24 * b + 8 * i + v) ||| 2 ^ n)
    · exact ⟨an, ke, _, _, _, _, rs_Vv hB hV hn hi h1 hb hv1 hv hcm, cc.1 hen, hvo1, fun qux qbx qix qvx P h => xw qux qbx qix qvx P (fun _ => h) (fun q => absurd hen q), yw⟩
    · exact ⟨an, ke, _, _, de, ch, rs_Vv hB hV hn hi h1 hb hv1 hv hcm, cc.2 hen, hvo1, fun qux qbx qix qvx P h => xw qux qbx qix qvx P (fun q => absurd q hen) (fun _ => h), yw⟩
end sync
end
section
/-! sync -/
section sync2
variable {fj : Int32} {nb lc : Nat} {tb df sm ju le ls pi de op ov qb qi qv ch lr : Nat → Int32} {so ba an fa co fr ke up pr vo vt he : Nat → Nat} {Qs : Nat → List (Nat × Nat × Nat)}
variable {st nu pj dw rb ri rv : Nat → Int32}
variable {QQ : Nat → Nat → Nat → Bool} {pk : Nat → Nat}
theorem rs_one {n b i v x : Nat} {l : List (Nat × Nat × Nat)} {Q0 : Nat → List (Nat × Nat × Nat)} (hS : rl_S QQ df tb le ls st nu) (hB : rl_B nb lc df so ba fa co) (hP : rl_P nb pk fr pi pj) (hV : rl_V nb pk an ke pr vo vt he) (hC : rl_C QQ so pk vt he de ch lr) (hQ : rl_Q nb pk Qs up dw pr vo op ov (rl_sh n x 6 qb) (rl_sh n x 6 qi) (rl_sh n x 6 qv) rb ri rv) (hn : n < 7) (hL : Qs n = (b, i, v) :: l) :
    ∃ (an1 ke1 vo1 vt1 : Nat → Nat) (de1 ch1 : Nat → Int32), rl_V nb pk an1 ke1 (nn_u pr n b) vo1 vt1 he ∧ rl_C QQ so pk vt1 he de1 ch1 lr ∧
      rl_Q nb pk (nn_u Qs n l) up dw (nn_u pr n b) vo1 op ov (rl_sh n (x + 1) 6 qb) (rl_sh n (x + 1) 6 qi) (rl_sh n (x + 1) 6 qv) (rl_sh n 1 l.length rb) (rl_sh n 1 l.length ri) (rl_sh n 1 l.length rv) ∧
      (qb (6 * n + x) = nI b ∧ qi (6 * n + x) = rl_ti i ∧ qv (6 * n + x) = nI v) ∧
      (∀ P : SX → Prop, P (fj, (nI nb), (nI lc), tb, df, sm, ju, le, ls, (nn_I so), (nn_I ba), (nn_I an1), (nn_I fa), (nn_I co), pi, (nn_I fr), de1, (nn_I ke1), (nn_I up), (nn_I (nn_u pr n b)), op, (nn_I vo1), ov, (nn_L Q0), qb, qi, qv, (nn_I vt1), (nn_I he), ch1, lr) → wpX_settle P (fj, (nI nb), (nI lc), tb, df, sm, ju, le, ls, (nn_I so), (nn_I ba), (nn_I an), (nn_I fa), (nn_I co), pi, (nn_I fr), de, (nn_I ke), (nn_I up), (nn_I pr), op, (nn_I vo), ov, (nn_L Q0), qb, qi, qv, (nn_I vt), (nn_I he), ch, lr) (nI n) (nI b) (rl_ti i) (nI v)) ∧
      ∀ P : SY → Prop, P ((nI nb), st, nu, (nn_I so), (nn_I ba), (nn_I an1), pj, (nn_I ke1), (nn_I fa), (nn_I co), (nn_I fr), dw, (nn_I (nn_u pr n b)), (nn_I vo1), (nn_L (nn_u Qs n l)), (rl_sh n 1 l.length rb), (rl_sh n 1 l.length ri), (rl_sh n 1 l.length rv), (nn_I vt1), (nn_I he)) → wpY_settle P ((nI nb), st, nu, (nn_I so), (nn_I ba), (nn_I an), pj, (nn_I ke), (nn_I fa), (nn_I co), (nn_I fr), dw, (nn_I pr), (nn_I vo), (nn_L Qs), rb, ri, rv, (nn_I vt), (nn_I he)) (nI n) := by
  obtain ⟨q1, q2, q3, q4, q5, q6⟩ := hQ n hn
  have hh := q4.2.2 0 (by rw [hL]; simp)
  have hr := q4.2.1 (b, i, v) (by rw [hL]; exact List.mem_cons_self)
  rw [hL] at hh
  have hh : rl_sh n x 6 qb (6 * n + 0) = nI b ∧ rb (6 * n + 0) = nI b ∧ rl_sh n x 6 qi (6 * n + 0) = rl_ti i ∧ ri (6 * n + 0) = nI i ∧ rl_sh n x 6 qv (6 * n + 0) = nI v ∧ rv (6 * n + 0) = nI v := hh
  rw [rl_shi (by omega), rl_shi (by omega), rl_shi (by omega)] at hh
  have h6 : l.length < 6 := by have := q4.1; rw [hL] at this; simp at this; omega
  obtain ⟨an1, ke1, vo1, vt1, de1, ch1, hV1, hC1, hvo1, hX, hY⟩ := rs_core (fj := fj) (nb := nb) (lc := lc) (tb := tb) (df := df) (sm := sm) (ju := ju) (le := le) (ls := ls) (pi := pi) (de := de) (op := op) (ov := ov) (ch := ch) (lr := lr) (so := so) (ba := ba) (an := an) (fa := fa) (co := co) (fr := fr) (ke := ke) (up := up) (pr := pr) (vo := vo) (vt := vt) (he := he) (Qs := Qs) (st := st) (nu := nu) (pj := pj) (dw := dw) (rb := rb) (ri := ri) (rv := rv) (n := n) (b := b) (i := i) (v := v) hS hB hP hV hC hn hr
  refine ⟨an1, ke1, vo1, vt1, de1, ch1, hV1, hC1, rl_Qpop hQ hn hL hvo1 (rl_mvx h6) (rl_mvx h6) (rl_mvx h6) (rl_mv1 (by omega)) (rl_mv1 (by omega)) (rl_mv1 (by omega)), ⟨hh.1, hh.2.2.1, hh.2.2.2.2.1⟩, fun P h => hX _ _ _ _ P h, fun P h => hY P hh.2.1 hh.2.2.2.1 hh.2.2.2.2.2 (ys_140 hn hL q4.1 h)⟩
theorem rs_exit {n m : Nat} {Q0 : Nat → List (Nat × Nat × Nat)} (hn : n < 7) (hm : m ≤ (Q0 n).length) (h6 : (Q0 n).length ≤ 6)
    (hQ : rl_Q nb pk (nn_u Q0 n ((Q0 n).drop m)) up dw pr vo op ov (rl_sh n m 6 qb) (rl_sh n m 6 qi) (rl_sh n m 6 qv) rb ri rv) (hnb : nb ≤ 12) :
    rl_Q nb pk (nn_u Q0 n ((Q0 n).drop m)) up dw pr vo op ov (rl_sh n m ((Q0 n).length - m) qb) (rl_sh n m ((Q0 n).length - m) qi) (rl_sh n m ((Q0 n).length - m) qv) rb ri rv ∧
    ∀ P : Int32 → SX → Prop, P (nI m) (fj, (nI nb), (nI lc), tb, df, sm, ju, le, ls, (nn_I so), (nn_I ba), (nn_I an), (nn_I fa), (nn_I co), pi, (nn_I fr), de, (nn_I ke), (nn_I up), (nn_I pr), op, (nn_I vo), ov, (nn_L (nn_u Q0 n ((Q0 n).drop m))), (rl_sh n m ((Q0 n).length - m) qb), (rl_sh n m ((Q0 n).length - m) qi), (rl_sh n m ((Q0 n).length - m) qv), (nn_I vt), (nn_I he), ch, lr) → wX_sync_60 P (nI n) (nI m) (nI (6 * n)) 1 (nI m) fj (nI nb) (nI lc) tb df sm ju le ls (nn_I so) (nn_I ba) (nn_I an) (nn_I fa) (nn_I co) pi (nn_I fr) de (nn_I ke) (nn_I up) (nn_I pr) op (nn_I vo) ov (nn_L Q0) qb qi qv (nn_I vt) (nn_I he) ch lr := by
  have hdl : ((Q0 n).drop m).length = (Q0 n).length - m := List.length_drop
  obtain ⟨q1, q2, q3, q4, q5, q6⟩ := hQ n hn
  rw [show nn_u Q0 n ((Q0 n).drop m) n = (Q0 n).drop m from nn_us] at q4
  have ce : (nI n).toNatClampNeg = n := nI_clamp (by omega)
  have vi : vp_in (nI n) 7 := vp_in_nI hn (by omega)
  refine ⟨rl_Qcg hQ (fun n' y hn' hy => ?_), fun P h => ?_⟩
  · by_cases e : n' = n
    · subst e
      rw [show nn_u Q0 n' ((Q0 n').drop m) n' = (Q0 n').drop m from nn_us, hdl] at hy
      rw [rl_shi hy, rl_shi hy, rl_shi hy, rl_shi (by omega), rl_shi (by omega), rl_shi (by omega)]
      exact ⟨rfl, rfl, rfl⟩
    · have h6' := (hQ n' hn').2.2.2.1.1
      rw [rl_sho (by omega), rl_sho (by omega), rl_sho (by omega), rl_sho (by omega), rl_sho (by omega), rl_sho (by omega)]
      exact ⟨rfl, rfl, rfl⟩
  · have key : ∀ e k, k + e = (Q0 n).length - m → wX_sync_122 P (nI n) (nI m) (nI (6 * n)) fj (nI nb) (nI lc) (e + 1) (nI (6 * n + k)) tb df sm ju le ls (nn_I so) (nn_I ba) (nn_I an) (nn_I fa) (nn_I co) pi (nn_I fr) de (nn_I ke) (nn_I up) (nn_I pr) op (nn_I vo) ov (nn_L (nn_u Q0 n ((Q0 n).drop m))) (rl_sh n m k qb) (rl_sh n m k qi) (rl_sh n m k qv) (nn_I vt) (nn_I he) ch lr := by
      intro e
      induction e with
      | zero =>
        intro k hk
        refine ⟨vi, ?_⟩
        rw [ce, nn_Lap, nn_us, hdl, nI_add]
        refine pk_le (6 * n + ((Q0 n).length - m)) (6 * n + k) (fun z => ?_) (fun z => by omega)
        rw [show k = (Q0 n).length - m by omega]
        exact h
      | succ e ih =>
        intro k hk
        refine ⟨vi, ?_⟩
        have hg := q4.2.2 k (by omega)
        rw [rl_shi (by omega), rl_shi (by omega), rl_shi (by omega)] at hg
        have hr := q4.2.1 _ (rl_gm (l := (Q0 n).drop m) (n := k) (by omega))
        have hb128 : (rl_g ((Q0 n).drop m) k).1 < 128 := by have := hr.2.1; omega
        have hi3 : (rl_g ((Q0 n).drop m) k).2.1 ≤ 3 := by rcases hr.2.2 with q | q <;> omega
        have hv128 : (rl_g ((Q0 n).drop m) k).2.2 < 128 := by
          rcases hr.2.2 with q | q
          · omega
          · have := q.2.2.1; omega
        have c1 : (nI (6 * n + k)).toNatClampNeg = 6 * n + k := nI_clamp (by omega)
        have c2 : (nI (6 * n + k + m)).toNatClampNeg = 6 * n + k + m := nI_clamp (by omega)
        have e1 : vp_nar .byte (qb (6 * n + k + m)) = qb (6 * n + k + m) := by rw [hg.1, nn_v8 hb128]
        have e2 : vp_nar .byte (qi (6 * n + k + m)) = qi (6 * n + k + m) := by rw [hg.2.2.1, rl_tiv hi3]
        have e3 : vp_nar .byte (qv (6 * n + k + m)) = qv (6 * n + k + m) := by rw [hg.2.2.2.2.1, nn_v8 hv128]
        rw [ce, nn_Lap, nn_us, hdl, nI_add, nI_add (6 * n + k) m, c1, c2, rl_sho (by omega), rl_sho (by omega), rl_sho (by omega), e1, e2, e3, rl_shs, rl_shs, rl_shs]
        refine pk_le (6 * n + ((Q0 n).length - m)) (6 * n + k) (fun z => by omega) (fun z => ⟨vp_in_nI (by omega) (by omega), vp_in_nI (by omega) (by omega), nm_e ⟨vp_in_nI (by omega) (by omega), vp_in_nI (by omega) (by omega), nm_e ⟨vp_in_nI (by omega) (by omega), vp_in_nI (by omega) (by omega), nm_e (nm_r (nI_1 _) (ih (k + 1) (by omega)))⟩⟩⟩)
    refine br_t (nI_le (Nat.le_refl m) (by omega)) ⟨vi, vi, nm_r (e' := nn_L (nn_u Q0 n ((Q0 n).drop m))) ?_ ⟨(Q0 n).length - m + 1, ?_⟩⟩
    · rw [ce, nn_Lap, pk_sub hm, nn_v8b (by omega)]
      exact nn_updL hdl
    · have := key ((Q0 n).length - m) 0 (by omega)
      rw [rl_sh0, rl_sh0, rl_sh0] at this
      exact this
end sync2
section sync3
variable {fj : Int32} {nb lc : Nat} {tb df sm ju le ls pi op ov qb qi qv lr : Nat → Int32} {so ba fa co fr up he : Nat → Nat} {st nu pj dw : Nat → Int32} {QQ : Nat → Nat → Nat → Bool} {pk : Nat → Nat}
theorem rs_lp {n m : Nat} {Q0 : Nat → List (Nat × Nat × Nat)} (hS : rl_S QQ df tb le ls st nu) (hB : rl_B nb lc df so ba fa co) (hP : rl_P nb pk fr pi pj) (hn : n < 7) (hm : m ≤ (Q0 n).length) (h6 : (Q0 n).length ≤ 6) :
    ∀ d x (an ke pr vo vt : Nat → Nat) (de ch rb ri rv : Nat → Int32), x + d = m → rl_V nb pk an ke pr vo vt he → rl_C QQ so pk vt he de ch lr → rl_Q nb pk (nn_u Q0 n ((Q0 n).drop x)) up dw pr vo op ov (rl_sh n x 6 qb) (rl_sh n x 6 qi) (rl_sh n x 6 qv) rb ri rv →
    ∃ (an' ke' pr' vo' vt' : Nat → Nat) (de' ch' rb' ri' rv' : Nat → Int32), rl_V nb pk an' ke' pr' vo' vt' he ∧ rl_C QQ so pk vt' he de' ch' lr ∧ rl_Q nb pk (nn_u Q0 n ((Q0 n).drop m)) up dw pr' vo' op ov (rl_sh n m 6 qb) (rl_sh n m 6 qi) (rl_sh n m 6 qv) rb' ri' rv' ∧
      (∀ P : Int32 → SX → Prop, wX_sync_60 P (nI n) (nI m) (nI (6 * n)) 1 (nI m) fj (nI nb) (nI lc) tb df sm ju le ls (nn_I so) (nn_I ba) (nn_I an') (nn_I fa) (nn_I co) pi (nn_I fr) de' (nn_I ke') (nn_I up) (nn_I pr') op (nn_I vo') ov (nn_L Q0) qb qi qv (nn_I vt') (nn_I he) ch' lr → wX_sync_60 P (nI n) (nI m) (nI (6 * n)) (d + 1) (nI x) fj (nI nb) (nI lc) tb df sm ju le ls (nn_I so) (nn_I ba) (nn_I an) (nn_I fa) (nn_I co) pi (nn_I fr) de (nn_I ke) (nn_I up) (nn_I pr) op (nn_I vo) ov (nn_L Q0) qb qi qv (nn_I vt) (nn_I he) ch lr) ∧
      ∀ P : Int32 → SY → Prop, P (nI m) ((nI nb), st, nu, (nn_I so), (nn_I ba), (nn_I an'), pj, (nn_I ke'), (nn_I fa), (nn_I co), (nn_I fr), dw, (nn_I pr'), (nn_I vo'), (nn_L (nn_u Q0 n ((Q0 n).drop m))), rb', ri', rv', (nn_I vt'), (nn_I he)) → wY_sync_55 P (nI n) (nI m) (d + 1) (nI x) (nI nb) st nu (nn_I so) (nn_I ba) (nn_I an) pj (nn_I ke) (nn_I fa) (nn_I co) (nn_I fr) dw (nn_I pr) (nn_I vo) (nn_L (nn_u Q0 n ((Q0 n).drop x))) rb ri rv (nn_I vt) (nn_I he) := by
  intro d
  induction d with
  | zero =>
    intro x an ke pr vo vt de ch rb ri rv hx hV hC hQ
    have hx : x = m := by omega
    subst hx
    exact ⟨an, ke, pr, vo, vt, de, ch, rb, ri, rv, hV, hC, hQ, fun P h => h, fun P h => br_t (nI_le (Nat.le_refl _) (by omega)) h⟩
  | succ d ih =>
    intro x an ke pr vo vt de ch rb ri rv hx hV hC hQ
    have hlt : x < (Q0 n).length := by omega
    have hd := rl_drop hlt
    obtain ⟨b, i, v, eg⟩ : ∃ b i v, rl_g (Q0 n) x = (b, i, v) := ⟨_, _, _, rfl⟩
    rw [eg] at hd
    obtain ⟨an1, ke1, vo1, vt1, de1, ch1, hV1, hC1, hQ1, hq, hX, hY⟩ := rs_one (fj := fj) (sm := sm) (ju := ju) (Q0 := Q0) hS hB hP hV hC hQ hn (show nn_u Q0 n ((Q0 n).drop x) n = (b, i, v) :: (Q0 n).drop (x + 1) by rw [nn_us]; exact hd)
    rw [nn_uu] at hQ1 hY
    obtain ⟨an', ke', pr', vo', vt', de', ch', rb', ri', rv', hV', hC', hQ', gX, gY⟩ := ih (x + 1) an1 ke1 _ vo1 vt1 de1 ch1 _ _ _ (by omega) hV1 hC1 hQ1
    have z : ¬ nI m ≤ nI x := nI_ge (by omega) (by omega)
    have cx : (nI (6 * n + x)).toNatClampNeg = 6 * n + x := nI_clamp (by omega)
    have vx : vp_in (nI (6 * n + x)) 42 := vp_in_nI (by omega) (by omega)
    refine ⟨an', ke', pr', vo', vt', de', ch', rb', ri', rv', hV', hC', hQ', fun P h => br_f z ?_, fun P h => br_f z (hY _ (nm_r (nI_1 x) (gY P h)))⟩
    rw [nI_add, cx, hq.1, hq.2.1, hq.2.2]
    exact ⟨vx, vx, vx, hX _ (nm_r (nI_1 x) (gX P h))⟩
end sync3
section sync4
variable {fj : Int32} {nb lc : Nat} {tb df sm ju le ls pi de op ov qb qi qv ch lr : Nat → Int32} {so ba an fa co fr ke up pr vo vt he : Nat → Nat} {Qs : Nat → List (Nat × Nat × Nat)}
variable {st nu pj dw rb ri rv : Nat → Int32}
variable {QQ : Nat → Nat → Nat → Bool} {pk : Nat → Nat}
/-- m records of a node settle -/
theorem rm_sync {n m : Nat} (hS : rl_S QQ df tb le ls st nu) (hB : rl_B nb lc df so ba fa co) (hP : rl_P nb pk fr pi pj) (hV : rl_V nb pk an ke pr vo vt he) (hQ : rl_Q nb pk Qs up dw pr vo op ov qb qi qv rb ri rv) (hC : rl_C QQ so pk vt he de ch lr) (hn : n < 7) (hm : m ≤ (Qs n).length) : ∃ u' v', rl_R nb u' v' ∧ (∀ P : Int32 → SX → Prop, P (nI m) u' → wX_sync_60 P (nI n) (nI m) (nI (6 * n)) (m + 1) 0 fj (nI nb) (nI lc) tb df sm ju le ls (nn_I so) (nn_I ba) (nn_I an) (nn_I fa) (nn_I co) pi (nn_I fr) de (nn_I ke) (nn_I up) (nn_I pr) op (nn_I vo) ov (nn_L Qs) qb qi qv (nn_I vt) (nn_I he) ch lr) ∧ (∀ P : Int32 → SY → Prop, P (nI m) v' → wY_sync_55 P (nI n) (nI m) (m + 1) 0 (nI nb) st nu (nn_I so) (nn_I ba) (nn_I an) pj (nn_I ke) (nn_I fa) (nn_I co) (nn_I fr) dw (nn_I pr) (nn_I vo) (nn_L Qs) rb ri rv (nn_I vt) (nn_I he)) := by
  have h6 := (hQ n hn).2.2.2.1.1
  have hQ0 : rl_Q nb pk (nn_u Qs n ((Qs n).drop 0)) up dw pr vo op ov (rl_sh n 0 6 qb) (rl_sh n 0 6 qi) (rl_sh n 0 6 qv) rb ri rv := by
    rw [List.drop_zero, nn_uself]
    refine rl_Qcg hQ (fun n' y hn' hy => ?_)
    have h6' := (hQ n' hn').2.2.2.1.1
    have : ∀ f : Nat → Int32, rl_sh n 0 6 f (6 * n' + y) = f (6 * n' + y) := fun f => by
      unfold rl_sh
      by_cases c : 6 * n ≤ 6 * n' + y ∧ 6 * n' + y < 6 * n + 6
      · rw [if_pos c]; rfl
      · rw [if_neg c]
    exact ⟨this _, this _, this _⟩
  obtain ⟨an', ke', pr', vo', vt', de', ch', rb', ri', rv', hV', hC', hQ', gX, gY⟩ := rs_lp (fj := fj) (sm := sm) (ju := ju) (Q0 := Qs) hS hB hP hn hm h6 m 0 an ke pr vo vt de ch rb ri rv (by omega) hV hC hQ0
  obtain ⟨hQ2, eX⟩ := rs_exit (fj := fj) (nb := nb) (lc := lc) (tb := tb) (df := df) (sm := sm) (ju := ju) (le := le) (ls := ls) (pi := pi) (so := so) (ba := ba) (fa := fa) (co := co) (fr := fr) (he := he) (lr := lr) (an := an') (ke := ke') (vt := vt') (de := de') (ch := ch') (Q0 := Qs) hn hm h6 hQ' hB.1
  rw [List.drop_zero, nn_uself] at gY
  exact ⟨_, _, rl_mk (fj := fj) (sm := sm) (ju := ju) hS hB hP hV' hQ2 hC', fun P h => gX P (eX P h), fun P h => gY P h⟩
/-- one record settles: the component by sync (n, 1), the reference by settle (n) -/
theorem rm_sync1 {n : Nat} (hS : rl_S QQ df tb le ls st nu) (hB : rl_B nb lc df so ba fa co) (hP : rl_P nb pk fr pi pj) (hV : rl_V nb pk an ke pr vo vt he) (hQ : rl_Q nb pk Qs up dw pr vo op ov qb qi qv rb ri rv) (hC : rl_C QQ so pk vt he de ch lr) (hn : n < 7) (hm : 0 < (Qs n).length) : ∃ u' v', rl_R nb u' v' ∧ (∀ P : Int32 → SX → Prop, P (nI 1) u' → wX_sync_60 P (nI n) (nI 1) (nI (6 * n)) 2 0 fj (nI nb) (nI lc) tb df sm ju le ls (nn_I so) (nn_I ba) (nn_I an) (nn_I fa) (nn_I co) pi (nn_I fr) de (nn_I ke) (nn_I up) (nn_I pr) op (nn_I vo) ov (nn_L Qs) qb qi qv (nn_I vt) (nn_I he) ch lr) ∧ (∀ P : SY → Prop, P v' → wpY_settle P ((nI nb), st, nu, (nn_I so), (nn_I ba), (nn_I an), pj, (nn_I ke), (nn_I fa), (nn_I co), (nn_I fr), dw, (nn_I pr), (nn_I vo), (nn_L Qs), rb, ri, rv, (nn_I vt), (nn_I he)) (nI n)) := by
  have h6 := (hQ n hn).2.2.2.1.1
  have hQ0 : rl_Q nb pk Qs up dw pr vo op ov (rl_sh n 0 6 qb) (rl_sh n 0 6 qi) (rl_sh n 0 6 qv) rb ri rv := by
    refine rl_Qcg hQ (fun n' y hn' hy => ?_)
    have h6' := (hQ n' hn').2.2.2.1.1
    have : ∀ f : Nat → Int32, rl_sh n 0 6 f (6 * n' + y) = f (6 * n' + y) := fun f => by
      unfold rl_sh
      by_cases c : 6 * n ≤ 6 * n' + y ∧ 6 * n' + y < 6 * n + 6
      · rw [if_pos c]; rfl
      · rw [if_neg c]
    exact ⟨this _, this _, this _⟩
  have hd := rl_drop hm
  rw [List.drop_zero] at hd
  obtain ⟨b, i, v, eg⟩ : ∃ b i v, rl_g (Qs n) 0 = (b, i, v) := ⟨_, _, _, rfl⟩
  rw [eg] at hd
  obtain ⟨an1, ke1, vo1, vt1, de1, ch1, hV1, hC1, hQ1, hq, hX, hY⟩ := rs_one (fj := fj) (sm := sm) (ju := ju) (Q0 := Qs) hS hB hP hV hC hQ0 hn hd
  obtain ⟨hQ2, eX⟩ := rs_exit (fj := fj) (nb := nb) (lc := lc) (tb := tb) (df := df) (sm := sm) (ju := ju) (le := le) (ls := ls) (pi := pi) (so := so) (ba := ba) (fa := fa) (co := co) (fr := fr) (he := he) (lr := lr) (an := an1) (ke := ke1) (vt := vt1) (de := de1) (ch := ch1) (m := 1) (Q0 := Qs) hn hm h6 hQ1 hB.1
  have z : ¬ nI 1 ≤ 0 := by decide
  have cx : (nI (6 * n + 0)).toNatClampNeg = 6 * n + 0 := nI_clamp (by omega)
  have vx : vp_in (nI (6 * n + 0)) 42 := vp_in_nI (by omega) (by omega)
  refine ⟨_, _, rl_mk (fj := fj) (sm := sm) (ju := ju) hS hB hP hV1 hQ2 hC1, fun P h => br_f z ?_, hY⟩
  rw [show (0 : Int32) = nI 0 from rfl, nI_add, cx, hq.1, hq.2.1, hq.2.2]
  exact ⟨vx, vx, vx, hX _ (nm_r (nI_1 0) (eX P h))⟩
end sync4
theorem rt_sync {nb : Nat} {u : SX} {v : SY} (R : rl_R nb u v) (a b : Int32) : rl_W nb u v (fun _ => False) (fun P => wpX_sync P u a b) (fun P => wpY_sync P v a b) := by
  refine rl_el (P := fun u v => rl_W nb u v (fun _ => False) (fun P => wpX_sync P u a b) (fun P => wpY_sync P v a b)) R ?_
  intro fj lc tb df sm ju le ls so ba an fa co pi fr de ke up pr op vo ov Qs qb qi qv vt he ch lr st nu pj dw rb ri rv QQ pk hS hB hP hV hQ hC
  have hnb := hB.1
  have R := rl_mk (fj := fj) (sm := sm) (ju := ju) hS hB hP hV hQ hC
  unfold rl_W wpX_sync wpY_sync
  dsimp only
  rcases nl_in (x := a) (n := 7) (m := 6) 7 (by decide) (by decide) with ⟨n, hn, e, xn, yn⟩ | ⟨xn, yn⟩
  · subst e
    rcases nl_bt (x := b) (a := 0) (b := 6) 0 6 (by decide) (by decide) with ⟨k, _, hk, e, xk, yk⟩ | ⟨xk, yk⟩
    · subst e
      have ce : (nI n).toNatClampNeg = n := nI_clamp (by omega)
      have vi : vp_in (nI n) 7 := vp_in_nI hn (by omega)
      obtain ⟨q1, q2, _, q4, _, _⟩ := hQ n hn
      have h6 := q4.1
      rw [ce, q2]
      rcases (show up n = 0 ∨ up n = 1 by omega) with hu | hu
      · exact ⟨-1, _, _, R, fun q => q.elim, fun P h => xn _ (br_f nn_10 (xk _ (br_f nn_10 ⟨vi, br_t (by rw [nn_Iap, hu]; rfl) h⟩))), fun P h => yn _ (br_f nn_10 (yk _ (br_f nn_10 ⟨vi, br_f (by rw [hu]; decide) h⟩)))⟩
      · by_cases hkl : (Qs n).length ≤ k
        · obtain ⟨u', v', R', hX, hY⟩ := rm_sync (m := (Qs n).length) (fj := fj) (sm := sm) (ju := ju) hS hB hP hV hQ hC hn (Nat.le_refl _)
          refine ⟨nI (Qs n).length, u', v', R', fun q => q.elim, fun P h => xn _ (br_f nn_10 (xk _ (br_f nn_10 ⟨vi, br_f (by rw [nn_Iap, hu]; decide) ⟨vi, br_t (nI_le hkl (by omega)) ⟨vi, nm_e (nm_r (nn_m6 n) ⟨_, hX P h⟩)⟩⟩⟩))), fun P h => yn _ (br_f nn_10 (yk _ (br_f nn_10 ⟨vi, br_t (by rw [hu]; rfl) ⟨vi, ?_⟩⟩)))⟩
          refine pk_le k (Qs n).length (fun z => ?_) (fun z => ⟨vi, nm_e ⟨_, hY P h⟩⟩)
          rw [show k = (Qs n).length by omega]
          exact ⟨_, hY P h⟩
        · obtain ⟨u', v', R', hX, hY⟩ := rm_sync (m := k) (fj := fj) (sm := sm) (ju := ju) hS hB hP hV hQ hC hn (by omega)
          exact ⟨nI k, u', v', R', fun q => q.elim, fun P h => xn _ (br_f nn_10 (xk _ (br_f nn_10 ⟨vi, br_f (by rw [nn_Iap, hu]; decide) ⟨vi, br_f (nI_ge (by omega) (by omega)) (nm_r (nn_m6 n) ⟨_, hX P h⟩)⟩⟩))), fun P h => yn _ (br_f nn_10 (yk _ (br_f nn_10 ⟨vi, br_t (by rw [hu]; rfl) ⟨vi, br_t (nI_le (by omega) (by omega)) ⟨_, hY P h⟩⟩⟩)))⟩
    · exact ⟨-1, _, _, R, fun q => q.elim, fun P h => xn _ (br_f nn_10 (xk _ (br_t rfl h))), fun P h => yn _ (br_f nn_10 (yk _ (br_t rfl h)))⟩
  · exact ⟨-1, _, _, R, fun q => q.elim, fun P h => xn _ (br_t rfl h), fun P h => yn _ (br_t rfl h)⟩
end
section
/-! define -/
theorem rd_so {so2 a b c d : Int32} {Q : Nat → Nat → Bool} (h : qy_S so2 a b c d Q) : ¬ so2 < 0 := by
  rcases h with h | h | h | h <;> rw [h.1] <;> decide
theorem rd_T {tb tb' : Nat → Int32} {s : Nat} {Q : Nat → Nat → Bool} (h : xd_T tb s Q) (he : ∀ k t, k < 3 → t < 128 → tb' (384 * s + 128 * k + t) = tb (384 * s + 128 * k + t)) : xd_T tb' s Q := fun k t hk ht => by
  rw [he k t hk ht]; exact h k t hk ht
theorem rd_S1 {QQ : Nat → Nat → Nat → Bool} {df tb le ls st nu tb' le' ls' : Nat → Int32} {s : Nat} {so2 a b c d : Int32} {Q : Nat → Nat → Bool} (hS : rl_S QQ df tb le ls st nu) (hs : s < 4) (hQ : qy_S so2 a b c d Q) (hq : qs_S Q) (K : xe_K s Q tb le ls tb' le' ls') :
    rl_S (nn_u QQ s Q) (upd df s 1) tb' le' ls' (upd st s so2) (ye_n4 nu s a b c d) := by
  obtain ⟨k1, k2, k3, k4⟩ := K
  intro s' hs'
  by_cases e : s' = s
  · subst e
    right
    rw [pk_us, pk_us, ye_n40.1, ye_n40.2.1, ye_n40.2.2.1, ye_n40.2.2.2, show nn_u QQ s' Q s' = Q from nn_us]
    exact ⟨rfl, rd_so hQ, hQ, k1, k3, qy_E hQ hq⟩
  · rw [pk_un e, pk_un e, ye_n4u (by omega), ye_n4u (by omega), ye_n4u (by omega), ye_n4u (by omega), show nn_u QQ s Q s' = QQ s' from nn_un e]
    rcases hS s' hs' with h | ⟨h1, h2, h3, h4, h5, h6⟩
    · exact Or.inl h
    · refine Or.inr ⟨h1, h2, h3, rd_T h4 (fun k t hk ht => k2 _ (by omega) (by omega)), fun k hk => ?_, h6⟩
      have h35 := qq_35 (qy_M h3 k hk)
      refine ⟨(k4.1 _ (by omega)).trans (h5 k hk).1, fun x hx => (k4.2 _ (by omega)).trans ((h5 k hk).2 x hx)⟩
theorem rd_S0 {QQ : Nat → Nat → Nat → Bool} {df tb le ls st nu tb' : Nat → Int32} (hS : rl_S QQ df tb le ls st nu) (h : ∀ j, j < 1536 → tb' j = tb j) : rl_S QQ df tb' le ls st nu := by
  intro s hs
  rcases hS s hs with q | ⟨h1, h2, h3, h4, h5, h6⟩
  · exact Or.inl q
  · exact Or.inr ⟨h1, h2, h3, rd_T h4 (fun k t hk ht => h _ (by omega)), h5, h6⟩
theorem rt_define {nb : Nat} {u : SX} {v : SY} (R : rl_R nb u v) (a b c d e f : Int32) : wpX_define (fun r u' => wpY_define (fun r' v' => r' = r ∧ ∃ nb2, rl_R nb2 u' v') v a b c d e f) u a b c d e f := by
  refine rl_el (P := fun u v => wpX_define (fun r u' => wpY_define (fun r' v' => r' = r ∧ ∃ nb2, rl_R nb2 u' v') v a b c d e f) u a b c d e f) R ?_
  intro fj lc tb df sm ju le ls so ba an fa co pi fr de ke up pr op vo ov Qs qb qi qv vt he ch lr st nu pj dw rb ri rv QQ pk hS hB hP hV hQ hC
  have hnb := hB.1
  have R := rl_mk (fj := fj) (sm := sm) (ju := ju) hS hB hP hV hQ hC
  unfold wpX_define wpY_define
  dsimp only
  rcases nl_in (x := a) (n := 4) (m := 3) 4 (by decide) (by decide) with ⟨s, hs, es, xa, ya⟩ | ⟨xa, ya⟩
  · subst es
    rcases xe_rg (fj := fj) (fb := (nI nb)) (fl := (nI lc)) (tb := tb) (df := df) (sm := sm) (ju := ju) (le := le) (ls := ls) (so := (nn_I so)) (ba := (nn_I ba)) (an := (nn_I an)) (fa := (nn_I fa)) (co := (nn_I co)) (pi := pi) (fr := (nn_I fr)) (de := de) (ke := (nn_I ke)) (up := (nn_I up)) (pr := (nn_I pr)) (op := op) (vo := (nn_I vo)) (ov := ov) (qu := (nn_L Qs)) (qb := qb) (qi := qi) (qv := qv) (vt := (nn_I vt)) (he := (nn_I he)) (ch := ch) (lr := lr) (so2 := b) (a := c) (b := d) (c := e) (d := f) with ⟨Q, hq, xr, yr⟩ | ⟨xr, yr⟩
    · refine xa _ (br_f nn_10 (xr _ (br_f nn_10 (xc_isInUse hnb (fun b' h1 h2 h3 => ?_) (fun hun => ?_)))))
      · refine br_f nn_10 (br_t rfl ?_)
        refine ya _ (br_f nn_10 (yr _ (br_f nn_10 ⟨nb + 1, ?_⟩)))
        exact ye_28 hs hnb hq (fun b2 g1 g2 g3 => ⟨rfl, nb, R⟩) (fun q => absurd h3 (q b' h1 h2)) (fun q => absurd h3 (q b' h1 h2)) nb 1 (by omega) (by omega) (fun b2 g1 g2 => absurd g2 (by omega))
      · refine br_t rfl (xe_36 hs hq (fun hsn fj' tb' sm' ju' le' ls' K => ?_) (fun hsn fj' tb' sm' ju' ht => ?_))
        · refine ya _ (br_f nn_10 (yr _ (br_f nn_10 ⟨nb + 1, ?_⟩)))
          refine ye_28 hs hnb hq (fun b2 g1 g2 g3 => absurd g3 (hun b2 g1 g2)) (fun _ _ => ⟨rfl, nb, ?_⟩) (fun _ q => absurd hsn q) nb 1 (by omega) (by omega) (fun b2 g1 g2 => absurd g2 (by omega))
          obtain ⟨_, so4, sod, ba12, fa1, co1, hlc, lc1, lc2⟩ := hB
          have hB' : rl_B nb lc (upd df s 1) so ba fa co := ⟨hnb, so4, fun x h1 h2 => by
            by_cases es : so x = s
            · rw [es, pk_us]
            · rw [pk_un es]; exact sod x h1 h2, ba12, fa1, co1, hlc, lc1, lc2⟩
          have hC' : rl_C (nn_u QQ s Q) so pk vt he de ch lr := rl_Ccg hV (fun x i t a1 a2 a3 a4 => by
            unfold rl_en
            rw [show nn_u QQ s Q (so x) = QQ (so x) from nn_un (fun es => hun x a1 a2 (by rw [nn_Iap, es]))]) hC
          exact rl_mk (rd_S1 hS hs hq hsn K) hB' hP hV hQ hC'
        · refine ya _ (br_f nn_10 (yr _ (br_f nn_10 ⟨nb + 1, ?_⟩)))
          refine ye_28 hs hnb hq (fun b2 g1 g2 g3 => absurd g3 (hun b2 g1 g2)) (fun _ q => absurd q hsn) (fun _ _ => ⟨rfl, nb, ?_⟩) nb 1 (by omega) (by omega) (fun b2 g1 g2 => absurd g2 (by omega))
          exact rl_mk (rd_S0 hS ht) hB hP hV hQ hC
    · exact xa _ (br_f nn_10 (xr _ (br_t rfl (br_t rfl (ya _ (br_f nn_10 (yr _ (br_t rfl ⟨rfl, nb, R⟩))))))))
  · exact xa _ (br_t rfl (br_t rfl (ya _ (br_t rfl ⟨rfl, nb, R⟩))))
end
section
/-! drive -/
section drive
variable {fj : Int32} {nb lc : Nat} {tb df sm ju le ls pi de op ov qb qi qv ch lr : Nat → Int32} {so ba an fa co fr ke up pr vo vt he : Nat → Nat} {Qs : Nat → List (Nat × Nat × Nat)}
variable {st nu pj dw rb ri rv : Nat → Int32}
variable {QQ : Nat → Nat → Nat → Bool} {pk : Nat → Nat}
theorem rv_sy (hS : rl_S QQ df tb le ls st nu) (hB : rl_B nb lc df so ba fa co) (hP : rl_P nb pk fr pi pj) (hV : rl_V nb pk an ke pr vo vt he) (hQ : rl_Q nb pk Qs up dw pr vo op ov qb qi qv rb ri rv) (hC : rl_C QQ so pk vt he de ch lr) : (∃ u' v', rl_R nb u' v' ∧ (∀ P : Int32 → SX → Prop, P 1 u' → wpX_syncs P (fj, (nI nb), (nI lc), tb, df, sm, ju, le, ls, (nn_I so), (nn_I ba), (nn_I an), (nn_I fa), (nn_I co), pi, (nn_I fr), de, (nn_I ke), (nn_I up), (nn_I pr), op, (nn_I vo), ov, (nn_L Qs), qb, qi, qv, (nn_I vt), (nn_I he), ch, lr)) ∧ ∀ (P : Int32 → SY → Prop) (b v : Int32), P 1 v' → wpY_goesOn P ((nI nb), st, nu, (nn_I so), (nn_I ba), (nn_I an), pj, (nn_I ke), (nn_I fa), (nn_I co), (nn_I fr), dw, (nn_I pr), (nn_I vo), (nn_L Qs), rb, ri, rv, (nn_I vt), (nn_I he)) b v) ∨ ((∀ P : Int32 → SX → Prop, P 0 (fj, (nI nb), (nI lc), tb, df, sm, ju, le, ls, (nn_I so), (nn_I ba), (nn_I an), (nn_I fa), (nn_I co), pi, (nn_I fr), de, (nn_I ke), (nn_I up), (nn_I pr), op, (nn_I vo), ov, (nn_L Qs), qb, qi, qv, (nn_I vt), (nn_I he), ch, lr) → wpX_syncs P (fj, (nI nb), (nI lc), tb, df, sm, ju, le, ls, (nn_I so), (nn_I ba), (nn_I an), (nn_I fa), (nn_I co), pi, (nn_I fr), de, (nn_I ke), (nn_I up), (nn_I pr), op, (nn_I vo), ov, (nn_L Qs), qb, qi, qv, (nn_I vt), (nn_I he), ch, lr)) ∧ ∀ (P : Int32 → SY → Prop) (b v : Int32), wpY_isReady (fun r_2 => ∃ n48 : Nat, wY_goesOn_48 P b v r_2 n48 0 (nI nb) st nu (nn_I so) (nn_I ba) (nn_I an) pj (nn_I ke) (nn_I fa) (nn_I co) (nn_I fr) dw (nn_I pr) (nn_I vo) (nn_L Qs) rb ri rv (nn_I vt) (nn_I he)) ((nI nb), st, nu, (nn_I so), (nn_I ba), (nn_I an), pj, (nn_I ke), (nn_I fa), (nn_I co), (nn_I fr), dw, (nn_I pr), (nn_I vo), (nn_L Qs), rb, ri, rv, (nn_I vt), (nn_I he)) b → wpY_goesOn P ((nI nb), st, nu, (nn_I so), (nn_I ba), (nn_I an), pj, (nn_I ke), (nn_I fa), (nn_I co), (nn_I fr), dw, (nn_I pr), (nn_I vo), (nn_L Qs), rb, ri, rv, (nn_I vt), (nn_I he)) b v) := by
  have key : ∀ e n, n + e = 7 → (∃ u' v', rl_R nb u' v' ∧ (∀ P : Int32 → SX → Prop, P 1 u' → wX_syncs_2 P fj (nI nb) (nI lc) tb df sm ju le ls (nn_I so) (nn_I ba) (nn_I an) (nn_I fa) (nn_I co) pi (nn_I fr) de (nn_I ke) (nn_I up) (nn_I pr) op (nn_I vo) ov (nn_L Qs) qb qi qv (nn_I vt) (nn_I he) ch lr (e + 1) (nI n)) ∧ ∀ (P : Int32 → SY → Prop) (b v : Int32), P 1 v' → wY_goesOn_2 P b v (nI nb) st nu (nn_I so) (nn_I ba) (nn_I an) pj (nn_I ke) (nn_I fa) (nn_I co) (nn_I fr) dw (nn_I pr) (nn_I vo) (nn_L Qs) rb ri rv (nn_I vt) (nn_I he) (e + 1) (nI n)) ∨ ((∀ P : Int32 → SX → Prop, P 0 (fj, (nI nb), (nI lc), tb, df, sm, ju, le, ls, (nn_I so), (nn_I ba), (nn_I an), (nn_I fa), (nn_I co), pi, (nn_I fr), de, (nn_I ke), (nn_I up), (nn_I pr), op, (nn_I vo), ov, (nn_L Qs), qb, qi, qv, (nn_I vt), (nn_I he), ch, lr) → wX_syncs_2 P fj (nI nb) (nI lc) tb df sm ju le ls (nn_I so) (nn_I ba) (nn_I an) (nn_I fa) (nn_I co) pi (nn_I fr) de (nn_I ke) (nn_I up) (nn_I pr) op (nn_I vo) ov (nn_L Qs) qb qi qv (nn_I vt) (nn_I he) ch lr (e + 1) (nI n)) ∧ ∀ (P : Int32 → SY → Prop) (b v : Int32), wpY_isReady (fun r_2 => ∃ n48 : Nat, wY_goesOn_48 P b v r_2 n48 0 (nI nb) st nu (nn_I so) (nn_I ba) (nn_I an) pj (nn_I ke) (nn_I fa) (nn_I co) (nn_I fr) dw (nn_I pr) (nn_I vo) (nn_L Qs) rb ri rv (nn_I vt) (nn_I he)) ((nI nb), st, nu, (nn_I so), (nn_I ba), (nn_I an), pj, (nn_I ke), (nn_I fa), (nn_I co), (nn_I fr), dw, (nn_I pr), (nn_I vo), (nn_L Qs), rb, ri, rv, (nn_I vt), (nn_I he)) b → wY_goesOn_2 P b v (nI nb) st nu (nn_I so) (nn_I ba) (nn_I an) pj (nn_I ke) (nn_I fa) (nn_I co) (nn_I fr) dw (nn_I pr) (nn_I vo) (nn_L Qs) rb ri rv (nn_I vt) (nn_I he) (e + 1) (nI n)) := by
    intro e
    induction e with
    | zero =>
      intro n hn
      exact Or.inr ⟨fun P h => br_t (nI_le (a := 7) (by omega) (by omega)) h, fun P b v h => br_t (nI_le (a := 7) (by omega) (by omega)) h⟩
    | succ e ih =>
      intro n hn
      have z : ¬ (7 : Int32) ≤ nI n := nI_ge (b := 7) (by omega) (by omega)
      have ce : (nI n).toNatClampNeg = n := nI_clamp (by omega)
      have vi : vp_in (nI n) 7 := vp_in_nI (by omega) (by omega)
      obtain ⟨q1, q2, q3, q4, q5, q6⟩ := hQ n (by omega)
      have h6 := q4.1
      by_cases ok : up n = 1 ∧ 0 < (Qs n).length
      · obtain ⟨u', v', R', hX, hY⟩ := rm_sync1 (fj := fj) (sm := sm) (ju := ju) hS hB hP hV hQ hC (show n < 7 by omega) ok.2
        refine Or.inl ⟨u', v', R', fun P h => br_f z ⟨vi, ?_⟩, fun P b v h => br_f z ⟨vi, ?_⟩⟩
        · rw [ce]
          refine br_f (by rw [nn_Iap, ok.1]; decide) ⟨vi, br_f (nI_ne0 ok.2 (by omega)) ?_⟩
          unfold wpX_sync
          dsimp only
          rw [ce]
          refine br_f (nI_pos (by omega)) (br_f (nI_ge (b := 7) (by omega) (by omega)) (br_f nn_10 (br_f (by decide) (br_f (by decide) (br_f nn_10 ⟨vi, br_f (by rw [nn_Iap, ok.1]; decide) ⟨vi, ?_⟩⟩)))))
          refine pk_le (Qs n).length 1 (fun w => ⟨vi, nm_r (e' := nI 1) (by rw [nn_Lap, show (Qs n).length = 1 by omega]) (nm_r (nn_m6 n) ⟨2, hX _ h⟩)⟩) (fun w => nm_r (nn_m6 n) ⟨2, hX _ h⟩)
        · rw [ce, q2]
          exact br_t (by rw [ok.1]; rfl) ⟨vi, br_f (nI_nle ok.2 (by omega)) (hY _ h)⟩
      · have sX : ∀ P : Int32 → SX → Prop, wX_syncs_2 P fj (nI nb) (nI lc) tb df sm ju le ls (nn_I so) (nn_I ba) (nn_I an) (nn_I fa) (nn_I co) pi (nn_I fr) de (nn_I ke) (nn_I up) (nn_I pr) op (nn_I vo) ov (nn_L Qs) qb qi qv (nn_I vt) (nn_I he) ch lr (e + 1) (nI (n + 1)) → wX_syncs_2 P fj (nI nb) (nI lc) tb df sm ju le ls (nn_I so) (nn_I ba) (nn_I an) (nn_I fa) (nn_I co) pi (nn_I fr) de (nn_I ke) (nn_I up) (nn_I pr) op (nn_I vo) ov (nn_L Qs) qb qi qv (nn_I vt) (nn_I he) ch lr (e + 1 + 1) (nI n) := fun P h => br_f z ⟨vi, by
          rw [ce]
          exact pk_eq (up n) 0 (fun _ => nm_r (nI_1 n) h) (fun w => ⟨vi, pk_eq (Qs n).length 0 (fun _ => nm_r (nI_1 n) h) (fun w2 => absurd ⟨by omega, by omega⟩ ok)⟩)⟩
        have sY : ∀ (P : Int32 → SY → Prop) (b v : Int32), wY_goesOn_2 P b v (nI nb) st nu (nn_I so) (nn_I ba) (nn_I an) pj (nn_I ke) (nn_I fa) (nn_I co) (nn_I fr) dw (nn_I pr) (nn_I vo) (nn_L Qs) rb ri rv (nn_I vt) (nn_I he) (e + 1) (nI (n + 1)) → wY_goesOn_2 P b v (nI nb) st nu (nn_I so) (nn_I ba) (nn_I an) pj (nn_I ke) (nn_I fa) (nn_I co) (nn_I fr) dw (nn_I pr) (nn_I vo) (nn_L Qs) rb ri rv (nn_I vt) (nn_I he) (e + 1 + 1) (nI n) := fun P b v h => br_f z ⟨vi, by
          rw [ce, q2]
          exact pk_eq (1 - up n) 0 (fun w => ⟨vi, pk_le (Qs n).length 0 (fun _ => nm_r (nI_1 n) h) (fun w2 => absurd ⟨by omega, w2⟩ ok)⟩) (fun _ => nm_r (nI_1 n) h)⟩
        rcases ih (n + 1) (by omega) with ⟨u', v', R', hX, hY⟩ | ⟨hX, hY⟩
        · exact Or.inl ⟨u', v', R', fun P h => sX P (hX P h), fun P b v h => sY P b v (hY P b v h)⟩
        · exact Or.inr ⟨fun P h => sX P (hX P h), fun P b v h => sY P b v (hY P b v h)⟩
  rcases key 7 0 (by omega) with ⟨u', v', R', hX, hY⟩ | ⟨hX, hY⟩
  · exact Or.inl ⟨u', v', R', fun P h => ⟨8, hX P h⟩, fun P b v h => ⟨8, hY P b v h⟩⟩
  · exact Or.inr ⟨fun P h => ⟨8, hX P h⟩, fun P b v h => ⟨8, hY P b v h⟩⟩
theorem rv_as {b : Nat} (hS : rl_S QQ df tb le ls st nu) (hB : rl_B nb lc df so ba fa co) (hP : rl_P nb pk fr pi pj) (hV : rl_V nb pk an ke pr vo vt he) (hQ : rl_Q nb pk Qs up dw pr vo op ov qb qi qv rb ri rv) (hC : rl_C QQ so pk vt he de ch lr) (h1 : 1 ≤ b) (hb : b ≤ nb) : (∃ u' v', rl_R nb u' v' ∧ (∀ P : Int32 → SX → Prop, P 1 u' → wpX_asks P (fj, (nI nb), (nI lc), tb, df, sm, ju, le, ls, (nn_I so), (nn_I ba), (nn_I an), (nn_I fa), (nn_I co), pi, (nn_I fr), de, (nn_I ke), (nn_I up), (nn_I pr), op, (nn_I vo), ov, (nn_L Qs), qb, qi, qv, (nn_I vt), (nn_I he), ch, lr) (nI b)) ∧ ∀ (P : Int32 → SY → Prop) (v : Int32), P 1 v' → wY_goesOn_48 P (nI b) v 0 8 0 (nI nb) st nu (nn_I so) (nn_I ba) (nn_I an) pj (nn_I ke) (nn_I fa) (nn_I co) (nn_I fr) dw (nn_I pr) (nn_I vo) (nn_L Qs) rb ri rv (nn_I vt) (nn_I he)) ∨ ((∀ P : Int32 → SX → Prop, P 0 (fj, (nI nb), (nI lc), tb, df, sm, ju, le, ls, (nn_I so), (nn_I ba), (nn_I an), (nn_I fa), (nn_I co), pi, (nn_I fr), de, (nn_I ke), (nn_I up), (nn_I pr), op, (nn_I vo), ov, (nn_L Qs), qb, qi, qv, (nn_I vt), (nn_I he), ch, lr) → wpX_asks P (fj, (nI nb), (nI lc), tb, df, sm, ju, le, ls, (nn_I so), (nn_I ba), (nn_I an), (nn_I fa), (nn_I co), pi, (nn_I fr), de, (nn_I ke), (nn_I up), (nn_I pr), op, (nn_I vo), ov, (nn_L Qs), qb, qi, qv, (nn_I vt), (nn_I he), ch, lr) (nI b)) ∧ ∀ (P : Int32 → SY → Prop) (v : Int32), (∃ n80 : Nat, wY_goesOn_80 P (nI b) v 0 (nI nb) st nu (nn_I so) (nn_I ba) (nn_I an) pj (nn_I ke) (nn_I fa) (nn_I co) (nn_I fr) dw (nn_I pr) (nn_I vo) (nn_L Qs) rb ri rv (nn_I vt) (nn_I he) n80 0) → wY_goesOn_48 P (nI b) v 0 8 0 (nI nb) st nu (nn_I so) (nn_I ba) (nn_I an) pj (nn_I ke) (nn_I fa) (nn_I co) (nn_I fr) dw (nn_I pr) (nn_I vo) (nn_L Qs) rb ri rv (nn_I vt) (nn_I he)) := by
  have key : ∀ e n, n + e = 7 → (∃ u' v', rl_R nb u' v' ∧ (∀ P : Int32 → SX → Prop, P 1 u' → wX_asks_2 P (nI b) (e + 1) (nI n) fj (nI nb) (nI lc) tb df sm ju le ls (nn_I so) (nn_I ba) (nn_I an) (nn_I fa) (nn_I co) pi (nn_I fr) de (nn_I ke) (nn_I up) (nn_I pr) op (nn_I vo) ov (nn_L Qs) qb qi qv (nn_I vt) (nn_I he) ch lr) ∧ ∀ (P : Int32 → SY → Prop) (v : Int32), P 1 v' → wY_goesOn_48 P (nI b) v 0 (e + 1) (nI n) (nI nb) st nu (nn_I so) (nn_I ba) (nn_I an) pj (nn_I ke) (nn_I fa) (nn_I co) (nn_I fr) dw (nn_I pr) (nn_I vo) (nn_L Qs) rb ri rv (nn_I vt) (nn_I he)) ∨ ((∀ P : Int32 → SX → Prop, P 0 (fj, (nI nb), (nI lc), tb, df, sm, ju, le, ls, (nn_I so), (nn_I ba), (nn_I an), (nn_I fa), (nn_I co), pi, (nn_I fr), de, (nn_I ke), (nn_I up), (nn_I pr), op, (nn_I vo), ov, (nn_L Qs), qb, qi, qv, (nn_I vt), (nn_I he), ch, lr) → wX_asks_2 P (nI b) (e + 1) (nI n) fj (nI nb) (nI lc) tb df sm ju le ls (nn_I so) (nn_I ba) (nn_I an) (nn_I fa) (nn_I co) pi (nn_I fr) de (nn_I ke) (nn_I up) (nn_I pr) op (nn_I vo) ov (nn_L Qs) qb qi qv (nn_I vt) (nn_I he) ch lr) ∧ ∀ (P : Int32 → SY → Prop) (v : Int32), (∃ n80 : Nat, wY_goesOn_80 P (nI b) v 0 (nI nb) st nu (nn_I so) (nn_I ba) (nn_I an) pj (nn_I ke) (nn_I fa) (nn_I co) (nn_I fr) dw (nn_I pr) (nn_I vo) (nn_L Qs) rb ri rv (nn_I vt) (nn_I he) n80 0) → wY_goesOn_48 P (nI b) v 0 (e + 1) (nI n) (nI nb) st nu (nn_I so) (nn_I ba) (nn_I an) pj (nn_I ke) (nn_I fa) (nn_I co) (nn_I fr) dw (nn_I pr) (nn_I vo) (nn_L Qs) rb ri rv (nn_I vt) (nn_I he)) := by
    intro e
    induction e with
    | zero =>
      intro n hn
      exact Or.inr ⟨fun P h => br_t (nI_le (a := 7) (by omega) (by omega)) h, fun P v h => br_t (nI_le (a := 7) (by omega) (by omega)) h⟩
    | succ e ih =>
      intro n hn
      have z : ¬ (7 : Int32) ≤ nI n := nI_ge (b := 7) (by omega) (by omega)
      obtain ⟨r, u1, v1, R1, hz, aX, aY⟩ := rm_ask (fj := fj) (sm := sm) (ju := ju) hS hB hP hV hQ hC h1 hb (show n < 7 by omega)
      by_cases hr : r = 0
      · obtain ⟨eu, ev⟩ := hz hr
        subst eu; subst ev
        rcases ih (n + 1) (by omega) with ⟨u', v', R', hX, hY⟩ | ⟨hX, hY⟩
        · exact Or.inl ⟨u', v', R', fun P h => br_f z (aX _ (br_t hr (nm_r (nI_1 n) (hX P h)))), fun P v h => br_f z (br_t rfl (aY _ (br_t hr (nm_r (nI_1 n) (hY P v h)))))⟩
        · exact Or.inr ⟨fun P h => br_f z (aX _ (br_t hr (nm_r (nI_1 n) (hX P h)))), fun P v h => br_f z (br_t rfl (aY _ (br_t hr (nm_r (nI_1 n) (hY P v h)))))⟩
      · exact Or.inl ⟨u1, v1, R1, fun P h => br_f z (aX _ (br_f hr h)), fun P v h => br_f z (br_t rfl (aY _ (br_f hr h)))⟩
  rcases key 7 0 (by omega) with ⟨u', v', R', hX, hY⟩ | ⟨hX, hY⟩
  · exact Or.inl ⟨u', v', R', fun P h => ⟨8, hX P h⟩, fun P v h => hY P v h⟩
  · exact Or.inr ⟨fun P h => ⟨8, hX P h⟩, fun P v h => hY P v h⟩
theorem rv_pi {b v : Nat} (hS : rl_S QQ df tb le ls st nu) (hB : rl_B nb lc df so ba fa co) (hP : rl_P nb pk fr pi pj) (hV : rl_V nb pk an ke pr vo vt he) (hQ : rl_Q nb pk Qs up dw pr vo op ov qb qi qv rb ri rv) (hC : rl_C QQ so pk vt he de ch lr) (h1 : 1 ≤ b) (hb : b ≤ nb) (hv1 : 1 ≤ v) (hv : v ≤ 7) (hrd : rm_rd QQ so ba b (an b)) : (∃ u' v', rl_R nb u' v' ∧ (∀ P : Int32 → SX → Prop, P 1 u' → wpX_picks P (fj, (nI nb), (nI lc), tb, df, sm, ju, le, ls, (nn_I so), (nn_I ba), (nn_I an), (nn_I fa), (nn_I co), pi, (nn_I fr), de, (nn_I ke), (nn_I up), (nn_I pr), op, (nn_I vo), ov, (nn_L Qs), qb, qi, qv, (nn_I vt), (nn_I he), ch, lr) (nI b) (nI v)) ∧ ∀ P : Int32 → SY → Prop, P 1 v' → wY_goesOn_80 P (nI b) (nI v) 1 (nI nb) st nu (nn_I so) (nn_I ba) (nn_I an) pj (nn_I ke) (nn_I fa) (nn_I co) (nn_I fr) dw (nn_I pr) (nn_I vo) (nn_L Qs) rb ri rv (nn_I vt) (nn_I he) 4 0) ∨ ((∀ P : Int32 → SX → Prop, P 0 (fj, (nI nb), (nI lc), tb, df, sm, ju, le, ls, (nn_I so), (nn_I ba), (nn_I an), (nn_I fa), (nn_I co), pi, (nn_I fr), de, (nn_I ke), (nn_I up), (nn_I pr), op, (nn_I vo), ov, (nn_L Qs), qb, qi, qv, (nn_I vt), (nn_I he), ch, lr) → wpX_picks P (fj, (nI nb), (nI lc), tb, df, sm, ju, le, ls, (nn_I so), (nn_I ba), (nn_I an), (nn_I fa), (nn_I co), pi, (nn_I fr), de, (nn_I ke), (nn_I up), (nn_I pr), op, (nn_I vo), ov, (nn_L Qs), qb, qi, qv, (nn_I vt), (nn_I he), ch, lr) (nI b) (nI v)) ∧ ∀ P : Int32 → SY → Prop, (∃ n124 : Nat, wY_goesOn_124 P (nI b) (nI v) n124 0 (nI nb) st nu (nn_I so) (nn_I ba) (nn_I an) pj (nn_I ke) (nn_I fa) (nn_I co) (nn_I fr) dw (nn_I pr) (nn_I vo) (nn_L Qs) rb ri rv (nn_I vt) (nn_I he)) → wY_goesOn_80 P (nI b) (nI v) 1 (nI nb) st nu (nn_I so) (nn_I ba) (nn_I an) pj (nn_I ke) (nn_I fa) (nn_I co) (nn_I fr) dw (nn_I pr) (nn_I vo) (nn_L Qs) rb ri rv (nn_I vt) (nn_I he) 4 0) := by
  have hnb := hB.1
  have key : ∀ e i, i + e = 3 → (∃ u' v', rl_R nb u' v' ∧ (∀ P : Int32 → SX → Prop, P 1 u' → wX_picks_2 P (nI b) (nI v) fj (nI nb) (nI lc) tb df sm ju le ls (nn_I so) (nn_I ba) (nn_I an) (nn_I fa) (nn_I co) pi (nn_I fr) de (nn_I ke) (nn_I up) (nn_I pr) op (nn_I vo) ov (nn_L Qs) qb qi qv (nn_I vt) (nn_I he) ch lr (e + 1) (nI i)) ∧ ∀ P : Int32 → SY → Prop, P 1 v' → wY_goesOn_80 P (nI b) (nI v) 1 (nI nb) st nu (nn_I so) (nn_I ba) (nn_I an) pj (nn_I ke) (nn_I fa) (nn_I co) (nn_I fr) dw (nn_I pr) (nn_I vo) (nn_L Qs) rb ri rv (nn_I vt) (nn_I he) (e + 1) (nI i)) ∨ ((∀ P : Int32 → SX → Prop, P 0 (fj, (nI nb), (nI lc), tb, df, sm, ju, le, ls, (nn_I so), (nn_I ba), (nn_I an), (nn_I fa), (nn_I co), pi, (nn_I fr), de, (nn_I ke), (nn_I up), (nn_I pr), op, (nn_I vo), ov, (nn_L Qs), qb, qi, qv, (nn_I vt), (nn_I he), ch, lr) → wX_picks_2 P (nI b) (nI v) fj (nI nb) (nI lc) tb df sm ju le ls (nn_I so) (nn_I ba) (nn_I an) (nn_I fa) (nn_I co) pi (nn_I fr) de (nn_I ke) (nn_I up) (nn_I pr) op (nn_I vo) ov (nn_L Qs) qb qi qv (nn_I vt) (nn_I he) ch lr (e + 1) (nI i)) ∧ ∀ P : Int32 → SY → Prop, (∃ n124 : Nat, wY_goesOn_124 P (nI b) (nI v) n124 0 (nI nb) st nu (nn_I so) (nn_I ba) (nn_I an) pj (nn_I ke) (nn_I fa) (nn_I co) (nn_I fr) dw (nn_I pr) (nn_I vo) (nn_L Qs) rb ri rv (nn_I vt) (nn_I he)) → wY_goesOn_80 P (nI b) (nI v) 1 (nI nb) st nu (nn_I so) (nn_I ba) (nn_I an) pj (nn_I ke) (nn_I fa) (nn_I co) (nn_I fr) dw (nn_I pr) (nn_I vo) (nn_L Qs) rb ri rv (nn_I vt) (nn_I he) (e + 1) (nI i)) := by
    intro e
    induction e with
    | zero =>
      intro i hi
      exact Or.inr ⟨fun P h => br_t (nI_le (a := 3) (by omega) (by omega)) h, fun P h => br_t (nI_le (a := 3) (by omega) (by omega)) h⟩
    | succ e ih =>
      intro i hi
      have z : ¬ (3 : Int32) ≤ nI i := nI_ge (b := 3) (by omega) (by omega)
      have hp := hP.1 (3 * b + i) (by omega)
      have h8 := hP.2.1 (3 * b + i)
      have ci : (nI (3 * b + i)).toNatClampNeg = 3 * b + i := nI_clamp (by omega)
      have v3 : vp_in (nI (3 * b + i)) 39 := vp_in_nI (by omega) (by omega)
      by_cases k0 : pk (3 * b + i) = 0
      · obtain ⟨r, u1, v1, R1, _, hneg, pX, pY⟩ := rm_pick (fj := fj) (sm := sm) (ju := ju) hS hB hP hV hQ hC h1 hb (show i < 3 by omega) hv1 hv
        have hr := hneg k0 hrd
        refine Or.inl ⟨u1, v1, R1, fun P h => br_f z ?_, fun P h => br_f z (br_f nn_10 ?_)⟩
        · rw [rm_i3, ci, hp.1]
          exact ⟨v3, br_t ((nn_p3e h8).mpr k0) (pX _ (br_f hr h))⟩
        · rw [rm_i3, ci, hp.2]
          exact ⟨v3, br_f (fun q => (nn_p1g h8).mp q k0) (pY _ h)⟩
      · have sX : ∀ P : Int32 → SX → Prop, wX_picks_2 P (nI b) (nI v) fj (nI nb) (nI lc) tb df sm ju le ls (nn_I so) (nn_I ba) (nn_I an) (nn_I fa) (nn_I co) pi (nn_I fr) de (nn_I ke) (nn_I up) (nn_I pr) op (nn_I vo) ov (nn_L Qs) qb qi qv (nn_I vt) (nn_I he) ch lr (e + 1) (nI (i + 1)) → wX_picks_2 P (nI b) (nI v) fj (nI nb) (nI lc) tb df sm ju le ls (nn_I so) (nn_I ba) (nn_I an) (nn_I fa) (nn_I co) pi (nn_I fr) de (nn_I ke) (nn_I up) (nn_I pr) op (nn_I vo) ov (nn_L Qs) qb qi qv (nn_I vt) (nn_I he) ch lr (e + 1 + 1) (nI i) := fun P h => br_f z (by
          rw [rm_i3, ci, hp.1]
          exact ⟨v3, br_f (fun q => k0 ((nn_p3e h8).mp q)) (nm_r (nI_1 i) h)⟩)
        have sY : ∀ P : Int32 → SY → Prop, wY_goesOn_80 P (nI b) (nI v) 1 (nI nb) st nu (nn_I so) (nn_I ba) (nn_I an) pj (nn_I ke) (nn_I fa) (nn_I co) (nn_I fr) dw (nn_I pr) (nn_I vo) (nn_L Qs) rb ri rv (nn_I vt) (nn_I he) (e + 1) (nI (i + 1)) → wY_goesOn_80 P (nI b) (nI v) 1 (nI nb) st nu (nn_I so) (nn_I ba) (nn_I an) pj (nn_I ke) (nn_I fa) (nn_I co) (nn_I fr) dw (nn_I pr) (nn_I vo) (nn_L Qs) rb ri rv (nn_I vt) (nn_I he) (e + 1 + 1) (nI i) := fun P h => br_f z (br_f nn_10 (by
          rw [rm_i3, ci, hp.2]
          exact ⟨v3, br_t ((nn_p1g h8).mpr k0) (nm_r (nI_1 i) h)⟩))
        rcases ih (i + 1) (by omega) with ⟨u', v', R', hX, hY⟩ | ⟨hX, hY⟩
        · exact Or.inl ⟨u', v', R', fun P h => sX P (hX P h), fun P h => sY P (hY P h)⟩
        · exact Or.inr ⟨fun P h => sX P (hX P h), fun P h => sY P (hY P h)⟩
  rcases key 3 0 (by omega) with ⟨u', v', R', hX, hY⟩ | ⟨hX, hY⟩
  · exact Or.inl ⟨u', v', R', fun P h => ⟨4, hX P h⟩, hY⟩
  · exact Or.inr ⟨fun P h => ⟨4, hX P h⟩, hY⟩
theorem rv_hvY {b i n x : Nat} {P : Int32 → SY → Prop} {v : Int32} {F : Nat} (hB : rl_B nb lc df so ba fa co) (hP : rl_P nb pk fr pi pj) (hb : b ≤ nb) (hi : i < 3) (hn : n < 7) (hpk : pk (3 * b + i) ≠ 0) (hx : x = pk (3 * b + i) - 1)
    (h : ∀ z0 : Int32, z0 = (if x = 0 then v else nI x) → wY_goesOn_175 P (wY_goesOn_124 P (nI b) v F) (nI b) v (nI (7 * i + n)) z0 (nI n) (nI i) (nI b) (nI nb) st nu (nn_I so) (nn_I ba) (nn_I an) pj (nn_I ke) (nn_I fa) (nn_I co) (nn_I fr) dw (nn_I pr) (nn_I vo) (nn_L Qs) rb ri rv (nn_I vt) (nn_I he)) : wY_goesOn_124 P (nI b) v (F + 1) (nI (7 * i + n)) (nI nb) st nu (nn_I so) (nn_I ba) (nn_I an) pj (nn_I ke) (nn_I fa) (nn_I co) (nn_I fr) dw (nn_I pr) (nn_I vo) (nn_L Qs) rb ri rv (nn_I vt) (nn_I he) := by
  have hnb := hB.1
  have hp := hP.1 (3 * b + i) (by omega)
  have h8 := hP.2.1 (3 * b + i)
  have e7 : nI (7 * i + n) / 7 = nI i := by rw [nn_d7 (by omega), show (7 * i + n) / 7 = i by omega]
  have r7 : nI (7 * i + n) - nI i * 7 = nI n := by rw [← e7, nn_r7 (by omega), show (7 * i + n) % 7 = n by omega]
  refine br_f (nI_ge (b := 21) (by omega) (by omega)) ⟨by decide, ?_⟩
  rw [e7, r7, rm_i3, nI_clamp (by omega), hp.2]
  refine ⟨vp_in_nI (by omega) (by omega), nm_e (br_f (fun q => hpk ((nn_p1n h8).mp q)) ⟨by decide, by decide, br_c (fun q => h v ?_) (fun q => ?_)⟩)⟩
  · rw [if_pos (by have := (nn_p1a h8).mp q; omega)]
  · have ex : nn_p1 (pk (3 * b + i)) = nI x := by rw [hx]; exact if_neg hpk
    rw [ex]
    exact h _ (if_neg (fun w => q (by rw [ex, w]; rfl))).symm
theorem rv_hvi {b i v : Nat} (hS : rl_S QQ df tb le ls st nu) (hB : rl_B nb lc df so ba fa co) (hP : rl_P nb pk fr pi pj) (hV : rl_V nb pk an ke pr vo vt he) (hQ : rl_Q nb pk Qs up dw pr vo op ov qb qi qv rb ri rv) (hC : rl_C QQ so pk vt he de ch lr) (h1 : 1 ≤ b) (hb : b ≤ nb) (hi : i < 3) (hv1 : 1 ≤ v) (hv : v ≤ 7) (hpk : pk (3 * b + i) ≠ 0) : ∀ e n, n + e = 7 →
    (∃ u' v', rl_R nb u' v' ∧ (∀ (P : Int32 → SX → Prop) (J : Int32 → Int32 → Int32 → Int32 → (Nat → Int32) → (Nat → Int32) → (Nat → Int32) → (Nat → Int32) → (Nat → Int32) → (Nat → Int32) → (Nat → Int32) → (Nat → Int32) → (Nat → Int32) → (Nat → Int32) → (Nat → Int32) → (Nat → Int32) → (Nat → Int32) → (Nat → Int32) → (Nat → Int32) → (Nat → Int32) → (Nat → Int32) → (Nat → Int32) → (Nat → Int32) → (Nat → Int32) → (Nat → Int32) → (Nat → Int32) → (Nat → Int32) → (Nat → Int32) → (Nat → Int32) → (Nat → Int32) → (Nat → Int32) → (Nat → Int32) → Prop), P 1 u' → wX_hasVotes_22 P J (nI b) (nI v) (nI i) (nn_p3 (pk (3 * b + i))) (e + 1) (nI n) fj (nI nb) (nI lc) tb df sm ju le ls (nn_I so) (nn_I ba) (nn_I an) (nn_I fa) (nn_I co) pi (nn_I fr) de (nn_I ke) (nn_I up) (nn_I pr) op (nn_I vo) ov (nn_L Qs) qb qi qv (nn_I vt) (nn_I he) ch lr) ∧ ∀ (P : Int32 → SY → Prop) (F : Nat), P 1 v' → wY_goesOn_124 P (nI b) (nI v) (F + e) (nI (7 * i + n)) (nI nb) st nu (nn_I so) (nn_I ba) (nn_I an) pj (nn_I ke) (nn_I fa) (nn_I co) (nn_I fr) dw (nn_I pr) (nn_I vo) (nn_L Qs) rb ri rv (nn_I vt) (nn_I he)) ∨
    ((∀ (P : Int32 → SX → Prop) (J : Int32 → Int32 → Int32 → Int32 → (Nat → Int32) → (Nat → Int32) → (Nat → Int32) → (Nat → Int32) → (Nat → Int32) → (Nat → Int32) → (Nat → Int32) → (Nat → Int32) → (Nat → Int32) → (Nat → Int32) → (Nat → Int32) → (Nat → Int32) → (Nat → Int32) → (Nat → Int32) → (Nat → Int32) → (Nat → Int32) → (Nat → Int32) → (Nat → Int32) → (Nat → Int32) → (Nat → Int32) → (Nat → Int32) → (Nat → Int32) → (Nat → Int32) → (Nat → Int32) → (Nat → Int32) → (Nat → Int32) → (Nat → Int32) → (Nat → Int32) → Prop), J (nI (i + 1)) fj (nI nb) (nI lc) tb df sm ju le ls (nn_I so) (nn_I ba) (nn_I an) (nn_I fa) (nn_I co) pi (nn_I fr) de (nn_I ke) (nn_I up) (nn_I pr) op (nn_I vo) ov (nn_L Qs) qb qi qv (nn_I vt) (nn_I he) ch lr → wX_hasVotes_22 P J (nI b) (nI v) (nI i) (nn_p3 (pk (3 * b + i))) (e + 1) (nI n) fj (nI nb) (nI lc) tb df sm ju le ls (nn_I so) (nn_I ba) (nn_I an) (nn_I fa) (nn_I co) pi (nn_I fr) de (nn_I ke) (nn_I up) (nn_I pr) op (nn_I vo) ov (nn_L Qs) qb qi qv (nn_I vt) (nn_I he) ch lr) ∧ ∀ (P : Int32 → SY → Prop) (F : Nat), wY_goesOn_124 P (nI b) (nI v) F (nI (7 * i + 7)) (nI nb) st nu (nn_I so) (nn_I ba) (nn_I an) pj (nn_I ke) (nn_I fa) (nn_I co) (nn_I fr) dw (nn_I pr) (nn_I vo) (nn_L Qs) rb ri rv (nn_I vt) (nn_I he) → wY_goesOn_124 P (nI b) (nI v) (F + e) (nI (7 * i + n)) (nI nb) st nu (nn_I so) (nn_I ba) (nn_I an) pj (nn_I ke) (nn_I fa) (nn_I co) (nn_I fr) dw (nn_I pr) (nn_I vo) (nn_L Qs) rb ri rv (nn_I vt) (nn_I he)) := by
  have h8 := hP.2.1 (3 * b + i)
  intro e
  induction e with
  | zero =>
    intro n hn
    refine Or.inr ⟨fun P J h => br_t (nI_le (a := 7) (by omega) (by omega)) (nm_r (nI_1 i) h), fun P F h => ?_⟩
    rw [show n = 7 by omega]
    exact h
  | succ e ih =>
    intro n hn
    have z : ¬ (7 : Int32) ≤ nI n := nI_ge (b := 7) (by omega) (by omega)
    have np : ¬ nn_p3 (pk (3 * b + i)) < 0 := fun q => hpk ((nn_p3n h8).mp q)
    obtain ⟨x, hx1, hx7, hcm, exv⟩ : ∃ x, 1 ≤ x ∧ x ≤ 7 ∧ rl_cm pk b i x ∧ nI x = (if pk (3 * b + i) - 1 = 0 then nI v else nI (pk (3 * b + i) - 1)) := by
      by_cases q : pk (3 * b + i) - 1 = 0
      · exact ⟨v, hv1, hv, Or.inl (by omega), (if_pos q).symm⟩
      · exact ⟨pk (3 * b + i) - 1, by omega, by omega, Or.inr (by omega), (if_neg q).symm⟩
    obtain ⟨r, u1, v1, R1, hz, aX, aY⟩ := rm_cast (fj := fj) (sm := sm) (ju := ju) (b := b) (i := i) (n := n) (v := x) hS hB hP hV hQ hC h1 hb hi (by omega) hx1 hx7 hcm
    have gX : ∀ (P : Int32 → SX → Prop) (J : Int32 → Int32 → Int32 → Int32 → (Nat → Int32) → (Nat → Int32) → (Nat → Int32) → (Nat → Int32) → (Nat → Int32) → (Nat → Int32) → (Nat → Int32) → (Nat → Int32) → (Nat → Int32) → (Nat → Int32) → (Nat → Int32) → (Nat → Int32) → (Nat → Int32) → (Nat → Int32) → (Nat → Int32) → (Nat → Int32) → (Nat → Int32) → (Nat → Int32) → (Nat → Int32) → (Nat → Int32) → (Nat → Int32) → (Nat → Int32) → (Nat → Int32) → (Nat → Int32) → (Nat → Int32) → (Nat → Int32) → (Nat → Int32) → (Nat → Int32) → Prop), wX_hasVotes_50 P J (wX_hasVotes_22 P J (nI b) (nI v) (nI i) (nn_p3 (pk (3 * b + i))) (e + 1)) (nI b) (nI v) (nI i) (nn_p3 (pk (3 * b + i))) (nI n) (nI x) (nI n) (nI i) (nI b) fj (nI nb) (nI lc) tb df sm ju le ls (nn_I so) (nn_I ba) (nn_I an) (nn_I fa) (nn_I co) pi (nn_I fr) de (nn_I ke) (nn_I up) (nn_I pr) op (nn_I vo) ov (nn_L Qs) qb qi qv (nn_I vt) (nn_I he) ch lr → wX_hasVotes_22 P J (nI b) (nI v) (nI i) (nn_p3 (pk (3 * b + i))) (e + 1 + 1) (nI n) fj (nI nb) (nI lc) tb df sm ju le ls (nn_I so) (nn_I ba) (nn_I an) (nn_I fa) (nn_I co) pi (nn_I fr) de (nn_I ke) (nn_I up) (nn_I pr) op (nn_I vo) ov (nn_L Qs) qb qi qv (nn_I vt) (nn_I he) ch lr := fun P J h => by
      refine br_f z (br_f np (br_c (fun q => ?_) (fun q => ?_)))
      · have q1 := (nn_p3a h8).mp q
        rw [if_pos (by omega)] at exv
        rw [exv] at h
        exact h
      · have q1 : pk (3 * b + i) ≠ 1 := fun w => q ((nn_p3a h8).mpr w)
        rw [if_neg (by omega)] at exv
        rw [exv] at h
        rw [show nn_p3 (pk (3 * b + i)) = nI (pk (3 * b + i) - 1) from if_neg hpk] at h ⊢
        exact h
    have gY : ∀ (P : Int32 → SY → Prop) (F : Nat), wY_goesOn_175 P (wY_goesOn_124 P (nI b) (nI v) F) (nI b) (nI v) (nI (7 * i + n)) (nI x) (nI n) (nI i) (nI b) (nI nb) st nu (nn_I so) (nn_I ba) (nn_I an) pj (nn_I ke) (nn_I fa) (nn_I co) (nn_I fr) dw (nn_I pr) (nn_I vo) (nn_L Qs) rb ri rv (nn_I vt) (nn_I he) → wY_goesOn_124 P (nI b) (nI v) (F + 1) (nI (7 * i + n)) (nI nb) st nu (nn_I so) (nn_I ba) (nn_I an) pj (nn_I ke) (nn_I fa) (nn_I co) (nn_I fr) dw (nn_I pr) (nn_I vo) (nn_L Qs) rb ri rv (nn_I vt) (nn_I he) := fun P F h =>
      rv_hvY hB hP hb hi (by omega) hpk rfl (fun z0 hz0 => by rw [hz0, ← exv]; exact h)
    by_cases hr : r = 0
    · obtain ⟨eu, ev⟩ := hz hr
      subst eu; subst ev
      rcases ih (n + 1) (by omega) with ⟨u', v', R', hX, hY⟩ | ⟨hX, hY⟩
      · exact Or.inl ⟨u', v', R', fun P J h => gX P J (aX _ (br_t hr (nm_r (nI_1 n) (hX P J h)))), fun P F h => gY P (F + e) (aY _ (br_t hr (nm_r (nI_1 _) (hY P F h))))⟩
      · exact Or.inr ⟨fun P J h => gX P J (aX _ (br_t hr (nm_r (nI_1 n) (hX P J h)))), fun P F h => gY P (F + e) (aY _ (br_t hr (nm_r (nI_1 _) (hY P F h))))⟩
    · exact Or.inl ⟨u1, v1, R1, fun P J h => gX P J (aX _ (br_f hr h)), fun P F h => gY P (F + e) (aY _ (br_f hr h))⟩
theorem rv_hvn {b i : Nat} {P : Int32 → SY → Prop} {v : Int32} {F : Nat} (hB : rl_B nb lc df so ba fa co) (hP : rl_P nb pk fr pi pj) (hb : b ≤ nb) (hi : i < 3) (hpk : pk (3 * b + i) = 0) (h : wY_goesOn_124 P (nI b) v F (nI (7 * i + 7)) (nI nb) st nu (nn_I so) (nn_I ba) (nn_I an) pj (nn_I ke) (nn_I fa) (nn_I co) (nn_I fr) dw (nn_I pr) (nn_I vo) (nn_L Qs) rb ri rv (nn_I vt) (nn_I he)) : ∀ e n, n + e = 7 → wY_goesOn_124 P (nI b) v (F + e) (nI (7 * i + n)) (nI nb) st nu (nn_I so) (nn_I ba) (nn_I an) pj (nn_I ke) (nn_I fa) (nn_I co) (nn_I fr) dw (nn_I pr) (nn_I vo) (nn_L Qs) rb ri rv (nn_I vt) (nn_I he) := by
  have hnb := hB.1
  have hp := hP.1 (3 * b + i) (by omega)
  have h8 := hP.2.1 (3 * b + i)
  intro e
  induction e with
  | zero => intro n hn; rw [show n = 7 by omega]; exact h
  | succ e ih =>
    intro n hn
    have e7 : nI (7 * i + n) / 7 = nI i := by rw [nn_d7 (by omega), show (7 * i + n) / 7 = i by omega]
    refine br_f (nI_ge (b := 21) (by omega) (by omega)) ⟨by decide, ?_⟩
    rw [e7, rm_i3, nI_clamp (by omega), hp.2]
    exact ⟨vp_in_nI (by omega) (by omega), nm_e (br_t ((nn_p1n h8).mpr hpk) (nm_r (nI_1 _) (ih (n + 1) (by omega))))⟩
theorem rv_hv {b v : Nat} (hS : rl_S QQ df tb le ls st nu) (hB : rl_B nb lc df so ba fa co) (hP : rl_P nb pk fr pi pj) (hV : rl_V nb pk an ke pr vo vt he) (hQ : rl_Q nb pk Qs up dw pr vo op ov qb qi qv rb ri rv) (hC : rl_C QQ so pk vt he de ch lr) (h1 : 1 ≤ b) (hb : b ≤ nb) (hv1 : 1 ≤ v) (hv : v ≤ 7) : (∃ u' v', rl_R nb u' v' ∧ (∀ P : Int32 → SX → Prop, P 1 u' → wpX_hasVotes P (fj, (nI nb), (nI lc), tb, df, sm, ju, le, ls, (nn_I so), (nn_I ba), (nn_I an), (nn_I fa), (nn_I co), pi, (nn_I fr), de, (nn_I ke), (nn_I up), (nn_I pr), op, (nn_I vo), ov, (nn_L Qs), qb, qi, qv, (nn_I vt), (nn_I he), ch, lr) (nI b) (nI v)) ∧ ∀ P : Int32 → SY → Prop, P 1 v' → ∃ n124 : Nat, wY_goesOn_124 P (nI b) (nI v) n124 0 (nI nb) st nu (nn_I so) (nn_I ba) (nn_I an) pj (nn_I ke) (nn_I fa) (nn_I co) (nn_I fr) dw (nn_I pr) (nn_I vo) (nn_L Qs) rb ri rv (nn_I vt) (nn_I he)) ∨
    ((∀ P : Int32 → SX → Prop, P 0 (fj, (nI nb), (nI lc), tb, df, sm, ju, le, ls, (nn_I so), (nn_I ba), (nn_I an), (nn_I fa), (nn_I co), pi, (nn_I fr), de, (nn_I ke), (nn_I up), (nn_I pr), op, (nn_I vo), ov, (nn_L Qs), qb, qi, qv, (nn_I vt), (nn_I he), ch, lr) → wpX_hasVotes P (fj, (nI nb), (nI lc), tb, df, sm, ju, le, ls, (nn_I so), (nn_I ba), (nn_I an), (nn_I fa), (nn_I co), pi, (nn_I fr), de, (nn_I ke), (nn_I up), (nn_I pr), op, (nn_I vo), ov, (nn_L Qs), qb, qi, qv, (nn_I vt), (nn_I he), ch, lr) (nI b) (nI v)) ∧ ∀ P : Int32 → SY → Prop, wpY_complete (fun r u => narrow .boolean (.int r) = .int r ∧ P r u) ((nI nb), st, nu, (nn_I so), (nn_I ba), (nn_I an), pj, (nn_I ke), (nn_I fa), (nn_I co), (nn_I fr), dw, (nn_I pr), (nn_I vo), (nn_L Qs), rb, ri, rv, (nn_I vt), (nn_I he)) (nI b) → ∃ n124 : Nat, wY_goesOn_124 P (nI b) (nI v) n124 0 (nI nb) st nu (nn_I so) (nn_I ba) (nn_I an) pj (nn_I ke) (nn_I fa) (nn_I co) (nn_I fr) dw (nn_I pr) (nn_I vo) (nn_L Qs) rb ri rv (nn_I vt) (nn_I he)) := by
  have hnb := hB.1
  have key : ∀ e i, i + e = 3 → (∃ u' v', rl_R nb u' v' ∧ (∀ P : Int32 → SX → Prop, P 1 u' → wX_hasVotes_2 P (nI b) (nI v) (e + 1) (nI i) fj (nI nb) (nI lc) tb df sm ju le ls (nn_I so) (nn_I ba) (nn_I an) (nn_I fa) (nn_I co) pi (nn_I fr) de (nn_I ke) (nn_I up) (nn_I pr) op (nn_I vo) ov (nn_L Qs) qb qi qv (nn_I vt) (nn_I he) ch lr) ∧ ∀ (P : Int32 → SY → Prop) (F : Nat), P 1 v' → wY_goesOn_124 P (nI b) (nI v) (F + 7 * e) (nI (7 * i)) (nI nb) st nu (nn_I so) (nn_I ba) (nn_I an) pj (nn_I ke) (nn_I fa) (nn_I co) (nn_I fr) dw (nn_I pr) (nn_I vo) (nn_L Qs) rb ri rv (nn_I vt) (nn_I he)) ∨
    ((∀ P : Int32 → SX → Prop, P 0 (fj, (nI nb), (nI lc), tb, df, sm, ju, le, ls, (nn_I so), (nn_I ba), (nn_I an), (nn_I fa), (nn_I co), pi, (nn_I fr), de, (nn_I ke), (nn_I up), (nn_I pr), op, (nn_I vo), ov, (nn_L Qs), qb, qi, qv, (nn_I vt), (nn_I he), ch, lr) → wX_hasVotes_2 P (nI b) (nI v) (e + 1) (nI i) fj (nI nb) (nI lc) tb df sm ju le ls (nn_I so) (nn_I ba) (nn_I an) (nn_I fa) (nn_I co) pi (nn_I fr) de (nn_I ke) (nn_I up) (nn_I pr) op (nn_I vo) ov (nn_L Qs) qb qi qv (nn_I vt) (nn_I he) ch lr) ∧ ∀ (P : Int32 → SY → Prop) (F : Nat), wY_goesOn_124 P (nI b) (nI v) F 21 (nI nb) st nu (nn_I so) (nn_I ba) (nn_I an) pj (nn_I ke) (nn_I fa) (nn_I co) (nn_I fr) dw (nn_I pr) (nn_I vo) (nn_L Qs) rb ri rv (nn_I vt) (nn_I he) → wY_goesOn_124 P (nI b) (nI v) (F + 7 * e) (nI (7 * i)) (nI nb) st nu (nn_I so) (nn_I ba) (nn_I an) pj (nn_I ke) (nn_I fa) (nn_I co) (nn_I fr) dw (nn_I pr) (nn_I vo) (nn_L Qs) rb ri rv (nn_I vt) (nn_I he)) := by
    intro e
    induction e with
    | zero =>
      intro i hi
      refine Or.inr ⟨fun P h => br_t (nI_le (a := 3) (by omega) (by omega)) h, fun P F h => ?_⟩
      rw [show i = 3 by omega]
      exact h
    | succ e ih =>
      intro i hi
      have z : ¬ (3 : Int32) ≤ nI i := nI_ge (b := 3) (by omega) (by omega)
      have hp := hP.1 (3 * b + i) (by omega)
      have h8 := hP.2.1 (3 * b + i)
      have ci : (nI (3 * b + i)).toNatClampNeg = 3 * b + i := nI_clamp (by omega)
      have v3 : vp_in (nI (3 * b + i)) 39 := vp_in_nI (by omega) (by omega)
      have ef : ∀ F, F + 7 * (e + 1) = F + 7 * e + 7 := fun F => by omega
      have e71 : 7 * (i + 1) = 7 * i + 7 := by omega
      by_cases k0 : pk (3 * b + i) = 0
      · have sX : ∀ P : Int32 → SX → Prop, wX_hasVotes_2 P (nI b) (nI v) (e + 1) (nI (i + 1)) fj (nI nb) (nI lc) tb df sm ju le ls (nn_I so) (nn_I ba) (nn_I an) (nn_I fa) (nn_I co) pi (nn_I fr) de (nn_I ke) (nn_I up) (nn_I pr) op (nn_I vo) ov (nn_L Qs) qb qi qv (nn_I vt) (nn_I he) ch lr → wX_hasVotes_2 P (nI b) (nI v) (e + 1 + 1) (nI i) fj (nI nb) (nI lc) tb df sm ju le ls (nn_I so) (nn_I ba) (nn_I an) (nn_I fa) (nn_I co) pi (nn_I fr) de (nn_I ke) (nn_I up) (nn_I pr) op (nn_I vo) ov (nn_L Qs) qb qi qv (nn_I vt) (nn_I he) ch lr := fun P h => br_f z (by
          rw [rm_i3, ci, hp.1]
          exact ⟨v3, nm_e ⟨1, br_f (by decide) (br_t ((nn_p3n h8).mpr k0) (nm_r (nI_1 i) h))⟩⟩)
        have sY : ∀ (P : Int32 → SY → Prop) (F : Nat), wY_goesOn_124 P (nI b) (nI v) (F + 7 * e) (nI (7 * (i + 1))) (nI nb) st nu (nn_I so) (nn_I ba) (nn_I an) pj (nn_I ke) (nn_I fa) (nn_I co) (nn_I fr) dw (nn_I pr) (nn_I vo) (nn_L Qs) rb ri rv (nn_I vt) (nn_I he) → wY_goesOn_124 P (nI b) (nI v) (F + 7 * (e + 1)) (nI (7 * i)) (nI nb) st nu (nn_I so) (nn_I ba) (nn_I an) pj (nn_I ke) (nn_I fa) (nn_I co) (nn_I fr) dw (nn_I pr) (nn_I vo) (nn_L Qs) rb ri rv (nn_I vt) (nn_I he) := fun P F h => by
          rw [ef]
          rw [e71] at h
          exact rv_hvn hB hP hb (by omega) k0 h 7 0 (by omega)
        rcases ih (i + 1) (by omega) with ⟨u', v', R', hX, hY⟩ | ⟨hX, hY⟩
        · exact Or.inl ⟨u', v', R', fun P h => sX P (hX P h), fun P F h => sY P F (hY P F h)⟩
        · exact Or.inr ⟨fun P h => sX P (hX P h), fun P F h => sY P F (hY P F h)⟩
      · have sX : ∀ P : Int32 → SX → Prop, wX_hasVotes_22 P (wX_hasVotes_2 P (nI b) (nI v) (e + 1)) (nI b) (nI v) (nI i) (nn_p3 (pk (3 * b + i))) 8 0 fj (nI nb) (nI lc) tb df sm ju le ls (nn_I so) (nn_I ba) (nn_I an) (nn_I fa) (nn_I co) pi (nn_I fr) de (nn_I ke) (nn_I up) (nn_I pr) op (nn_I vo) ov (nn_L Qs) qb qi qv (nn_I vt) (nn_I he) ch lr → wX_hasVotes_2 P (nI b) (nI v) (e + 1 + 1) (nI i) fj (nI nb) (nI lc) tb df sm ju le ls (nn_I so) (nn_I ba) (nn_I an) (nn_I fa) (nn_I co) pi (nn_I fr) de (nn_I ke) (nn_I up) (nn_I pr) op (nn_I vo) ov (nn_L Qs) qb qi qv (nn_I vt) (nn_I he) ch lr := fun P h => br_f z (by
          rw [rm_i3, ci, hp.1]
          exact ⟨v3, nm_e ⟨8, h⟩⟩)
        rcases rv_hvi (fj := fj) (sm := sm) (ju := ju) hS hB hP hV hQ hC h1 hb (show i < 3 by omega) hv1 hv k0 7 0 (by omega) with ⟨u', v', R', hX, hY⟩ | ⟨hX, hY⟩
        · refine Or.inl ⟨u', v', R', fun P h => sX P (hX P _ h), fun P F h => ?_⟩
          rw [ef]
          exact hY P _ h
        · rcases ih (i + 1) (by omega) with ⟨u', v', R', hX2, hY2⟩ | ⟨hX2, hY2⟩
          · refine Or.inl ⟨u', v', R', fun P h => sX P (hX P _ (hX2 P h)), fun P F h => ?_⟩
            rw [ef]
            have := hY2 P F h
            rw [e71] at this
            exact hY P _ this
          · refine Or.inr ⟨fun P h => sX P (hX P _ (hX2 P h)), fun P F h => ?_⟩
            rw [ef]
            have := hY2 P F h
            rw [e71] at this
            exact hY P _ this
  rcases key 3 0 (by omega) with ⟨u', v', R', hX, hY⟩ | ⟨hX, hY⟩
  · exact Or.inl ⟨u', v', R', fun P h => ⟨4, hX P h⟩, fun P h => ⟨_, hY P 0 h⟩⟩
  · exact Or.inr ⟨fun P h => ⟨4, hX P h⟩, fun P h => ⟨_, hY P 1 (br_t (by decide) h)⟩⟩
end drive
end
section
/-! a round of drive, drive -/
theorem rv_step {nb b v : Nat} {u : SX} {w : SY} (R : rl_R nb u w) (h1 : 1 ≤ b) (hb : b ≤ nb) (hv1 : 1 ≤ v) (hv : v ≤ 7) : ∃ (r : Int32) (u' : SX) (v' : SY), rl_R nb u' v' ∧ (r = 0 ∨ r = 1) ∧ (∀ (P : Int32 → SX → Prop) (m d k : Nat), d < m → m ≤ 60 → (r = 0 → wX_drive_36 P (nI b) (nI v) (nI m) k (nI d) 0 u'.1 u'.2.1 u'.2.2.1 u'.2.2.2.1 u'.2.2.2.2.1 u'.2.2.2.2.2.1 u'.2.2.2.2.2.2.1 u'.2.2.2.2.2.2.2.1 u'.2.2.2.2.2.2.2.2.1 u'.2.2.2.2.2.2.2.2.2.1 u'.2.2.2.2.2.2.2.2.2.2.1 u'.2.2.2.2.2.2.2.2.2.2.2.1 u'.2.2.2.2.2.2.2.2.2.2.2.2.1 u'.2.2.2.2.2.2.2.2.2.2.2.2.2.1 u'.2.2.2.2.2.2.2.2.2.2.2.2.2.2.1 u'.2.2.2.2.2.2.2.2.2.2.2.2.2.2.2.1 u'.2.2.2.2.2.2.2.2.2.2.2.2.2.2.2.2.1 u'.2.2.2.2.2.2.2.2.2.2.2.2.2.2.2.2.2.1 u'.2.2.2.2.2.2.2.2.2.2.2.2.2.2.2.2.2.2.1 u'.2.2.2.2.2.2.2.2.2.2.2.2.2.2.2.2.2.2.2.1 u'.2.2.2.2.2.2.2.2.2.2.2.2.2.2.2.2.2.2.2.2.1 u'.2.2.2.2.2.2.2.2.2.2.2.2.2.2.2.2.2.2.2.2.2.1 u'.2.2.2.2.2.2.2.2.2.2.2.2.2.2.2.2.2.2.2.2.2.2.1 u'.2.2.2.2.2.2.2.2.2.2.2.2.2.2.2.2.2.2.2.2.2.2.2.1 u'.2.2.2.2.2.2.2.2.2.2.2.2.2.2.2.2.2.2.2.2.2.2.2.2.1 u'.2.2.2.2.2.2.2.2.2.2.2.2.2.2.2.2.2.2.2.2.2.2.2.2.2.1 u'.2.2.2.2.2.2.2.2.2.2.2.2.2.2.2.2.2.2.2.2.2.2.2.2.2.2.1 u'.2.2.2.2.2.2.2.2.2.2.2.2.2.2.2.2.2.2.2.2.2.2.2.2.2.2.2.1 u'.2.2.2.2.2.2.2.2.2.2.2.2.2.2.2.2.2.2.2.2.2.2.2.2.2.2.2.2.1 u'.2.2.2.2.2.2.2.2.2.2.2.2.2.2.2.2.2.2.2.2.2.2.2.2.2.2.2.2.2.1 u'.2.2.2.2.2.2.2.2.2.2.2.2.2.2.2.2.2.2.2.2.2.2.2.2.2.2.2.2.2.2) → (r = 1 → wX_drive_36 P (nI b) (nI v) (nI m) k (nI (d + 1)) 1 u'.1 u'.2.1 u'.2.2.1 u'.2.2.2.1 u'.2.2.2.2.1 u'.2.2.2.2.2.1 u'.2.2.2.2.2.2.1 u'.2.2.2.2.2.2.2.1 u'.2.2.2.2.2.2.2.2.1 u'.2.2.2.2.2.2.2.2.2.1 u'.2.2.2.2.2.2.2.2.2.2.1 u'.2.2.2.2.2.2.2.2.2.2.2.1 u'.2.2.2.2.2.2.2.2.2.2.2.2.1 u'.2.2.2.2.2.2.2.2.2.2.2.2.2.1 u'.2.2.2.2.2.2.2.2.2.2.2.2.2.2.1 u'.2.2.2.2.2.2.2.2.2.2.2.2.2.2.2.1 u'.2.2.2.2.2.2.2.2.2.2.2.2.2.2.2.2.1 u'.2.2.2.2.2.2.2.2.2.2.2.2.2.2.2.2.2.1 u'.2.2.2.2.2.2.2.2.2.2.2.2.2.2.2.2.2.2.1 u'.2.2.2.2.2.2.2.2.2.2.2.2.2.2.2.2.2.2.2.1 u'.2.2.2.2.2.2.2.2.2.2.2.2.2.2.2.2.2.2.2.2.1 u'.2.2.2.2.2.2.2.2.2.2.2.2.2.2.2.2.2.2.2.2.2.1 u'.2.2.2.2.2.2.2.2.2.2.2.2.2.2.2.2.2.2.2.2.2.2.1 u'.2.2.2.2.2.2.2.2.2.2.2.2.2.2.2.2.2.2.2.2.2.2.2.1 u'.2.2.2.2.2.2.2.2.2.2.2.2.2.2.2.2.2.2.2.2.2.2.2.2.1 u'.2.2.2.2.2.2.2.2.2.2.2.2.2.2.2.2.2.2.2.2.2.2.2.2.2.1 u'.2.2.2.2.2.2.2.2.2.2.2.2.2.2.2.2.2.2.2.2.2.2.2.2.2.2.1 u'.2.2.2.2.2.2.2.2.2.2.2.2.2.2.2.2.2.2.2.2.2.2.2.2.2.2.2.1 u'.2.2.2.2.2.2.2.2.2.2.2.2.2.2.2.2.2.2.2.2.2.2.2.2.2.2.2.2.1 u'.2.2.2.2.2.2.2.2.2.2.2.2.2.2.2.2.2.2.2.2.2.2.2.2.2.2.2.2.2.1 u'.2.2.2.2.2.2.2.2.2.2.2.2.2.2.2.2.2.2.2.2.2.2.2.2.2.2.2.2.2.2) → wX_drive_36 P (nI b) (nI v) (nI m) (k + 1) (nI d) 1 u.1 u.2.1 u.2.2.1 u.2.2.2.1 u.2.2.2.2.1 u.2.2.2.2.2.1 u.2.2.2.2.2.2.1 u.2.2.2.2.2.2.2.1 u.2.2.2.2.2.2.2.2.1 u.2.2.2.2.2.2.2.2.2.1 u.2.2.2.2.2.2.2.2.2.2.1 u.2.2.2.2.2.2.2.2.2.2.2.1 u.2.2.2.2.2.2.2.2.2.2.2.2.1 u.2.2.2.2.2.2.2.2.2.2.2.2.2.1 u.2.2.2.2.2.2.2.2.2.2.2.2.2.2.1 u.2.2.2.2.2.2.2.2.2.2.2.2.2.2.2.1 u.2.2.2.2.2.2.2.2.2.2.2.2.2.2.2.2.1 u.2.2.2.2.2.2.2.2.2.2.2.2.2.2.2.2.2.1 u.2.2.2.2.2.2.2.2.2.2.2.2.2.2.2.2.2.2.1 u.2.2.2.2.2.2.2.2.2.2.2.2.2.2.2.2.2.2.2.1 u.2.2.2.2.2.2.2.2.2.2.2.2.2.2.2.2.2.2.2.2.1 u.2.2.2.2.2.2.2.2.2.2.2.2.2.2.2.2.2.2.2.2.2.1 u.2.2.2.2.2.2.2.2.2.2.2.2.2.2.2.2.2.2.2.2.2.2.1 u.2.2.2.2.2.2.2.2.2.2.2.2.2.2.2.2.2.2.2.2.2.2.2.1 u.2.2.2.2.2.2.2.2.2.2.2.2.2.2.2.2.2.2.2.2.2.2.2.2.1 u.2.2.2.2.2.2.2.2.2.2.2.2.2.2.2.2.2.2.2.2.2.2.2.2.2.1 u.2.2.2.2.2.2.2.2.2.2.2.2.2.2.2.2.2.2.2.2.2.2.2.2.2.2.1 u.2.2.2.2.2.2.2.2.2.2.2.2.2.2.2.2.2.2.2.2.2.2.2.2.2.2.2.1 u.2.2.2.2.2.2.2.2.2.2.2.2.2.2.2.2.2.2.2.2.2.2.2.2.2.2.2.2.1 u.2.2.2.2.2.2.2.2.2.2.2.2.2.2.2.2.2.2.2.2.2.2.2.2.2.2.2.2.2.1 u.2.2.2.2.2.2.2.2.2.2.2.2.2.2.2.2.2.2.2.2.2.2.2.2.2.2.2.2.2.2) ∧ ∀ P : Int32 → SY → Prop, P r v' → wpY_goesOn P w (nI b) (nI v) := by
  refine rl_el (P := fun u w => ∃ (r : Int32) (u' : SX) (v' : SY), rl_R nb u' v' ∧ (r = 0 ∨ r = 1) ∧ (∀ (P : Int32 → SX → Prop) (m d k : Nat), d < m → m ≤ 60 → (r = 0 → wX_drive_36 P (nI b) (nI v) (nI m) k (nI d) 0 u'.1 u'.2.1 u'.2.2.1 u'.2.2.2.1 u'.2.2.2.2.1 u'.2.2.2.2.2.1 u'.2.2.2.2.2.2.1 u'.2.2.2.2.2.2.2.1 u'.2.2.2.2.2.2.2.2.1 u'.2.2.2.2.2.2.2.2.2.1 u'.2.2.2.2.2.2.2.2.2.2.1 u'.2.2.2.2.2.2.2.2.2.2.2.1 u'.2.2.2.2.2.2.2.2.2.2.2.2.1 u'.2.2.2.2.2.2.2.2.2.2.2.2.2.1 u'.2.2.2.2.2.2.2.2.2.2.2.2.2.2.1 u'.2.2.2.2.2.2.2.2.2.2.2.2.2.2.2.1 u'.2.2.2.2.2.2.2.2.2.2.2.2.2.2.2.2.1 u'.2.2.2.2.2.2.2.2.2.2.2.2.2.2.2.2.2.1 u'.2.2.2.2.2.2.2.2.2.2.2.2.2.2.2.2.2.2.1 u'.2.2.2.2.2.2.2.2.2.2.2.2.2.2.2.2.2.2.2.1 u'.2.2.2.2.2.2.2.2.2.2.2.2.2.2.2.2.2.2.2.2.1 u'.2.2.2.2.2.2.2.2.2.2.2.2.2.2.2.2.2.2.2.2.2.1 u'.2.2.2.2.2.2.2.2.2.2.2.2.2.2.2.2.2.2.2.2.2.2.1 u'.2.2.2.2.2.2.2.2.2.2.2.2.2.2.2.2.2.2.2.2.2.2.2.1 u'.2.2.2.2.2.2.2.2.2.2.2.2.2.2.2.2.2.2.2.2.2.2.2.2.1 u'.2.2.2.2.2.2.2.2.2.2.2.2.2.2.2.2.2.2.2.2.2.2.2.2.2.1 u'.2.2.2.2.2.2.2.2.2.2.2.2.2.2.2.2.2.2.2.2.2.2.2.2.2.2.1 u'.2.2.2.2.2.2.2.2.2.2.2.2.2.2.2.2.2.2.2.2.2.2.2.2.2.2.2.1 u'.2.2.2.2.2.2.2.2.2.2.2.2.2.2.2.2.2.2.2.2.2.2.2.2.2.2.2.2.1 u'.2.2.2.2.2.2.2.2.2.2.2.2.2.2.2.2.2.2.2.2.2.2.2.2.2.2.2.2.2.1 u'.2.2.2.2.2.2.2.2.2.2.2.2.2.2.2.2.2.2.2.2.2.2.2.2.2.2.2.2.2.2) → (r = 1 → wX_drive_36 P (nI b) (nI v) (nI m) k (nI (d + 1)) 1 u'.1 u'.2.1 u'.2.2.1 u'.2.2.2.1 u'.2.2.2.2.1 u'.2.2.2.2.2.1 u'.2.2.2.2.2.2.1 u'.2.2.2.2.2.2.2.1 u'.2.2.2.2.2.2.2.2.1 u'.2.2.2.2.2.2.2.2.2.1 u'.2.2.2.2.2.2.2.2.2.2.1 u'.2.2.2.2.2.2.2.2.2.2.2.1 u'.2.2.2.2.2.2.2.2.2.2.2.2.1 u'.2.2.2.2.2.2.2.2.2.2.2.2.2.1 u'.2.2.2.2.2.2.2.2.2.2.2.2.2.2.1 u'.2.2.2.2.2.2.2.2.2.2.2.2.2.2.2.1 u'.2.2.2.2.2.2.2.2.2.2.2.2.2.2.2.2.1 u'.2.2.2.2.2.2.2.2.2.2.2.2.2.2.2.2.2.1 u'.2.2.2.2.2.2.2.2.2.2.2.2.2.2.2.2.2.2.1 u'.2.2.2.2.2.2.2.2.2.2.2.2.2.2.2.2.2.2.2.1 u'.2.2.2.2.2.2.2.2.2.2.2.2.2.2.2.2.2.2.2.2.1 u'.2.2.2.2.2.2.2.2.2.2.2.2.2.2.2.2.2.2.2.2.2.1 u'.2.2.2.2.2.2.2.2.2.2.2.2.2.2.2.2.2.2.2.2.2.2.1 u'.2.2.2.2.2.2.2.2.2.2.2.2.2.2.2.2.2.2.2.2.2.2.2.1 u'.2.2.2.2.2.2.2.2.2.2.2.2.2.2.2.2.2.2.2.2.2.2.2.2.1 u'.2.2.2.2.2.2.2.2.2.2.2.2.2.2.2.2.2.2.2.2.2.2.2.2.2.1 u'.2.2.2.2.2.2.2.2.2.2.2.2.2.2.2.2.2.2.2.2.2.2.2.2.2.2.1 u'.2.2.2.2.2.2.2.2.2.2.2.2.2.2.2.2.2.2.2.2.2.2.2.2.2.2.2.1 u'.2.2.2.2.2.2.2.2.2.2.2.2.2.2.2.2.2.2.2.2.2.2.2.2.2.2.2.2.1 u'.2.2.2.2.2.2.2.2.2.2.2.2.2.2.2.2.2.2.2.2.2.2.2.2.2.2.2.2.2.1 u'.2.2.2.2.2.2.2.2.2.2.2.2.2.2.2.2.2.2.2.2.2.2.2.2.2.2.2.2.2.2) → wX_drive_36 P (nI b) (nI v) (nI m) (k + 1) (nI d) 1 u.1 u.2.1 u.2.2.1 u.2.2.2.1 u.2.2.2.2.1 u.2.2.2.2.2.1 u.2.2.2.2.2.2.1 u.2.2.2.2.2.2.2.1 u.2.2.2.2.2.2.2.2.1 u.2.2.2.2.2.2.2.2.2.1 u.2.2.2.2.2.2.2.2.2.2.1 u.2.2.2.2.2.2.2.2.2.2.2.1 u.2.2.2.2.2.2.2.2.2.2.2.2.1 u.2.2.2.2.2.2.2.2.2.2.2.2.2.1 u.2.2.2.2.2.2.2.2.2.2.2.2.2.2.1 u.2.2.2.2.2.2.2.2.2.2.2.2.2.2.2.1 u.2.2.2.2.2.2.2.2.2.2.2.2.2.2.2.2.1 u.2.2.2.2.2.2.2.2.2.2.2.2.2.2.2.2.2.1 u.2.2.2.2.2.2.2.2.2.2.2.2.2.2.2.2.2.2.1 u.2.2.2.2.2.2.2.2.2.2.2.2.2.2.2.2.2.2.2.1 u.2.2.2.2.2.2.2.2.2.2.2.2.2.2.2.2.2.2.2.2.1 u.2.2.2.2.2.2.2.2.2.2.2.2.2.2.2.2.2.2.2.2.2.1 u.2.2.2.2.2.2.2.2.2.2.2.2.2.2.2.2.2.2.2.2.2.2.1 u.2.2.2.2.2.2.2.2.2.2.2.2.2.2.2.2.2.2.2.2.2.2.2.1 u.2.2.2.2.2.2.2.2.2.2.2.2.2.2.2.2.2.2.2.2.2.2.2.2.1 u.2.2.2.2.2.2.2.2.2.2.2.2.2.2.2.2.2.2.2.2.2.2.2.2.2.1 u.2.2.2.2.2.2.2.2.2.2.2.2.2.2.2.2.2.2.2.2.2.2.2.2.2.2.1 u.2.2.2.2.2.2.2.2.2.2.2.2.2.2.2.2.2.2.2.2.2.2.2.2.2.2.2.1 u.2.2.2.2.2.2.2.2.2.2.2.2.2.2.2.2.2.2.2.2.2.2.2.2.2.2.2.2.1 u.2.2.2.2.2.2.2.2.2.2.2.2.2.2.2.2.2.2.2.2.2.2.2.2.2.2.2.2.2.1 u.2.2.2.2.2.2.2.2.2.2.2.2.2.2.2.2.2.2.2.2.2.2.2.2.2.2.2.2.2.2) ∧ ∀ P : Int32 → SY → Prop, P r v' → wpY_goesOn P w (nI b) (nI v)) R ?_
  intro fj lc tb df sm ju le ls so ba an fa co pi fr de ke up pr op vo ov Qs qb qi qv vt he ch lr st nu pj dw rb ri rv QQ pk hS hB hP hV hQ hC
  dsimp only
  have hnb := hB.1
  have han := hV.2.2.2.2.1 b
  rcases rv_sy (fj := fj) (sm := sm) (ju := ju) hS hB hP hV hQ hC with ⟨u1, v1, R1, sX, sY⟩ | ⟨sX, sY⟩
  · exact ⟨1, u1, v1, R1, Or.inr rfl, fun P m d k hd hm g0 g1 => br_f nn_10 (br_f (nI_ge hd (by omega)) (rm_xready hS hB hb han (sX _ (br_f nn_10 (br_f nn_10 (nm_r (nI_1 d) (g1 rfl))))))), fun P h => sY P _ _ h⟩
  · by_cases hrd : rm_rd QQ so ba b (an b)
    · have xr : ∀ Z : Int32 → Prop, Z 1 → wpX_isReady Z (fj, (nI nb), (nI lc), tb, df, sm, ju, le, ls, (nn_I so), (nn_I ba), (nn_I an), (nn_I fa), (nn_I co), pi, (nn_I fr), de, (nn_I ke), (nn_I up), (nn_I pr), op, (nn_I vo), ov, (nn_L Qs), qb, qi, qv, (nn_I vt), (nn_I he), ch, lr) (nI b) := fun Z h => rm_xready hS hB hb han (by rw [nn_bt hrd]; exact h)
      have yr : ∀ Z : Int32 → Prop, Z 1 → wpY_isReady Z ((nI nb), st, nu, (nn_I so), (nn_I ba), (nn_I an), pj, (nn_I ke), (nn_I fa), (nn_I co), (nn_I fr), dw, (nn_I pr), (nn_I vo), (nn_L Qs), rb, ri, rv, (nn_I vt), (nn_I he)) (nI b) := fun Z h => rm_yready hS hB hb han (by rw [nn_bt hrd]; exact h)
      rcases rv_pi (fj := fj) (sm := sm) (ju := ju) hS hB hP hV hQ hC h1 hb hv1 hv hrd with ⟨u1, v1, R1, pX, pY⟩ | ⟨pX, pY⟩
      · exact ⟨1, u1, v1, R1, Or.inr rfl, fun P m d k hd hm g0 g1 => br_f nn_10 (br_f (nI_ge hd (by omega)) (xr _ (sX _ (br_t rfl (br_f nn_10 (br_f nn_10 (pX _ (br_f nn_10 (br_f nn_10 (nm_r (nI_1 d) (g1 rfl))))))))))), fun P h => sY P _ _ (yr _ ⟨1, br_f (by decide) (br_f nn_10 ⟨4, pY P h⟩)⟩)⟩
      · rcases rv_hv (fj := fj) (sm := sm) (ju := ju) hS hB hP hV hQ hC h1 hb hv1 hv with ⟨u1, v1, R1, cX, cY⟩ | ⟨cX, cY⟩
        · exact ⟨1, u1, v1, R1, Or.inr rfl, fun P m d k hd hm g0 g1 => br_f nn_10 (br_f (nI_ge hd (by omega)) (xr _ (sX _ (br_t rfl (br_f nn_10 (br_f nn_10 (pX _ (br_t rfl (cX _ (br_f nn_10 (br_f nn_10 (nm_r (nI_1 d) (g1 rfl))))))))))))), fun P h => sY P _ _ (yr _ ⟨1, br_f (by decide) (br_f nn_10 ⟨4, pY P (cY P h)⟩)⟩)⟩
        · obtain ⟨r, u1, v1, R1, _, h01, dX, dY⟩ := rm_comp (fj := fj) (sm := sm) (ju := ju) hS hB hP hV hQ hC h1 hb
          have nr : narrow .boolean (.int r) = .int r := by rcases h01 with q | q <;> rw [q] <;> rfl
          refine ⟨r, u1, v1, R1, h01, fun P m d k hd hm g0 g1 => br_f nn_10 (br_f (nI_ge hd (by omega)) (xr _ (sX _ (br_t rfl (br_f nn_10 (br_f nn_10 (pX _ (br_t rfl (cX _ (br_t rfl (dX _ ?_))))))))))), fun P h => sY P _ _ (yr _ ⟨1, br_f (by decide) (br_f nn_10 ⟨4, pY P (cY P (dY _ ⟨nr, h⟩))⟩)⟩)⟩
          rcases h01 with q | q
          · exact br_t q (br_t rfl (g0 q))
          · exact br_f (by rw [q]; exact nn_10) (br_f nn_10 (nm_r (nI_1 d) (g1 q)))
    · have xr : ∀ Z : Int32 → Prop, Z 0 → wpX_isReady Z (fj, (nI nb), (nI lc), tb, df, sm, ju, le, ls, (nn_I so), (nn_I ba), (nn_I an), (nn_I fa), (nn_I co), pi, (nn_I fr), de, (nn_I ke), (nn_I up), (nn_I pr), op, (nn_I vo), ov, (nn_L Qs), qb, qi, qv, (nn_I vt), (nn_I he), ch, lr) (nI b) := fun Z h => rm_xready hS hB hb han (by rw [nn_bf hrd]; exact h)
      have yr : ∀ Z : Int32 → Prop, Z 0 → wpY_isReady Z ((nI nb), st, nu, (nn_I so), (nn_I ba), (nn_I an), pj, (nn_I ke), (nn_I fa), (nn_I co), (nn_I fr), dw, (nn_I pr), (nn_I vo), (nn_L Qs), rb, ri, rv, (nn_I vt), (nn_I he)) (nI b) := fun Z h => rm_yready hS hB hb han (by rw [nn_bf hrd]; exact h)
      rcases rv_as (fj := fj) (sm := sm) (ju := ju) hS hB hP hV hQ hC h1 hb with ⟨u1, v1, R1, aX, aY⟩ | ⟨aX, aY⟩
      · exact ⟨1, u1, v1, R1, Or.inr rfl, fun P m d k hd hm g0 g1 => br_f nn_10 (br_f (nI_ge hd (by omega)) (xr _ (sX _ (br_t rfl (br_t rfl (aX _ (br_f nn_10 (br_f nn_10 (nm_r (nI_1 d) (g1 rfl)))))))))), fun P h => sY P _ _ (yr _ ⟨8, aY P _ h⟩)⟩
      · have y80 : ∀ P : Int32 → SY → Prop, (∃ n124 : Nat, wY_goesOn_124 P (nI b) (nI v) n124 0 (nI nb) st nu (nn_I so) (nn_I ba) (nn_I an) pj (nn_I ke) (nn_I fa) (nn_I co) (nn_I fr) dw (nn_I pr) (nn_I vo) (nn_L Qs) rb ri rv (nn_I vt) (nn_I he)) → ∃ n80 : Nat, wY_goesOn_80 P (nI b) (nI v) 0 (nI nb) st nu (nn_I so) (nn_I ba) (nn_I an) pj (nn_I ke) (nn_I fa) (nn_I co) (nn_I fr) dw (nn_I pr) (nn_I vo) (nn_L Qs) rb ri rv (nn_I vt) (nn_I he) n80 0 := fun P h => ⟨1, br_f (by decide) (br_t rfl h)⟩
        rcases rv_hv (fj := fj) (sm := sm) (ju := ju) hS hB hP hV hQ hC h1 hb hv1 hv with ⟨u1, v1, R1, cX, cY⟩ | ⟨cX, cY⟩
        · exact ⟨1, u1, v1, R1, Or.inr rfl, fun P m d k hd hm g0 g1 => br_f nn_10 (br_f (nI_ge hd (by omega)) (xr _ (sX _ (br_t rfl (br_t rfl (aX _ (br_t rfl (br_t rfl (cX _ (br_f nn_10 (br_f nn_10 (nm_r (nI_1 d) (g1 rfl))))))))))))), fun P h => sY P _ _ (yr _ ⟨8, aY P _ (y80 P (cY P h))⟩)⟩
        · obtain ⟨r, u1, v1, R1, _, h01, dX, dY⟩ := rm_comp (fj := fj) (sm := sm) (ju := ju) hS hB hP hV hQ hC h1 hb
          have nr : narrow .boolean (.int r) = .int r := by rcases h01 with q | q <;> rw [q] <;> rfl
          refine ⟨r, u1, v1, R1, h01, fun P m d k hd hm g0 g1 => br_f nn_10 (br_f (nI_ge hd (by omega)) (xr _ (sX _ (br_t rfl (br_t rfl (aX _ (br_t rfl (br_t rfl (cX _ (br_t rfl (dX _ ?_))))))))))), fun P h => sY P _ _ (yr _ ⟨8, aY P _ (y80 P (cY P (dY _ ⟨nr, h⟩)))⟩)⟩
          rcases h01 with q | q
          · exact br_t q (br_t rfl (g0 q))
          · exact br_f (by rw [q]; exact nn_10) (br_f nn_10 (nm_r (nI_1 d) (g1 q)))
theorem rv_loop {nb b v m : Nat} (h1 : 1 ≤ b) (hb : b ≤ nb) (hv1 : 1 ≤ v) (hv : v ≤ 7) (hm : m ≤ 60) : ∀ e d (u : SX) (w : SY), d + e = m → rl_R nb u w → ∃ (r : Int32) (u' : SX) (v' : SY), rl_R nb u' v' ∧ (∀ P : Int32 → SX → Prop, P r u' → wX_drive_36 P (nI b) (nI v) (nI m) (e + 1) (nI d) 1 u.1 u.2.1 u.2.2.1 u.2.2.2.1 u.2.2.2.2.1 u.2.2.2.2.2.1 u.2.2.2.2.2.2.1 u.2.2.2.2.2.2.2.1 u.2.2.2.2.2.2.2.2.1 u.2.2.2.2.2.2.2.2.2.1 u.2.2.2.2.2.2.2.2.2.2.1 u.2.2.2.2.2.2.2.2.2.2.2.1 u.2.2.2.2.2.2.2.2.2.2.2.2.1 u.2.2.2.2.2.2.2.2.2.2.2.2.2.1 u.2.2.2.2.2.2.2.2.2.2.2.2.2.2.1 u.2.2.2.2.2.2.2.2.2.2.2.2.2.2.2.1 u.2.2.2.2.2.2.2.2.2.2.2.2.2.2.2.2.1 u.2.2.2.2.2.2.2.2.2.2.2.2.2.2.2.2.2.1 u.2.2.2.2.2.2.2.2.2.2.2.2.2.2.2.2.2.2.1 u.2.2.2.2.2.2.2.2.2.2.2.2.2.2.2.2.2.2.2.1 u.2.2.2.2.2.2.2.2.2.2.2.2.2.2.2.2.2.2.2.2.1 u.2.2.2.2.2.2.2.2.2.2.2.2.2.2.2.2.2.2.2.2.2.1 u.2.2.2.2.2.2.2.2.2.2.2.2.2.2.2.2.2.2.2.2.2.2.1 u.2.2.2.2.2.2.2.2.2.2.2.2.2.2.2.2.2.2.2.2.2.2.2.1 u.2.2.2.2.2.2.2.2.2.2.2.2.2.2.2.2.2.2.2.2.2.2.2.2.1 u.2.2.2.2.2.2.2.2.2.2.2.2.2.2.2.2.2.2.2.2.2.2.2.2.2.1 u.2.2.2.2.2.2.2.2.2.2.2.2.2.2.2.2.2.2.2.2.2.2.2.2.2.2.1 u.2.2.2.2.2.2.2.2.2.2.2.2.2.2.2.2.2.2.2.2.2.2.2.2.2.2.2.1 u.2.2.2.2.2.2.2.2.2.2.2.2.2.2.2.2.2.2.2.2.2.2.2.2.2.2.2.2.1 u.2.2.2.2.2.2.2.2.2.2.2.2.2.2.2.2.2.2.2.2.2.2.2.2.2.2.2.2.2.1 u.2.2.2.2.2.2.2.2.2.2.2.2.2.2.2.2.2.2.2.2.2.2.2.2.2.2.2.2.2.2) ∧ ∀ P : Int32 → SY → Prop, P r v' → wY_drive_36 P (nI b) (nI v) (nI m) (e + 1) (nI d) 1 w.1 w.2.1 w.2.2.1 w.2.2.2.1 w.2.2.2.2.1 w.2.2.2.2.2.1 w.2.2.2.2.2.2.1 w.2.2.2.2.2.2.2.1 w.2.2.2.2.2.2.2.2.1 w.2.2.2.2.2.2.2.2.2.1 w.2.2.2.2.2.2.2.2.2.2.1 w.2.2.2.2.2.2.2.2.2.2.2.1 w.2.2.2.2.2.2.2.2.2.2.2.2.1 w.2.2.2.2.2.2.2.2.2.2.2.2.2.1 w.2.2.2.2.2.2.2.2.2.2.2.2.2.2.1 w.2.2.2.2.2.2.2.2.2.2.2.2.2.2.2.1 w.2.2.2.2.2.2.2.2.2.2.2.2.2.2.2.2.1 w.2.2.2.2.2.2.2.2.2.2.2.2.2.2.2.2.2.1 w.2.2.2.2.2.2.2.2.2.2.2.2.2.2.2.2.2.2.1 w.2.2.2.2.2.2.2.2.2.2.2.2.2.2.2.2.2.2.2 := by
  intro e
  induction e with
  | zero =>
    intro d u w hd R
    exact ⟨nI d, u, w, R, fun P h => br_f nn_10 (br_t (nI_le (by omega) (by omega)) h), fun P h => br_f nn_10 (br_t (nI_le (by omega) (by omega)) h)⟩
  | succ e ih =>
    intro d u w hd R
    obtain ⟨r, u1, v1, R1, h01, sX, sY⟩ := rv_step R h1 hb hv1 hv
    have z : ¬ nI m ≤ nI d := nI_ge (by omega) (by omega)
    rcases h01 with q | q
    · refine ⟨nI d, u1, v1, R1, fun P h => sX P m d (e + 1) (by omega) hm (fun _ => br_t rfl h) (fun w => absurd (q.symm.trans w) (by decide)), fun P h => br_f nn_10 (br_f z (sY _ (br_t q ?_)))⟩
      rw [q]
      exact br_t rfl h
    · obtain ⟨r2, u2, v2, R2, hX, hY⟩ := ih (d + 1) u1 v1 (by omega) R1
      refine ⟨r2, u2, v2, R2, fun P h => sX P m d (e + 1) (by omega) hm (fun w => absurd (w.symm.trans q) (by decide)) (fun _ => hX P h), fun P h => br_f nn_10 (br_f z (sY _ (br_f (by rw [q]; exact nn_10) (nm_r (nI_1 d) ?_))))⟩
      rw [q]
      exact hY P h
theorem rt_drive {nb : Nat} {u : SX} {v : SY} (R : rl_R nb u v) (a b c : Int32) : rl_W nb u v (fun _ => False) (fun P => wpX_drive P u a b c) (fun P => wpY_drive P v a b c) := by
  refine rl_el (P := fun u v => rl_W nb u v (fun _ => False) (fun P => wpX_drive P u a b c) (fun P => wpY_drive P v a b c)) R ?_
  intro fj lc tb df sm ju le ls so ba an fa co pi fr de ke up pr op vo ov Qs qb qi qv vt he ch lr st nu pj dw rb ri rv QQ pk hS hB hP hV hQ hC
  have hnb := hB.1
  have R := rl_mk (fj := fj) (sm := sm) (ju := ju) hS hB hP hV hQ hC
  unfold rl_W wpX_drive wpY_drive
  dsimp only
  rcases rm_isB (fj := fj) (nb := nb) (lc := lc) (tb := tb) (df := df) (sm := sm) (ju := ju) (le := le) (ls := ls) (pi := pi) (de := de) (op := op) (ov := ov) (qb := qb) (qi := qi) (qv := qv) (ch := ch) (lr := lr) (so := so) (ba := ba) (an := an) (fa := fa) (co := co) (fr := fr) (ke := ke) (up := up) (pr := pr) (vo := vo) (vt := vt) (he := he) (Qs := Qs) (st := st) (nu := nu) (pj := pj) (dw := dw) (rb := rb) (ri := ri) (rv := rv) (x := a) hnb with ⟨j, hj1, hj, e, xs, ys⟩ | ⟨xs, ys⟩
  · subst e
    rcases nl_bt (x := c) (a := 0) (b := 60) 0 60 (by decide) (by decide) with ⟨m, _, hm, e, xm, ym⟩ | ⟨xm, ym⟩
    · subst e
      rcases nl_bt (x := b) (a := 1) (b := 7) 1 7 (by decide) (by decide) with ⟨t, ht1, ht, e, xt, yt⟩ | ⟨xt, yt⟩
      · subst e
        obtain ⟨r, u', v', R', hX, hY⟩ := rv_loop hj1 hj ht1 ht hm m 0 _ _ (by omega) R
        exact ⟨r, u', v', R', fun q => q.elim, fun P h => xs _ (br_f nn_10 (xm _ (br_f nn_10 (xt _ (br_f nn_10 ⟨_, hX P h⟩))))), fun P h => ys _ (br_f nn_10 (yt _ (br_f nn_10 (ym _ (br_f nn_10 ⟨_, hY P h⟩)))))⟩
      · exact ⟨-1, _, _, R, fun q => q.elim, fun P h => xs _ (br_f nn_10 (xm _ (br_f nn_10 (xt _ (br_t rfl h))))), fun P h => ys _ (br_f nn_10 (yt _ (br_t rfl h)))⟩
    · refine ⟨-1, _, _, R, fun q => q.elim, fun P h => xs _ (br_f nn_10 (xm _ (br_t rfl h))), fun P h => ys _ (br_f nn_10 ?_)⟩
      rcases nl_bt (x := b) (a := 1) (b := 7) 1 7 (by decide) (by decide) with ⟨t, ht1, ht, e, xt, yt⟩ | ⟨xt, yt⟩
      · exact yt _ (br_f nn_10 (ym _ (br_t rfl h)))
      · exact yt _ (br_t rfl h)
  · exact ⟨-1, _, _, R, fun q => q.elim, fun P h => xs _ (br_t rfl h), fun P h => ys _ (br_t rfl h)⟩
end
section
/-! the constructors -/
def rz_f (x : Nat) (c : Int32) : Nat → Int32 := fun j => if j < x then c else 0
theorem rz_f0 {c : Int32} : rz_f 0 c = fun _ => 0 := by
  funext j
  exact if_neg (by omega)
theorem rz_fs {x : Nat} {c : Int32} : upd (rz_f x c) x c = rz_f (x + 1) c := by
  funext j
  by_cases e : j = x
  · rw [e, pk_us]; exact (if_pos (by omega)).symm
  · rw [pk_un e]
    unfold rz_f
    by_cases q : j < x
    · rw [if_pos q, if_pos (by omega)]
    · rw [if_neg q, if_neg (by omega)]
theorem rz_fi {x j : Nat} {c : Int32} (h : j < x) : rz_f x c j = c := if_pos h
section init
variable {fj fb fl : Int32} {tb df sm ju le ls so ba an fa co pi fr de ke up pr op vo ov qu qb qi qv vt he ch lr : Nat → Int32}
theorem xz_256 {P : SX → Prop} (h : P (fj, fb, fl, tb, df, sm, ju, le, ls, so, ba, an, fa, co, (rz_f 39 (-3)), fr, de, ke, up, pr, op, vo, ov, qu, qb, qi, qv, vt, he, ch, lr)) : ∀ e x, x + e = 39 → wX_init_256 P fj fb fl (e + 1) (nI x) tb df sm ju le ls so ba an fa co (rz_f x (-3)) fr de ke up pr op vo ov qu qb qi qv vt he ch lr := by
  intro e
  induction e with
  | zero =>
    intro x hx
    have hx : x = 39 := by omega
    subst hx
    exact br_t (by decide) h
  | succ e ih =>
    intro x hx
    refine pk_le 39 x (fun z => by omega) (fun z => ⟨vp_in_nI z (by omega), nm_r (e' := rz_f (x + 1) (-3)) ?_ (nm_r (nI_1 x) (ih (x + 1) (by omega)))⟩)
    rw [nI_clamp (by omega), nn_v8m3, rz_fs]
theorem xz_235 {P : SX → Prop} (h : P (fj, fb, fl, tb, df, sm, ju, le, ls, so, ba, an, fa, co, (rz_f 39 (-3)), fr, de, ke, (rz_f 7 1), pr, op, vo, ov, qu, qb, qi, qv, vt, he, ch, lr)) : ∀ e x, x + e = 7 → wX_init_235 P fj fb fl (e + 1) (nI x) tb df sm ju le ls so ba an fa co (fun _ => 0) fr de ke (rz_f x 1) pr op vo ov qu qb qi qv vt he ch lr := by
  intro e
  induction e with
  | zero =>
    intro x hx
    have hx : x = 7 := by omega
    subst hx
    refine br_t (by decide) ⟨40, ?_⟩
    have := xz_256 (up := rz_f 7 1) h 39 0 (by omega)
    rw [rz_f0] at this
    exact this
  | succ e ih =>
    intro x hx
    refine pk_le 7 x (fun z => by omega) (fun z => ⟨vp_in_nI z (by omega), nm_r (e' := rz_f (x + 1) 1) ?_ (nm_r (nI_1 x) (ih (x + 1) (by omega)))⟩)
    rw [nI_clamp (by omega), nn_vb1, rz_fs]
end init
section init2
variable {gb : Int32} {st nu yo yb ya yp yk yq yd yf dw yr ys yl rb ri rv yv yh : Nat → Int32}
theorem yz_180 {P : SY → Prop} (h : P (gb, st, nu, yo, yb, ya, (rz_f 39 (-1)), yk, yq, yd, yf, dw, yr, ys, yl, rb, ri, rv, yv, yh)) : ∀ e x, x + e = 39 → wY_init_180 P gb (e + 1) (nI x) st nu yo yb ya (rz_f x (-1)) yk yq yd yf dw yr ys yl rb ri rv yv yh := by
  intro e
  induction e with
  | zero =>
    intro x hx
    have hx : x = 39 := by omega
    subst hx
    exact br_t (by decide) h
  | succ e ih =>
    intro x hx
    refine pk_le 39 x (fun z => by omega) (fun z => ⟨vp_in_nI z (by omega), nm_r (e' := rz_f (x + 1) (-1)) ?_ (nm_r (nI_1 x) (ih (x + 1) (by omega)))⟩)
    rw [nI_clamp (by omega), rz_fs]
theorem yz_160 {P : SY → Prop} (h : P (gb, (rz_f 4 (-1)), nu, yo, yb, ya, (rz_f 39 (-1)), yk, yq, yd, yf, dw, yr, ys, yl, rb, ri, rv, yv, yh)) : ∀ e x, x + e = 4 → wY_init_160 P gb (e + 1) (nI x) (rz_f x (-1)) nu yo yb ya (fun _ => 0) yk yq yd yf dw yr ys yl rb ri rv yv yh := by
  intro e
  induction e with
  | zero =>
    intro x hx
    have hx : x = 4 := by omega
    subst hx
    refine br_t (by decide) ⟨40, ?_⟩
    have := yz_180 (st := rz_f 4 (-1)) h 39 0 (by omega)
    rw [rz_f0] at this
    exact this
  | succ e ih =>
    intro x hx
    refine pk_le 4 x (fun z => by omega) (fun z => ⟨vp_in_nI z (by omega), nm_r (e' := rz_f (x + 1) (-1)) ?_ (nm_r (nI_1 x) (ih (x + 1) (by omega)))⟩)
    rw [nI_clamp (by omega), rz_fs]
end init2
def rz_u : Nat → Nat := fun j => if j < 7 then 1 else 0
theorem rz_ue : rz_f 7 1 = nn_I rz_u := by
  funext j
  unfold rz_f nn_I rz_u
  by_cases h : j < 7
  · rw [if_pos h, if_pos h]; rfl
  · rw [if_neg h, if_neg h]; rfl
theorem rz_bits {P : Nat → Prop} (h : ∀ v, ¬ P v) : rl_bits 0 P :=
  ⟨0, by omega, rfl, rfl, fun v _ _ => ⟨fun q => by rw [Nat.zero_div] at q; exact absurd q (by decide), fun q => absurd q (h v)⟩⟩
theorem rz_R : rl_R 0 (0, 0, 0, (fun _ => 0), (fun _ => 0), (fun _ => 0), (fun _ => 0), (fun _ => 0), (fun _ => 0), (fun _ => 0), (fun _ => 0), (fun _ => 0), (fun _ => 0), (fun _ => 0), rz_f 39 (-3), (fun _ => 0), (fun _ => 0), (fun _ => 0), nn_I rz_u, (fun _ => 0), (fun _ => 0), (fun _ => 0), (fun _ => 0), (fun _ => 0), (fun _ => 0), (fun _ => 0), (fun _ => 0), (fun _ => 0), (fun _ => 0), (fun _ => 0), (fun _ => 0)) (0, rz_f 4 (-1), (fun _ => 0), (fun _ => 0), (fun _ => 0), (fun _ => 0), rz_f 39 (-1), (fun _ => 0), (fun _ => 0), (fun _ => 0), (fun _ => 0), (fun _ => 0), (fun _ => 0), (fun _ => 0), (fun _ => 0), (fun _ => 0), (fun _ => 0), (fun _ => 0), (fun _ => 0), (fun _ => 0)) := by
  have hS : rl_S (fun _ _ _ => false) (fun _ => 0) (fun _ => 0) (fun _ => 0) (fun _ => 0) (rz_f 4 (-1)) (fun _ => 0) := fun s hs => Or.inl ⟨rfl, by rw [rz_fi hs]; decide⟩
  have hB : rl_B 0 0 (fun _ => 0) (fun _ => 0) (fun _ => 0) (fun _ => 0) (fun _ => 0) := ⟨by omega, fun _ => by dsimp only; omega, fun b h1 h2 => by omega, fun _ => by dsimp only; omega, fun _ => by dsimp only; omega, fun _ => by dsimp only; omega, by omega, Or.inl rfl, fun _ _ => rfl⟩
  have hP : rl_P 0 (fun _ => 0) (fun _ => 0) (rz_f 39 (-3)) (rz_f 39 (-1)) := ⟨fun j hj => by rw [rz_fi hj, rz_fi hj]; exact ⟨rfl, rfl⟩, fun _ => by dsimp only; omega, fun _ => by dsimp only; omega, fun j h => absurd (show (0 : Nat) = 1 from h) (by decide), fun _ _ _ _ => rfl⟩
  have hV : rl_V 0 (fun _ => 0) (fun _ => 0) (fun _ => 0) (fun _ => 0) (fun _ => 0) (fun _ => 0) (fun _ => 0) := ⟨fun _ _ _ _ => Or.inl rfl, fun _ _ _ _ _ => Or.inl rfl, fun _ => by dsimp only; omega, fun _ => by dsimp only; omega, fun _ => by dsimp only; omega, fun _ => by dsimp only; omega, fun _ => by dsimp only; omega, fun _ => by dsimp only; omega, fun _ _ _ _ _ _ h => absurd rfl h, fun _ _ _ _ _ _ _ _ h => absurd rfl h⟩
  have hQ : rl_Q 0 (fun _ => 0) (fun _ => []) rz_u (fun _ => 0) (fun _ => 0) (fun _ => 0) (fun _ => 0) (fun _ => 0) (fun _ => 0) (fun _ => 0) (fun _ => 0) (fun _ => 0) (fun _ => 0) (fun _ => 0) := fun n hn => by
    have hu : rz_u n = 1 := if_pos hn
    refine ⟨by rw [hu]; exact Nat.le_refl _, by rw [hu]; rfl, fun _ => rfl, ⟨by simp, fun e he => absurd he (by simp), fun x hx => absurd hx (by simp)⟩, rfl, fun i hi => rfl⟩
  have hC : rl_C (fun _ _ _ => false) (fun _ => 0) (fun _ => 0) (fun _ => 0) (fun _ => 0) (fun _ => 0) (fun _ => 0) (fun _ => 0) := by
    refine ⟨fun b i _ _ => ?_, fun i _ => rz_bits (fun v ⟨b, _, h, _⟩ => absurd rfl h), fun l i _ _ => rz_bits (fun v ⟨b, _, h, _⟩ => absurd rfl h)⟩
    rw [nn_bf (fun ⟨v, _, h, _⟩ => absurd rfl h)]
  exact rl_mk (fj := 0) (lc := 0) (sm := fun _ => 0) (ju := fun _ => 0) hS hB hP hV hQ hC
theorem rz_init : wpX_init (fun u => wpY_init (fun v => ∃ nb, rl_R nb u v)) := by
  have hX : ∀ P : SX → Prop, P (0, 0, 0, (fun _ => 0), (fun _ => 0), (fun _ => 0), (fun _ => 0), (fun _ => 0), (fun _ => 0), (fun _ => 0), (fun _ => 0), (fun _ => 0), (fun _ => 0), (fun _ => 0), rz_f 39 (-3), (fun _ => 0), (fun _ => 0), (fun _ => 0), nn_I rz_u, (fun _ => 0), (fun _ => 0), (fun _ => 0), (fun _ => 0), (fun _ => 0), (fun _ => 0), (fun _ => 0), (fun _ => 0), (fun _ => 0), (fun _ => 0), (fun _ => 0), (fun _ => 0)) → wpX_init P := fun P h => by
    rw [← rz_ue] at h
    have := xz_235 h 7 0 (by omega)
    rw [rz_f0] at this
    exact ⟨8, this⟩
  have hY : ∀ P : SY → Prop, P (0, rz_f 4 (-1), (fun _ => 0), (fun _ => 0), (fun _ => 0), (fun _ => 0), rz_f 39 (-1), (fun _ => 0), (fun _ => 0), (fun _ => 0), (fun _ => 0), (fun _ => 0), (fun _ => 0), (fun _ => 0), (fun _ => 0), (fun _ => 0), (fun _ => 0), (fun _ => 0), (fun _ => 0), (fun _ => 0)) → wpY_init P := fun P h => by
    have := yz_160 h 4 0 (by omega)
    rw [rz_f0] at this
    exact ⟨5, this⟩
  exact hX _ (hY _ ⟨0, rz_R⟩)
end
section
/-! what is owed -/
def i_Rel (_ : Nat) (u : SX) (v : SY) : Prop := ∃ nb, rl_R nb u v
theorem rz_i {k nb : Nat} {u : SX} {v : SY} (h : rl_R nb u v) : i_Rel k u v := Exists.intro nb h
theorem i_up {k : Nat} {u : SX} {v : SY} (h : i_Rel k u v) : i_Rel (k + 7) u v := h
theorem i_vc0 : wpX_init (fun u => wpY_init (fun v => i_Rel 0 u v)) := rz_init
theorem i_vc_define {k : Nat} {u : SX} {v : SY} (I : i_Rel k u v) (hk : k + 7 ≤ 3584) (v1 : Int32) (v2 : Int32) (v3 : Int32) (v4 : Int32) (v5 : Int32) (v6 : Int32) : wpX_define (fun r u' => wpY_define (fun r' v' => r' = r ∧ i_Rel (k + 7) u' v') v v1 v2 v3 v4 v5 v6) u v1 v2 v3 v4 v5 v6 := by
  obtain ⟨nb, R⟩ := I
  exact rt_define R v1 v2 v3 v4 v5 v6
theorem i_vc_quorum {k : Nat} {u : SX} {v : SY} (I : i_Rel k u v) (hk : k + 7 ≤ 3584) (v1 : Int32) (v2 : Int32) (v3 : Int32) : wpX_quorum (fun r => wpY_quorum (fun r' => r' = r ∧ i_Rel (k + 7) u v) v v1 v2 v3) u v1 v2 v3 := by
  obtain ⟨nb, R⟩ := I
  have h := rl_Ai (R := i_Rel (k + 7) u v) (rt_quorum R v1 v2 v3) (rz_i R)
  exact h
theorem i_vc_system {k : Nat} {u : SX} {v : SY} (I : i_Rel k u v) (hk : k + 7 ≤ 3584) (v1 : Int32) (v2 : Int32) (v3 : Int32) : wpX_system (fun r => wpY_system (fun r' => r' = r ∧ i_Rel (k + 7) u v) v v1 v2 v3) u v1 v2 v3 := by
  obtain ⟨nb, R⟩ := I
  have h := rl_Ai (R := i_Rel (k + 7) u v) (rt_system R v1 v2 v3) (rz_i R)
  exact h
theorem i_vc_begin {k : Nat} {u : SX} {v : SY} (I : i_Rel k u v) (hk : k + 7 ≤ 3584) (v1 : Int32) (v2 : Int32) : wpX_begin (fun r u' => wpY_begin (fun r' v' => r' = r ∧ i_Rel (k + 7) u' v') v v1 (lw_bz v2)) u v1 (lw_bz v2) := by
  obtain ⟨nb, R⟩ := I
  obtain ⟨nb2, h⟩ := rt_begin R v1 v2
  have h2 := rl_Wi (R := fun u v => i_Rel (k + 7) u v) h (fun _ _ q => rz_i q)
  exact h2
theorem i_vc_power {k : Nat} {u : SX} {v : SY} (I : i_Rel k u v) (hk : k + 7 ≤ 3584) (v1 : Int32) (v2 : Int32) : wpX_power (fun r u' => wpY_power (fun r' v' => r' = r ∧ i_Rel (k + 7) u' v') v v1 (lw_bz v2)) u v1 (lw_bz v2) := by
  obtain ⟨nb, R⟩ := I
  have h := rl_Wi (R := fun u v => i_Rel (k + 7) u v) (rt_power R v1 v2) (fun _ _ q => rz_i q)
  exact h
theorem i_vc_ask {k : Nat} {u : SX} {v : SY} (I : i_Rel k u v) (hk : k + 7 ≤ 3584) (v1 : Int32) (v2 : Int32) : wpX_ask (fun r u' => wpY_ask (fun r' v' => r' = r ∧ i_Rel (k + 7) u' v') v v1 v2) u v1 v2 := by
  obtain ⟨nb, R⟩ := I
  have h := rl_Wi (R := fun u v => i_Rel (k + 7) u v) (rt_ask R v1 v2) (fun _ _ q => rz_i q)
  exact h
theorem i_vc_pick {k : Nat} {u : SX} {v : SY} (I : i_Rel k u v) (hk : k + 7 ≤ 3584) (v1 : Int32) (v2 : Int32) (v3 : Int32) : wpX_pick (fun r u' => wpY_pick (fun r' v' => r' = r ∧ i_Rel (k + 7) u' v') v v1 v2 v3) u v1 v2 v3 := by
  obtain ⟨nb, R⟩ := I
  have h := rl_Wi (R := fun u v => i_Rel (k + 7) u v) (rt_pick R v1 v2 v3) (fun _ _ q => rz_i q)
  exact h
theorem i_vc_vote {k : Nat} {u : SX} {v : SY} (I : i_Rel k u v) (hk : k + 7 ≤ 3584) (v1 : Int32) (v2 : Int32) (v3 : Int32) : wpX_vote (fun r u' => wpY_vote (fun r' v' => r' = r ∧ i_Rel (k + 7) u' v') v v1 v2 v3) u v1 v2 v3 := by
  obtain ⟨nb, R⟩ := I
  have h := rl_Wi (R := fun u v => i_Rel (k + 7) u v) (rt_vote R v1 v2 v3) (fun _ _ q => rz_i q)
  exact h
theorem i_vc_propose {k : Nat} {u : SX} {v : SY} (I : i_Rel k u v) (hk : k + 7 ≤ 3584) (v1 : Int32) (v2 : Int32) (v3 : Int32) (v4 : Int32) : wpX_propose (fun r u' => wpY_propose (fun r' v' => r' = r ∧ i_Rel (k + 7) u' v') v v1 v2 v3 v4) u v1 v2 v3 v4 := by
  obtain ⟨nb, R⟩ := I
  have h := rl_Wi (R := fun u v => i_Rel (k + 7) u v) (rt_propose R v1 v2 v3 v4) (fun _ _ q => rz_i q)
  exact h
theorem i_vc_sync {k : Nat} {u : SX} {v : SY} (I : i_Rel k u v) (hk : k + 7 ≤ 3584) (v1 : Int32) (v2 : Int32) : wpX_sync (fun r u' => wpY_sync (fun r' v' => r' = r ∧ i_Rel (k + 7) u' v') v v1 v2) u v1 v2 := by
  obtain ⟨nb, R⟩ := I
  have h := rl_Wi (R := fun u v => i_Rel (k + 7) u v) (rt_sync R v1 v2) (fun _ _ q => rz_i q)
  exact h
theorem i_vc_complete {k : Nat} {u : SX} {v : SY} (I : i_Rel k u v) (hk : k + 7 ≤ 3584) (v1 : Int32) : wpX_complete (fun r u' => wpY_complete (fun r' v' => r' = r ∧ i_Rel (k + 7) u' v') v v1) u v1 := by
  obtain ⟨nb, R⟩ := I
  have h := rl_Wi (R := fun u v => i_Rel (k + 7) u v) (rt_complete R v1) (fun _ _ q => rz_i q)
  exact h
theorem i_vc_hear {k : Nat} {u : SX} {v : SY} (I : i_Rel k u v) (hk : k + 7 ≤ 3584) (v1 : Int32) (v2 : Int32) : wpX_hear (fun r u' => wpY_hear (fun r' v' => r' = r ∧ i_Rel (k + 7) u' v') v v1 v2) u v1 v2 := by
  obtain ⟨nb, R⟩ := I
  have h := rl_Wi (R := fun u v => i_Rel (k + 7) u v) (rt_hear R v1 v2) (fun _ _ q => rz_i q)
  exact h
theorem i_vc_node {k : Nat} {u : SX} {v : SY} (I : i_Rel k u v) (hk : k + 7 ≤ 3584) (v1 : Int32) (v2 : Int32) : wpX_node (fun r => wpY_node (fun r' => r' = r ∧ i_Rel (k + 7) u v) v v1 v2) u v1 v2 := by
  obtain ⟨nb, R⟩ := I
  have h := rl_Ai (R := i_Rel (k + 7) u v) (rt_node R v1 v2) (rz_i R)
  exact h
theorem i_vc_ballot {k : Nat} {u : SX} {v : SY} (I : i_Rel k u v) (hk : k + 7 ≤ 3584) (v1 : Int32) (v2 : Int32) : wpX_ballot (fun r => wpY_ballot (fun r' => r' = r ∧ i_Rel (k + 7) u v) v v1 v2) u v1 v2 := by
  obtain ⟨nb, R⟩ := I
  have h := rl_Ai (R := i_Rel (k + 7) u v) (rt_ballot R v1 v2) (rz_i R)
  exact h
theorem i_vc_tally {k : Nat} {u : SX} {v : SY} (I : i_Rel k u v) (hk : k + 7 ≤ 3584) (v1 : Int32) (v2 : Int32) (v3 : Int32) : wpX_tally (fun r => wpY_tally (fun r' => r' = r ∧ i_Rel (k + 7) u v) v v1 v2 v3) u v1 v2 v3 := by
  obtain ⟨nb, R⟩ := I
  have h := rl_Ai (R := i_Rel (k + 7) u v) (rt_tally R v1 v2 v3) (rz_i R)
  exact h
theorem i_vc_chosen {k : Nat} {u : SX} {v : SY} (I : i_Rel k u v) (hk : k + 7 ≤ 3584) (v1 : Int32) : wpX_chosen (fun r => wpY_chosen (fun r' => r' = r ∧ i_Rel (k + 7) u v) v v1) u v1 := by
  obtain ⟨nb, R⟩ := I
  have h := rl_Ai (R := i_Rel (k + 7) u v) (rt_chosen R v1) (rz_i R)
  exact h
theorem i_vc_possible {k : Nat} {u : SX} {v : SY} (I : i_Rel k u v) (hk : k + 7 ≤ 3584) (v1 : Int32) : wpX_possible (fun r => wpY_possible (fun r' => r' = r ∧ i_Rel (k + 7) u v) v v1) u v1 := by
  obtain ⟨nb, R⟩ := I
  have h := rl_Ai (R := i_Rel (k + 7) u v) (rt_possible R v1) (rz_i R)
  exact h
theorem i_vc_learned {k : Nat} {u : SX} {v : SY} (I : i_Rel k u v) (hk : k + 7 ≤ 3584) (v1 : Int32) (v2 : Int32) : wpX_learned (fun r => wpY_learned (fun r' => r' = r ∧ i_Rel (k + 7) u v) v v1 v2) u v1 v2 := by
  obtain ⟨nb, R⟩ := I
  have h := rl_Ai (R := i_Rel (k + 7) u v) (rt_learned R v1 v2) (rz_i R)
  exact h
theorem i_vc_common {k : Nat} {u : SX} {v : SY} (I : i_Rel k u v) (hk : k + 7 ≤ 3584) (v1 : Int32) (v2 : Int32) (v3 : Int32) (v4 : Int32) : wpX_common (fun r => wpY_common (fun r' => r' = r ∧ i_Rel (k + 7) u v) v v1 v2 v3 v4) u v1 v2 v3 v4 := by
  obtain ⟨nb, R⟩ := I
  have h := rl_Ai (R := i_Rel (k + 7) u v) (rt_common R v1 v2 v3 v4) (rz_i R)
  exact h
theorem i_vc_answers {k : Nat} {u : SX} {v : SY} (I : i_Rel k u v) (hk : k + 7 ≤ 3584) (v1 : Int32) : wpX_answers (fun r => wpY_answers (fun r' => r' = r ∧ i_Rel (k + 7) u v) v v1) u v1 := by
  obtain ⟨nb, R⟩ := I
  have h := rl_Ai (R := i_Rel (k + 7) u v) (rt_answers R v1) (rz_i R)
  exact h
theorem i_vc_votes {k : Nat} {u : SX} {v : SY} (I : i_Rel k u v) (hk : k + 7 ≤ 3584) (v1 : Int32) (v2 : Int32) (v3 : Int32) : wpX_votes (fun r => wpY_votes (fun r' => r' = r ∧ i_Rel (k + 7) u v) v v1 v2 v3) u v1 v2 v3 := by
  obtain ⟨nb, R⟩ := I
  have h := rl_Ai (R := i_Rel (k + 7) u v) (rt_votes R v1 v2 v3) (rz_i R)
  exact h
theorem i_vc_drive {k : Nat} {u : SX} {v : SY} (I : i_Rel k u v) (hk : k + 7 ≤ 3584) (v1 : Int32) (v2 : Int32) (v3 : Int32) : wpX_drive (fun r u' => wpY_drive (fun r' v' => r' = r ∧ i_Rel (k + 7) u' v') v v1 v2 v3) u v1 v2 v3 := by
  obtain ⟨nb, R⟩ := I
  have h := rl_Wi (R := fun u v => i_Rel (k + 7) u v) (rt_drive R v1 v2 v3) (fun _ _ q => rz_i q)
  exact h
end

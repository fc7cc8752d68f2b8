section
section HZ01
/-! pure rows to paste: stores, nI and lN arithmetic, masks, shifts, narrowing, branches by naturals (pk_le, pk_lt, pk_eq), loops (lp1 .. lp16: the measure of the state; rp1 ..: recursion), negatives. Take what you need -/
theorem pk_us {f : Nat → Int32} {k : Nat} {x : Int32} : upd f k x k = x := if_pos rfl
theorem pk_un {f : Nat → Int32} {k j : Nat} {x : Int32} (h : j ≠ k) : upd f k x j = f j := if_neg h
theorem pk_uLs {f : Nat → Int64} {k : Nat} {x : Int64} : vp_updL f k x k = x := if_pos rfl
theorem pk_uLn {f : Nat → Int64} {k j : Nat} {x : Int64} (h : j ≠ k) : vp_updL f k x j = f j := if_neg h
theorem pk_sub {a b : Nat} (h : b ≤ a) : nI a - nI b = nI (a - b) := by
  obtain ⟨c, rfl⟩ : ∃ c, a = c + b := ⟨a - b, by omega⟩
  rw [← nI_add, Int32.add_sub_cancel, Nat.add_sub_cancel]
theorem pk_m1 (n : Nat) : nI (n + 1) + (-1) = nI n := by
  rw [← nI_1, Int32.add_assoc, show (1 : Int32) + (-1) = 0 from rfl, Int32.add_zero]
theorem pk_mul (a b : Nat) : nI a * nI b = nI (a * b) := (Int32.ofNat_mul a b).symm
theorem pk_div {a d : Nat} (ha : a < 2 ^ 31) (h0 : 0 < d) (hd : d < 2 ^ 31) : nI a / nI d = nI (a / d) := by
  apply Int32.toInt_inj.mp
  rw [lg_idiv_nonneg (by rw [nI_toInt ha]; omega) (by rw [nI_toInt hd]; omega), nI_toInt ha, nI_toInt hd, nI_toInt (Nat.lt_of_le_of_lt (Nat.div_le_self a d) ha)]
  first | rfl | exact (Int.natCast_ediv _ _).symm
theorem pk_rem {a d : Nat} (ha : a < 2 ^ 31) (h0 : 0 < d) (hd : d < 2 ^ 31) : nI a - nI a / nI d * nI d = nI (a % d) := by
  rw [pk_div ha h0 hd, pk_mul, pk_sub (Nat.div_mul_le_self a d)]
  exact congrArg nI (by have := Nat.div_add_mod' a d; omega)
theorem pk_sub_toInt {a b : Nat} (ha : a < 2 ^ 30) (hb : b < 2 ^ 30) : (nI a - nI b).toInt = (a : Int) - b := by
  rw [Int32.toInt_sub, nI_toInt (by omega), nI_toInt (by omega)]
  exact Int.bmod_eq_of_le (by omega) (by omega)
theorem pk_sneg {a b : Nat} (hb : b < 2 ^ 30) (h : a < b) : nI a - nI b < 0 := by
  rw [Int32.lt_iff_toInt_lt, pk_sub_toInt (by omega) hb, show (0 : Int32).toInt = 0 from by decide]
  omega
theorem pk_ix (x : Int32) {n : Nat} (hn : n < 2 ^ 31) : x < 0 ∨ nI n ≤ x ∨ ∃ j : Nat, j < n ∧ x = nI j := by
  by_cases h : x < 0
  · exact Or.inl h
  · obtain ⟨j, hj, rfl⟩ := nI_of h
    by_cases h2 : j < n
    · exact Or.inr (Or.inr ⟨j, h2, rfl⟩)
    · exact Or.inr (Or.inl (nI_le (by omega) hj))
theorem pk_le {x y : Int32} {A B : Prop} (a b : Nat) (f : a ≤ b → A) (g : b < a → B) (hx : x = nI a := by rfl) (hy : y = nI b := by rfl) (ha : a < 2 ^ 31 := by omega) (hb : b < 2 ^ 31 := by omega) : (x ≤ y → A) ∧ (¬ x ≤ y → B) := by
  subst hx hy
  rw [nI_leI ha hb]
  exact ⟨f, fun z => g (by omega)⟩
theorem pk_lt {x y : Int32} {A B : Prop} (a b : Nat) (f : a < b → A) (g : b ≤ a → B) (hx : x = nI a := by rfl) (hy : y = nI b := by rfl) (ha : a < 2 ^ 31 := by omega) (hb : b < 2 ^ 31 := by omega) : (x < y → A) ∧ (¬ x < y → B) := by
  subst hx hy
  rw [nI_ltI ha hb]
  exact ⟨f, fun z => g (by omega)⟩
theorem pk_eq {x y : Int32} {A B : Prop} (a b : Nat) (f : a = b → A) (g : a ≠ b → B) (hx : x = nI a := by rfl) (hy : y = nI b := by rfl) (ha : a < 2 ^ 31 := by omega) (hb : b < 2 ^ 31 := by omega) : (x = y → A) ∧ (¬ x = y → B) := by
  subst hx hy
  rw [nI_eq ha hb]
  exact ⟨f, g⟩
theorem pk_in {x : Int32} (n N : Nat) (h : n < N) (hx : x = nI n := by rfl) (hN : N < 2 ^ 31 := by omega) : vp_in x N := by
  subst hx
  exact vp_in_nI h hN
theorem pk_cl {x : Int32} (n : Nat) (hx : x = nI n := by rfl) (h : n < 2 ^ 31 := by omega) : x.toNatClampNeg = n := by
  subst hx
  exact nI_clamp h
theorem pk_tn {n : Nat} (h : n < 2 ^ 32) : (nI n).toBitVec.toNat = n := Nat.mod_eq_of_lt h
theorem pk_and (x : Int32) {m : Int32} (k : Nat) (hm : m.toBitVec.toNat = 2 ^ k - 1) : x &&& m = nI (x.toBitVec.toNat % 2 ^ k) := by
  apply Int32.toBitVec_inj.mp
  apply BitVec.eq_of_toNat_eq
  rw [Int32.toBitVec_and, BitVec.toNat_and, hm, Nat.and_two_pow_sub_one_eq_mod]
  show _ = (BitVec.ofNat 32 _).toNat
  rw [BitVec.toNat_ofNat]
  exact (Nat.mod_eq_of_lt (Nat.lt_of_le_of_lt (Nat.mod_le _ _) x.toBitVec.isLt)).symm
theorem pk_andN {n : Nat} (h : n < 2 ^ 32) {m : Int32} (k : Nat) (hm : m.toBitVec.toNat = 2 ^ k - 1) : nI n &&& m = nI (n % 2 ^ k) := by
  rw [pk_and _ k hm, pk_tn h]
theorem pk_andE (x : Int32) {m : Int32} (k : Nat) (hm : m.toBitVec.toNat = 2 ^ k - 1) : ∃ j : Nat, j < 2 ^ k ∧ x &&& m = nI j := ⟨_, Nat.mod_lt _ (Nat.two_pow_pos k), pk_and x k hm⟩
theorem pk_andIn (x : Int32) {m : Int32} (k : Nat) (hm : m.toBitVec.toNat = 2 ^ k - 1) (hk : k ≤ 30) : vp_in (x &&& m) (2 ^ k) := by
  obtain ⟨j, hj, e⟩ := pk_andE x k hm
  rw [e]
  exact vp_in_nI hj (Nat.lt_of_le_of_lt (Nat.pow_le_pow_right (by decide) hk) (by decide))
theorem pk_shl (a s : Int32) (k : Nat) (hs : (s.toBitVec.smod 32).toNat = k) : (a <<< s).toBitVec.toNat = a.toBitVec.toNat * 2 ^ k % 2 ^ 32 := by
  show (a.toBitVec <<< (s.toBitVec.smod 32).toNat).toNat = _
  rw [hs, BitVec.toNat_shiftLeft, Nat.shiftLeft_eq]
theorem pk_shlN {n : Nat} (s : Int32) (k : Nat) (hs : (s.toBitVec.smod 32).toNat = k) (h : n * 2 ^ k < 2 ^ 32) : nI n <<< s = nI (n * 2 ^ k) := by
  apply Int32.toBitVec_inj.mp
  apply BitVec.eq_of_toNat_eq
  have hn : n < 2 ^ 32 := Nat.lt_of_le_of_lt (Nat.le_mul_of_pos_right n (Nat.two_pow_pos k)) h
  rw [pk_shl _ _ k hs, pk_tn hn, pk_tn h, Nat.mod_eq_of_lt h]
theorem pk_shr (a s : Int32) (k : Nat) (hs : (s.toBitVec.smod 32).toNat = k) : (a >>> s).toInt = a.toInt >>> k := by
  show (a.toBitVec.sshiftRight (s.toBitVec.smod 32).toNat).toInt = _
  rw [hs, BitVec.toInt_sshiftRight]
  rfl
theorem pk_shrN {n : Nat} (h : n < 2 ^ 31) (s : Int32) (k : Nat) (hs : (s.toBitVec.smod 32).toNat = k) : nI n >>> s = nI (n / 2 ^ k) := by
  apply Int32.toInt_inj.mp
  have h2 : n / 2 ^ k ≤ n := Nat.div_le_self _ _
  rw [pk_shr _ _ k hs, nI_toInt h, nI_toInt (by omega), Int.shiftRight_eq_div_pow]
  rfl
theorem pk_ushr (x s : Int32) (k : Nat) (hs : ((s.toUInt32 &&& Int32.toUInt32 31).toBitVec % 32).toNat = k) : (x.toUInt32 >>> (s.toUInt32 &&& Int32.toUInt32 31)).toInt32.toBitVec.toNat = x.toBitVec.toNat / 2 ^ k := by
  have e : (x.toUInt32 >>> (s.toUInt32 &&& Int32.toUInt32 31)).toInt32.toBitVec = x.toBitVec >>> k := by
    rw [← hs]
    exact UInt32.toBitVec_shiftRight _ _
  rw [e, BitVec.toNat_ushiftRight, Nat.shiftRight_eq_div_pow]
theorem pk_ushrN {n : Nat} (hn : n < 2 ^ 32) (s : Int32) (k : Nat) (hs : ((s.toUInt32 &&& Int32.toUInt32 31).toBitVec % 32).toNat = k) : ((nI n).toUInt32 >>> (s.toUInt32 &&& Int32.toUInt32 31)).toInt32 = nI (n / 2 ^ k) := by
  apply Int32.toBitVec_inj.mp
  apply BitVec.eq_of_toNat_eq
  rw [pk_ushr _ s k hs, pk_tn hn, pk_tn (Nat.lt_of_le_of_lt (Nat.div_le_self _ _) hn)]
theorem pk_nb (z : Int32) : narrow .byte (.int z.toInt8.toInt32) = .int z.toInt8.toInt32 := congrArg Value.int (by simp)
theorem pk_ns (z : Int32) : narrow .short (.int z.toInt16.toInt32) = .int z.toInt16.toInt32 := congrArg Value.int (by simp)
theorem pk_fb (r : Int32) : fits .byte (.int r.toInt8.toInt32) = true := by
  have ⟨a, b⟩ := lg_i2b_range r
  have h1 : (-128 : Int32).toInt = -128 := by decide
  have h2 : (127 : Int32).toInt = 127 := by decide
  simp only [fits, Bool.and_eq_true, decide_eq_true_eq, Int32.le_iff_toInt_le, h1, h2]
  omega
theorem pk_fs (r : Int32) : fits .short (.int r.toInt16.toInt32) = true := by
  have ⟨a, b⟩ := lg_i2s_range r
  have h1 : (-32768 : Int32).toInt = -32768 := by decide
  have h2 : (32767 : Int32).toInt = 32767 := by decide
  simp only [fits, Bool.and_eq_true, decide_eq_true_eq, Int32.le_iff_toInt_le, h1, h2]
  omega
theorem pk_charN {q : Nat} (hq : q < 65536) : narrow .char (.int (nI q)) = .int (nI q) ∧ fits .char (.int (nI q)) = true := by
  constructor
  · have e : (nI q).toUInt32.toUInt16.toUInt32.toInt32 = nI q := by
      apply Int32.toBitVec_inj.mp
      apply BitVec.eq_of_toNat_eq
      show (nI q).toUInt32.toUInt16.toUInt32.toNat = q % 2 ^ 32
      rw [UInt16.toNat_toUInt32, UInt32.toNat_toUInt16, show (nI q).toUInt32.toNat = q % 2 ^ 32 from rfl]
      omega
    exact congrArg Value.int e
  · have a : (0 : Int32) ≤ nI q := nI_pos' (by omega)
    have b : nI q ≤ 65535 := nI_le (b := 65535) (by omega) (by decide)
    show (decide ((0 : Int32) ≤ nI q) && decide (nI q ≤ 65535)) = true
    rw [decide_eq_true a, decide_eq_true b]
    rfl
theorem pk_char (x : Int32) : (x.toUInt32 % 65536).toInt32 = nI (x.toBitVec.toNat % 65536) := by
  apply Int32.toBitVec_inj.mp
  apply BitVec.eq_of_toNat_eq
  rw [pk_tn (by omega)]
  show (x.toUInt32 % 65536).toNat = _
  rw [UInt32.toNat_mod]
  rfl
theorem pk_nc (x : Int32) : narrow .char (.int (x.toUInt32 % 65536).toInt32) = .int (x.toUInt32 % 65536).toInt32 := by
  rw [pk_char]
  exact (pk_charN (Nat.mod_lt _ (by decide))).1
theorem pk_fc (x : Int32) : fits .char (.int (x.toUInt32 % 65536).toInt32) = true := by
  rw [pk_char]
  exact (pk_charN (Nat.mod_lt _ (by decide))).2
theorem pk_vb (z : Int32) : vp_nar .byte z.toInt8.toInt32 = z.toInt8.toInt32 := by rw [vp_nar_byte]; simp
theorem pk_vs (z : Int32) : vp_nar .short z.toInt16.toInt32 = z.toInt16.toInt32 := by rw [vp_nar_short]; simp
theorem pk_vc (z : Int32) : vp_nar .char (z.toUInt32 % 65536).toInt32 = (z.toUInt32 % 65536).toInt32 := Value.int.inj (pk_nc z)
def bt (x : Int32) (i : Nat) : Bool := x.toBitVec.getLsbD i
theorem b_ext {x y : Int32} (h : ∀ i, i < 32 → bt x i = bt y i) : x = y := Int32.toBitVec_inj.mp (BitVec.eq_of_getLsbD_eq (fun i hi => h i hi))
theorem b_or (x y : Int32) (i : Nat) : bt (x ||| y) i = (bt x i || bt y i) := by unfold bt; rw [Int32.toBitVec_or, BitVec.getLsbD_or]
theorem b_and (x y : Int32) (i : Nat) : bt (x &&& y) i = (bt x i && bt y i) := by unfold bt; rw [Int32.toBitVec_and, BitVec.getLsbD_and]
theorem b_xor (x y : Int32) (i : Nat) : bt (x ^^^ y) i = (bt x i ^^ bt y i) := by unfold bt; rw [Int32.toBitVec_xor, BitVec.getLsbD_xor]
theorem b_big {x : Int32} {i : Nat} (h : 32 ≤ i) : bt x i = false := BitVec.getLsbD_of_ge _ _ h
theorem b_255 (i : Nat) : bt 255 i = decide (i < 8) := by
  rcases Nat.lt_or_ge i 32 with h | h
  · exact (by decide +kernel : ∀ i, i < 32 → bt 255 i = decide (i < 8)) i h
  · rw [b_big h, decide_eq_false (by omega)]
theorem b_65535 (i : Nat) : bt 65535 i = decide (i < 16) := by
  rcases Nat.lt_or_ge i 32 with h | h
  · exact (by decide +kernel : ∀ i, i < 32 → bt 65535 i = decide (i < 16)) i h
  · rw [b_big h, decide_eq_false (by omega)]
theorem b_m1 : ∀ i, i < 32 → bt (-1) i = true := by decide +kernel
theorem b_0 (i : Nat) : bt 0 i = false := BitVec.getLsbD_zero
theorem s_l : ∀ n, n < 32 → ((nI n &&& 31).toBitVec.smod 32).toNat = n := by decide +kernel
theorem s_u : ∀ n, n < 32 → (((nI n).toUInt32 &&& Int32.toUInt32 31).toBitVec % 32).toNat = n := by decide +kernel
theorem b_shl (n : Nat) (hn : n < 32) (x : Int32) {i : Nat} (hi : i < 32) : bt (x <<< (nI n &&& 31)) i = (decide (n ≤ i) && bt x (i - n)) := by
  unfold bt
  rw [Int32.toBitVec_shiftLeft]
  show (x.toBitVec <<< ((nI n &&& 31).toBitVec.smod 32).toNat).getLsbD i = _
  rw [s_l n hn, BitVec.getLsbD_shiftLeft]
  rcases Nat.lt_or_ge i n with h | h
  · simp [h, Nat.not_le.mpr h]
  · simp [hi, h, Nat.not_lt.mpr h]
theorem b_ushr (n : Nat) (hn : n < 32) (x : Int32) (i : Nat) : bt ((x.toUInt32 >>> ((nI n).toUInt32 &&& Int32.toUInt32 31)).toInt32) i = bt x (n + i) := by
  show (x.toUInt32 >>> ((nI n).toUInt32 &&& Int32.toUInt32 31)).toBitVec.getLsbD i = x.toUInt32.toBitVec.getLsbD (n + i)
  rw [UInt32.toBitVec_shiftRight]
  show (x.toUInt32.toBitVec >>> (((nI n).toUInt32 &&& Int32.toUInt32 31).toBitVec % 32).toNat).getLsbD i = _
  rw [s_u n hn, BitVec.getLsbD_ushiftRight]
theorem b_sshr (n : Nat) (hn : n < 32) (x : Int32) {i : Nat} (hi : i < 32) : bt (x >>> (nI n &&& 31)) i = if n + i < 32 then bt x (n + i) else bt x 31 := by
  unfold bt
  rw [Int32.toBitVec_shiftRight]
  show (x.toBitVec.sshiftRight ((nI n &&& 31).toBitVec.smod 32).toNat).getLsbD i = _
  rw [s_l n hn, BitVec.getLsbD_sshiftRight, BitVec.msb_eq_getLsbD_last]
  simp [hi]
theorem b_shl8 (x : Int32) {i : Nat} (hi : i < 32) : bt (x <<< ((8 : Int32) &&& 31)) i = (decide (8 ≤ i) && bt x (i - 8)) := b_shl 8 (by omega) x hi
theorem b_shl16 (x : Int32) {i : Nat} (hi : i < 32) : bt (x <<< ((16 : Int32) &&& 31)) i = (decide (16 ≤ i) && bt x (i - 16)) := b_shl 16 (by omega) x hi
theorem b_shl24 (x : Int32) {i : Nat} (hi : i < 32) : bt (x <<< ((24 : Int32) &&& 31)) i = (decide (24 ≤ i) && bt x (i - 24)) := b_shl 24 (by omega) x hi
theorem b_sshr8 (x : Int32) {i : Nat} (hi : i < 32) : bt (x >>> ((8 : Int32) &&& 31)) i = if 8 + i < 32 then bt x (8 + i) else bt x 31 := b_sshr 8 (by omega) x hi
/-! ===== nI under and, xor, >>>, one bit, 65535 ===== -/
theorem nx_and (a b : Nat) : nI a &&& nI b = nI (a &&& b) := by
  apply Int32.toBitVec_inj.1
  show BitVec.ofNat 32 a &&& BitVec.ofNat 32 b = BitVec.ofNat 32 (a &&& b)
  apply BitVec.eq_of_getLsbD_eq
  intro i hi
  simp [hi]
end HZ01
end
section
section HZ02
/-! counts below n -/
def hz_cn (f : Nat → Bool) : Nat → Nat
  | 0 => 0
  | n + 1 => hz_cn f n + (if f n = true then 1 else 0)
theorem hz_cn_s (f : Nat → Bool) (n : Nat) : hz_cn f (n + 1) = hz_cn f n + (if f n = true then 1 else 0) := rfl
theorem hz_cn_t {f : Nat → Bool} {n : Nat} (h : f n = true) : hz_cn f (n + 1) = hz_cn f n + 1 := by
  rw [hz_cn_s, if_pos h]
theorem hz_cn_f {f : Nat → Bool} {n : Nat} (h : f n = false) : hz_cn f (n + 1) = hz_cn f n := by
  rw [hz_cn_s, if_neg (by rw [h]; decide)]; rfl
theorem hz_cn_le (f : Nat → Bool) (n : Nat) : hz_cn f n ≤ n := by
  induction n with
  | zero => exact Nat.le_refl 0
  | succ n ih => rw [hz_cn_s]; split <;> omega
theorem hz_cn_mono {f : Nat → Bool} {a : Nat} : ∀ b, a ≤ b → hz_cn f a ≤ hz_cn f b := by
  intro b
  induction b with
  | zero =>
    intro h
    obtain rfl : a = 0 := by omega
    exact Nat.le_refl _
  | succ b ih =>
    intro h
    by_cases e : a = b + 1
    · subst e; exact Nat.le_refl _
    · have := ih (by omega)
      rw [hz_cn_s]
      split <;> omega
theorem hz_cn_lt {f : Nat → Bool} {j n : Nat} (hj : j < n) (h : f j = true) : hz_cn f j < hz_cn f n := by
  have h1 := hz_cn_mono (f := f) (a := j + 1) n hj
  rw [hz_cn_t h] at h1
  omega
theorem hz_cn_inj {f : Nat → Bool} {i j : Nat} (hi : f i = true) (hj : f j = true) (h : hz_cn f i = hz_cn f j) : i = j := by
  rcases Nat.lt_trichotomy i j with c | c | c
  · have := hz_cn_lt c hi; omega
  · exact c
  · have := hz_cn_lt c hj; omega
theorem hz_cn_ex {f : Nat → Bool} {k : Nat} : ∀ n, k < hz_cn f n → ∃ j, j < n ∧ f j = true ∧ hz_cn f j = k := by
  intro n
  induction n with
  | zero => intro h; exact absurd h (Nat.not_lt_zero _)
  | succ n ih =>
    intro h
    by_cases c : k < hz_cn f n
    · obtain ⟨j, a, b, d⟩ := ih c
      exact ⟨j, by omega, b, d⟩
    · cases hf : f n with
      | false => rw [hz_cn_f hf] at h; exact absurd h c
      | true =>
        rw [hz_cn_t hf] at h
        exact ⟨n, by omega, hf, by omega⟩
theorem hz_cn_congr {f g : Nat → Bool} : ∀ n, (∀ j, j < n → f j = g j) → hz_cn f n = hz_cn g n := by
  intro n
  induction n with
  | zero => intro _; rfl
  | succ n ih =>
    intro h
    rw [hz_cn_s, hz_cn_s, ih (fun j hj => h j (by omega)), h n (by omega)]
theorem hz_cn_none {f : Nat → Bool} {a : Nat} : ∀ b, a ≤ b → (∀ i, a ≤ i → i < b → f i = false) → hz_cn f b = hz_cn f a := by
  intro b
  induction b with
  | zero =>
    intro h _
    obtain rfl : a = 0 := by omega
    rfl
  | succ b ih =>
    intro h hn
    by_cases e : a = b + 1
    · subst e; rfl
    · rw [hz_cn_f (hn b (by omega) (by omega))]
      exact ih (by omega) (fun i h1 h2 => hn i h1 (by omega))
/-! the next and the last -/
def hz_nx (f : Nat → Bool) : Nat → Nat → Option Nat
  | 0, _ => none
  | d + 1, a => if f a = true then some a else hz_nx f d (a + 1)
theorem hz_nx_t {f : Nat → Bool} {d a : Nat} (h : f a = true) : hz_nx f (d + 1) a = some a := if_pos h
theorem hz_nx_f {f : Nat → Bool} {d a : Nat} (h : f a = false) : hz_nx f (d + 1) a = hz_nx f d (a + 1) := if_neg (by rw [h]; decide)
theorem hz_nx_ext (f : Nat → Bool) : ∀ d a, hz_nx f (d + 1) a = (hz_nx f d a).or (if f (a + d) = true then some (a + d) else none) := by
  intro d
  induction d with
  | zero => intro a; rfl
  | succ d ih =>
    intro a
    cases h : f a with
    | true => rw [hz_nx_t h, hz_nx_t h]; rfl
    | false => rw [hz_nx_f h, hz_nx_f h, ih (a + 1), show a + 1 + d = a + (d + 1) by omega]
theorem hz_nx_congr {f g : Nat → Bool} : ∀ d a, (∀ j, a ≤ j → j < a + d → f j = g j) → hz_nx f d a = hz_nx g d a := by
  intro d
  induction d with
  | zero => intro a _; rfl
  | succ d ih =>
    intro a h
    have e := h a (by omega) (by omega)
    have e2 := ih (a + 1) (fun j h1 h2 => h j (by omega) (by omega))
    cases hf : f a with
    | true => rw [hz_nx_t hf, hz_nx_t (by rw [← e]; exact hf)]
    | false => rw [hz_nx_f hf, hz_nx_f (by rw [← e]; exact hf), e2]
theorem hz_nx_none {f : Nat → Bool} : ∀ d a, (∀ j, a ≤ j → j < a + d → f j = false) → hz_nx f d a = none := by
  intro d
  induction d with
  | zero => intro a _; rfl
  | succ d ih =>
    intro a h
    rw [hz_nx_f (h a (by omega) (by omega))]
    exact ih (a + 1) (fun j h1 h2 => h j (by omega) (by omega))
theorem hz_nx_has {f : Nat → Bool} {j : Nat} : ∀ d a, a ≤ j → j < a + d → f j = true → ∃ i, hz_nx f d a = some i := by
  intro d
  induction d with
  | zero => intro a h1 h2 _; omega
  | succ d ih =>
    intro a h1 h2 h3
    cases hf : f a with
    | true => exact ⟨a, hz_nx_t hf⟩
    | false =>
      rw [hz_nx_f hf]
      by_cases e : j = a
      · subst e; rw [h3] at hf; exact absurd hf (by decide)
      · exact ih (a + 1) (by omega) (by omega) h3
theorem hz_nx_some {f : Nat → Bool} {j : Nat} : ∀ d a, hz_nx f d a = some j → a ≤ j ∧ j < a + d ∧ f j = true := by
  intro d
  induction d with
  | zero => intro a h; exact absurd h (by intro x; cases x)
  | succ d ih =>
    intro a h
    cases hf : f a with
    | true =>
      rw [hz_nx_t hf] at h
      cases h
      exact ⟨Nat.le_refl _, by omega, hf⟩
    | false =>
      rw [hz_nx_f hf] at h
      obtain ⟨h1, h2, h3⟩ := ih (a + 1) h
      exact ⟨by omega, by omega, h3⟩
def hz_pv (f : Nat → Bool) : Nat → Option Nat
  | 0 => none
  | n + 1 => if f n = true then some n else hz_pv f n
theorem hz_pv_t {f : Nat → Bool} {n : Nat} (h : f n = true) : hz_pv f (n + 1) = some n := if_pos h
theorem hz_pv_f {f : Nat → Bool} {n : Nat} (h : f n = false) : hz_pv f (n + 1) = hz_pv f n := if_neg (by rw [h]; decide)
theorem hz_pv_congr {f g : Nat → Bool} : ∀ n, (∀ j, j < n → f j = g j) → hz_pv f n = hz_pv g n := by
  intro n
  induction n with
  | zero => intro _; rfl
  | succ n ih =>
    intro h
    have e := h n (by omega)
    have e2 := ih (fun j hj => h j (by omega))
    cases hf : f n with
    | true => rw [hz_pv_t hf, hz_pv_t (by rw [← e]; exact hf)]
    | false => rw [hz_pv_f hf, hz_pv_f (by rw [← e]; exact hf), e2]
theorem hz_pv_some {f : Nat → Bool} {j : Nat} : ∀ n, hz_pv f n = some j → j < n ∧ f j = true ∧ ∀ i, j < i → i < n → f i = false := by
  intro n
  induction n with
  | zero => intro h; exact absurd h (by intro x; cases x)
  | succ n ih =>
    intro h
    cases hf : f n with
    | true =>
      rw [hz_pv_t hf] at h
      cases h
      exact ⟨by omega, hf, fun i h1 h2 => by omega⟩
    | false =>
      rw [hz_pv_f hf] at h
      obtain ⟨h1, h2, h3⟩ := ih h
      refine ⟨by omega, h2, fun i h4 h5 => ?_⟩
      by_cases e : i = n
      · subst e; exact hf
      · exact h3 i h4 (by omega)
theorem hz_pv_none {f : Nat → Bool} : ∀ n, hz_pv f n = none → ∀ i, i < n → f i = false := by
  intro n
  induction n with
  | zero => intro _ i hi; omega
  | succ n ih =>
    intro h i hi
    cases hf : f n with
    | true => rw [hz_pv_t hf] at h; exact absurd h (by intro x; cases x)
    | false =>
      rw [hz_pv_f hf] at h
      by_cases e : i = n
      · subst e; exact hf
      · exact ih h i (by omega)
theorem hz_pv_cn {f : Nat → Bool} {n j : Nat} (h : hz_pv f n = some j) : hz_cn f n = hz_cn f j + 1 := by
  obtain ⟨h1, h2, h3⟩ := hz_pv_some n h
  rw [hz_cn_none (a := j + 1) n h1 (fun i h4 h5 => h3 i (by omega) h5), hz_cn_t h2]
def hz_o : Option Nat → Int32
  | none => -1
  | some j => nI j
/-! the chains of what was said, both ways -/
def hz_Ch (F : Nat → Nat → Bool) (m : Nat) (erA laA fsA lsA : Nat → Int32) : Prop :=
  ∀ p, p < 4 → fsA p = hz_o (hz_nx (F p) m 0) ∧ lsA p = hz_o (hz_pv (F p) m) ∧
    ∀ j, j < m → F p j = true → laA j = hz_o (hz_nx (F p) (m - (j + 1)) (j + 1)) ∧ erA j = hz_o (hz_pv (F p) j)
theorem hz_nx_up {f g : Nat → Bool} {d a : Nat} (h : ∀ j, a ≤ j → j < a + d → g j = f j) (hg : g (a + d) = false) : hz_nx g (d + 1) a = hz_nx f d a := by
  rw [hz_nx_ext, if_neg (by rw [hg]; decide), hz_nx_congr d a h]
  cases hz_nx f d a <;> rfl
theorem hz_Ch_skip {F G : Nat → Nat → Bool} {m : Nat} {erA laA fsA lsA : Nat → Int32} (h : hz_Ch F m erA laA fsA lsA) (hF : ∀ p j, p < 4 → j < m → G p j = F p j) (hm : ∀ p, p < 4 → G p m = false) : hz_Ch G (m + 1) erA laA fsA lsA := by
  intro p hp
  obtain ⟨h1, h2, h3⟩ := h p hp
  refine ⟨?_, ?_, ?_⟩
  · rw [h1, hz_nx_up (f := F p) (fun j _ hj => hF p j hp (by omega)) (by rw [Nat.zero_add]; exact hm p hp)]
  · rw [h2, hz_pv_f (hm p hp), hz_pv_congr m (fun j hj => hF p j hp hj)]
  · intro j hj hG
    have hjm : j < m := by
      by_cases e : j = m
      · subst e; rw [hm p hp] at hG; exact absurd hG (by decide)
      · omega
    obtain ⟨h4, h5⟩ := h3 j hjm (by rw [← hF p j hp hjm]; exact hG)
    refine ⟨?_, ?_⟩
    · rw [h4, show m + 1 - (j + 1) = m - (j + 1) + 1 by omega, hz_nx_up (f := F p) (fun i _ hi => hF p i hp (by omega)) (by rw [show j + 1 + (m - (j + 1)) = m by omega]; exact hm p hp)]
    · rw [h5, hz_pv_congr j (fun i hi => hF p i hp (by omega))]
theorem hz_Ch_first {F G : Nat → Nat → Bool} {m p : Nat} {erA laA fsA lsA : Nat → Int32} (h : hz_Ch F m erA laA fsA lsA) (hF : ∀ p j, p < 4 → j < m → G p j = F p j) (hp : p < 4) (hm : ∀ q, q < 4 → G q m = decide (q = p)) (hn : hz_pv (F p) m = none) : hz_Ch G (m + 1) (upd erA m (-1)) (upd laA m (-1)) (upd fsA p (nI m)) (upd lsA p (nI m)) := by
  intro q hq
  obtain ⟨h1, h2, h3⟩ := h q hq
  by_cases e : q = p
  · subst e
    have hg : G q m = true := by rw [hm q hq]; exact decide_eq_true rfl
    have hz := hz_pv_none m hn
    refine ⟨?_, ?_, ?_⟩
    · rw [pk_us, hz_nx_ext, hz_nx_none m 0 (fun j _ hj => by rw [hF q j hq (by omega)]; exact hz j (by omega)), Nat.zero_add, if_pos hg]
      rfl
    · rw [pk_us, hz_pv_t hg]; rfl
    · intro j hj hG
      by_cases ej : j = m
      · subst ej
        refine ⟨?_, ?_⟩
        · rw [pk_us, Nat.sub_self]; rfl
        · rw [pk_us, hz_pv_congr j (fun i hi => hF q i hq hi), hn]; rfl
      · rw [hF q j hq (by omega), hz j (by omega)] at hG
        exact absurd hG (by decide)
  · have hg : G q m = false := by rw [hm q hq]; exact decide_eq_false e
    refine ⟨?_, ?_, ?_⟩
    · rw [pk_un e, h1, hz_nx_up (f := F q) (fun j _ hj => hF q j hq (by omega)) (by rw [Nat.zero_add]; exact hg)]
    · rw [pk_un e, h2, hz_pv_f hg, hz_pv_congr m (fun j hj => hF q j hq hj)]
    · intro j hj hG
      have ej : j ≠ m := by
        intro z; subst z; rw [hg] at hG; exact absurd hG (by decide)
      have hjm : j < m := by omega
      obtain ⟨h4, h5⟩ := h3 j hjm (by rw [← hF q j hq hjm]; exact hG)
      refine ⟨?_, ?_⟩
      · rw [pk_un ej, h4, show m + 1 - (j + 1) = m - (j + 1) + 1 by omega, hz_nx_up (f := F q) (fun i _ hi => hF q i hq (by omega)) (by rw [show j + 1 + (m - (j + 1)) = m by omega]; exact hg)]
      · rw [pk_un ej, h5, hz_pv_congr j (fun i hi => hF q i hq (by omega))]
theorem hz_Ch_app {F G : Nat → Nat → Bool} {m p l : Nat} {erA laA fsA lsA : Nat → Int32} (h : hz_Ch F m erA laA fsA lsA) (hF : ∀ p j, p < 4 → j < m → G p j = F p j) (hp : p < 4) (hm : ∀ q, q < 4 → G q m = decide (q = p)) (hd : ∀ q j, q < 4 → F q j = true → F p j = true → q = p) (hn : hz_pv (F p) m = some l) : hz_Ch G (m + 1) (upd erA m (nI l)) (upd (upd laA m (-1)) l (nI m)) fsA (upd lsA p (nI m)) := by
  obtain ⟨l1, l2, l3⟩ := hz_pv_some m hn
  intro q hq
  obtain ⟨h1, h2, h3⟩ := h q hq
  by_cases e : q = p
  · subst e
    have hg : G q m = true := by rw [hm q hq]; exact decide_eq_true rfl
    refine ⟨?_, ?_, ?_⟩
    · obtain ⟨i, hi⟩ := hz_nx_has (f := F q) m 0 (Nat.zero_le l) (by omega) l2
      rw [hz_nx_ext, hz_nx_congr (g := F q) m 0 (fun j _ hj => hF q j hq (by omega)), h1, hi]
      rfl
    · rw [pk_us, hz_pv_t hg]; rfl
    · intro j hj hG
      by_cases ej : j = m
      · subst ej
        refine ⟨?_, ?_⟩
        · rw [pk_un (by omega), pk_us, Nat.sub_self]; rfl
        · rw [pk_us, hz_pv_congr j (fun i hi => hF q i hq hi), hn]; rfl
      · have hjm : j < m := by omega
        have hFj : F q j = true := by rw [← hF q j hq hjm]; exact hG
        obtain ⟨h4, h5⟩ := h3 j hjm hFj
        refine ⟨?_, ?_⟩
        · rw [show m + 1 - (j + 1) = m - (j + 1) + 1 by omega, hz_nx_ext, hz_nx_congr (g := F q) (m - (j + 1)) (j + 1) (fun i _ hi => hF q i hq (by omega)), show j + 1 + (m - (j + 1)) = m by omega, if_pos hg]
          by_cases el : j = l
          · subst el
            rw [pk_us, hz_nx_none (f := F q) (m - (j + 1)) (j + 1) (fun i h6 h7 => l3 i (by omega) (by omega))]
            rfl
          · have hjl : j < l := by
              rcases Nat.lt_or_ge j l with c | c
              · exact c
              · rw [l3 j (by omega) hjm] at hFj; exact absurd hFj (by decide)
            obtain ⟨i, hi⟩ := hz_nx_has (f := F q) (m - (j + 1)) (j + 1) (show j + 1 ≤ l from hjl) (by omega) l2
            rw [pk_un el, pk_un ej, h4, hi]
            rfl
        · rw [pk_un ej, h5, hz_pv_congr j (fun i hi => hF q i hq (by omega))]
  · have hg : G q m = false := by rw [hm q hq]; exact decide_eq_false e
    refine ⟨?_, ?_, ?_⟩
    · rw [h1, hz_nx_up (f := F q) (fun j _ hj => hF q j hq (by omega)) (by rw [Nat.zero_add]; exact hg)]
    · rw [pk_un e, h2, hz_pv_f hg, hz_pv_congr m (fun j hj => hF q j hq hj)]
    · intro j hj hG
      have ej : j ≠ m := by
        intro z; subst z; rw [hg] at hG; exact absurd hG (by decide)
      have hjm : j < m := by omega
      have hFj : F q j = true := by rw [← hF q j hq hjm]; exact hG
      have el : j ≠ l := by
        intro z; subst z; exact e (hd q j hq hFj l2)
      obtain ⟨h4, h5⟩ := h3 j hjm hFj
      refine ⟨?_, ?_⟩
      · rw [pk_un el, pk_un ej, h4, show m + 1 - (j + 1) = m - (j + 1) + 1 by omega, hz_nx_up (f := F q) (fun i _ hi => hF q i hq (by omega)) (by rw [show j + 1 + (m - (j + 1)) = m by omega]; exact hg)]
      · rw [pk_un ej, h5, hz_pv_congr j (fun i hi => hF q i hq (by omega))]
/-! a stretch filled -/
def hz_fl (f : Nat → Int32) (o n : Nat) (v : Nat → Int32) : Nat → Int32 := fun j => if o ≤ j ∧ j < o + n then v (j - o) else f j
theorem hz_fl_in {f v : Nat → Int32} {o n u : Nat} (h : u < n) : hz_fl f o n v (o + u) = v u := by
  unfold hz_fl
  rw [if_pos (by omega), Nat.add_sub_cancel_left]
theorem hz_fl_out {f v : Nat → Int32} {o n j : Nat} (h : j < o ∨ o + n ≤ j) : hz_fl f o n v j = f j := by
  unfold hz_fl
  rw [if_neg (by omega)]
theorem hz_fl_0 {f v : Nat → Int32} {o : Nat} : hz_fl f o 0 v = f := by
  funext j
  exact hz_fl_out (by omega)
theorem hz_fl_s {f v : Nat → Int32} {o i : Nat} : upd (hz_fl f o i v) (o + i) (v i) = hz_fl f o (i + 1) v := by
  funext j
  by_cases e : j = o + i
  · subst e; rw [pk_us, hz_fl_in (by omega)]
  · rw [pk_un e]
    unfold hz_fl
    by_cases c : o ≤ j ∧ j < o + i
    · rw [if_pos c, if_pos (by omega)]
    · rw [if_neg c, if_neg (by omega)]
theorem hz_fl_n {f v : Nat → Int32} {o i : Nat} (h : v i = f (o + i)) : hz_fl f o i v = hz_fl f o (i + 1) v := by
  rw [← hz_fl_s, h]
  funext j
  by_cases e : j = o + i
  · subst e; rw [pk_us, hz_fl_out (by omega)]
  · rw [pk_un e]
/-! one bit of a set -/
def hz_b (x : Int32) (u : Nat) : Prop := ((x >>> (nI u &&& 31)) &&& 1) = 1
theorem hz_bt1 : ∀ i, i < 32 → bt 1 i = decide (i = 0) := by decide +kernel
theorem hz_b_bt {x : Int32} {u : Nat} (hu : u < 32) : hz_b x u ↔ bt x u = true := by
  have e0 : bt ((x >>> (nI u &&& 31)) &&& 1) 0 = bt x u := by
    rw [b_and, b_sshr u hu x (by omega), hz_bt1 0 (by omega), if_pos (by omega)]
    simp
  constructor
  · intro h
    unfold hz_b at h
    rw [h, hz_bt1 0 (by omega)] at e0
    rw [← e0]; rfl
  · intro h
    unfold hz_b
    apply b_ext
    intro i hi
    by_cases e : i = 0
    · subst e; rw [e0, h, hz_bt1 0 (by omega)]; rfl
    · rw [b_and, hz_bt1 i hi, decide_eq_false e, Bool.and_false]
theorem hz_b_0 {u : Nat} (hu : u < 32) : ¬ hz_b 0 u := by
  rw [hz_b_bt hu, b_0]; decide
theorem hz_bt_1l {u v : Nat} (hu : u < 32) (hv : v < 32) : bt ((1 : Int32) <<< (nI v &&& 31)) u = decide (u = v) := by
  rw [b_shl v hv 1 hu]
  by_cases c : v ≤ u
  · rw [hz_bt1 (u - v) (by omega), decide_eq_true c, Bool.true_and]
    by_cases e : u = v
    · subst e; rw [Nat.sub_self]; simp
    · rw [decide_eq_false e, decide_eq_false (by omega)]
  · rw [decide_eq_false c, Bool.false_and, decide_eq_false (by omega)]
theorem hz_b_1 {u v : Nat} (hu : u < 32) (hv : v < 32) : hz_b ((1 : Int32) <<< (nI v &&& 31)) u ↔ u = v := by
  rw [hz_b_bt hu, hz_bt_1l hu hv, decide_eq_true_iff]
theorem hz_b_or {x : Int32} {u v : Nat} (hu : u < 32) (hv : v < 32) : hz_b (x ||| ((1 : Int32) <<< (nI v &&& 31))) u ↔ hz_b x u ∨ u = v := by
  rw [hz_b_bt hu, hz_b_bt hu, b_or, hz_bt_1l hu hv, Bool.or_eq_true, decide_eq_true_iff]
theorem hz_b_an {x : Int32} {u v : Nat} (hu : u < 32) (hv : v < 32) : hz_b (x &&& (((1 : Int32) <<< (nI v &&& 31)) ^^^ (-1))) u ↔ hz_b x u ∧ u ≠ v := by
  rw [hz_b_bt hu, hz_b_bt hu, b_and, b_xor, hz_bt_1l hu hv, b_m1 u hu, Bool.and_eq_true]
  by_cases e : u = v <;> simp [e]
/-! sets of eight -/
def hz_pc (s : Nat) : Nat → Nat
  | 0 => 0
  | i + 1 => hz_pc s i + s / 2 ^ i % 2
theorem hz_set_or : ∀ i, i < 8 → ∀ s, s < 256 → s < 2 ^ i → nI s ||| ((1 : Int32) <<< (nI i &&& 31)) = nI (s + 2 ^ i) ∧ s + 2 ^ i < 256 ∧ s + 2 ^ i < 2 ^ (i + 1) := by decide +kernel
theorem hz_set_bit : ∀ s, s < 256 → ∀ u, u < 8 → (((nI s >>> (nI u &&& 31)) &&& 1) = 1 ↔ s / 2 ^ u % 2 = 1) := by decide +kernel
theorem hz_set_rest : ∀ s, s < 256 → s ≠ 0 → nI s &&& (nI s - 1) = nI (s &&& (s - 1)) ∧ (s &&& (s - 1)) < 256 ∧ hz_pc s 8 = hz_pc (s &&& (s - 1)) 8 + 1 ∧ ¬ nI s = 0 := by decide +kernel
theorem hz_pc_0 : hz_pc 0 8 = 0 := by decide
theorem hz_pc_cn {s : Nat} {g : Nat → Bool} : ∀ i, (∀ u, u < i → (s / 2 ^ u % 2 = 1 ↔ g u = true)) → hz_pc s i = hz_cn g i := by
  intro i
  induction i with
  | zero => intro _; rfl
  | succ i ih =>
    intro h
    have e := h i (by omega)
    have e2 := ih (fun u hu => h u (by omega))
    show hz_pc s i + s / 2 ^ i % 2 = _
    rw [hz_cn_s, e2]
    by_cases c : g i = true
    · rw [if_pos c, e.mpr c]
    · rw [if_neg c]
      have : ¬ s / 2 ^ i % 2 = 1 := fun z => c (e.mp z)
      omega
end HZ02
end
section
section HZ03
/-! indices and small types -/
theorem hz_i8 (p u : Nat) : (8 : Int32) * nI p + nI u = nI (8 * p + u) := by
  show nI 8 * nI p + nI u = _
  rw [pk_mul, nI_add]
theorem hz_i5 (p u : Nat) : (5 : Int32) * nI p + nI u = nI (5 * p + u) := by
  show nI 5 * nI p + nI u = _
  rw [pk_mul, nI_add]
theorem hz_i60 (p u : Nat) : (60 : Int32) * nI p + nI u = nI (60 * p + u) := by
  show nI 60 * nI p + nI u = _
  rw [pk_mul, nI_add]
theorem hz_x8 {p u : Nat} (hp : p < 4) (hu : u < 8) : ((8 : Int32) * nI p + nI u).toNatClampNeg = 8 * p + u := by
  rw [hz_i8, nI_clamp (by omega)]
theorem hz_v8 {p u : Nat} (hp : p < 4) (hu : u < 8) : vp_in ((8 : Int32) * nI p + nI u) 32 := by
  rw [hz_i8]; exact vp_in_nI (by omega) (by omega)
theorem hz_x5 {p u : Nat} (hp : p < 4) (hu : u < 5) : ((5 : Int32) * nI p + nI u).toNatClampNeg = 5 * p + u := by
  rw [hz_i5, nI_clamp (by omega)]
theorem hz_v5 {p u : Nat} (hp : p < 4) (hu : u < 5) : vp_in ((5 : Int32) * nI p + nI u) 20 := by
  rw [hz_i5]; exact vp_in_nI (by omega) (by omega)
theorem hz_x60 {p u : Nat} (hp : p < 8) (hu : u < 60) : ((60 : Int32) * nI p + nI u).toNatClampNeg = 60 * p + u := by
  rw [hz_i60, nI_clamp (by omega)]
theorem hz_v60 {p u : Nat} (hp : p < 8) (hu : u < 60) : vp_in ((60 : Int32) * nI p + nI u) 480 := by
  rw [hz_i60]; exact vp_in_nI (by omega) (by omega)
theorem hz_cl {n : Nat} (h : n < 1000) : (nI n).toNatClampNeg = n := nI_clamp (by omega)
theorem hz_nb8 : ∀ g, g < 128 → (nI g).toInt8.toInt32 = nI g := by decide +kernel
theorem hz_ns16 : ∀ g, g < 300 → (nI g).toInt16.toInt32 = nI g := by decide +kernel
theorem hz_nb {g : Nat} (h : g < 128) : vp_nar .byte (nI g).toInt8.toInt32 = nI g := by rw [pk_vb, hz_nb8 g h]
theorem hz_ns {g : Nat} (h : g < 300) : vp_nar .short (nI g).toInt16.toInt32 = nI g := by rw [pk_vs, hz_ns16 g h]
theorem hz_ns' {g : Nat} (h : g < 300) : vp_nar .short (nI g) = nI g := by rw [vp_nar_short, hz_ns16 g h]
theorem hz_nsm : vp_nar .short (-1) = -1 := by rw [vp_nar_short]; decide
theorem hz_ns0 : vp_nar .short 0 = 0 := by rw [vp_nar_short]; decide
theorem hz_nbm : vp_nar .byte (-1) = -1 := by rw [vp_nar_byte]; decide
theorem hz_nb0 : vp_nar .byte 0 = 0 := by rw [vp_nar_byte]; decide
theorem hz_nb1 : vp_nar .byte 1 = 1 := by rw [vp_nar_byte]; decide
theorem hz_nb2 : vp_nar .byte 2 = 2 := by rw [vp_nar_byte]; decide
theorem hz_nb4 : vp_nar .byte 4 = 4 := by rw [vp_nar_byte]; decide
theorem hz_nz0 : vp_nar .boolean 0 = 0 := by decide
theorem hz_nz1 : vp_nar .boolean 1 = 1 := by decide
theorem hz_ne1 {a : Nat} (h : a < 2 ^ 31) : ¬ nI a = -1 := by
  intro z
  have := nI_pos (n := a) h
  rw [z] at this
  exact this (by decide)
theorem hz_n1 : (-1 : Int32) < 0 := by decide
theorem hz_n1' : ¬ (0 : Int32) ≤ -1 := by decide
theorem hz_1n0 : ¬ (1 : Int32) = 0 := by decide
theorem hz_lt_of_not_le {x y : Int32} (h : ¬ x ≤ y) : y < x := Int32.not_le.mp h
theorem hz_le_of_not_lt {x y : Int32} (h : ¬ x < y) : y ≤ x := Int32.not_lt.mp h
theorem hz_rng (x : Int32) (n : Nat) : (∀ j, j < n → x ≠ nI j) ∨ ∃ j, j < n ∧ x = nI j := by
  by_cases h : ∃ j, j < n ∧ x = nI j
  · exact Or.inr h
  · exact Or.inl (fun j hj e => h ⟨j, hj, e⟩)
theorem hz_inX0 {post : Int32 → Prop} {x y : Int32} (N : Nat) (hy : y = nI N) (hN : N < 2 ^ 31) (h : ∀ j, j < N → x ≠ nI j) (p : post 0) : wpX_in post x y := by
  subst hy
  rcases pk_ix x hN with c | c | ⟨j, hj, c⟩
  · exact br_t c p
  · by_cases c0 : x < 0
    · exact br_t c0 p
    · exact br_f c0 (br_t c p)
  · exact absurd c (h j hj)
theorem hz_inX1 {post : Int32 → Prop} {x y : Int32} (j N : Nat) (hx : x = nI j) (hy : y = nI N) (hj : j < N) (hN : N < 2 ^ 31) (p : post 1) : wpX_in post x y := by
  subst hx hy
  exact br_f (nI_pos (by omega)) (br_f (nI_ge hj hN) p)
theorem hz_inY0 {post : Int32 → Prop} {x y : Int32} (N : Nat) (hy : y = nI N) (hN : N < 2 ^ 31) (h : ∀ j, j < N → x ≠ nI j) (p : post 0) : wpY_in post x y := by
  subst hy
  rcases pk_ix x hN with c | c | ⟨j, hj, c⟩
  · exact br_t c p
  · by_cases c0 : x < 0
    · exact br_t c0 p
    · exact br_f c0 (br_t c p)
  · exact absurd c (h j hj)
theorem hz_inY1 {post : Int32 → Prop} {x y : Int32} (j N : Nat) (hx : x = nI j) (hy : y = nI N) (hj : j < N) (hN : N < 2 ^ 31) (p : post 1) : wpY_in post x y := by
  subst hx hy
  exact br_f (nI_pos (by omega)) (br_f (nI_ge hj hN) p)
/-! boxes: a ring against a row -/
def hz_Bx (heA hdA bxA buA : Nat → Int32) : Prop :=
  ∀ u, u < 8 → ∃ h d : Nat, h ≤ 60 ∧ d < 60 ∧ heA u = nI h ∧ hdA u = nI d ∧ ∀ k, k < h → bxA (60 * u + (d + k) % 60) = buA (60 * u + k)
theorem hz_Bx_put {heA hdA bxA buA : Nat → Int32} {u h d : Nat} {w : Int32} (H : hz_Bx heA hdA bxA buA) (hu : u < 8) (hh : h < 60) (hd : d < 60) (e1 : heA u = nI h) (e2 : hdA u = nI d) : hz_Bx (upd heA u (nI (h + 1))) hdA (upd bxA (60 * u + (d + h) % 60) w) (upd buA (60 * u + h) w) := by
  intro v hv
  obtain ⟨h', d', a1, a2, a3, a4, a5⟩ := H v hv
  by_cases e : v = u
  · subst e
    have x1 : h' = h := (nI_eq (by omega) (by omega)).mp (a3.symm.trans e1)
    have x2 : d' = d := (nI_eq (by omega) (by omega)).mp (a4.symm.trans e2)
    subst x1 x2
    refine ⟨h' + 1, d', by omega, hd, pk_us, a4, ?_⟩
    intro k hk
    by_cases ek : k = h'
    · subst ek; rw [pk_us, pk_us]
    · rw [pk_un (by omega), pk_un (by omega)]
      exact a5 k (by omega)
  · refine ⟨h', d', a1, a2, by rw [pk_un e]; exact a3, a4, ?_⟩
    intro k hk
    rw [pk_un (by omega), pk_un (by omega)]
    exact a5 k hk
theorem hz_Bx_take {heA hdA bxA buA : Nat → Int32} {u h d n : Nat} (H : hz_Bx heA hdA bxA buA) (hu : u < 8) (hh : h ≤ 60) (hn : n ≤ h) (hd : d < 60) (e1 : heA u = nI h) (e2 : hdA u = nI d) : hz_Bx (upd heA u (nI (h - n))) (upd hdA u (nI ((d + n) % 60))) bxA (hz_fl buA (60 * u) (h - n) (fun k => buA (60 * u + k + n))) := by
  intro v hv
  obtain ⟨h', d', a1, a2, a3, a4, a5⟩ := H v hv
  by_cases e : v = u
  · subst e
    have x1 : h' = h := (nI_eq (by omega) (by omega)).mp (a3.symm.trans e1)
    have x2 : d' = d := (nI_eq (by omega) (by omega)).mp (a4.symm.trans e2)
    subst x1 x2
    refine ⟨h' - n, (d' + n) % 60, by omega, by omega, pk_us, pk_us, ?_⟩
    intro k hk
    rw [hz_fl_in hk, show ((d' + n) % 60 + k) % 60 = (d' + (k + n)) % 60 by omega, a5 (k + n) (by omega), Nat.add_assoc]
  · refine ⟨h', d', a1, a2, by rw [pk_un e]; exact a3, by rw [pk_un e]; exact a4, ?_⟩
    intro k hk
    rw [hz_fl_out (by omega)]
    exact a5 k hk
def hz_gh (heA : Nat → Int32) (u : Nat) : Nat → Int32 := if heA u = 60 then heA else upd heA u (heA u + 1)
def hz_gx (heA hdA bxA : Nat → Int32) (u : Nat) (w : Int32) : Nat → Int32 := if heA u = 60 then bxA else upd bxA (60 * u + ((hdA u).toNatClampNeg + (heA u).toNatClampNeg) % 60) w
def hz_gy (heA buA : Nat → Int32) (u : Nat) (w : Int32) : Nat → Int32 := if heA u = 60 then buA else upd buA (60 * u + (heA u).toNatClampNeg) w
def hz_gg (heA goA : Nat → Int32) (u m : Nat) : Nat → Int32 := if heA u = 60 then goA else upd goA m (goA m + 1)
theorem hz_g60 {heA hdA bxA buA goA : Nat → Int32} {u m : Nat} {w : Int32} (e : heA u = nI 60) : hz_gh heA u = heA ∧ hz_gx heA hdA bxA u w = bxA ∧ hz_gy heA buA u w = buA ∧ hz_gg heA goA u m = goA :=
  ⟨if_pos e, if_pos e, if_pos e, if_pos e⟩
theorem hz_gn {heA hdA bxA buA goA : Nat → Int32} {u m h d : Nat} {w : Int32} (e : heA u = nI h) (e2 : hdA u = nI d) (hh : h < 60) (hd : d < 60) : hz_gh heA u = upd heA u (nI (h + 1)) ∧ hz_gx heA hdA bxA u w = upd bxA (60 * u + (d + h) % 60) w ∧ hz_gy heA buA u w = upd buA (60 * u + h) w ∧ hz_gg heA goA u m = upd goA m (goA m + 1) := by
  have n60 : ¬ heA u = 60 := by
    rw [e]
    intro z
    have := (nI_eq (a := h) (b := 60) (by omega) (by omega)).mp z
    omega
  unfold hz_gh hz_gx hz_gy hz_gg
  rw [if_neg n60, if_neg n60, if_neg n60, if_neg n60, e, e2, nI_1, nI_clamp (by omega), nI_clamp (by omega)]
  exact ⟨rfl, rfl, rfl, rfl⟩
theorem hz_Bx_give {heA hdA bxA buA : Nat → Int32} {u : Nat} {w : Int32} (H : hz_Bx heA hdA bxA buA) (hu : u < 8) : hz_Bx (hz_gh heA u) hdA (hz_gx heA hdA bxA u w) (hz_gy heA buA u w) := by
  obtain ⟨h, d, a1, a2, a3, a4, a5⟩ := H u hu
  by_cases c : h = 60
  · subst c
    obtain ⟨g1, g2, g3, _⟩ := hz_g60 (hdA := hdA) (bxA := bxA) (buA := buA) (goA := heA) (m := 0) (w := w) a3
    rw [g1, g2, g3]
    exact H
  · obtain ⟨g1, g2, g3, _⟩ := hz_gn (bxA := bxA) (buA := buA) (goA := heA) (m := 0) (w := w) a3 a4 (by omega) a2
    rw [g1, g2, g3]
    exact hz_Bx_put H hu (by omega) a2 a3 a4
def hz_Lh (b : Nat → Bool) (heA : Nat → Int32) : Nat → (Nat → Int32)
  | 0 => heA
  | i + 1 => if b i = true then hz_gh (hz_Lh b heA i) i else hz_Lh b heA i
def hz_Lx (b : Nat → Bool) (heA hdA bxA : Nat → Int32) (w : Int32) : Nat → (Nat → Int32)
  | 0 => bxA
  | i + 1 => if b i = true then hz_gx (hz_Lh b heA i) hdA (hz_Lx b heA hdA bxA w i) i w else hz_Lx b heA hdA bxA w i
def hz_Ly (b : Nat → Bool) (heA buA : Nat → Int32) (w : Int32) : Nat → (Nat → Int32)
  | 0 => buA
  | i + 1 => if b i = true then hz_gy (hz_Lh b heA i) (hz_Ly b heA buA w i) i w else hz_Ly b heA buA w i
def hz_Lg (b : Nat → Bool) (heA goA : Nat → Int32) (m : Nat) : Nat → (Nat → Int32)
  | 0 => goA
  | i + 1 => if b i = true then hz_gg (hz_Lh b heA i) (hz_Lg b heA goA m i) i m else hz_Lg b heA goA m i
theorem hz_L_t {b : Nat → Bool} {heA hdA bxA buA goA : Nat → Int32} {w : Int32} {m i : Nat} (h : b i = true) : hz_Lh b heA (i + 1) = hz_gh (hz_Lh b heA i) i ∧ hz_Lx b heA hdA bxA w (i + 1) = hz_gx (hz_Lh b heA i) hdA (hz_Lx b heA hdA bxA w i) i w ∧ hz_Ly b heA buA w (i + 1) = hz_gy (hz_Lh b heA i) (hz_Ly b heA buA w i) i w ∧ hz_Lg b heA goA m (i + 1) = hz_gg (hz_Lh b heA i) (hz_Lg b heA goA m i) i m :=
  ⟨if_pos h, if_pos h, if_pos h, if_pos h⟩
theorem hz_L_f {b : Nat → Bool} {heA hdA bxA buA goA : Nat → Int32} {w : Int32} {m i : Nat} (h : ¬ b i = true) : hz_Lh b heA (i + 1) = hz_Lh b heA i ∧ hz_Lx b heA hdA bxA w (i + 1) = hz_Lx b heA hdA bxA w i ∧ hz_Ly b heA buA w (i + 1) = hz_Ly b heA buA w i ∧ hz_Lg b heA goA m (i + 1) = hz_Lg b heA goA m i :=
  ⟨if_neg h, if_neg h, if_neg h, if_neg h⟩
theorem hz_Bx_L {b : Nat → Bool} {heA hdA bxA buA : Nat → Int32} {w : Int32} (H : hz_Bx heA hdA bxA buA) : ∀ i, i ≤ 8 → hz_Bx (hz_Lh b heA i) hdA (hz_Lx b heA hdA bxA w i) (hz_Ly b heA buA w i) := by
  intro i
  induction i with
  | zero => intro _; exact H
  | succ i ih =>
    intro hi
    have h := ih (by omega)
    by_cases c : b i = true
    · obtain ⟨g1, g2, g3, _⟩ := hz_L_t (heA := heA) (hdA := hdA) (bxA := bxA) (buA := buA) (goA := heA) (w := w) (m := 0) c
      rw [g1, g2, g3]
      exact hz_Bx_give h (by omega)
    · obtain ⟨g1, g2, g3, _⟩ := hz_L_f (heA := heA) (hdA := hdA) (bxA := bxA) (buA := buA) (goA := heA) (w := w) (m := 0) c
      rw [g1, g2, g3]
      exact h
theorem hz_Lg_v {b : Nat → Bool} {heA goA : Nat → Int32} {m : Nat} (h0 : goA m = 0) : ∀ i, ∃ g, g ≤ i ∧ hz_Lg b heA goA m i m = nI g := by
  intro i
  induction i with
  | zero => exact ⟨0, Nat.le_refl 0, h0⟩
  | succ i ih =>
    obtain ⟨g, g1, g2⟩ := ih
    by_cases c : b i = true
    · have e : hz_Lg b heA goA m (i + 1) = hz_gg (hz_Lh b heA i) (hz_Lg b heA goA m i) i m := if_pos c
      rw [e]
      unfold hz_gg
      split
      · exact ⟨g, by omega, g2⟩
      · exact ⟨g + 1, by omega, by rw [pk_us, g2, nI_1]⟩
    · have e : hz_Lg b heA goA m (i + 1) = hz_Lg b heA goA m i := if_neg c
      rw [e]
      exact ⟨g, by omega, g2⟩
theorem hz_L_one {b : Nat → Bool} {heA hdA bxA buA goA : Nat → Int32} {w : Int32} {m v : Nat} (hb : ∀ u, u < 8 → (b u = true ↔ u = v)) : ∀ i, i ≤ 8 →
    (i ≤ v → hz_Lh b heA i = heA ∧ hz_Lx b heA hdA bxA w i = bxA ∧ hz_Ly b heA buA w i = buA ∧ hz_Lg b heA goA m i = goA) ∧
    (v < i → hz_Lh b heA i = hz_gh heA v ∧ hz_Lx b heA hdA bxA w i = hz_gx heA hdA bxA v w ∧ hz_Ly b heA buA w i = hz_gy heA buA v w ∧ hz_Lg b heA goA m i = hz_gg heA goA v m) := by
  intro i
  induction i with
  | zero => intro _; exact ⟨fun _ => ⟨rfl, rfl, rfl, rfl⟩, fun h => absurd h (Nat.not_lt_zero _)⟩
  | succ i ih =>
    intro hi
    obtain ⟨i1, i2⟩ := ih (by omega)
    by_cases c : i = v
    · obtain ⟨g1, g2, g3, g4⟩ := hz_L_t (heA := heA) (hdA := hdA) (bxA := bxA) (buA := buA) (goA := goA) (w := w) (m := m) ((hb i (by omega)).mpr c)
      obtain ⟨k1, k2, k3, k4⟩ := i1 (by omega)
      rw [g1, g2, g3, g4, k1, k2, k3, k4, c]
      exact ⟨fun z => by omega, fun _ => ⟨rfl, rfl, rfl, rfl⟩⟩
    · obtain ⟨g1, g2, g3, g4⟩ := hz_L_f (heA := heA) (hdA := hdA) (bxA := bxA) (buA := buA) (goA := goA) (w := w) (m := m) (fun z => c ((hb i (by omega)).mp z))
      rw [g1, g2, g3, g4]
      exact ⟨fun z => i1 (by omega), fun z => i2 (by omega)⟩
/-! items -/
def hz_fi (ioA : Nat → Int32) (t : Nat) : Nat → Bool := fun j => decide (ioA j = nI t)
theorem hz_fi_t {ioA : Nat → Int32} {t j : Nat} : hz_fi ioA t j = true ↔ ioA j = nI t := decide_eq_true_iff
def hz_It (itA icA ioA : Nat → Int32) (m t : Nat) : Prop :=
  icA t = nI (hz_cn (hz_fi ioA t) m) ∧ hz_cn (hz_fi ioA t) m ≤ 5 ∧ ∀ j, j < m → ioA j = nI t → itA (5 * t + hz_cn (hz_fi ioA t) j) = nI j
theorem hz_fi_c {ioA io2 : Nat → Int32} {t m : Nat} (h : ∀ j, j < m → (io2 j = nI t ↔ ioA j = nI t)) : ∀ j, j < m → hz_fi io2 t j = hz_fi ioA t j := by
  intro j hj
  unfold hz_fi
  by_cases c : ioA j = nI t
  · rw [decide_eq_true c, decide_eq_true ((h j hj).mpr c)]
  · rw [decide_eq_false c, decide_eq_false (fun z => c ((h j hj).mp z))]
theorem hz_It_c {itA icA ioA it2 ic2 io2 : Nat → Int32} {m t : Nat} (h : hz_It itA icA ioA m t) (hio : ∀ j, j < m → (io2 j = nI t ↔ ioA j = nI t)) (hit : ∀ k, k < 5 → it2 (5 * t + k) = itA (5 * t + k)) (hic : ic2 t = icA t) : hz_It it2 ic2 io2 m t := by
  obtain ⟨h1, h2, h3⟩ := h
  have e := hz_fi_c hio
  have ec : ∀ n, n ≤ m → hz_cn (hz_fi io2 t) n = hz_cn (hz_fi ioA t) n := fun n hn => hz_cn_congr n (fun j hj => e j (by omega))
  refine ⟨by rw [hic, h1, ec m (Nat.le_refl m)], by rw [ec m (Nat.le_refl m)]; exact h2, ?_⟩
  intro j hj hjt
  have hj2 := (hio j hj).mp hjt
  have lt := hz_cn_lt hj (hz_fi_t.mpr hj2)
  rw [ec j (by omega), hit _ (by omega)]
  exact h3 j hj hj2
theorem hz_It_u {itA icA ioA : Nat → Int32} {m t : Nat} (h : hz_It itA icA ioA m t) (hm : ¬ ioA m = nI t) : hz_It itA icA ioA (m + 1) t := by
  obtain ⟨h1, h2, h3⟩ := h
  have e : hz_cn (hz_fi ioA t) (m + 1) = hz_cn (hz_fi ioA t) m := hz_cn_f (decide_eq_false hm)
  refine ⟨by rw [e]; exact h1, by rw [e]; exact h2, ?_⟩
  intro j hj hjt
  by_cases ej : j = m
  · subst ej; exact absurd hjt hm
  · exact h3 j (by omega) hjt
theorem hz_It_a {itA icA ioA : Nat → Int32} {m t : Nat} (h : hz_It itA icA ioA m t) (hm : ioA m = nI t) (hc : hz_cn (hz_fi ioA t) m ≤ 4) : hz_It (upd itA (5 * t + hz_cn (hz_fi ioA t) m) (nI m)) (upd icA t (nI (hz_cn (hz_fi ioA t) m + 1))) ioA (m + 1) t := by
  obtain ⟨h1, h2, h3⟩ := h
  have e : hz_cn (hz_fi ioA t) (m + 1) = hz_cn (hz_fi ioA t) m + 1 := hz_cn_t (hz_fi_t.mpr hm)
  refine ⟨by rw [e, pk_us], by rw [e]; omega, ?_⟩
  intro j hj hjt
  by_cases ej : j = m
  · subst ej; rw [pk_us]
  · have lt := hz_cn_lt (show j < m by omega) (hz_fi_t.mpr hjt)
    rw [pk_un (by omega)]
    exact h3 j (by omega) hjt
theorem hz_cn_rm {f g : Nat → Bool} {j0 : Nat} (h0 : f j0 = true) (h1 : g j0 = false) (hg : ∀ j, j ≠ j0 → g j = f j) : ∀ n, hz_cn g n + (if j0 < n then 1 else 0) = hz_cn f n := by
  intro n
  induction n with
  | zero => rfl
  | succ n ih =>
    by_cases e : n = j0
    · subst e
      rw [hz_cn_f h1, hz_cn_t h0]
      rw [if_neg (by omega)] at ih
      rw [if_pos (by omega)]
      omega
    · rw [hz_cn_s, hz_cn_s, hg n e]
      by_cases c : j0 < n
      · rw [if_pos c] at ih
        rw [if_pos (show j0 < n + 1 by omega)]
        omega
      · rw [if_neg c] at ih
        rw [if_neg (show ¬ j0 < n + 1 by omega)]
        omega
theorem hz_It_rm {itA icA ioA : Nat → Int32} {m t j0 : Nat} (h : hz_It itA icA ioA m t) (hj0 : j0 < m) (hio : ioA j0 = nI t) (ht : t < 4) : hz_It (hz_fl itA (5 * t + hz_cn (hz_fi ioA t) j0) (hz_cn (hz_fi ioA t) m - 1 - hz_cn (hz_fi ioA t) j0) (fun i => itA (5 * t + hz_cn (hz_fi ioA t) j0 + i + 1))) (upd icA t (nI (hz_cn (hz_fi ioA t) m - 1))) (upd ioA j0 (-1)) m t ∧ hz_cn (hz_fi (upd ioA j0 (-1)) t) m = hz_cn (hz_fi ioA t) m - 1 := by
  obtain ⟨h1, h2, h3⟩ := h
  have f0 : hz_fi ioA t j0 = true := hz_fi_t.mpr hio
  have g0 : hz_fi (upd ioA j0 (-1)) t j0 = false := by
    unfold hz_fi
    rw [pk_us]
    exact decide_eq_false (fun z => hz_ne1 (a := t) (by omega) z.symm)
  have gj : ∀ j, j ≠ j0 → hz_fi (upd ioA j0 (-1)) t j = hz_fi ioA t j := by
    intro j hj
    unfold hz_fi
    rw [pk_un hj]
  have R := hz_cn_rm f0 g0 gj
  have lt0 := hz_cn_lt hj0 f0
  have Rm := R m
  rw [if_pos hj0] at Rm
  have em : hz_cn (hz_fi (upd ioA j0 (-1)) t) m = hz_cn (hz_fi ioA t) m - 1 := by omega
  refine ⟨⟨by rw [em, pk_us], by rw [em]; omega, ?_⟩, em⟩
  intro j hj hjt
  have ne : j ≠ j0 := by
    intro z
    subst z
    rw [pk_us] at hjt
    exact hz_ne1 (a := t) (by omega) hjt.symm
  rw [pk_un ne] at hjt
  have v := h3 j hj hjt
  have Rj := R j
  have lt := hz_cn_lt hj (hz_fi_t.mpr hjt)
  by_cases c : j0 < j
  · rw [if_pos c] at Rj
    have lt2 := hz_cn_lt c f0
    have ei : 5 * t + hz_cn (hz_fi (upd ioA j0 (-1)) t) j = 5 * t + hz_cn (hz_fi ioA t) j0 + (hz_cn (hz_fi ioA t) j - 1 - hz_cn (hz_fi ioA t) j0) := by omega
    rw [ei, hz_fl_in (by omega), ← v]
    exact congrArg itA (by omega)
  · rw [if_neg c] at Rj
    have le := hz_cn_lt (show j < j0 by omega) (hz_fi_t.mpr hjt)
    rw [hz_fl_out (by omega), ← v]
    exact congrArg itA (by omega)
theorem hz_It_0 {itA icA ioA : Nat → Int32} {m t : Nat} (h : ∀ j, j < m → ¬ ioA j = nI t) (hic : icA t = 0) : hz_It itA icA ioA m t ∧ hz_cn (hz_fi ioA t) m = 0 := by
  have e : hz_cn (hz_fi ioA t) m = 0 := hz_cn_none (a := 0) m (Nat.zero_le m) (fun i _ hi => decide_eq_false (h i hi))
  exact ⟨⟨by rw [e]; exact hic, by rw [e]; omega, fun j hj hjt => absurd hjt (h j hj)⟩, e⟩
end HZ03
end
section
section HZ04
def hz_said (soA plA : Nat → Int32) (p j : Nat) : Bool := decide (soA j = 0 ∧ plA j = nI p)
def hz_made (soA plA : Nat → Int32) (p j : Nat) : Bool := decide (plA j = nI p ∧ ¬ 2 ≤ soA j)
/-- a room: not there (the component then has no roles), or there -/
def hz_Rm (kdA thA kyA rxA ryA afA scA mdA soA plA : Nat → Int32) (m p : Nat) : Prop :=
  (thA p = 0 ∧ kdA p = -1 ∧ ∀ u, u < 8 → rxA (8 * p + u) = -1) ∨
  (thA p = 1 ∧ (∃ q, q < 16 ∧ kdA p = nI q ∧ kyA p = nI q) ∧
    (∃ s, s ≤ m ∧ scA p = nI s ∧ mdA p = nI (hz_cn (hz_made soA plA p) m - hz_cn (hz_made soA plA p) s)) ∧
    ∀ u, u < 8 → ryA (8 * p + u) = rxA (8 * p + u) ∧ (rxA (8 * p + u) = -1 ∨ (0 ≤ rxA (8 * p + u) ∧ ¬ afA (8 * p + u) = 0)))
/-- a topic: its subscribers always; while it stands, its owner, size and items -/
def hz_Tp (owA opA oyA szA sxA syA itA icA ioA : Nat → Int32) (m t : Nat) : Prop :=
  (∀ u, u < 8 → (syA (8 * t + u) = 1 ∧ hz_b (sxA t) u) ∨ (syA (8 * t + u) = 0 ∧ ¬ hz_b (sxA t) u)) ∧
  ((opA t = 0 ∧ owA t = -1) ∨
   (opA t = 1 ∧ (∃ b, b < 8 ∧ owA t = nI b ∧ oyA t = nI b) ∧ (∃ z, 1 ≤ z ∧ z ≤ 4 ∧ szA t = nI z ∧ hz_cn (hz_fi ioA t) m ≤ z) ∧ hz_It itA icA ioA m t))
def hz_Inv (m e : Nat) (kdA sjA afA rxA mdA scA soA plA mkA txA goA erA laA fsA lsA bxA hdA heA owA szA sxA itA icA thA kyA ryA opA syA oyA ioA buA : Nat → Int32) : Prop :=
  m ≤ e ∧ e ≤ 250 ∧ (∀ p, p < 4 → hz_Rm kdA thA kyA rxA ryA afA scA mdA soA plA m p) ∧ hz_Ch (hz_said soA plA) m erA laA fsA lsA ∧
  hz_Bx heA hdA bxA buA ∧ (∀ t, t < 4 → hz_Tp owA opA oyA szA sxA syA itA icA ioA m t)
/-- the relation at the head of a turn -/
def i_Rel (k : Nat) (u : SX) (v : SY) : Prop := ∃ (m e : Nat) (kdA sjA afA rxA mdA scA soA plA mkA txA goA erA laA fsA lsA bxA hdA heA owA szA sxA itA icA thA kyA ryA opA syA oyA ioA buA : Nat → Int32), u = ((nI m), (nI e), kdA, sjA, afA, rxA, mdA, scA, soA, plA, mkA, txA, goA, erA, laA, fsA, lsA, bxA, hdA, heA, owA, szA, sxA, itA, icA) ∧ v = ((nI m), (nI e), thA, kyA, sjA, scA, afA, ryA, opA, syA, oyA, szA, ioA, soA, plA, mkA, goA, txA, buA, heA) ∧ hz_Inv m e kdA sjA afA rxA mdA scA soA plA mkA txA goA erA laA fsA lsA bxA hdA heA owA szA sxA itA icA thA kyA ryA opA syA oyA ioA buA
variable {m e : Nat} {kdA sjA afA rxA mdA scA soA plA mkA txA goA erA laA fsA lsA bxA hdA heA owA szA sxA itA icA thA kyA ryA opA syA oyA ioA buA : Nat → Int32}
theorem hz_in {k : Nat} (h : hz_Inv m e kdA sjA afA rxA mdA scA soA plA mkA txA goA erA laA fsA lsA bxA hdA heA owA szA sxA itA icA thA kyA ryA opA syA oyA ioA buA) : i_Rel k ((nI m), (nI e), kdA, sjA, afA, rxA, mdA, scA, soA, plA, mkA, txA, goA, erA, laA, fsA, lsA, bxA, hdA, heA, owA, szA, sxA, itA, icA) ((nI m), (nI e), thA, kyA, sjA, scA, afA, ryA, opA, syA, oyA, szA, ioA, soA, plA, mkA, goA, txA, buA, heA) := ⟨m, e, kdA, sjA, afA, rxA, mdA, scA, soA, plA, mkA, txA, goA, erA, laA, fsA, lsA, bxA, hdA, heA, owA, szA, sxA, itA, icA, thA, kyA, ryA, opA, syA, oyA, ioA, buA, rfl, rfl, h⟩
theorem hz_el {k : Nat} {u : SX} {v : SY} {P : SX → SY → Prop} (h : ∀ (m e : Nat) (kdA sjA afA rxA mdA scA soA plA mkA txA goA erA laA fsA lsA bxA hdA heA owA szA sxA itA icA thA kyA ryA opA syA oyA ioA buA : Nat → Int32), hz_Inv m e kdA sjA afA rxA mdA scA soA plA mkA txA goA erA laA fsA lsA bxA hdA heA owA szA sxA itA icA thA kyA ryA opA syA oyA ioA buA → P ((nI m), (nI e), kdA, sjA, afA, rxA, mdA, scA, soA, plA, mkA, txA, goA, erA, laA, fsA, lsA, bxA, hdA, heA, owA, szA, sxA, itA, icA) ((nI m), (nI e), thA, kyA, sjA, scA, afA, ryA, opA, syA, oyA, szA, ioA, soA, plA, mkA, goA, txA, buA, heA)) (I : i_Rel k u v) : P u v :=
  Exists.elim I fun m I =>
  Exists.elim I fun e I =>
  Exists.elim I fun kdA I =>
  Exists.elim I fun sjA I =>
  Exists.elim I fun afA I =>
  Exists.elim I fun rxA I =>
  Exists.elim I fun mdA I =>
  Exists.elim I fun scA I =>
  Exists.elim I fun soA I =>
  Exists.elim I fun plA I =>
  Exists.elim I fun mkA I =>
  Exists.elim I fun txA I =>
  Exists.elim I fun goA I =>
  Exists.elim I fun erA I =>
  Exists.elim I fun laA I =>
  Exists.elim I fun fsA I =>
  Exists.elim I fun lsA I =>
  Exists.elim I fun bxA I =>
  Exists.elim I fun hdA I =>
  Exists.elim I fun heA I =>
  Exists.elim I fun owA I =>
  Exists.elim I fun szA I =>
  Exists.elim I fun sxA I =>
  Exists.elim I fun itA I =>
  Exists.elim I fun icA I =>
  Exists.elim I fun thA I =>
  Exists.elim I fun kyA I =>
  Exists.elim I fun ryA I =>
  Exists.elim I fun opA I =>
  Exists.elim I fun syA I =>
  Exists.elim I fun oyA I =>
  Exists.elim I fun ioA I =>
  Exists.elim I fun buA I =>
  by
    have h1 := I.1
    have h2 := I.2.1
    have h3 := I.2.2
    subst h1 h2
    exact h m e kdA sjA afA rxA mdA scA soA plA mkA txA goA erA laA fsA lsA bxA hdA heA owA szA sxA itA icA thA kyA ryA opA syA oyA ioA buA h3
theorem i_up {k : Nat} {u : SX} {v : SY} (h : i_Rel k u v) : i_Rel (k + 6) u v := h
end HZ04
end
section
section HZ05
variable {m e : Nat} {kdA sjA afA rxA mdA scA soA plA mkA txA goA erA laA fsA lsA bxA hdA heA owA szA sxA itA icA thA kyA ryA opA syA oyA ioA buA : Nat → Int32}
theorem hz_Ie (I : hz_Inv m e kdA sjA afA rxA mdA scA soA plA mkA txA goA erA laA fsA lsA bxA hdA heA owA szA sxA itA icA thA kyA ryA opA syA oyA ioA buA) : m ≤ e ∧ e ≤ 250 := ⟨I.1, I.2.1⟩
theorem hz_Ir (I : hz_Inv m e kdA sjA afA rxA mdA scA soA plA mkA txA goA erA laA fsA lsA bxA hdA heA owA szA sxA itA icA thA kyA ryA opA syA oyA ioA buA) : ∀ p, p < 4 → hz_Rm kdA thA kyA rxA ryA afA scA mdA soA plA m p := I.2.2.1
theorem hz_Ic (I : hz_Inv m e kdA sjA afA rxA mdA scA soA plA mkA txA goA erA laA fsA lsA bxA hdA heA owA szA sxA itA icA thA kyA ryA opA syA oyA ioA buA) : hz_Ch (hz_said soA plA) m erA laA fsA lsA := I.2.2.2.1
theorem hz_Ib (I : hz_Inv m e kdA sjA afA rxA mdA scA soA plA mkA txA goA erA laA fsA lsA bxA hdA heA owA szA sxA itA icA thA kyA ryA opA syA oyA ioA buA) : hz_Bx heA hdA bxA buA := I.2.2.2.2.1
theorem hz_It' (I : hz_Inv m e kdA sjA afA rxA mdA scA soA plA mkA txA goA erA laA fsA lsA bxA hdA heA owA szA sxA itA icA thA kyA ryA opA syA oyA ioA buA) : ∀ t, t < 4 → hz_Tp owA opA oyA szA sxA syA itA icA ioA m t := I.2.2.2.2.2
theorem hz_box (I : hz_Inv m e kdA sjA afA rxA mdA scA soA plA mkA txA goA erA laA fsA lsA bxA hdA heA owA szA sxA itA icA thA kyA ryA opA syA oyA ioA buA) (v1 v2 : Int32) : ∃ r, (∀ post : Int32 → Prop, post r → wpX_box post ((nI m), (nI e), kdA, sjA, afA, rxA, mdA, scA, soA, plA, mkA, txA, goA, erA, laA, fsA, lsA, bxA, hdA, heA, owA, szA, sxA, itA, icA) v1 v2) ∧ (∀ post : Int32 → Prop, post r → wpY_box post ((nI m), (nI e), thA, kyA, sjA, scA, afA, ryA, opA, syA, oyA, szA, ioA, soA, plA, mkA, goA, txA, buA, heA) v1 v2) := by
  rcases hz_rng v1 8 with c1 | ⟨u, hu, rfl⟩
  · refine ⟨-1, fun post hp => ?_, fun post hp => ?_⟩
    · unfold wpX_box
      refine hz_inX0 8 rfl (by decide) c1 ?_
      exact br_t rfl hp
    · unfold wpY_box
      refine hz_inY0 8 rfl (by decide) c1 ?_
      exact br_t rfl hp
  · obtain ⟨h, d, a1, a2, a3, a4, a5⟩ := hz_Ib I u hu
    have cu : (nI u).toNatClampNeg = u := hz_cl (by omega)
    have vu : vp_in (nI u) 8 := vp_in_nI hu (by decide)
    rcases hz_rng v2 h with c2 | ⟨k, hk, rfl⟩
    · refine ⟨-1, fun post hp => ?_, fun post hp => ?_⟩
      · unfold wpX_box
        refine hz_inX1 u 8 rfl rfl hu (by decide) ?_
        refine br_f hz_1n0 (And.intro vu ?_)
        refine hz_inX0 h (by rw [cu]; exact a3) (by omega) c2 ?_
        exact br_t rfl hp
      · unfold wpY_box
        refine hz_inY1 u 8 rfl rfl hu (by decide) ?_
        refine br_f hz_1n0 (And.intro vu ?_)
        refine hz_inY0 h (by rw [cu]; exact a3) (by omega) c2 ?_
        exact br_t rfl hp
    · refine ⟨buA (60 * u + k), fun post hp => ?_, fun post hp => ?_⟩
      · unfold wpX_box
        refine hz_inX1 u 8 rfl rfl hu (by decide) ?_
        refine br_f hz_1n0 (And.intro vu ?_)
        refine hz_inX1 k h rfl (by rw [cu]; exact a3) hk (by omega) ?_
        refine br_f hz_1n0 (And.intro vu ?_)
        refine nm_r (e' := nI (d + k)) (by rw [cu, a4, nI_add]) ?_
        by_cases c : d + k < 60
        · refine br_t (nI_lt (b := 60) c (by decide)) (And.intro (hz_v60 hu c) ?_)
          rw [hz_x60 hu c, show 60 * u + (d + k) = 60 * u + (d + k) % 60 by omega, a5 k hk]
          exact hp
        · have e1 : nI (d + k) - 60 = nI (d + k - 60) := pk_sub (b := 60) (by omega)
          refine br_f (nI_nlt (b := 60) (by omega) (by omega)) ?_
          rw [e1]
          refine And.intro (hz_v60 hu (by omega)) ?_
          rw [hz_x60 hu (by omega), show 60 * u + (d + k - 60) = 60 * u + (d + k) % 60 by omega, a5 k hk]
          exact hp
      · unfold wpY_box
        refine hz_inY1 u 8 rfl rfl hu (by decide) ?_
        refine br_f hz_1n0 (And.intro vu ?_)
        refine hz_inY1 k h rfl (by rw [cu]; exact a3) hk (by omega) ?_
        refine br_f hz_1n0 (And.intro (hz_v60 hu (by omega)) ?_)
        rw [hz_x60 hu (by omega)]
        exact hp
theorem hz_message (I : hz_Inv m e kdA sjA afA rxA mdA scA soA plA mkA txA goA erA laA fsA lsA bxA hdA heA owA szA sxA itA icA thA kyA ryA opA syA oyA ioA buA) (v1 v2 : Int32) : ∃ r, (∀ post : Int32 → Prop, post r → wpX_message post ((nI m), (nI e), kdA, sjA, afA, rxA, mdA, scA, soA, plA, mkA, txA, goA, erA, laA, fsA, lsA, bxA, hdA, heA, owA, szA, sxA, itA, icA) v1 v2) ∧ (∀ post : Int32 → Prop, post r → wpY_message post ((nI m), (nI e), thA, kyA, sjA, scA, afA, ryA, opA, syA, oyA, szA, ioA, soA, plA, mkA, goA, txA, buA, heA) v1 v2) := by
  obtain ⟨he1, he2⟩ := hz_Ie I
  rcases hz_rng v1 m with c1 | ⟨j, hj, rfl⟩
  · refine ⟨-1, fun post hp => ?_, fun post hp => ?_⟩
    · unfold wpX_message
      refine hz_inX0 m rfl (by omega) c1 ?_
      exact br_t rfl hp
    · unfold wpY_message
      refine hz_inY0 m rfl (by omega) c1 ?_
      exact br_t rfl hp
  · have vj : vp_in (nI j) 250 := vp_in_nI (by omega) (by decide)
    by_cases d0 : v2 = 0
    · refine ⟨soA (nI j).toNatClampNeg, fun post hp => ?_, fun post hp => ?_⟩
      · unfold wpX_message
        refine hz_inX1 j m rfl rfl hj (by omega) ?_
        exact br_f hz_1n0 (br_t d0 (And.intro vj hp))
      · unfold wpY_message
        refine hz_inY1 j m rfl rfl hj (by omega) ?_
        exact br_f hz_1n0 (br_t d0 (And.intro vj hp))
    · by_cases d1 : v2 = 1
      · refine ⟨plA (nI j).toNatClampNeg, fun post hp => ?_, fun post hp => ?_⟩
        · unfold wpX_message
          refine hz_inX1 j m rfl rfl hj (by omega) ?_
          exact br_f hz_1n0 (br_f d0 (br_t d1 (And.intro vj hp)))
        · unfold wpY_message
          refine hz_inY1 j m rfl rfl hj (by omega) ?_
          exact br_f hz_1n0 (br_f d0 (br_t d1 (And.intro vj hp)))
      · by_cases d2 : v2 = 2
        · refine ⟨mkA (nI j).toNatClampNeg, fun post hp => ?_, fun post hp => ?_⟩
          · unfold wpX_message
            refine hz_inX1 j m rfl rfl hj (by omega) ?_
            exact br_f hz_1n0 (br_f d0 (br_f d1 (br_t d2 (And.intro vj hp))))
          · unfold wpY_message
            refine hz_inY1 j m rfl rfl hj (by omega) ?_
            exact br_f hz_1n0 (br_f d0 (br_f d1 (br_t d2 (And.intro vj hp))))
        · by_cases d3 : v2 = 3
          · refine ⟨goA (nI j).toNatClampNeg, fun post hp => ?_, fun post hp => ?_⟩
            · unfold wpX_message
              refine hz_inX1 j m rfl rfl hj (by omega) ?_
              exact br_f hz_1n0 (br_f d0 (br_f d1 (br_f d2 (br_t d3 (And.intro vj hp)))))
            · unfold wpY_message
              refine hz_inY1 j m rfl rfl hj (by omega) ?_
              exact br_f hz_1n0 (br_f d0 (br_f d1 (br_f d2 (br_t d3 (And.intro vj hp)))))
          · refine ⟨-1, fun post hp => ?_, fun post hp => ?_⟩
            · unfold wpX_message
              refine hz_inX1 j m rfl rfl hj (by omega) ?_
              exact br_f hz_1n0 (br_f d0 (br_f d1 (br_f d2 (br_f d3 hp))))
            · unfold wpY_message
              refine hz_inY1 j m rfl rfl hj (by omega) ?_
              exact br_f hz_1n0 (br_f d0 (br_f d1 (br_f d2 (br_f d3 hp))))
theorem hz_text (I : hz_Inv m e kdA sjA afA rxA mdA scA soA plA mkA txA goA erA laA fsA lsA bxA hdA heA owA szA sxA itA icA thA kyA ryA opA syA oyA ioA buA) (v1 : Int32) : ∃ r, (∀ post : Int32 → Prop, post r → wpX_text post ((nI m), (nI e), kdA, sjA, afA, rxA, mdA, scA, soA, plA, mkA, txA, goA, erA, laA, fsA, lsA, bxA, hdA, heA, owA, szA, sxA, itA, icA) v1) ∧ (∀ post : Int32 → Prop, post r → wpY_text post ((nI m), (nI e), thA, kyA, sjA, scA, afA, ryA, opA, syA, oyA, szA, ioA, soA, plA, mkA, goA, txA, buA, heA) v1) := by
  obtain ⟨he1, he2⟩ := hz_Ie I
  rcases hz_rng v1 m with c1 | ⟨j, hj, rfl⟩
  · refine ⟨0, fun post hp => ?_, fun post hp => ?_⟩
    · unfold wpX_text
      refine hz_inX0 m rfl (by omega) c1 ?_
      exact br_t rfl hp
    · unfold wpY_text
      refine hz_inY0 m rfl (by omega) c1 ?_
      exact br_t rfl hp
  · have vj : vp_in (nI j) 250 := vp_in_nI (by omega) (by decide)
    refine ⟨txA (nI j).toNatClampNeg, fun post hp => ?_, fun post hp => ?_⟩
    · unfold wpX_text
      refine hz_inX1 j m rfl rfl hj (by omega) ?_
      exact br_f hz_1n0 (And.intro vj hp)
    · unfold wpY_text
      refine hz_inY1 j m rfl rfl hj (by omega) ?_
      exact br_f hz_1n0 (And.intro vj hp)
theorem hz_isR0 {post : Int32 → Prop} {x : Int32} (h : ∀ j, j < 4 → x ≠ nI j) (hp : post 0) : wpX_isRoom post ((nI m), (nI e), kdA, sjA, afA, rxA, mdA, scA, soA, plA, mkA, txA, goA, erA, laA, fsA, lsA, bxA, hdA, heA, owA, szA, sxA, itA, icA) x := by
  unfold wpX_isRoom
  refine hz_inX0 4 rfl (by decide) h ?_
  exact br_t rfl hp
theorem hz_isRn {post : Int32 → Prop} {p : Nat} (h : p < 4) (hk : kdA p = -1) (hp : post 0) : wpX_isRoom post ((nI m), (nI e), kdA, sjA, afA, rxA, mdA, scA, soA, plA, mkA, txA, goA, erA, laA, fsA, lsA, bxA, hdA, heA, owA, szA, sxA, itA, icA) (nI p) := by
  unfold wpX_isRoom
  refine hz_inX1 p 4 rfl rfl h (by decide) ?_
  refine br_f hz_1n0 (And.intro (vp_in_nI h (by decide)) (br_t ?_ hp))
  rw [hz_cl (by omega), hk]
  exact hz_n1
theorem hz_isR1 {post : Int32 → Prop} {p q : Nat} (h : p < 4) (hq : q < 16) (hk : kdA p = nI q) (hp : post 1) : wpX_isRoom post ((nI m), (nI e), kdA, sjA, afA, rxA, mdA, scA, soA, plA, mkA, txA, goA, erA, laA, fsA, lsA, bxA, hdA, heA, owA, szA, sxA, itA, icA) (nI p) := by
  unfold wpX_isRoom
  refine hz_inX1 p 4 rfl rfl h (by decide) ?_
  refine br_f hz_1n0 (And.intro (vp_in_nI h (by decide)) (br_f ?_ hp))
  rw [hz_cl (by omega), hk]
  exact nI_pos (by omega)
theorem hz_affiliation (I : hz_Inv m e kdA sjA afA rxA mdA scA soA plA mkA txA goA erA laA fsA lsA bxA hdA heA owA szA sxA itA icA thA kyA ryA opA syA oyA ioA buA) (v1 v2 : Int32) : ∃ r, (∀ post : Int32 → Prop, post r → wpX_affiliation post ((nI m), (nI e), kdA, sjA, afA, rxA, mdA, scA, soA, plA, mkA, txA, goA, erA, laA, fsA, lsA, bxA, hdA, heA, owA, szA, sxA, itA, icA) v1 v2) ∧ (∀ post : Int32 → Prop, post r → wpY_affiliation post ((nI m), (nI e), thA, kyA, sjA, scA, afA, ryA, opA, syA, oyA, szA, ioA, soA, plA, mkA, goA, txA, buA, heA) v1 v2) := by
  rcases hz_rng v1 8 with c1 | ⟨u, hu, rfl⟩
  · refine ⟨-1, fun post hp => ?_, fun post hp => ?_⟩
    · unfold wpX_affiliation
      refine hz_inX0 8 rfl (by decide) c1 ?_
      exact br_t rfl hp
    · unfold wpY_affiliation
      refine hz_inY0 8 rfl (by decide) c1 ?_
      exact br_t rfl hp
  · rcases hz_rng v2 4 with c2 | ⟨p, hp4, rfl⟩
    · refine ⟨-1, fun post hp => ?_, fun post hp => ?_⟩
      · unfold wpX_affiliation
        refine hz_inX1 u 8 rfl rfl hu (by decide) ?_
        refine br_f hz_1n0 ?_
        refine hz_isR0 c2 ?_
        exact br_t rfl hp
      · unfold wpY_affiliation
        refine hz_inY1 u 8 rfl rfl hu (by decide) ?_
        refine br_f hz_1n0 ?_
        refine hz_inY0 4 rfl (by decide) c2 ?_
        exact br_t rfl hp
    · have cp : (nI p).toNatClampNeg = p := hz_cl (by omega)
      have vp : vp_in (nI p) 4 := vp_in_nI hp4 (by decide)
      rcases hz_Ir I p hp4 with ⟨t1, t2, t3⟩ | ⟨t1, ⟨q, q1, q2, q3⟩, t3, t4⟩
      · refine ⟨-1, fun post hp => ?_, fun post hp => ?_⟩
        · unfold wpX_affiliation
          refine hz_inX1 u 8 rfl rfl hu (by decide) ?_
          refine br_f hz_1n0 ?_
          refine hz_isRn hp4 t2 ?_
          exact br_t rfl hp
        · unfold wpY_affiliation
          refine hz_inY1 u 8 rfl rfl hu (by decide) ?_
          refine br_f hz_1n0 ?_
          refine hz_inY1 p 4 rfl rfl hp4 (by decide) ?_
          refine br_f hz_1n0 (And.intro vp (br_t ?_ hp))
          rw [cp]; exact t1
      · refine ⟨afA (8 * p + u), fun post hp => ?_, fun post hp => ?_⟩
        · unfold wpX_affiliation
          refine hz_inX1 u 8 rfl rfl hu (by decide) ?_
          refine br_f hz_1n0 ?_
          refine hz_isR1 hp4 q1 q2 ?_
          refine br_f hz_1n0 (And.intro (hz_v8 hp4 hu) ?_)
          rw [hz_x8 hp4 hu]
          exact hp
        · unfold wpY_affiliation
          refine hz_inY1 u 8 rfl rfl hu (by decide) ?_
          refine br_f hz_1n0 ?_
          refine hz_inY1 p 4 rfl rfl hp4 (by decide) ?_
          refine br_f hz_1n0 (And.intro vp (br_f ?_ ?_))
          · rw [cp, t1]; exact hz_1n0
          · unfold wpY_affiliationOf
            refine And.intro (hz_v8 hp4 hu) ?_
            rw [hz_x8 hp4 hu]
            exact hp
theorem hz_yroleOf0 {post : Int32 → Prop} {p u : Nat} (hp4 : p < 4) (t1 : thA p = 0) (hp : post (-1)) : wpY_roleOf post ((nI m), (nI e), thA, kyA, sjA, scA, afA, ryA, opA, syA, oyA, szA, ioA, soA, plA, mkA, goA, txA, buA, heA) (nI u) (nI p) := by
  unfold wpY_roleOf wpY_present
  refine And.intro (vp_in_nI hp4 (by decide)) (br_t ?_ (br_t rfl hp))
  rw [hz_cl (by omega)]; exact t1
theorem hz_yroleOf1 {post : Int32 → Prop} {p u : Nat} (hp4 : p < 4) (hu : u < 8) (t1 : thA p = 1) (hr : ryA (8 * p + u) = -1 ∨ 0 ≤ ryA (8 * p + u)) (hp : post (ryA (8 * p + u))) : wpY_roleOf post ((nI m), (nI e), thA, kyA, sjA, scA, afA, ryA, opA, syA, oyA, szA, ioA, soA, plA, mkA, goA, txA, buA, heA) (nI u) (nI p) := by
  unfold wpY_roleOf wpY_present
  refine And.intro (vp_in_nI hp4 (by decide)) (br_f ?_ (And.intro (hz_v8 hp4 hu) ?_))
  · rw [hz_cl (by omega), t1]; exact hz_1n0
  · rcases hr with c | c
    · refine br_t ?_ (br_t rfl ?_)
      · rw [hz_x8 hp4 hu, c]; exact hz_n1
      · rw [c] at hp; exact hp
    · refine br_f ?_ (br_f hz_1n0 (And.intro (hz_v8 hp4 hu) ?_))
      · rw [hz_x8 hp4 hu]; exact Int32.not_lt.mpr c
      · rw [hz_x8 hp4 hu]; exact hp
theorem hz_role (I : hz_Inv m e kdA sjA afA rxA mdA scA soA plA mkA txA goA erA laA fsA lsA bxA hdA heA owA szA sxA itA icA thA kyA ryA opA syA oyA ioA buA) (v1 v2 : Int32) : ∃ r, (∀ post : Int32 → Prop, post r → wpX_role post ((nI m), (nI e), kdA, sjA, afA, rxA, mdA, scA, soA, plA, mkA, txA, goA, erA, laA, fsA, lsA, bxA, hdA, heA, owA, szA, sxA, itA, icA) v1 v2) ∧ (∀ post : Int32 → Prop, post r → wpY_role post ((nI m), (nI e), thA, kyA, sjA, scA, afA, ryA, opA, syA, oyA, szA, ioA, soA, plA, mkA, goA, txA, buA, heA) v1 v2) := by
  rcases hz_rng v1 8 with c1 | ⟨u, hu, rfl⟩
  · refine ⟨-1, fun post hp => ?_, fun post hp => ?_⟩
    · unfold wpX_role
      refine hz_inX0 8 rfl (by decide) c1 ?_
      exact br_t rfl hp
    · unfold wpY_role
      refine hz_inY0 8 rfl (by decide) c1 ?_
      exact br_t rfl hp
  · rcases hz_rng v2 4 with c2 | ⟨p, hp4, rfl⟩
    · refine ⟨-1, fun post hp => ?_, fun post hp => ?_⟩
      · unfold wpX_role
        refine hz_inX1 u 8 rfl rfl hu (by decide) ?_
        refine br_f hz_1n0 ?_
        refine hz_isR0 c2 ?_
        exact br_t rfl hp
      · unfold wpY_role
        refine hz_inY1 u 8 rfl rfl hu (by decide) ?_
        refine br_f hz_1n0 ?_
        refine hz_inY0 4 rfl (by decide) c2 ?_
        exact br_t rfl hp
    · rcases hz_Ir I p hp4 with ⟨t1, t2, t3⟩ | ⟨t1, ⟨q, q1, q2, q3⟩, t3, t4⟩
      · refine ⟨-1, fun post hp => ?_, fun post hp => ?_⟩
        · unfold wpX_role
          refine hz_inX1 u 8 rfl rfl hu (by decide) ?_
          refine br_f hz_1n0 ?_
          refine hz_isRn hp4 t2 ?_
          exact br_t rfl hp
        · unfold wpY_role
          refine hz_inY1 u 8 rfl rfl hu (by decide) ?_
          refine br_f hz_1n0 ?_
          refine hz_inY1 p 4 rfl rfl hp4 (by decide) ?_
          refine br_f hz_1n0 ?_
          exact hz_yroleOf0 hp4 t1 hp
      · obtain ⟨t5, t6⟩ := t4 u hu
        have hr : ryA (8 * p + u) = -1 ∨ 0 ≤ ryA (8 * p + u) := by
          rw [t5]; exact t6.imp id And.left
        refine ⟨rxA (8 * p + u), fun post hp => ?_, fun post hp => ?_⟩
        · unfold wpX_role
          refine hz_inX1 u 8 rfl rfl hu (by decide) ?_
          refine br_f hz_1n0 ?_
          refine hz_isR1 hp4 q1 q2 ?_
          refine br_f hz_1n0 (And.intro (hz_v8 hp4 hu) ?_)
          rw [hz_x8 hp4 hu]
          exact hp
        · unfold wpY_role
          refine hz_inY1 u 8 rfl rfl hu (by decide) ?_
          refine br_f hz_1n0 ?_
          refine hz_inY1 p 4 rfl rfl hp4 (by decide) ?_
          refine br_f hz_1n0 ?_
          refine hz_yroleOf1 hp4 hu t1 hr ?_
          rw [t5]; exact hp
theorem hz_subscribed (I : hz_Inv m e kdA sjA afA rxA mdA scA soA plA mkA txA goA erA laA fsA lsA bxA hdA heA owA szA sxA itA icA thA kyA ryA opA syA oyA ioA buA) (v1 v2 : Int32) : ∃ r, (∀ post : Int32 → Prop, post r → wpX_subscribed post ((nI m), (nI e), kdA, sjA, afA, rxA, mdA, scA, soA, plA, mkA, txA, goA, erA, laA, fsA, lsA, bxA, hdA, heA, owA, szA, sxA, itA, icA) v1 v2) ∧ (∀ post : Int32 → Prop, post r → wpY_subscribed post ((nI m), (nI e), thA, kyA, sjA, scA, afA, ryA, opA, syA, oyA, szA, ioA, soA, plA, mkA, goA, txA, buA, heA) v1 v2) := by
  rcases hz_rng v1 8 with c1 | ⟨u, hu, rfl⟩
  · refine ⟨0, fun post hp => ?_, fun post hp => ?_⟩
    · unfold wpX_subscribed
      refine hz_inX0 8 rfl (by decide) c1 ?_
      exact br_t rfl hp
    · unfold wpY_subscribed
      refine hz_inY0 8 rfl (by decide) c1 ?_
      exact br_t rfl hp
  · rcases hz_rng v2 4 with c2 | ⟨p, hp4, rfl⟩
    · refine ⟨0, fun post hp => ?_, fun post hp => ?_⟩
      · unfold wpX_subscribed
        refine hz_inX1 u 8 rfl rfl hu (by decide) ?_
        refine br_f hz_1n0 ?_
        refine hz_inX0 4 rfl (by decide) c2 ?_
        exact br_t rfl hp
      · unfold wpY_subscribed
        refine hz_inY1 u 8 rfl rfl hu (by decide) ?_
        refine br_f hz_1n0 ?_
        refine hz_inY0 4 rfl (by decide) c2 ?_
        exact br_t rfl hp
    · have cp : (nI p).toNatClampNeg = p := hz_cl (by omega)
      have vp : vp_in (nI p) 4 := vp_in_nI hp4 (by decide)
      obtain ⟨s1, s2⟩ := hz_It' I p hp4
      rcases s2 with ⟨o1, o2⟩ | ⟨o1, ⟨b, b1, b2, b3⟩, _⟩
      · refine ⟨0, fun post hp => ?_, fun post hp => ?_⟩
        · unfold wpX_subscribed
          refine hz_inX1 u 8 rfl rfl hu (by decide) ?_
          refine br_f hz_1n0 ?_
          refine hz_inX1 p 4 rfl rfl hp4 (by decide) ?_
          refine br_f hz_1n0 (And.intro vp (br_t ?_ hp))
          rw [cp, o2]; exact hz_n1
        · unfold wpY_subscribed
          refine hz_inY1 u 8 rfl rfl hu (by decide) ?_
          refine br_f hz_1n0 ?_
          refine hz_inY1 p 4 rfl rfl hp4 (by decide) ?_
          refine br_f hz_1n0 (And.intro vp (br_t ?_ hp))
          rw [cp]; exact o1
      · rcases s1 u hu with ⟨w1, w2⟩ | ⟨w1, w2⟩
        · refine ⟨1, fun post hp => ?_, fun post hp => ?_⟩
          · unfold wpX_subscribed
            refine hz_inX1 u 8 rfl rfl hu (by decide) ?_
            refine br_f hz_1n0 ?_
            refine hz_inX1 p 4 rfl rfl hp4 (by decide) ?_
            refine br_f hz_1n0 (And.intro vp (br_f ?_ (And.intro vp (br_t ?_ hp))))
            · rw [cp, b2]; exact nI_pos (by omega)
            · rw [cp]; exact w2
          · unfold wpY_subscribed
            refine hz_inY1 u 8 rfl rfl hu (by decide) ?_
            refine br_f hz_1n0 ?_
            refine hz_inY1 p 4 rfl rfl hp4 (by decide) ?_
            refine br_f hz_1n0 (And.intro vp (br_f ?_ (And.intro (hz_v8 hp4 hu) (br_f ?_ hp))))
            · rw [cp, o1]; exact hz_1n0
            · rw [hz_x8 hp4 hu, w1]; exact hz_1n0
        · refine ⟨0, fun post hp => ?_, fun post hp => ?_⟩
          · unfold wpX_subscribed
            refine hz_inX1 u 8 rfl rfl hu (by decide) ?_
            refine br_f hz_1n0 ?_
            refine hz_inX1 p 4 rfl rfl hp4 (by decide) ?_
            refine br_f hz_1n0 (And.intro vp (br_f ?_ (And.intro vp (br_f ?_ hp))))
            · rw [cp, b2]; exact nI_pos (by omega)
            · rw [cp]; exact w2
          · unfold wpY_subscribed
            refine hz_inY1 u 8 rfl rfl hu (by decide) ?_
            refine br_f hz_1n0 ?_
            refine hz_inY1 p 4 rfl rfl hp4 (by decide) ?_
            refine br_f hz_1n0 (And.intro vp (br_f ?_ (And.intro (hz_v8 hp4 hu) (br_t ?_ hp))))
            · rw [cp, o1]; exact hz_1n0
            · rw [hz_x8 hp4 hu]; exact w1
end HZ05
end
section
section HZ06
variable {m e : Nat} {kdA sjA afA rxA mdA scA soA plA mkA txA goA erA laA fsA lsA bxA hdA heA owA szA sxA itA icA thA kyA ryA opA syA oyA ioA buA : Nat → Int32}
theorem hz_pos_n {d n : Nat} (h : d < n) : ∃ n', n = n' + 1 := ⟨n - 1, by omega⟩
theorem hz_xpres_l {p : Nat} (hp4 : p < 4) : ∀ d i s, i + d = 8 → s < 256 → s < 2 ^ i → (∀ u, u < 8 → (hz_b (nI s) u ↔ (u < i ∧ 0 ≤ rxA (8 * p + u)))) →
    ∃ s', s' < 256 ∧ (∀ u, u < 8 → (hz_b (nI s') u ↔ 0 ≤ rxA (8 * p + u))) ∧ ∀ n, d < n → ∀ post : Int32 → Prop, post (nI s') → wX_present_4 post (nI p) (nI m) (nI e) kdA sjA afA rxA mdA scA soA plA mkA txA goA erA laA fsA lsA bxA hdA heA owA szA sxA itA icA n (nI s) (nI i) := by
  intro d
  induction d with
  | zero =>
    intro i s hi hs hs2 hb
    obtain rfl : i = 8 := by omega
    refine ⟨s, hs, fun u hu => (hb u hu).trans ⟨fun z => z.2, fun z => ⟨hu, z⟩⟩, ?_⟩
    intro n hn post hp
    obtain ⟨n, rfl⟩ := hz_pos_n hn
    exact br_t (nI_le (a := 8) (by omega) (by omega)) hp
  | succ d ih =>
    intro i s hi hs hs2 hb
    have i8 : i < 8 := by omega
    by_cases c : 0 ≤ rxA (8 * p + i)
    · obtain ⟨o1, o2, o3⟩ := hz_set_or i i8 s hs hs2
      obtain ⟨s', a1, a2, a3⟩ := ih (i + 1) (s + 2 ^ i) (by omega) o2 o3 (by
        intro u hu
        rw [← o1, hz_b_or (by omega) (by omega), hb u hu]
        constructor
        · intro z
          rcases z with z | z
          · exact ⟨by omega, z.2⟩
          · subst z; exact ⟨by omega, c⟩
        · intro z
          by_cases e : u = i
          · exact Or.inr e
          · exact Or.inl ⟨by omega, z.2⟩)
      refine ⟨s', a1, a2, ?_⟩
      intro n hn post hp
      obtain ⟨n, rfl⟩ := hz_pos_n hn
      refine br_f (nI_ge (b := 8) i8 (by decide)) (And.intro (hz_v8 hp4 i8) (br_f ?_ ?_))
      · rw [hz_x8 hp4 i8]; exact Int32.not_lt.mpr c
      · refine nm_r o1 (nm_r (nI_1 i) ?_)
        exact a3 n (by omega) post hp
    · obtain ⟨s', a1, a2, a3⟩ := ih (i + 1) s (by omega) hs (by rw [Nat.pow_succ]; omega) (by
        intro u hu
        rw [hb u hu]
        constructor
        · intro z
          exact ⟨by omega, z.2⟩
        · intro z
          by_cases e : u = i
          · subst e; exact absurd z.2 c
          · exact ⟨by omega, z.2⟩)
      refine ⟨s', a1, a2, ?_⟩
      intro n hn post hp
      obtain ⟨n, rfl⟩ := hz_pos_n hn
      refine br_f (nI_ge (b := 8) i8 (by decide)) (And.intro (hz_v8 hp4 i8) (br_t ?_ ?_))
      · rw [hz_x8 hp4 i8]; exact Int32.not_le.mp c
      · refine nm_r (nI_1 i) ?_
        exact a3 n (by omega) post hp
theorem hz_xpres {p : Nat} (hp4 : p < 4) : ∃ s', s' < 256 ∧ (∀ u, u < 8 → (hz_b (nI s') u ↔ 0 ≤ rxA (8 * p + u))) ∧ ∀ post : Int32 → Prop, post (nI s') → wpX_present post ((nI m), (nI e), kdA, sjA, afA, rxA, mdA, scA, soA, plA, mkA, txA, goA, erA, laA, fsA, lsA, bxA, hdA, heA, owA, szA, sxA, itA, icA) (nI p) := by
  obtain ⟨s', a1, a2, a3⟩ := hz_xpres_l (m := m) (e := e) (kdA := kdA) (sjA := sjA) (afA := afA) (rxA := rxA) (mdA := mdA) (scA := scA) (soA := soA) (plA := plA) (mkA := mkA) (txA := txA) (goA := goA) (erA := erA) (laA := laA) (fsA := fsA) (lsA := lsA) (bxA := bxA) (hdA := hdA) (heA := heA) (owA := owA) (szA := szA) (sxA := sxA) (itA := itA) (icA := icA) hp4 8 0 0 rfl (by decide) (by decide) (by
    intro u hu
    exact ⟨fun z => absurd z (hz_b_0 (by omega)), fun z => absurd z.1 (Nat.not_lt_zero _)⟩)
  exact ⟨s', a1, a2, fun post hp => ⟨9, a3 9 (by omega) post hp⟩⟩
theorem hz_xbits_l {post : Int32 → Prop} : ∀ n s c, s < 256 → hz_pc s 8 < n → post (nI (c + hz_pc s 8)) → wX_bits_4 post n (nI c) (nI s) := by
  intro n
  induction n with
  | zero => intro s c _ h; omega
  | succ n ih =>
    intro s c hs h hp
    by_cases e : s = 0
    · subst e
      rw [hz_pc_0] at hp
      exact br_t rfl hp
    · obtain ⟨r1, r2, r3, r4⟩ := hz_set_rest s hs e
      refine br_f r4 (nm_r (nI_1 c) (nm_r r1 ?_))
      refine ih _ (c + 1) r2 (by omega) ?_
      rw [show c + 1 + hz_pc (s &&& (s - 1)) 8 = c + hz_pc s 8 by omega]
      exact hp
theorem hz_xbits {post : Int32 → Prop} {s : Nat} (hs : s < 256) (hp : post (nI (hz_pc s 8))) : wpX_bits post (nI s) :=
  ⟨hz_pc s 8 + 1, hz_xbits_l (hz_pc s 8 + 1) s 0 hs (by omega) (by rw [Nat.zero_add]; exact hp)⟩
theorem hz_ypres0 {post : Int32 → Prop} {p u : Nat} (hp4 : p < 4) (hu : u < 8) (h : thA p = 0 ∨ (thA p = 1 ∧ ryA (8 * p + u) < 0)) (hp : post 0) : wpY_present post ((nI m), (nI e), thA, kyA, sjA, scA, afA, ryA, opA, syA, oyA, szA, ioA, soA, plA, mkA, goA, txA, buA, heA) (nI u) (nI p) := by
  unfold wpY_present
  rcases h with h | ⟨h, h2⟩
  · refine And.intro (vp_in_nI hp4 (by decide)) (br_t ?_ hp)
    rw [hz_cl (by omega)]; exact h
  · refine And.intro (vp_in_nI hp4 (by decide)) (br_f ?_ (And.intro (hz_v8 hp4 hu) (br_t ?_ hp)))
    · rw [hz_cl (by omega), h]; exact hz_1n0
    · rw [hz_x8 hp4 hu]; exact h2
theorem hz_ypres1 {post : Int32 → Prop} {p u : Nat} (hp4 : p < 4) (hu : u < 8) (h : thA p = 1) (h2 : 0 ≤ ryA (8 * p + u)) (hp : post 1) : wpY_present post ((nI m), (nI e), thA, kyA, sjA, scA, afA, ryA, opA, syA, oyA, szA, ioA, soA, plA, mkA, goA, txA, buA, heA) (nI u) (nI p) := by
  unfold wpY_present
  refine And.intro (vp_in_nI hp4 (by decide)) (br_f ?_ (And.intro (hz_v8 hp4 hu) (br_f ?_ hp)))
  · rw [hz_cl (by omega), h]; exact hz_1n0
  · rw [hz_x8 hp4 hu]; exact Int32.not_lt.mpr h2
theorem hz_yroom69 {post : Int32 → Prop} {p s : Nat} {x2 x3 : Int32} (hm : m ≤ 250) (hs : s ≤ m)
    (K : ((x2 = 0 → (vp_in (nI p) 4 ∧ (post (kyA (nI p).toNatClampNeg)))) ∧ (¬ x2 = 0 → (((x2 = 1 → (vp_in (nI p) 4 ∧ (post (sjA (nI p).toNatClampNeg)))) ∧ (¬ x2 = 1 → (((x2 = 2 → (post x3)) ∧ (¬ x2 = 2 → (post (nI (hz_cn (hz_made soA plA p) m - hz_cn (hz_made soA plA p) s)))))))))))) :
    ∀ d j, j + d = m → s ≤ j → ∀ n, d < n → wY_room_69 post (nI p) x2 x3 (nI m) (nI e) thA kyA sjA scA afA ryA opA syA oyA szA ioA soA plA mkA goA txA buA heA n (nI (hz_cn (hz_made soA plA p) j - hz_cn (hz_made soA plA p) s)) (nI j) := by
  intro d
  induction d with
  | zero =>
    intro j hj hsj n hn
    obtain rfl : j = m := by omega
    obtain ⟨n, rfl⟩ := hz_pos_n hn
    exact br_t (nI_le (Nat.le_refl _) (by omega)) K
  | succ d ih =>
    intro j hj hsj n hn
    obtain ⟨n, rfl⟩ := hz_pos_n hn
    have vj : vp_in (nI j) 250 := vp_in_nI (by omega) (by decide)
    have cj : (nI j).toNatClampNeg = j := hz_cl (by omega)
    have I1 := ih (j + 1) (by omega) (by omega) n (by omega)
    have mono := hz_cn_mono (f := hz_made soA plA p) j hsj
    refine br_f (nI_ge (by omega) (by omega)) (And.intro vj ?_)
    by_cases c1 : plA j = nI p
    · by_cases c2 : 2 ≤ soA j
      · rw [hz_cn_f (decide_eq_false (fun z => z.2 c2))] at I1
        refine br_t (by rw [cj]; exact c1) (And.intro vj (br_t (by rw [cj]; exact c2) (nm_r (nI_1 j) I1)))
      · rw [hz_cn_t (decide_eq_true ⟨c1, c2⟩), show hz_cn (hz_made soA plA p) j + 1 - hz_cn (hz_made soA plA p) s = hz_cn (hz_made soA plA p) j - hz_cn (hz_made soA plA p) s + 1 by omega] at I1
        refine br_t (by rw [cj]; exact c1) (And.intro vj (br_f (by rw [cj]; exact c2) (nm_r (nI_1 _) (nm_r (nI_1 j) I1))))
    · rw [hz_cn_f (decide_eq_false (fun z => c1 z.1))] at I1
      exact br_f (by rw [cj]; exact c1) (nm_r (nI_1 j) I1)
theorem hz_yroom35 {post : Int32 → Prop} {p : Nat} {x2 x4 : Int32} {g : Nat → Bool} (hp4 : p < 4) (t1 : thA p = 1) (hg : ∀ u, u < 8 → (g u = true ↔ 0 ≤ ryA (8 * p + u)))
    (K : vp_in (nI p) 4 ∧ (∀ x5 : Int32, x5 = scA (nI p).toNatClampNeg → ∃ n69 : Nat, wY_room_69 post (nI p) x2 (nI (hz_cn g 8)) (nI m) (nI e) thA kyA sjA scA afA ryA opA syA oyA szA ioA soA plA mkA goA txA buA heA n69 x4 x5)) :
    ∀ d i, i + d = 8 → ∀ n, d < n → wY_room_35 post (nI p) x2 x4 (nI m) (nI e) thA kyA sjA scA afA ryA opA syA oyA szA ioA soA plA mkA goA txA buA heA n (nI (hz_cn g i)) (nI i) := by
  intro d
  induction d with
  | zero =>
    intro i hi n hn
    obtain rfl : i = 8 := by omega
    obtain ⟨n, rfl⟩ := hz_pos_n hn
    exact br_t (nI_le (a := 8) (Nat.le_refl _) (by omega)) K
  | succ d ih =>
    intro i hi n hn
    obtain ⟨n, rfl⟩ := hz_pos_n hn
    have i8 : i < 8 := by omega
    have I1 := ih (i + 1) (by omega) n (by omega)
    refine br_f (nI_ge (b := 8) i8 (by decide)) ?_
    by_cases c : 0 ≤ ryA (8 * p + i)
    · rw [hz_cn_t ((hg i i8).mpr c)] at I1
      refine hz_ypres1 hp4 i8 t1 c ?_
      exact br_f hz_1n0 (nm_r (nI_1 _) (nm_r (nI_1 i) I1))
    · have gf : g i = false := by
        cases hgi : g i with
        | false => rfl
        | true => exact absurd ((hg i i8).mp hgi) c
      rw [hz_cn_f gf] at I1
      refine hz_ypres0 hp4 i8 (Or.inr ⟨t1, Int32.not_le.mp c⟩) ?_
      exact br_t rfl (nm_r (nI_1 i) I1)
theorem hz_lt_of {a : Nat} {x : Int32} (ha : a + 1 < 2 ^ 31) (h : nI (a + 1) ≤ x) : nI a < x := by
  rw [Int32.lt_iff_toInt_lt, nI_toInt (by omega)]
  rw [Int32.le_iff_toInt_le, nI_toInt ha] at h
  omega
theorem hz_out4 {x : Int32} {A B C : Prop} (h : ∀ j, j < 4 → x ≠ nI j) (a : A) (b : B) : (x < 0 → A) ∧ (¬ x < 0 → ((3 < x → B) ∧ (¬ 3 < x → C))) := by
  rcases pk_ix x (n := 4) (by decide) with c | c | ⟨j, hj, c⟩
  · exact br_t c a
  · have h3 : (3 : Int32) < x := hz_lt_of (a := 3) (by decide) c
    exact br_f (fun z => absurd (Int32.lt_trans h3 z) (by decide)) (br_t h3 b)
  · exact absurd c (h j hj)
theorem hz_yroom {post : Int32 → Prop} {p s : Nat} {x2 : Int32} {g : Nat → Bool} {jj : Nat} (hm : m ≤ 250) (hs : s ≤ m) (hp4 : p < 4) (t1 : thA p = 1) (hsc : scA p = nI s) (hg : ∀ u, u < 8 → (g u = true ↔ 0 ≤ ryA (8 * p + u))) (hj : jj < 4) (hx2 : x2 = nI jj)
    (K : ((x2 = 0 → (vp_in (nI p) 4 ∧ (post (kyA (nI p).toNatClampNeg)))) ∧ (¬ x2 = 0 → (((x2 = 1 → (vp_in (nI p) 4 ∧ (post (sjA (nI p).toNatClampNeg)))) ∧ (¬ x2 = 1 → (((x2 = 2 → (post (nI (hz_cn g 8)))) ∧ (¬ x2 = 2 → (post (nI (hz_cn (hz_made soA plA p) m - hz_cn (hz_made soA plA p) s)))))))))))) :
    wpY_room post ((nI m), (nI e), thA, kyA, sjA, scA, afA, ryA, opA, syA, oyA, szA, ioA, soA, plA, mkA, goA, txA, buA, heA) (nI p) x2 := by
  have cp : (nI p).toNatClampNeg = p := hz_cl (by omega)
  have vp : vp_in (nI p) 4 := vp_in_nI hp4 (by decide)
  unfold wpY_room
  refine hz_inY1 p 4 rfl rfl hp4 (by decide) ?_
  refine br_f hz_1n0 (And.intro vp (br_f (by rw [cp, t1]; exact hz_1n0) ?_))
  refine hz_inY1 jj 4 hx2 rfl hj (by decide) ?_
  refine br_f hz_1n0 ⟨9, ?_⟩
  refine hz_yroom35 hp4 t1 hg (And.intro vp ?_) 8 0 rfl 9 (by omega)
  refine nm_r (e' := nI s) (by rw [cp]; exact hsc) ⟨m - s + 1, ?_⟩
  have Z := hz_yroom69 (m := m) (e := e) (thA := thA) (kyA := kyA) (sjA := sjA) (scA := scA) (afA := afA) (ryA := ryA) (opA := opA) (syA := syA) (oyA := oyA) (szA := szA) (ioA := ioA) (soA := soA) (plA := plA) (mkA := mkA) (goA := goA) (txA := txA) (buA := buA) (heA := heA) hm hs K (m - s) s (by omega) (Nat.le_refl s) (m - s + 1) (by omega)
  rw [Nat.sub_self] at Z
  exact Z
theorem hz_room (I : hz_Inv m e kdA sjA afA rxA mdA scA soA plA mkA txA goA erA laA fsA lsA bxA hdA heA owA szA sxA itA icA thA kyA ryA opA syA oyA ioA buA) (v1 v2 : Int32) : ∃ r, (∀ post : Int32 → Prop, post r → wpX_room post ((nI m), (nI e), kdA, sjA, afA, rxA, mdA, scA, soA, plA, mkA, txA, goA, erA, laA, fsA, lsA, bxA, hdA, heA, owA, szA, sxA, itA, icA) v1 v2) ∧ (∀ post : Int32 → Prop, post r → wpY_room post ((nI m), (nI e), thA, kyA, sjA, scA, afA, ryA, opA, syA, oyA, szA, ioA, soA, plA, mkA, goA, txA, buA, heA) v1 v2) := by
  obtain ⟨he1, he2⟩ := hz_Ie I
  rcases hz_rng v1 4 with c1 | ⟨p, hp4, rfl⟩
  · refine ⟨-1, fun post hp => ?_, fun post hp => ?_⟩
    · unfold wpX_room
      refine hz_isR0 c1 ?_
      exact br_t rfl hp
    · unfold wpY_room
      refine hz_inY0 4 rfl (by decide) c1 ?_
      exact br_t rfl hp
  · have cp : (nI p).toNatClampNeg = p := hz_cl (by omega)
    have vp : vp_in (nI p) 4 := vp_in_nI hp4 (by decide)
    rcases hz_Ir I p hp4 with ⟨t1, t2, t3⟩ | ⟨t1, ⟨q, q1, q2, q3⟩, ⟨s, s1, s2, s3⟩, t4⟩
    · refine ⟨-1, fun post hp => ?_, fun post hp => ?_⟩
      · unfold wpX_room
        refine hz_isRn hp4 t2 ?_
        exact br_t rfl hp
      · unfold wpY_room
        refine hz_inY1 p 4 rfl rfl hp4 (by decide) ?_
        refine br_f hz_1n0 (And.intro vp (br_t ?_ hp))
        rw [cp]; exact t1
    · rcases hz_rng v2 4 with c2 | ⟨jj, hj, rfl⟩
      · refine ⟨-1, fun post hp => ?_, fun post hp => ?_⟩
        · unfold wpX_room
          refine hz_isR1 hp4 q1 q2 ?_
          exact br_f hz_1n0 (hz_out4 c2 hp hp)
        · unfold wpY_room
          refine hz_inY1 p 4 rfl rfl hp4 (by decide) ?_
          refine br_f hz_1n0 (And.intro vp (br_f ?_ ?_))
          · rw [cp, t1]; exact hz_1n0
          · refine hz_inY0 4 rfl (by decide) c2 ?_
            exact br_t rfl hp
      · have hg : ∀ u, u < 8 → ((fun u => decide (0 ≤ rxA (8 * p + u))) u = true ↔ 0 ≤ ryA (8 * p + u)) := by
          intro u hu
          rw [(t4 u hu).1]
          exact decide_eq_true_iff
        have Y := fun (post : Int32 → Prop) K => hz_yroom (post := post) (m := m) (e := e) (thA := thA) (kyA := kyA) (sjA := sjA) (scA := scA) (afA := afA) (ryA := ryA) (opA := opA) (syA := syA) (oyA := oyA) (szA := szA) (ioA := ioA) (soA := soA) (plA := plA) (mkA := mkA) (goA := goA) (txA := txA) (buA := buA) (heA := heA) (show m ≤ 250 by omega) s1 hp4 t1 s2 hg hj (x2 := nI jj) rfl K
        match jj, hj, Y with
        | 0, _, Y =>
          refine ⟨nI q, fun post hp => ?_, fun post hp => ?_⟩
          · unfold wpX_room
            refine hz_isR1 hp4 q1 q2 ?_
            refine br_f hz_1n0 (br_f (by decide) (br_f (by decide) (br_t rfl (And.intro vp ?_))))
            rw [cp, q2]; exact hp
          · refine Y post (br_t rfl (And.intro vp ?_))
            rw [cp, q3]; exact hp
        | 1, _, Y =>
          refine ⟨sjA p, fun post hp => ?_, fun post hp => ?_⟩
          · unfold wpX_room
            refine hz_isR1 hp4 q1 q2 ?_
            refine br_f hz_1n0 (br_f (by decide) (br_f (by decide) (br_f (by decide) (br_t rfl (And.intro vp ?_)))))
            rw [cp]; exact hp
          · refine Y post (br_f (by decide) (br_t rfl (And.intro vp ?_)))
            rw [cp]; exact hp
        | 2, _, Y =>
          obtain ⟨s', a1, a2, a3⟩ := hz_xpres (m := m) (e := e) (kdA := kdA) (sjA := sjA) (afA := afA) (rxA := rxA) (mdA := mdA) (scA := scA) (soA := soA) (plA := plA) (mkA := mkA) (txA := txA) (goA := goA) (erA := erA) (laA := laA) (fsA := fsA) (lsA := lsA) (bxA := bxA) (hdA := hdA) (heA := heA) (owA := owA) (szA := szA) (sxA := sxA) (itA := itA) (icA := icA) hp4
          have ep : hz_pc s' 8 = hz_cn (fun u => decide (0 ≤ rxA (8 * p + u))) 8 := hz_pc_cn 8 (by
            intro u hu
            rw [← hz_set_bit s' a1 u hu]
            exact (a2 u hu).trans decide_eq_true_iff.symm)
          refine ⟨nI (hz_pc s' 8), fun post hp => ?_, fun post hp => ?_⟩
          · unfold wpX_room
            refine hz_isR1 hp4 q1 q2 ?_
            refine br_f hz_1n0 (br_f (by decide) (br_f (by decide) (br_f (by decide) (br_f (by decide) (br_t rfl ?_)))))
            refine a3 _ ?_
            exact hz_xbits a1 hp
          · refine Y post (br_f (by decide) (br_f (by decide) (br_t rfl ?_)))
            rw [← ep]; exact hp
        | 3, _, Y =>
          refine ⟨mdA p, fun post hp => ?_, fun post hp => ?_⟩
          · unfold wpX_room
            refine hz_isR1 hp4 q1 q2 ?_
            refine br_f hz_1n0 (br_f (by decide) (br_f (by decide) (br_f (by decide) (br_f (by decide) (br_f (by decide) (br_t rfl (And.intro vp ?_)))))))
            rw [cp]; exact hp
          · refine Y post (br_f (by decide) (br_f (by decide) (br_f (by decide) ?_)))
            rw [← s3]; exact hp
        | n + 4, h, _ => exact absurd h (by omega)
end HZ06
end
section
section HZ07
variable {m e : Nat} {kdA sjA afA rxA mdA scA soA plA mkA txA goA erA laA fsA lsA bxA hdA heA owA szA sxA itA icA thA kyA ryA opA syA oyA ioA buA : Nat → Int32}
/-! items -/
theorem hz_yitem_f {t x2 : Nat} {y2 : Int32} (hm : m ≤ 250) {j0 : Nat} (h0 : j0 < m) (hf : ioA j0 = nI t) (hx : y2 = nI (hz_cn (hz_fi ioA t) j0)) :
    ∀ d j, j + d = m → j ≤ j0 → ∀ n, d < n → ∀ post : Int32 → Prop, post (nI j0) → wY_item_24 post (nI t) y2 (nI m) (nI e) thA kyA sjA scA afA ryA opA syA oyA szA ioA soA plA mkA goA txA buA heA n (nI (hz_cn (hz_fi ioA t) j)) (nI j) := by
  intro d
  induction d with
  | zero => intro j hj h1; omega
  | succ d ih =>
    intro j hj h1 n hn post hp
    obtain ⟨n, rfl⟩ := hz_pos_n hn
    have vj : vp_in (nI j) 250 := vp_in_nI (by omega) (by decide)
    have cj : (nI j).toNatClampNeg = j := hz_cl (by omega)
    refine br_f (nI_ge (by omega) (by omega)) (And.intro vj ?_)
    have l0 := hz_cn_le (hz_fi ioA t) j0
    have lj := hz_cn_le (hz_fi ioA t) j
    by_cases e0 : j = j0
    · subst e0
      exact br_t (by rw [cj]; exact hf) (br_t hx.symm hp)
    · have I1 := ih (j + 1) (by omega) (by omega) n (by omega) post hp
      by_cases c : ioA j = nI t
      · have lt := hz_cn_lt (show j < j0 by omega) (hz_fi_t.mpr c)
        rw [hz_cn_t (hz_fi_t.mpr c)] at I1
        refine br_t (by rw [cj]; exact c) (br_f ?_ (nm_r (nI_1 _) (nm_r (nI_1 j) I1)))
        rw [hx, nI_eq (by omega) (by omega)]
        omega
      · rw [hz_cn_f (decide_eq_false c)] at I1
        exact br_f (by rw [cj]; exact c) (nm_r (nI_1 j) I1)
theorem hz_yitem_n {t : Nat} {y2 : Int32} (hm : m ≤ 250) (hx : ∀ k, k < hz_cn (hz_fi ioA t) m → y2 ≠ nI k) :
    ∀ d j, j + d = m → ∀ n, d < n → ∀ post : Int32 → Prop, post (-1) → wY_item_24 post (nI t) y2 (nI m) (nI e) thA kyA sjA scA afA ryA opA syA oyA szA ioA soA plA mkA goA txA buA heA n (nI (hz_cn (hz_fi ioA t) j)) (nI j) := by
  intro d
  induction d with
  | zero =>
    intro j hj n hn post hp
    obtain ⟨n, rfl⟩ := hz_pos_n hn
    exact br_t (nI_le (by omega) (by omega)) hp
  | succ d ih =>
    intro j hj n hn post hp
    obtain ⟨n, rfl⟩ := hz_pos_n hn
    have vj : vp_in (nI j) 250 := vp_in_nI (by omega) (by decide)
    have cj : (nI j).toNatClampNeg = j := hz_cl (by omega)
    refine br_f (nI_ge (by omega) (by omega)) (And.intro vj ?_)
    have I1 := ih (j + 1) (by omega) n (by omega) post hp
    by_cases c : ioA j = nI t
    · have lt := hz_cn_lt (show j < m by omega) (hz_fi_t.mpr c)
      rw [hz_cn_t (hz_fi_t.mpr c)] at I1
      exact br_t (by rw [cj]; exact c) (br_f (fun z => hx _ lt z.symm) (nm_r (nI_1 _) (nm_r (nI_1 j) I1)))
    · rw [hz_cn_f (decide_eq_false c)] at I1
      exact br_f (by rw [cj]; exact c) (nm_r (nI_1 j) I1)
theorem hz_yitem1 {t j0 : Nat} {y2 : Int32} {post : Int32 → Prop} (hm : m ≤ 250) (ht : t < 4) (ho : opA t = 1) (h0 : j0 < m) (hf : ioA j0 = nI t) (hx : y2 = nI (hz_cn (hz_fi ioA t) j0)) (hp : post (nI j0)) : wpY_item post ((nI m), (nI e), thA, kyA, sjA, scA, afA, ryA, opA, syA, oyA, szA, ioA, soA, plA, mkA, goA, txA, buA, heA) (nI t) y2 := by
  unfold wpY_item
  refine hz_inY1 t 4 rfl rfl ht (by decide) ?_
  refine br_f hz_1n0 (And.intro (vp_in_nI ht (by decide)) (br_f ?_ ⟨m + 1, ?_⟩))
  · rw [hz_cl (by omega), ho]; exact hz_1n0
  · exact hz_yitem_f (x2 := 0) hm h0 hf hx m 0 (by omega) (Nat.zero_le _) (m + 1) (by omega) post hp
theorem hz_item (I : hz_Inv m e kdA sjA afA rxA mdA scA soA plA mkA txA goA erA laA fsA lsA bxA hdA heA owA szA sxA itA icA thA kyA ryA opA syA oyA ioA buA) (v1 v2 : Int32) : ∃ r, (∀ post : Int32 → Prop, post r → wpX_item post ((nI m), (nI e), kdA, sjA, afA, rxA, mdA, scA, soA, plA, mkA, txA, goA, erA, laA, fsA, lsA, bxA, hdA, heA, owA, szA, sxA, itA, icA) v1 v2) ∧ (∀ post : Int32 → Prop, post r → wpY_item post ((nI m), (nI e), thA, kyA, sjA, scA, afA, ryA, opA, syA, oyA, szA, ioA, soA, plA, mkA, goA, txA, buA, heA) v1 v2) := by
  obtain ⟨he1, he2⟩ := hz_Ie I
  rcases hz_rng v1 4 with c1 | ⟨t, ht, rfl⟩
  · refine ⟨-1, fun post hp => ?_, fun post hp => ?_⟩
    · unfold wpX_item
      refine hz_inX0 4 rfl (by decide) c1 ?_
      exact br_t rfl hp
    · unfold wpY_item
      refine hz_inY0 4 rfl (by decide) c1 ?_
      exact br_t rfl hp
  · have ct : (nI t).toNatClampNeg = t := hz_cl (by omega)
    have vt : vp_in (nI t) 4 := vp_in_nI ht (by decide)
    rcases (hz_It' I t ht).2 with ⟨o1, o2⟩ | ⟨o1, ⟨b, b1, b2, b3⟩, ⟨z, z1, z2, z3, z4⟩, ⟨i1, i2, i3⟩⟩
    · refine ⟨-1, fun post hp => ?_, fun post hp => ?_⟩
      · unfold wpX_item
        refine hz_inX1 t 4 rfl rfl ht (by decide) ?_
        refine br_f hz_1n0 (And.intro vt (br_t ?_ hp))
        rw [ct, o2]; exact hz_n1
      · unfold wpY_item
        refine hz_inY1 t 4 rfl rfl ht (by decide) ?_
        refine br_f hz_1n0 (And.intro vt (br_t ?_ hp))
        rw [ct]; exact o1
    · have nb : ¬ owA (nI t).toNatClampNeg < 0 := by rw [ct, b2]; exact nI_pos (by omega)
      rcases hz_rng v2 (hz_cn (hz_fi ioA t) m) with c2 | ⟨k, hk, rfl⟩
      · refine ⟨-1, fun post hp => ?_, fun post hp => ?_⟩
        · unfold wpX_item
          refine hz_inX1 t 4 rfl rfl ht (by decide) ?_
          refine br_f hz_1n0 (And.intro vt (br_f nb (And.intro vt ?_)))
          refine hz_inX0 _ (by rw [ct]; exact i1) (by omega) c2 ?_
          exact br_t rfl hp
        · unfold wpY_item
          refine hz_inY1 t 4 rfl rfl ht (by decide) ?_
          refine br_f hz_1n0 (And.intro vt (br_f ?_ ⟨m + 1, ?_⟩))
          · rw [ct, o1]; exact hz_1n0
          · exact hz_yitem_n (by omega) c2 m 0 (by omega) (m + 1) (by omega) post hp
      · obtain ⟨j0, j1, j2, j3⟩ := hz_cn_ex m hk
        have j2' := hz_fi_t.mp j2
        refine ⟨nI j0, fun post hp => ?_, fun post hp => ?_⟩
        · unfold wpX_item
          refine hz_inX1 t 4 rfl rfl ht (by decide) ?_
          refine br_f hz_1n0 (And.intro vt (br_f nb (And.intro vt ?_)))
          refine hz_inX1 k _ rfl (by rw [ct]; exact i1) hk (by omega) ?_
          refine br_f hz_1n0 (And.intro (hz_v5 ht (by omega)) ?_)
          rw [hz_x5 ht (by omega), ← j3, i3 j0 j1 j2']
          exact hp
        · exact hz_yitem1 (by omega) ht o1 j1 j2' (by rw [j3]) hp
/-! pages -/
theorem hz_said_t {p j : Nat} : hz_said soA plA p j = true ↔ soA j = 0 ∧ plA j = nI p := decide_eq_true_iff
theorem hz_ysaid1 {post : Int32 → Prop} {p j : Nat} (hj : j < 250) (h : hz_said soA plA p j = true) (hp : post 1) : wpY_saidIn post ((nI m), (nI e), thA, kyA, sjA, scA, afA, ryA, opA, syA, oyA, szA, ioA, soA, plA, mkA, goA, txA, buA, heA) (nI j) (nI p) := by
  obtain ⟨h1, h2⟩ := hz_said_t.mp h
  have vj : vp_in (nI j) 250 := vp_in_nI hj (by decide)
  have cj : (nI j).toNatClampNeg = j := hz_cl (by omega)
  unfold wpY_saidIn
  exact And.intro vj (br_t (by rw [cj]; exact h1) (And.intro vj (br_t (by rw [cj]; exact h2) hp)))
theorem hz_ysaid0 {post : Int32 → Prop} {p j : Nat} (hj : j < 250) (h : hz_said soA plA p j = false) (hp : post 0) : wpY_saidIn post ((nI m), (nI e), thA, kyA, sjA, scA, afA, ryA, opA, syA, oyA, szA, ioA, soA, plA, mkA, goA, txA, buA, heA) (nI j) (nI p) := by
  have h' : ¬ (soA j = 0 ∧ plA j = nI p) := of_decide_eq_false h
  have vj : vp_in (nI j) 250 := vp_in_nI hj (by decide)
  have cj : (nI j).toNatClampNeg = j := hz_cl (by omega)
  unfold wpY_saidIn
  by_cases c : soA j = 0
  · exact And.intro vj (br_t (by rw [cj]; exact c) (And.intro vj (br_f (by rw [cj]; exact fun z => h' ⟨c, z⟩) hp)))
  · exact And.intro vj (br_f (by rw [cj]; exact c) hp)
theorem hz_yop0 {post : Int32 → Prop} {p j : Nat} {x2 : Int32} (hj : j < 250) (h : hz_said soA plA p j = false) (hp : post 0) : wpY_onPage post ((nI m), (nI e), thA, kyA, sjA, scA, afA, ryA, opA, syA, oyA, szA, ioA, soA, plA, mkA, goA, txA, buA, heA) (nI j) (nI p) x2 := by
  unfold wpY_onPage
  refine hz_ysaid0 hj h ?_
  exact br_t rfl hp
theorem hz_yop1 {post : Int32 → Prop} {p j : Nat} {x2 : Int32} (hj : j < 250) (h : hz_said soA plA p j = true) (hx : x2 < 0 ∨ mkA j = x2) (hp : post 1) : wpY_onPage post ((nI m), (nI e), thA, kyA, sjA, scA, afA, ryA, opA, syA, oyA, szA, ioA, soA, plA, mkA, goA, txA, buA, heA) (nI j) (nI p) x2 := by
  unfold wpY_onPage
  refine hz_ysaid1 hj h ?_
  refine br_f hz_1n0 ?_
  by_cases c : x2 < 0
  · exact br_t c hp
  · refine br_f c (And.intro (vp_in_nI hj (by decide)) (br_t ?_ hp))
    rw [hz_cl (by omega)]
    exact hx.resolve_left c
theorem hz_yop2 {post : Int32 → Prop} {p j : Nat} {x2 : Int32} (hj : j < 250) (h : hz_said soA plA p j = true) (hx : ¬ x2 < 0) (hy : ¬ mkA j = x2) (hp : post 0) : wpY_onPage post ((nI m), (nI e), thA, kyA, sjA, scA, afA, ryA, opA, syA, oyA, szA, ioA, soA, plA, mkA, goA, txA, buA, heA) (nI j) (nI p) x2 := by
  unfold wpY_onPage
  refine hz_ysaid1 hj h ?_
  refine br_f hz_1n0 (br_f hx (And.intro (vp_in_nI hj (by decide)) (br_f ?_ hp)))
  rw [hz_cl (by omega)]
  exact hy
theorem hz_pg {p K : Nat} {x2 x3 : Int32} (hm : m ≤ 250) (hK : K < 2 ^ 31) (hla : ∀ j, j < m → hz_said soA plA p j = true → laA j = hz_o (hz_nx (hz_said soA plA p) (m - (j + 1)) (j + 1))) :
    ∀ d j c, j + d = m → c ≤ K → ∃ r, (∀ n, d < n → ∀ post : Int32 → Prop, post r → wX_page_38 post x2 x3 (nI m) (nI e) kdA sjA afA rxA mdA scA soA plA mkA txA goA erA laA fsA lsA bxA hdA heA owA szA sxA itA icA n (nI (K - c)) (hz_o (hz_nx (hz_said soA plA p) d j))) ∧
      (∀ n, d < n → ∀ post : Int32 → Prop, post r → wY_page_32 post (nI p) x2 x3 (nI K) (nI m) (nI e) thA kyA sjA scA afA ryA opA syA oyA szA ioA soA plA mkA goA txA buA heA n (nI c) (nI j)) := by
  intro d
  induction d with
  | zero =>
    intro j c hj hc
    refine ⟨-1, fun n hn post hp => ?_, fun n hn post hp => ?_⟩
    · obtain ⟨n, rfl⟩ := hz_pos_n hn
      exact br_t hz_n1 hp
    · obtain ⟨n, rfl⟩ := hz_pos_n hn
      exact br_t (nI_le (by omega) (by omega)) hp
  | succ d ih =>
    intro j c hj hc
    have j250 : j < 250 := by omega
    have vj : vp_in (nI j) 250 := vp_in_nI j250 (by decide)
    have cj : (nI j).toNatClampNeg = j := hz_cl (by omega)
    have nle : ¬ nI m ≤ nI j := nI_ge (by omega) (by omega)
    have nneg : ¬ nI j < 0 := nI_pos (by omega)
    cases hF : hz_said soA plA p j with
    | false =>
      obtain ⟨r, hX, hY⟩ := ih (j + 1) c (by omega) hc
      refine ⟨r, fun n hn post hp => ?_, fun n hn post hp => ?_⟩
      · rw [hz_nx_f hF]
        exact hX n (by omega) post hp
      · obtain ⟨n, rfl⟩ := hz_pos_n hn
        refine br_f nle ?_
        by_cases ca : nI j ≤ x3
        · exact br_t ca (nm_r (nI_1 j) (hY n (by omega) post hp))
        · refine br_f ca ?_
          refine hz_yop0 j250 hF ?_
          exact br_t rfl (nm_r (nI_1 j) (hY n (by omega) post hp))
    | true =>
      have ela : laA (nI j).toNatClampNeg = hz_o (hz_nx (hz_said soA plA p) d (j + 1)) := by
        rw [cj, hla j (by omega) hF, show m - (j + 1) = d by omega]
      have enx : hz_o (hz_nx (hz_said soA plA p) (d + 1) j) = nI j := by
        rw [hz_nx_t hF]; rfl
      rw [enx]
      obtain ⟨r, hX, hY⟩ := ih (j + 1) c (by omega) hc
      by_cases ca : nI j ≤ x3
      · refine ⟨r, fun n hn post hp => ?_, fun n hn post hp => ?_⟩
        · obtain ⟨n, rfl⟩ := hz_pos_n hn
          exact br_f nneg (br_t ca (And.intro vj (nm_r ela (hX n (by omega) post hp))))
        · obtain ⟨n, rfl⟩ := hz_pos_n hn
          exact br_f nle (br_t ca (nm_r (nI_1 j) (hY n (by omega) post hp)))
      · by_cases cu : x2 < 0 ∨ mkA j = x2
        · by_cases ck : c = K
          · refine ⟨nI j, fun n hn post hp => ?_, fun n hn post hp => ?_⟩
            · obtain ⟨n, rfl⟩ := hz_pos_n hn
              have W : wX_page_67 post (wX_page_38 post x2 x3 (nI m) (nI e) kdA sjA afA rxA mdA scA soA plA mkA txA goA erA laA fsA lsA bxA hdA heA owA szA sxA itA icA n) x2 x3 (nI (K - c)) (nI j) (nI m) (nI e) kdA sjA afA rxA mdA scA soA plA mkA txA goA erA laA fsA lsA bxA hdA heA owA szA sxA itA icA := by
                unfold wX_page_67
                refine br_t ?_ hp
                rw [ck, Nat.sub_self]; rfl
              refine br_f nneg (br_f ca ?_)
              by_cases cn : x2 < 0
              · exact br_t cn W
              · exact br_f cn (And.intro vj (br_t (by rw [cj]; exact cu.resolve_left cn) W))
            · obtain ⟨n, rfl⟩ := hz_pos_n hn
              refine br_f nle (br_f ca ?_)
              refine hz_yop1 j250 hF cu ?_
              exact br_f hz_1n0 (br_t (by rw [ck]) hp)
          · obtain ⟨r, hX, hY⟩ := ih (j + 1) (c + 1) (by omega) (by omega)
            refine ⟨r, fun n hn post hp => ?_, fun n hn post hp => ?_⟩
            · obtain ⟨n, rfl⟩ := hz_pos_n hn
              have W : wX_page_67 post (wX_page_38 post x2 x3 (nI m) (nI e) kdA sjA afA rxA mdA scA soA plA mkA txA goA erA laA fsA lsA bxA hdA heA owA szA sxA itA icA n) x2 x3 (nI (K - c)) (nI j) (nI m) (nI e) kdA sjA afA rxA mdA scA soA plA mkA txA goA erA laA fsA lsA bxA hdA heA owA szA sxA itA icA := by
                unfold wX_page_67
                refine br_f (nI_ne0 (by omega) (by omega)) (nm_r (e' := nI (K - (c + 1))) ?_ (And.intro vj (nm_r ela (hX n (by omega) post hp))))
                rw [show K - c = K - (c + 1) + 1 by omega, pk_m1]
              refine br_f nneg (br_f ca ?_)
              by_cases cn : x2 < 0
              · exact br_t cn W
              · exact br_f cn (And.intro vj (br_t (by rw [cj]; exact cu.resolve_left cn) W))
            · obtain ⟨n, rfl⟩ := hz_pos_n hn
              refine br_f nle (br_f ca ?_)
              refine hz_yop1 j250 hF cu ?_
              refine br_f hz_1n0 (br_f ?_ (nm_r (nI_1 c) (nm_r (nI_1 j) (hY n (by omega) post hp))))
              rw [nI_eq (by omega) (by omega)]; exact ck
        · have cn : ¬ x2 < 0 := fun z => cu (Or.inl z)
          have cm : ¬ mkA j = x2 := fun z => cu (Or.inr z)
          refine ⟨r, fun n hn post hp => ?_, fun n hn post hp => ?_⟩
          · obtain ⟨n, rfl⟩ := hz_pos_n hn
            exact br_f nneg (br_f ca (br_f cn (And.intro vj (br_f (by rw [cj]; exact cm) (And.intro vj (nm_r ela (hX n (by omega) post hp)))))))
          · obtain ⟨n, rfl⟩ := hz_pos_n hn
            refine br_f nle (br_f ca ?_)
            refine hz_yop2 j250 hF cn cm ?_
            exact br_t rfl (nm_r (nI_1 j) (hY n (by omega) post hp))
def hz_p : Nat → Int32
  | 0 => -1
  | b + 1 => nI b
theorem hz_p_m (b : Nat) : nI b - 1 = hz_p b := by
  cases b with
  | zero => decide
  | succ b => exact nI_pred b
theorem hz_p_d (b : Nat) : nI b + (-1) = hz_p b := by
  cases b with
  | zero => decide
  | succ b => exact pk_m1 b
theorem hz_bk {p K : Nat} {x2 x3 : Int32} (hm : m ≤ 250) (hK : K < 2 ^ 31) (her : ∀ j, j < m → hz_said soA plA p j = true → erA j = hz_o (hz_pv (hz_said soA plA p) j)) :
    ∀ d c, d ≤ m → c ≤ K → ∃ r, (∀ n, d < n → ∀ post : Int32 → Prop, post r → wX_back_38 post x2 x3 (nI m) (nI e) kdA sjA afA rxA mdA scA soA plA mkA txA goA erA laA fsA lsA bxA hdA heA owA szA sxA itA icA n (nI (K - c)) (hz_o (hz_pv (hz_said soA plA p) d))) ∧
      (∀ n, d < n → ∀ post : Int32 → Prop, post r → wY_back_37 post (nI p) x2 x3 (nI K) (nI m) (nI e) thA kyA sjA scA afA ryA opA syA oyA szA ioA soA plA mkA goA txA buA heA n (nI c) (hz_p d)) := by
  intro d
  induction d with
  | zero =>
    intro c hj hc
    refine ⟨-1, fun n hn post hp => ?_, fun n hn post hp => ?_⟩
    · obtain ⟨n, rfl⟩ := hz_pos_n hn
      exact br_t hz_n1 hp
    · obtain ⟨n, rfl⟩ := hz_pos_n hn
      exact br_t hz_n1 hp
  | succ j ih =>
    intro c hj hc
    have j250 : j < 250 := by omega
    have vj : vp_in (nI j) 250 := vp_in_nI j250 (by decide)
    have cj : (nI j).toNatClampNeg = j := hz_cl (by omega)
    have nneg : ¬ nI j < 0 := nI_pos (by omega)
    cases hF : hz_said soA plA p j with
    | false =>
      obtain ⟨r, hX, hY⟩ := ih c (by omega) hc
      refine ⟨r, fun n hn post hp => ?_, fun n hn post hp => ?_⟩
      · rw [hz_pv_f hF]
        exact hX n (by omega) post hp
      · obtain ⟨n, rfl⟩ := hz_pos_n hn
        refine br_f nneg ?_
        by_cases ca : x3 ≤ nI j
        · exact br_t ca (nm_r (hz_p_d j) (hY n (by omega) post hp))
        · refine br_f ca ?_
          refine hz_yop0 j250 hF ?_
          exact br_t rfl (nm_r (hz_p_d j) (hY n (by omega) post hp))
    | true =>
      have eer : erA (nI j).toNatClampNeg = hz_o (hz_pv (hz_said soA plA p) j) := by
        rw [cj, her j (by omega) hF]
      have epv : hz_o (hz_pv (hz_said soA plA p) (j + 1)) = nI j := by
        rw [hz_pv_t hF]; rfl
      rw [epv]
      obtain ⟨r, hX, hY⟩ := ih c (by omega) hc
      by_cases ca : x3 ≤ nI j
      · refine ⟨r, fun n hn post hp => ?_, fun n hn post hp => ?_⟩
        · obtain ⟨n, rfl⟩ := hz_pos_n hn
          exact br_f nneg (br_t ca (And.intro vj (nm_r eer (hX n (by omega) post hp))))
        · obtain ⟨n, rfl⟩ := hz_pos_n hn
          exact br_f nneg (br_t ca (nm_r (hz_p_d j) (hY n (by omega) post hp)))
      · by_cases cu : x2 < 0 ∨ mkA j = x2
        · by_cases ck : c = K
          · refine ⟨nI j, fun n hn post hp => ?_, fun n hn post hp => ?_⟩
            · obtain ⟨n, rfl⟩ := hz_pos_n hn
              have W : wX_back_67 post (wX_back_38 post x2 x3 (nI m) (nI e) kdA sjA afA rxA mdA scA soA plA mkA txA goA erA laA fsA lsA bxA hdA heA owA szA sxA itA icA n) x2 x3 (nI (K - c)) (nI j) (nI m) (nI e) kdA sjA afA rxA mdA scA soA plA mkA txA goA erA laA fsA lsA bxA hdA heA owA szA sxA itA icA := by
                unfold wX_back_67
                refine br_t ?_ hp
                rw [ck, Nat.sub_self]; rfl
              refine br_f nneg (br_f ca ?_)
              by_cases cn : x2 < 0
              · exact br_t cn W
              · exact br_f cn (And.intro vj (br_t (by rw [cj]; exact cu.resolve_left cn) W))
            · obtain ⟨n, rfl⟩ := hz_pos_n hn
              refine br_f nneg (br_f ca ?_)
              refine hz_yop1 j250 hF cu ?_
              exact br_f hz_1n0 (br_t (by rw [ck]) hp)
          · obtain ⟨r, hX, hY⟩ := ih (c + 1) (by omega) (by omega)
            refine ⟨r, fun n hn post hp => ?_, fun n hn post hp => ?_⟩
            · obtain ⟨n, rfl⟩ := hz_pos_n hn
              have W : wX_back_67 post (wX_back_38 post x2 x3 (nI m) (nI e) kdA sjA afA rxA mdA scA soA plA mkA txA goA erA laA fsA lsA bxA hdA heA owA szA sxA itA icA n) x2 x3 (nI (K - c)) (nI j) (nI m) (nI e) kdA sjA afA rxA mdA scA soA plA mkA txA goA erA laA fsA lsA bxA hdA heA owA szA sxA itA icA := by
                unfold wX_back_67
                refine br_f (nI_ne0 (by omega) (by omega)) (nm_r (e' := nI (K - (c + 1))) ?_ (And.intro vj (nm_r eer (hX n (by omega) post hp))))
                rw [show K - c = K - (c + 1) + 1 by omega, pk_m1]
              refine br_f nneg (br_f ca ?_)
              by_cases cn : x2 < 0
              · exact br_t cn W
              · exact br_f cn (And.intro vj (br_t (by rw [cj]; exact cu.resolve_left cn) W))
            · obtain ⟨n, rfl⟩ := hz_pos_n hn
              refine br_f nneg (br_f ca ?_)
              refine hz_yop1 j250 hF cu ?_
              refine br_f hz_1n0 (br_f ?_ (nm_r (nI_1 c) (nm_r (hz_p_d j) (hY n (by omega) post hp))))
              rw [nI_eq (by omega) (by omega)]; exact ck
        · have cn : ¬ x2 < 0 := fun z => cu (Or.inl z)
          have cm : ¬ mkA j = x2 := fun z => cu (Or.inr z)
          refine ⟨r, fun n hn post hp => ?_, fun n hn post hp => ?_⟩
          · obtain ⟨n, rfl⟩ := hz_pos_n hn
            exact br_f nneg (br_f ca (br_f cn (And.intro vj (br_f (by rw [cj]; exact cm) (And.intro vj (nm_r eer (hX n (by omega) post hp)))))))
          · obtain ⟨n, rfl⟩ := hz_pos_n hn
            refine br_f nneg (br_f ca ?_)
            refine hz_yop2 j250 hF cn cm ?_
            exact br_t rfl (nm_r (hz_p_d j) (hY n (by omega) post hp))
/-- a user to look for: none (-1), one of the eight, or refused by both -/
theorem hz_usr (x : Int32) : ((x < -1 ∨ (¬ x < -1 ∧ 7 < x)) ∧ ∀ j, j < 9 → x + 1 ≠ nI j) ∨ (¬ x < -1 ∧ ¬ 7 < x ∧ ∃ j, j < 9 ∧ x + 1 = nI j) := by
  have hx1 := x.le_toInt
  have hx2 := x.toInt_lt
  have m1 : (-1 : Int32).toInt = -1 := by decide
  have s7 : (7 : Int32).toInt = 7 := by decide
  have key : ∀ j, j < 9 → x + 1 = nI j → x.toInt = (j : Int) - 1 := by
    intro j hj h
    have h' : x = nI j - 1 := by rw [← h, Int32.add_sub_cancel]
    rw [h', show (1 : Int32) = nI 1 from rfl, pk_sub_toInt (by omega) (by omega)]
    rfl
  by_cases c1 : x < -1
  · refine Or.inl ⟨Or.inl c1, fun j hj h => ?_⟩
    rw [Int32.lt_iff_toInt_lt, m1] at c1
    have := key j hj h
    omega
  · by_cases c2 : 7 < x
    · refine Or.inl ⟨Or.inr ⟨c1, c2⟩, fun j hj h => ?_⟩
      rw [Int32.lt_iff_toInt_lt, s7] at c2
      have := key j hj h
      omega
    · refine Or.inr ⟨c1, c2, ?_⟩
      by_cases c0 : x < 0
      · refine ⟨0, by omega, ?_⟩
        have e : x = -1 := by
          rw [Int32.lt_iff_toInt_lt, m1] at c1
          rw [Int32.lt_iff_toInt_lt, show (0 : Int32).toInt = 0 by decide] at c0
          apply Int32.toInt_inj.mp
          rw [m1]
          omega
        rw [e]; decide
      · obtain ⟨j, hj, rfl⟩ := nI_of c0
        rw [Int32.lt_iff_toInt_lt, s7, nI_toInt hj] at c2
        exact ⟨j + 1, by omega, nI_1 j⟩
theorem hz_usr_br {x : Int32} {A B C : Prop} (h : x < -1 ∨ (¬ x < -1 ∧ 7 < x)) (a : A) (b : B) : (x < -1 → A) ∧ (¬ x < -1 → ((7 < x → B) ∧ (¬ 7 < x → C))) := by
  rcases h with h | ⟨h, h2⟩
  · exact br_t h a
  · exact br_f h (br_t h2 b)
theorem hz_page (I : hz_Inv m e kdA sjA afA rxA mdA scA soA plA mkA txA goA erA laA fsA lsA bxA hdA heA owA szA sxA itA icA thA kyA ryA opA syA oyA ioA buA) (v1 v2 v3 v4 : Int32) : ∃ r, (∀ post : Int32 → Prop, post r → wpX_page post ((nI m), (nI e), kdA, sjA, afA, rxA, mdA, scA, soA, plA, mkA, txA, goA, erA, laA, fsA, lsA, bxA, hdA, heA, owA, szA, sxA, itA, icA) v1 v2 v3 v4) ∧ (∀ post : Int32 → Prop, post r → wpY_page post ((nI m), (nI e), thA, kyA, sjA, scA, afA, ryA, opA, syA, oyA, szA, ioA, soA, plA, mkA, goA, txA, buA, heA) v1 v2 v3 v4) := by
  obtain ⟨he1, he2⟩ := hz_Ie I
  rcases hz_rng v1 4 with c1 | ⟨p, hp4, rfl⟩
  · refine ⟨-1, fun post hp => ?_, fun post hp => ?_⟩
    · unfold wpX_page
      refine hz_inX0 4 rfl (by decide) c1 ?_
      exact br_t rfl hp
    · unfold wpY_page
      refine hz_inY0 4 rfl (by decide) c1 ?_
      exact br_t rfl hp
  · obtain ⟨h1, h2, h3⟩ := hz_Ic I p hp4
    rcases hz_usr v2 with ⟨c2, c3⟩ | ⟨c2, c3, jj, j1, j2⟩
    · refine ⟨-1, fun post hp => ?_, fun post hp => ?_⟩
      · unfold wpX_page
        refine hz_inX1 p 4 rfl rfl hp4 (by decide) ?_
        exact br_f hz_1n0 (hz_usr_br c2 hp hp)
      · unfold wpY_page
        refine hz_inY1 p 4 rfl rfl hp4 (by decide) ?_
        refine br_f hz_1n0 ?_
        refine hz_inY0 9 rfl (by decide) c3 ?_
        exact br_t rfl hp
    · by_cases c4 : 0 ≤ v4
      · obtain ⟨K, hK, rfl⟩ := nI_of (x := v4) (Int32.not_lt.mpr c4)
        obtain ⟨r, hX, hY⟩ := hz_pg (p := p) (K := K) (x2 := v2) (x3 := v3) (m := m) (e := e) (kdA := kdA) (sjA := sjA) (afA := afA) (rxA := rxA) (mdA := mdA) (scA := scA) (soA := soA) (plA := plA) (mkA := mkA) (txA := txA) (goA := goA) (erA := erA) (laA := laA) (fsA := fsA) (lsA := lsA) (bxA := bxA) (hdA := hdA) (heA := heA) (owA := owA) (szA := szA) (sxA := sxA) (itA := itA) (icA := icA) (thA := thA) (kyA := kyA) (ryA := ryA) (opA := opA) (syA := syA) (oyA := oyA) (ioA := ioA) (buA := buA) (by omega) hK (fun j hj hF => (h3 j hj hF).1) m 0 0 (by omega) (Nat.zero_le _)
        refine ⟨r, fun post hp => ?_, fun post hp => ?_⟩
        · unfold wpX_page
          refine hz_inX1 p 4 rfl rfl hp4 (by decide) ?_
          refine br_f hz_1n0 (br_f c2 (br_f c3 (br_t c4 (And.intro (vp_in_nI hp4 (by decide)) ?_))))
          refine nm_r (e' := hz_o (hz_nx (hz_said soA plA p) m 0)) (by rw [hz_cl (by omega)]; exact h1) ⟨m + 1, ?_⟩
          exact hX (m + 1) (by omega) post hp
        · unfold wpY_page
          refine hz_inY1 p 4 rfl rfl hp4 (by decide) ?_
          refine br_f hz_1n0 ?_
          refine hz_inY1 jj 9 j2 rfl j1 (by decide) ?_
          refine br_f hz_1n0 (br_t c4 ⟨m + 1, ?_⟩)
          exact hY (m + 1) (by omega) post hp
      · refine ⟨-1, fun post hp => ?_, fun post hp => ?_⟩
        · unfold wpX_page
          refine hz_inX1 p 4 rfl rfl hp4 (by decide) ?_
          exact br_f hz_1n0 (br_f c2 (br_f c3 (br_f c4 hp)))
        · unfold wpY_page
          refine hz_inY1 p 4 rfl rfl hp4 (by decide) ?_
          refine br_f hz_1n0 ?_
          refine hz_inY1 jj 9 j2 rfl j1 (by decide) ?_
          exact br_f hz_1n0 (br_f c4 hp)
theorem hz_back (I : hz_Inv m e kdA sjA afA rxA mdA scA soA plA mkA txA goA erA laA fsA lsA bxA hdA heA owA szA sxA itA icA thA kyA ryA opA syA oyA ioA buA) (v1 v2 v3 v4 : Int32) : ∃ r, (∀ post : Int32 → Prop, post r → wpX_back post ((nI m), (nI e), kdA, sjA, afA, rxA, mdA, scA, soA, plA, mkA, txA, goA, erA, laA, fsA, lsA, bxA, hdA, heA, owA, szA, sxA, itA, icA) v1 v2 v3 v4) ∧ (∀ post : Int32 → Prop, post r → wpY_back post ((nI m), (nI e), thA, kyA, sjA, scA, afA, ryA, opA, syA, oyA, szA, ioA, soA, plA, mkA, goA, txA, buA, heA) v1 v2 v3 v4) := by
  obtain ⟨he1, he2⟩ := hz_Ie I
  rcases hz_rng v1 4 with c1 | ⟨p, hp4, rfl⟩
  · refine ⟨-1, fun post hp => ?_, fun post hp => ?_⟩
    · unfold wpX_back
      refine hz_inX0 4 rfl (by decide) c1 ?_
      exact br_t rfl hp
    · unfold wpY_back
      refine hz_inY0 4 rfl (by decide) c1 ?_
      exact br_t rfl hp
  · obtain ⟨h1, h2, h3⟩ := hz_Ic I p hp4
    rcases hz_usr v2 with ⟨c2, c3⟩ | ⟨c2, c3, jj, j1, j2⟩
    · refine ⟨-1, fun post hp => ?_, fun post hp => ?_⟩
      · unfold wpX_back
        refine hz_inX1 p 4 rfl rfl hp4 (by decide) ?_
        exact br_f hz_1n0 (hz_usr_br c2 hp hp)
      · unfold wpY_back
        refine hz_inY1 p 4 rfl rfl hp4 (by decide) ?_
        refine br_f hz_1n0 ?_
        refine hz_inY0 9 rfl (by decide) c3 ?_
        exact br_t rfl hp
    · by_cases c4 : 0 ≤ v4
      · obtain ⟨K, hK, rfl⟩ := nI_of (x := v4) (Int32.not_lt.mpr c4)
        obtain ⟨r, hX, hY⟩ := hz_bk (p := p) (K := K) (x2 := v2) (x3 := v3) (m := m) (e := e) (kdA := kdA) (sjA := sjA) (afA := afA) (rxA := rxA) (mdA := mdA) (scA := scA) (soA := soA) (plA := plA) (mkA := mkA) (txA := txA) (goA := goA) (erA := erA) (laA := laA) (fsA := fsA) (lsA := lsA) (bxA := bxA) (hdA := hdA) (heA := heA) (owA := owA) (szA := szA) (sxA := sxA) (itA := itA) (icA := icA) (thA := thA) (kyA := kyA) (ryA := ryA) (opA := opA) (syA := syA) (oyA := oyA) (ioA := ioA) (buA := buA) (by omega) hK (fun j hj hF => (h3 j hj hF).2) m 0 (Nat.le_refl m) (Nat.zero_le _)
        refine ⟨r, fun post hp => ?_, fun post hp => ?_⟩
        · unfold wpX_back
          refine hz_inX1 p 4 rfl rfl hp4 (by decide) ?_
          refine br_f hz_1n0 (br_f c2 (br_f c3 (br_t c4 (And.intro (vp_in_nI hp4 (by decide)) ?_))))
          refine nm_r (e' := hz_o (hz_pv (hz_said soA plA p) m)) (by rw [hz_cl (by omega)]; exact h2) ⟨m + 1, ?_⟩
          exact hX (m + 1) (by omega) post hp
        · unfold wpY_back
          refine hz_inY1 p 4 rfl rfl hp4 (by decide) ?_
          refine br_f hz_1n0 ?_
          refine hz_inY1 jj 9 j2 rfl j1 (by decide) ?_
          refine br_f hz_1n0 (br_t c4 (nm_r (hz_p_m m) ⟨m + 1, ?_⟩))
          exact hY (m + 1) (by omega) post hp
      · refine ⟨-1, fun post hp => ?_, fun post hp => ?_⟩
        · unfold wpX_back
          refine hz_inX1 p 4 rfl rfl hp4 (by decide) ?_
          exact br_f hz_1n0 (br_f c2 (br_f c3 (br_f c4 hp)))
        · unfold wpY_back
          refine hz_inY1 p 4 rfl rfl hp4 (by decide) ?_
          refine br_f hz_1n0 ?_
          refine hz_inY1 jj 9 j2 rfl j1 (by decide) ?_
          exact br_f hz_1n0 (br_f c4 hp)
end HZ07
end
section
section HZ08
variable {m e : Nat} {kdA sjA afA rxA mdA scA soA plA mkA txA goA erA laA fsA lsA bxA hdA heA owA szA sxA itA icA thA kyA ryA opA syA oyA ioA buA : Nat → Int32}
def hz_sm (f : Nat → Int32) : Nat → Int32
  | 0 => 0
  | i + 1 => hz_sm f i + f i
theorem hz_xc48 : ∀ d i, i + d = 8 → ∀ n, d < n → ∀ post : Int32 → Prop, post (hz_sm heA 8) → wX_count_48 post (nI m) (nI e) kdA sjA afA rxA mdA scA soA plA mkA txA goA erA laA fsA lsA bxA hdA heA owA szA sxA itA icA n (hz_sm heA i) (nI i) := by
  intro d
  induction d with
  | zero =>
    intro i hi n hn post hp
    obtain rfl : i = 8 := by omega
    obtain ⟨n, rfl⟩ := hz_pos_n hn
    exact br_t (nI_le (a := 8) (Nat.le_refl _) (by omega)) hp
  | succ d ih =>
    intro i hi n hn post hp
    obtain ⟨n, rfl⟩ := hz_pos_n hn
    have i8 : i < 8 := by omega
    refine br_f (nI_ge (b := 8) i8 (by decide)) (And.intro (vp_in_nI i8 (by decide)) (nm_r (e' := hz_sm heA (i + 1)) ?_ (nm_r (nI_1 i) (ih (i + 1) (by omega) n (by omega) post hp))))
    rw [hz_cl (by omega)]; rfl
theorem hz_xc73 {g : Nat → Bool} (hg : ∀ p, p < 4 → (g p = false ↔ kdA p < 0)) : ∀ d i, i + d = 4 → ∀ n, d < n → ∀ post : Int32 → Prop, post (nI (hz_cn g 4)) → wX_count_73 post (nI m) (nI e) kdA sjA afA rxA mdA scA soA plA mkA txA goA erA laA fsA lsA bxA hdA heA owA szA sxA itA icA n (nI (hz_cn g i)) (nI i) := by
  intro d
  induction d with
  | zero =>
    intro i hi n hn post hp
    obtain rfl : i = 4 := by omega
    obtain ⟨n, rfl⟩ := hz_pos_n hn
    exact br_t (nI_le (a := 4) (Nat.le_refl _) (by omega)) hp
  | succ d ih =>
    intro i hi n hn post hp
    obtain ⟨n, rfl⟩ := hz_pos_n hn
    have i4 : i < 4 := by omega
    have I1 := ih (i + 1) (by omega) n (by omega) post hp
    refine br_f (nI_ge (b := 4) i4 (by decide)) (And.intro (vp_in_nI i4 (by decide)) ?_)
    cases gi : g i with
    | false =>
      rw [hz_cn_f gi] at I1
      exact br_t (by rw [hz_cl (by omega)]; exact (hg i i4).mp gi) (nm_r (nI_1 i) I1)
    | true =>
      rw [hz_cn_t gi] at I1
      refine br_f ?_ (nm_r (nI_1 _) (nm_r (nI_1 i) I1))
      rw [hz_cl (by omega)]
      intro z
      rw [(hg i i4).mpr z] at gi
      exact absurd gi (by decide)
theorem hz_xc100 {g : Nat → Bool} (hg : ∀ p, p < 4 → (g p = false ↔ owA p < 0)) : ∀ d i, i + d = 4 → ∀ n, d < n → ∀ post : Int32 → Prop, post (nI (hz_cn g 4)) → wX_count_100 post (nI m) (nI e) kdA sjA afA rxA mdA scA soA plA mkA txA goA erA laA fsA lsA bxA hdA heA owA szA sxA itA icA n (nI (hz_cn g i)) (nI i) := by
  intro d
  induction d with
  | zero =>
    intro i hi n hn post hp
    obtain rfl : i = 4 := by omega
    obtain ⟨n, rfl⟩ := hz_pos_n hn
    exact br_t (nI_le (a := 4) (Nat.le_refl _) (by omega)) hp
  | succ d ih =>
    intro i hi n hn post hp
    obtain ⟨n, rfl⟩ := hz_pos_n hn
    have i4 : i < 4 := by omega
    have I1 := ih (i + 1) (by omega) n (by omega) post hp
    refine br_f (nI_ge (b := 4) i4 (by decide)) (And.intro (vp_in_nI i4 (by decide)) ?_)
    cases gi : g i with
    | false =>
      rw [hz_cn_f gi] at I1
      exact br_t (by rw [hz_cl (by omega)]; exact (hg i i4).mp gi) (nm_r (nI_1 i) I1)
    | true =>
      rw [hz_cn_t gi] at I1
      refine br_f ?_ (nm_r (nI_1 _) (nm_r (nI_1 i) I1))
      rw [hz_cl (by omega)]
      intro z
      rw [(hg i i4).mpr z] at gi
      exact absurd gi (by decide)
theorem hz_yc36 {post : Int32 → Prop} {x1 x2 : Int32} {g h : Nat → Bool} (hg : ∀ p, p < 4 → (g p = false ↔ thA p = 0)) (hh : ∀ p, p < 4 → (h p = false ↔ opA p = 0))
    (K : ((x1 = 0 → (post (nI e))) ∧ (¬ x1 = 0 → (((x1 = 1 → (post (nI m))) ∧ (¬ x1 = 1 → (((x1 = 2 → (post x2)) ∧ (¬ x1 = 2 → (((x1 = 3 → (post (nI (hz_cn g 4)))) ∧ (¬ x1 = 3 → (((x1 = 4 → (post (nI (hz_cn h 4)))) ∧ (¬ x1 = 4 → (post (-1))))))))))))))))) :
    ∀ d i, i + d = 4 → ∀ n, d < n → wY_count_36 post x1 x2 (nI m) (nI e) thA kyA sjA scA afA ryA opA syA oyA szA ioA soA plA mkA goA txA buA heA n (nI (hz_cn g i)) (nI (hz_cn h i)) (nI i) := by
  intro d
  induction d with
  | zero =>
    intro i hi n hn
    obtain rfl : i = 4 := by omega
    obtain ⟨n, rfl⟩ := hz_pos_n hn
    exact br_t (nI_le (a := 4) (Nat.le_refl _) (by omega)) K
  | succ d ih =>
    intro i hi n hn
    obtain ⟨n, rfl⟩ := hz_pos_n hn
    have i4 : i < 4 := by omega
    have vi : vp_in (nI i) 4 := vp_in_nI i4 (by decide)
    have ci : (nI i).toNatClampNeg = i := hz_cl (by omega)
    have I1 := ih (i + 1) (by omega) n (by omega)
    have J : ∀ x3 : Int32, x3 = nI (hz_cn g (i + 1)) → wY_count_55 post (wY_count_36 post x1 x2 (nI m) (nI e) thA kyA sjA scA afA ryA opA syA oyA szA ioA soA plA mkA goA txA buA heA n) x1 x2 x3 (nI (hz_cn h i)) (nI i) (nI m) (nI e) thA kyA sjA scA afA ryA opA syA oyA szA ioA soA plA mkA goA txA buA heA := by
      intro x3 e3
      subst e3
      unfold wY_count_55
      refine And.intro vi ?_
      cases hi2 : h i with
      | false =>
        rw [hz_cn_f hi2] at I1
        exact br_t (by rw [ci]; exact (hh i i4).mp hi2) (nm_r (nI_1 i) I1)
      | true =>
        rw [hz_cn_t hi2] at I1
        refine br_f ?_ (nm_r (nI_1 _) (nm_r (nI_1 i) I1))
        rw [ci]
        intro z
        rw [(hh i i4).mpr z] at hi2
        exact absurd hi2 (by decide)
    refine br_f (nI_ge (b := 4) i4 (by decide)) (And.intro vi ?_)
    cases gi : g i with
    | false => exact br_t (by rw [ci]; exact (hg i i4).mp gi) (J _ (by rw [hz_cn_f gi]))
    | true =>
      refine br_f ?_ (nm_e (J _ (by rw [hz_cn_t gi, nI_1])))
      rw [ci]
      intro z
      rw [(hg i i4).mpr z] at gi
      exact absurd gi (by decide)
theorem hz_yc10 {post : Int32 → Prop} {x1 : Int32} (K : ∃ n36 : Nat, wY_count_36 post x1 (hz_sm heA 8) (nI m) (nI e) thA kyA sjA scA afA ryA opA syA oyA szA ioA soA plA mkA goA txA buA heA n36 0 0 0) :
    ∀ d i, i + d = 8 → ∀ n, d < n → wY_count_10 post x1 0 0 (nI m) (nI e) thA kyA sjA scA afA ryA opA syA oyA szA ioA soA plA mkA goA txA buA heA n (hz_sm heA i) (nI i) := by
  intro d
  induction d with
  | zero =>
    intro i hi n hn
    obtain rfl : i = 8 := by omega
    obtain ⟨n, rfl⟩ := hz_pos_n hn
    exact br_t (nI_le (a := 8) (Nat.le_refl _) (by omega)) K
  | succ d ih =>
    intro i hi n hn
    obtain ⟨n, rfl⟩ := hz_pos_n hn
    have i8 : i < 8 := by omega
    refine br_f (nI_ge (b := 8) i8 (by decide)) (And.intro (vp_in_nI i8 (by decide)) (nm_r (e' := hz_sm heA (i + 1)) ?_ (nm_r (nI_1 i) (ih (i + 1) (by omega) n (by omega)))))
    rw [hz_cl (by omega)]; rfl
theorem hz_ycount {post : Int32 → Prop} {x1 : Int32} {g h : Nat → Bool} (hg : ∀ p, p < 4 → (g p = false ↔ thA p = 0)) (hh : ∀ p, p < 4 → (h p = false ↔ opA p = 0))
    (K : ((x1 = 0 → (post (nI e))) ∧ (¬ x1 = 0 → (((x1 = 1 → (post (nI m))) ∧ (¬ x1 = 1 → (((x1 = 2 → (post (hz_sm heA 8))) ∧ (¬ x1 = 2 → (((x1 = 3 → (post (nI (hz_cn g 4)))) ∧ (¬ x1 = 3 → (((x1 = 4 → (post (nI (hz_cn h 4)))) ∧ (¬ x1 = 4 → (post (-1))))))))))))))))) :
    wpY_count post ((nI m), (nI e), thA, kyA, sjA, scA, afA, ryA, opA, syA, oyA, szA, ioA, soA, plA, mkA, goA, txA, buA, heA) x1 := by
  refine ⟨9, ?_⟩
  exact hz_yc10 ⟨5, hz_yc36 hg hh K 4 0 rfl 5 (by omega)⟩ 8 0 rfl 9 (by omega)
theorem hz_out5 {x : Int32} {A B C : Prop} (h : ∀ j, j < 5 → x ≠ nI j) (a : A) (b : B) : (x < 0 → A) ∧ (¬ x < 0 → ((4 < x → B) ∧ (¬ 4 < x → C))) := by
  rcases pk_ix x (n := 5) (by decide) with c | c | ⟨j, hj, c⟩
  · exact br_t c a
  · have h3 : (4 : Int32) < x := hz_lt_of (a := 4) (by decide) c
    exact br_f (fun z => absurd (Int32.lt_trans h3 z) (by decide)) (br_t h3 b)
  · exact absurd c (h j hj)
theorem hz_count (I : hz_Inv m e kdA sjA afA rxA mdA scA soA plA mkA txA goA erA laA fsA lsA bxA hdA heA owA szA sxA itA icA thA kyA ryA opA syA oyA ioA buA) (v1 : Int32) : ∃ r, (∀ post : Int32 → Prop, post r → wpX_count post ((nI m), (nI e), kdA, sjA, afA, rxA, mdA, scA, soA, plA, mkA, txA, goA, erA, laA, fsA, lsA, bxA, hdA, heA, owA, szA, sxA, itA, icA) v1) ∧ (∀ post : Int32 → Prop, post r → wpY_count post ((nI m), (nI e), thA, kyA, sjA, scA, afA, ryA, opA, syA, oyA, szA, ioA, soA, plA, mkA, goA, txA, buA, heA) v1) := by
  have hg : ∀ p, p < 4 → ((fun p => decide (¬ thA p = 0)) p = false ↔ thA p = 0) := by
    intro p _
    show decide (¬ thA p = 0) = false ↔ thA p = 0
    rw [decide_eq_false_iff_not, Decidable.not_not]
  have hh : ∀ p, p < 4 → ((fun p => decide (¬ opA p = 0)) p = false ↔ opA p = 0) := by
    intro p _
    show decide (¬ opA p = 0) = false ↔ opA p = 0
    rw [decide_eq_false_iff_not, Decidable.not_not]
  have hk : ∀ p, p < 4 → ((fun p => decide (¬ thA p = 0)) p = false ↔ kdA p < 0) := by
    intro p hp
    rw [hg p hp]
    rcases hz_Ir I p hp with ⟨t1, t2, t3⟩ | ⟨t1, ⟨q, q1, q2, q3⟩, _, _⟩
    · rw [t1, t2]; exact ⟨fun _ => hz_n1, fun _ => rfl⟩
    · rw [t1, q2]; exact ⟨fun z => absurd z hz_1n0, fun z => absurd z (nI_pos (by omega))⟩
  have ho : ∀ p, p < 4 → ((fun p => decide (¬ opA p = 0)) p = false ↔ owA p < 0) := by
    intro p hp
    rw [hh p hp]
    rcases (hz_It' I p hp).2 with ⟨t1, t2⟩ | ⟨t1, ⟨q, q1, q2, q3⟩, _⟩
    · rw [t1, t2]; exact ⟨fun _ => hz_n1, fun _ => rfl⟩
    · rw [t1, q2]; exact ⟨fun z => absurd z hz_1n0, fun z => absurd z (nI_pos (by omega))⟩
  have Y := fun (post : Int32 → Prop) (x1 : Int32) K => hz_ycount (post := post) (x1 := x1) (m := m) (e := e) (thA := thA) (kyA := kyA) (sjA := sjA) (scA := scA) (afA := afA) (ryA := ryA) (opA := opA) (syA := syA) (oyA := oyA) (szA := szA) (ioA := ioA) (soA := soA) (plA := plA) (mkA := mkA) (goA := goA) (txA := txA) (buA := buA) (heA := heA) hg hh K
  rcases hz_rng v1 5 with c1 | ⟨jj, hj, rfl⟩
  · refine ⟨-1, fun post hp => ?_, fun post hp => ?_⟩
    · exact hz_out5 c1 hp hp
    · exact Y post v1 (br_f (c1 0 (by decide)) (br_f (c1 1 (by decide)) (br_f (c1 2 (by decide)) (br_f (c1 3 (by decide)) (br_f (c1 4 (by decide)) hp)))))
  · match jj, hj with
    | 0, _ =>
      refine ⟨nI e, fun post hp => ?_, fun post hp => ?_⟩
      · exact br_f (by decide) (br_f (by decide) (br_t rfl hp))
      · exact Y post _ (br_t rfl hp)
    | 1, _ =>
      refine ⟨nI m, fun post hp => ?_, fun post hp => ?_⟩
      · exact br_f (by decide) (br_f (by decide) (br_f (by decide) (br_t rfl hp)))
      · exact Y post _ (br_f (by decide) (br_t rfl hp))
    | 2, _ =>
      refine ⟨hz_sm heA 8, fun post hp => ?_, fun post hp => ?_⟩
      · exact br_f (by decide) (br_f (by decide) (br_f (by decide) (br_f (by decide) (br_t rfl ⟨9, hz_xc48 8 0 rfl 9 (by omega) post hp⟩))))
      · exact Y post _ (br_f (by decide) (br_f (by decide) (br_t rfl hp)))
    | 3, _ =>
      refine ⟨nI (hz_cn (fun p => decide (¬ thA p = 0)) 4), fun post hp => ?_, fun post hp => ?_⟩
      · exact br_f (by decide) (br_f (by decide) (br_f (by decide) (br_f (by decide) (br_f (by decide) (br_t rfl ⟨5, hz_xc73 hk 4 0 rfl 5 (by omega) post hp⟩)))))
      · exact Y post _ (br_f (by decide) (br_f (by decide) (br_f (by decide) (br_t rfl hp))))
    | 4, _ =>
      refine ⟨nI (hz_cn (fun p => decide (¬ opA p = 0)) 4), fun post hp => ?_, fun post hp => ?_⟩
      · exact br_f (by decide) (br_f (by decide) (br_f (by decide) (br_f (by decide) (br_f (by decide) (br_f (by decide) (br_t rfl ⟨5, hz_xc100 ho 4 0 rfl 5 (by omega) post hp⟩))))))
      · exact Y post _ (br_f (by decide) (br_f (by decide) (br_f (by decide) (br_f (by decide) (br_t rfl hp)))))
    | n + 5, h => exact absurd h (by omega)
end HZ08
end
section
section HZ09
variable {m e : Nat} {kdA sjA afA rxA mdA scA soA plA mkA txA goA erA laA fsA lsA bxA hdA heA owA szA sxA itA icA thA kyA ryA opA syA oyA ioA buA : Nat → Int32}
theorem hz_f0c {f : Nat → Int32} {i : Nat} (c : Int32) : upd (hz_fl f 0 i (fun _ => c)) i c = hz_fl f 0 (i + 1) (fun _ => c) := by
  have h := hz_fl_s (f := f) (v := fun _ => c) (o := 0) (i := i)
  rw [Nat.zero_add] at h
  exact h
theorem hz_xb64 {post : SX → Prop} (K : post (0, 0, kdA, sjA, afA, rxA, mdA, scA, soA, plA, mkA, txA, goA, erA, laA, fsA, lsA, bxA, hdA, (hz_fl heA 0 8 (fun _ => 0)), owA, szA, sxA, itA, icA)) :
    ∀ d i, i + d = 8 → ∀ n, d < n → wX_begin_64 post (nI m) (nI e) n (nI i) kdA sjA afA rxA mdA scA soA plA mkA txA goA erA laA fsA lsA bxA hdA (hz_fl heA 0 i (fun _ => 0)) owA szA sxA itA icA := by
  intro d
  induction d with
  | zero =>
    intro i hi n hn
    obtain rfl : i = 8 := by omega
    obtain ⟨n, rfl⟩ := hz_pos_n hn
    exact br_t (nI_le (a := 8) (Nat.le_refl _) (by omega)) K
  | succ d ih =>
    intro i hi n hn
    obtain ⟨n, rfl⟩ := hz_pos_n hn
    have i8 : i < 8 := by omega
    refine br_f (nI_ge (b := 8) i8 (by decide)) (And.intro (vp_in_nI i8 (by decide)) (nm_r (e' := hz_fl heA 0 (i + 1) (fun _ => 0)) ?_ (nm_r (nI_1 i) (ih (i + 1) (by omega) n (by omega)))))
    rw [hz_cl (by omega), hz_nb0, hz_f0c]
theorem hz_xb43 {post : SX → Prop} (K : ∃ n64 : Nat, wX_begin_64 post (nI m) (nI e) n64 0 kdA sjA afA (hz_fl rxA 0 32 (fun _ => -1)) mdA scA soA plA mkA txA goA erA laA fsA lsA bxA hdA heA owA szA sxA itA icA) :
    ∀ d i, i + d = 32 → ∀ n, d < n → wX_begin_43 post (nI m) (nI e) n (nI i) kdA sjA afA (hz_fl rxA 0 i (fun _ => -1)) mdA scA soA plA mkA txA goA erA laA fsA lsA bxA hdA heA owA szA sxA itA icA := by
  intro d
  induction d with
  | zero =>
    intro i hi n hn
    obtain rfl : i = 32 := by omega
    obtain ⟨n, rfl⟩ := hz_pos_n hn
    exact br_t (nI_le (a := 32) (Nat.le_refl _) (by omega)) K
  | succ d ih =>
    intro i hi n hn
    obtain ⟨n, rfl⟩ := hz_pos_n hn
    have i8 : i < 32 := by omega
    refine br_f (nI_ge (b := 32) i8 (by decide)) (And.intro (vp_in_nI i8 (by decide)) (nm_r (e' := hz_fl rxA 0 (i + 1) (fun _ => -1)) ?_ (nm_r (nI_1 i) (ih (i + 1) (by omega) n (by omega)))))
    rw [hz_cl (by omega), hz_nbm, hz_f0c]
theorem hz_xb2 {post : SX → Prop} (K : ∃ n43 : Nat, wX_begin_43 post (nI m) (nI e) n43 0 (hz_fl kdA 0 4 (fun _ => -1)) sjA afA rxA mdA scA soA plA mkA txA goA erA laA (hz_fl fsA 0 4 (fun _ => -1)) (hz_fl lsA 0 4 (fun _ => -1)) bxA hdA heA (hz_fl owA 0 4 (fun _ => -1)) szA sxA itA icA) :
    ∀ d i, i + d = 4 → ∀ n, d < n → wX_begin_2 post (nI m) (nI e) n (nI i) (hz_fl kdA 0 i (fun _ => -1)) sjA afA rxA mdA scA soA plA mkA txA goA erA laA (hz_fl fsA 0 i (fun _ => -1)) (hz_fl lsA 0 i (fun _ => -1)) bxA hdA heA (hz_fl owA 0 i (fun _ => -1)) szA sxA itA icA := by
  intro d
  induction d with
  | zero =>
    intro i hi n hn
    obtain rfl : i = 4 := by omega
    obtain ⟨n, rfl⟩ := hz_pos_n hn
    exact br_t (nI_le (a := 4) (Nat.le_refl _) (by omega)) K
  | succ d ih =>
    intro i hi n hn
    obtain ⟨n, rfl⟩ := hz_pos_n hn
    have i4 : i < 4 := by omega
    have vi : vp_in (nI i) 4 := vp_in_nI i4 (by decide)
    have ci : (nI i).toNatClampNeg = i := hz_cl (by omega)
    have B : ∀ f : Nat → Int32, upd (hz_fl f 0 i (fun _ => -1)) (nI i).toNatClampNeg (vp_nar .byte (-1)) = hz_fl f 0 (i + 1) (fun _ => -1) := by
      intro f
      rw [ci, hz_nbm, hz_f0c]
    have S : ∀ f : Nat → Int32, upd (hz_fl f 0 i (fun _ => -1)) (nI i).toNatClampNeg (vp_nar .short (-1)) = hz_fl f 0 (i + 1) (fun _ => -1) := by
      intro f
      rw [ci, hz_nsm, hz_f0c]
    exact br_f (nI_ge (b := 4) i4 (by decide)) (And.intro vi (nm_r (B kdA) (And.intro vi (nm_r (B owA) (And.intro vi (nm_r (S fsA) (And.intro vi (nm_r (S lsA) (nm_r (nI_1 i) (ih (i + 1) (by omega) n (by omega)))))))))))
theorem hz_xbegin {post : SX → Prop} (K : post (0, 0, (hz_fl kdA 0 4 (fun _ => -1)), sjA, afA, (hz_fl rxA 0 32 (fun _ => -1)), mdA, scA, soA, plA, mkA, txA, goA, erA, laA, (hz_fl fsA 0 4 (fun _ => -1)), (hz_fl lsA 0 4 (fun _ => -1)), bxA, hdA, (hz_fl heA 0 8 (fun _ => 0)), (hz_fl owA 0 4 (fun _ => -1)), szA, sxA, itA, icA)) : wpX_begin post ((nI m), (nI e), kdA, sjA, afA, rxA, mdA, scA, soA, plA, mkA, txA, goA, erA, laA, fsA, lsA, bxA, hdA, heA, owA, szA, sxA, itA, icA) := by
  have s1 := hz_xb64 (m := m) (e := e) K 8 0 rfl 9 (by omega)
  rw [hz_fl_0 (f := heA)] at s1
  have s2 := hz_xb43 ⟨9, s1⟩ 32 0 rfl 33 (by omega)
  rw [hz_fl_0 (f := rxA)] at s2
  have s3 := hz_xb2 ⟨33, s2⟩ 4 0 rfl 5 (by omega)
  rw [hz_fl_0 (f := kdA), hz_fl_0 (f := fsA), hz_fl_0 (f := lsA), hz_fl_0 (f := owA)] at s3
  exact ⟨5, s3⟩
theorem hz_yb29 {post : SY → Prop} (K : post (0, 0, thA, kyA, sjA, scA, afA, ryA, opA, syA, oyA, szA, ioA, soA, plA, mkA, goA, txA, buA, (hz_fl heA 0 8 (fun _ => 0)))) :
    ∀ d i, i + d = 8 → ∀ n, d < n → wY_empty_29 post (nI m) (nI e) n (nI i) thA kyA sjA scA afA ryA opA syA oyA szA ioA soA plA mkA goA txA buA (hz_fl heA 0 i (fun _ => 0)) := by
  intro d
  induction d with
  | zero =>
    intro i hi n hn
    obtain rfl : i = 8 := by omega
    obtain ⟨n, rfl⟩ := hz_pos_n hn
    exact br_t (nI_le (a := 8) (Nat.le_refl _) (by omega)) K
  | succ d ih =>
    intro i hi n hn
    obtain ⟨n, rfl⟩ := hz_pos_n hn
    have i8 : i < 8 := by omega
    refine br_f (nI_ge (b := 8) i8 (by decide)) (And.intro (vp_in_nI i8 (by decide)) (nm_r (e' := hz_fl heA 0 (i + 1) (fun _ => 0)) ?_ (nm_r (nI_1 i) (ih (i + 1) (by omega) n (by omega)))))
    rw [hz_cl (by omega), hz_f0c]
theorem hz_yb2 {post : SY → Prop} (K : ∃ n29 : Nat, wY_empty_29 post (nI m) (nI e) n29 0 (hz_fl thA 0 4 (fun _ => 0)) kyA sjA scA afA ryA (hz_fl opA 0 4 (fun _ => 0)) syA oyA szA ioA soA plA mkA goA txA buA heA) :
    ∀ d i, i + d = 4 → ∀ n, d < n → wY_empty_2 post (nI m) (nI e) n (nI i) (hz_fl thA 0 i (fun _ => 0)) kyA sjA scA afA ryA (hz_fl opA 0 i (fun _ => 0)) syA oyA szA ioA soA plA mkA goA txA buA heA := by
  intro d
  induction d with
  | zero =>
    intro i hi n hn
    obtain rfl : i = 4 := by omega
    obtain ⟨n, rfl⟩ := hz_pos_n hn
    exact br_t (nI_le (a := 4) (Nat.le_refl _) (by omega)) K
  | succ d ih =>
    intro i hi n hn
    obtain ⟨n, rfl⟩ := hz_pos_n hn
    have i4 : i < 4 := by omega
    have vi : vp_in (nI i) 4 := vp_in_nI i4 (by decide)
    have ci : (nI i).toNatClampNeg = i := hz_cl (by omega)
    have B : ∀ f : Nat → Int32, upd (hz_fl f 0 i (fun _ => 0)) (nI i).toNatClampNeg (vp_nar .boolean 0) = hz_fl f 0 (i + 1) (fun _ => 0) := by
      intro f
      rw [ci, hz_nz0, hz_f0c]
    exact br_f (nI_ge (b := 4) i4 (by decide)) (And.intro vi (nm_r (B thA) (And.intro vi (nm_r (B opA) (nm_r (nI_1 i) (ih (i + 1) (by omega) n (by omega)))))))
theorem hz_yempty {post : SY → Prop} (K : post (0, 0, (hz_fl thA 0 4 (fun _ => 0)), kyA, sjA, scA, afA, ryA, (hz_fl opA 0 4 (fun _ => 0)), syA, oyA, szA, ioA, soA, plA, mkA, goA, txA, buA, (hz_fl heA 0 8 (fun _ => 0)))) : wpY_empty post ((nI m), (nI e), thA, kyA, sjA, scA, afA, ryA, opA, syA, oyA, szA, ioA, soA, plA, mkA, goA, txA, buA, heA) := by
  have s1 := hz_yb29 (m := m) (e := e) K 8 0 rfl 9 (by omega)
  rw [hz_fl_0 (f := heA)] at s1
  have s2 := hz_yb2 ⟨9, s1⟩ 4 0 rfl 5 (by omega)
  rw [hz_fl_0 (f := thA), hz_fl_0 (f := opA)] at s2
  exact ⟨5, s2⟩
theorem hz_fin0 {f v : Nat → Int32} {n u : Nat} (h : u < n) : hz_fl f 0 n v u = v u := by
  have z := hz_fl_in (f := f) (v := v) (o := 0) h
  rw [Nat.zero_add] at z
  exact z
theorem hz_fresh (hb : ∀ u, u < 8 → ∃ d, d < 60 ∧ hdA u = nI d) (hs : ∀ t, t < 4 → ∀ u, u < 8 → (syA (8 * t + u) = 1 ∧ hz_b (sxA t) u) ∨ (syA (8 * t + u) = 0 ∧ ¬ hz_b (sxA t) u)) :
    hz_Inv 0 0 (hz_fl kdA 0 4 (fun _ => -1)) sjA afA (hz_fl rxA 0 32 (fun _ => -1)) mdA scA soA plA mkA txA goA erA laA (hz_fl fsA 0 4 (fun _ => -1)) (hz_fl lsA 0 4 (fun _ => -1)) bxA hdA (hz_fl heA 0 8 (fun _ => 0)) (hz_fl owA 0 4 (fun _ => -1)) szA sxA itA icA (hz_fl thA 0 4 (fun _ => 0)) kyA ryA (hz_fl opA 0 4 (fun _ => 0)) syA oyA ioA buA := by
  refine ⟨Nat.le_refl 0, Nat.zero_le _, ?_, ?_, ?_, ?_⟩
  · intro p hp
    refine Or.inl ⟨hz_fin0 hp, hz_fin0 hp, fun u hu => ?_⟩
    exact hz_fin0 (by omega)
  · intro p hp
    refine ⟨hz_fin0 hp, hz_fin0 hp, fun j hj => absurd hj (Nat.not_lt_zero _)⟩
  · intro u hu
    obtain ⟨d, d1, d2⟩ := hb u hu
    exact ⟨0, d, by omega, d1, hz_fin0 hu, d2, fun k hk => absurd hk (Nat.not_lt_zero _)⟩
  · intro t ht
    exact ⟨hs t ht, Or.inl ⟨hz_fin0 ht, hz_fin0 ht⟩⟩
theorem hz_wipe (I : hz_Inv m e kdA sjA afA rxA mdA scA soA plA mkA txA goA erA laA fsA lsA bxA hdA heA owA szA sxA itA icA thA kyA ryA opA syA oyA ioA buA) : ∃ u' v', i_Rel 0 u' v' ∧ (∀ post : Int32 → SX → Prop, post (nI e) u' → wpX_wipe post ((nI m), (nI e), kdA, sjA, afA, rxA, mdA, scA, soA, plA, mkA, txA, goA, erA, laA, fsA, lsA, bxA, hdA, heA, owA, szA, sxA, itA, icA)) ∧ (∀ post : Int32 → SY → Prop, post (nI e) v' → wpY_wipe post ((nI m), (nI e), thA, kyA, sjA, scA, afA, ryA, opA, syA, oyA, szA, ioA, soA, plA, mkA, goA, txA, buA, heA)) := by
  have F := hz_fresh (kdA := kdA) (sjA := sjA) (afA := afA) (rxA := rxA) (mdA := mdA) (scA := scA) (soA := soA) (plA := plA) (mkA := mkA) (txA := txA) (goA := goA) (erA := erA) (laA := laA) (fsA := fsA) (lsA := lsA) (bxA := bxA) (hdA := hdA) (heA := heA) (owA := owA) (szA := szA) (sxA := sxA) (itA := itA) (icA := icA) (thA := thA) (kyA := kyA) (ryA := ryA) (opA := opA) (syA := syA) (oyA := oyA) (ioA := ioA) (buA := buA) (by
    intro u hu
    obtain ⟨h, d, a1, a2, a3, a4, a5⟩ := hz_Ib I u hu
    exact ⟨d, a2, a4⟩) (fun t ht => (hz_It' I t ht).1)
  refine ⟨_, _, hz_in F, fun post hp => ?_, fun post hp => ?_⟩
  · unfold wpX_wipe
    refine hz_xbegin ?_
    exact hp
  · unfold wpY_wipe
    refine hz_yempty ?_
    exact hp
theorem i_vc0 : wpX_init (fun u => wpY_init (fun v => i_Rel 0 u v)) := by
  unfold wpX_init
  refine hz_xbegin (m := 0) (e := 0) ?_
  show wpY_init _
  unfold wpY_init
  refine hz_yempty (m := 0) (e := 0) ?_
  refine hz_in (m := 0) (e := 0) (hz_fresh ?_ ?_)
  · intro u hu
    exact ⟨0, by omega, rfl⟩
  · intro t ht u hu
    exact Or.inr ⟨rfl, hz_b_0 (by omega)⟩
theorem i_vc_wipe {k : Nat} {u : SX} {v : SY} (I : i_Rel k u v) (hk : k + 6 ≤ 3072) : wpX_wipe (fun r u' => wpY_wipe (fun r' v' => r' = r ∧ i_Rel (k + 6) u' v') v) u := by
  refine hz_el (P := fun u v => wpX_wipe (fun r u' => wpY_wipe (fun r' v' => r' = r ∧ i_Rel (k + 6) u' v') v) u) ?_ I
  intro m e kdA sjA afA rxA mdA scA soA plA mkA txA goA erA laA fsA lsA bxA hdA heA owA szA sxA itA icA thA kyA ryA opA syA oyA ioA buA I
  obtain ⟨u', v', R, hX, hY⟩ := hz_wipe I
  exact hX _ (hY _ ⟨rfl, R⟩)
end HZ09
end
section
section HZ10
variable {m e : Nat} {kdA sjA afA rxA mdA scA soA plA mkA txA goA erA laA fsA lsA bxA hdA heA owA szA sxA itA icA thA kyA ryA opA syA oyA ioA buA : Nat → Int32}
theorem hz_ytk {post : Int32 → SY → Prop} {u L k : Nat} (hu : u < 8) (hL : L + k ≤ 60) (a3 : heA u = nI L) (K : post (nI L) ((nI m), (nI e), thA, kyA, sjA, scA, afA, ryA, opA, syA, oyA, szA, ioA, soA, plA, mkA, goA, txA, (hz_fl buA (60 * u) L (fun i => buA (60 * u + i + k))), heA)) :
    ∀ d i, i + d = L → ∀ n, d < n → wY_take_58 post (nI u) (nI k) (nI m) (nI e) n (nI i) thA kyA sjA scA afA ryA opA syA oyA szA ioA soA plA mkA goA txA (hz_fl buA (60 * u) i (fun i => buA (60 * u + i + k))) heA := by
  have vu : vp_in (nI u) 8 := vp_in_nI hu (by decide)
  have cu : (nI u).toNatClampNeg = u := hz_cl (by omega)
  intro d
  induction d with
  | zero =>
    intro i hi n hn
    obtain rfl : i = L := by omega
    obtain ⟨n, rfl⟩ := hz_pos_n hn
    refine And.intro vu (br_t ?_ (And.intro vu ?_))
    · rw [cu, a3]; exact nI_le (Nat.le_refl _) (by omega)
    · rw [cu, a3]; exact K
  | succ d ih =>
    intro i hi n hn
    obtain ⟨n, rfl⟩ := hz_pos_n hn
    have e1 : (60 : Int32) * nI u + nI i + nI k = nI (60 * u + i + k) := by rw [hz_i60, nI_add]
    refine And.intro vu (br_f ?_ (And.intro ?_ (And.intro (hz_v60 hu (by omega)) (nm_r (e' := hz_fl buA (60 * u) (i + 1) (fun i => buA (60 * u + i + k))) ?_ (nm_r (nI_1 i) (ih (i + 1) (by omega) n (by omega)))))))
    · rw [cu, a3]; exact nI_ge (by omega) (by omega)
    · rw [e1]; exact vp_in_nI (by omega) (by decide)
    · rw [e1, hz_x60 hu (by omega), nI_clamp (by omega), hz_fl_out (by omega)]
      exact hz_fl_s (v := fun i => buA (60 * u + i + k))
theorem hz_take (I : hz_Inv m e kdA sjA afA rxA mdA scA soA plA mkA txA goA erA laA fsA lsA bxA hdA heA owA szA sxA itA icA thA kyA ryA opA syA oyA ioA buA) (v1 v2 : Int32) : ∃ r u' v', i_Rel 0 u' v' ∧ (∀ post : Int32 → SX → Prop, post r u' → wpX_take post ((nI m), (nI e), kdA, sjA, afA, rxA, mdA, scA, soA, plA, mkA, txA, goA, erA, laA, fsA, lsA, bxA, hdA, heA, owA, szA, sxA, itA, icA) v1 v2) ∧ (∀ post : Int32 → SY → Prop, post r v' → wpY_take post ((nI m), (nI e), thA, kyA, sjA, scA, afA, ryA, opA, syA, oyA, szA, ioA, soA, plA, mkA, goA, txA, buA, heA) v1 v2) := by
  obtain ⟨he1, he2⟩ := hz_Ie I
  rcases hz_rng v1 8 with c1 | ⟨u, hu, rfl⟩
  · refine ⟨-1, ((nI m), (nI e), kdA, sjA, afA, rxA, mdA, scA, soA, plA, mkA, txA, goA, erA, laA, fsA, lsA, bxA, hdA, heA, owA, szA, sxA, itA, icA), ((nI m), (nI e), thA, kyA, sjA, scA, afA, ryA, opA, syA, oyA, szA, ioA, soA, plA, mkA, goA, txA, buA, heA), hz_in I, fun post hp => ?_, fun post hp => ?_⟩
    · unfold wpX_take
      refine hz_inX0 8 rfl (by decide) c1 ?_
      exact br_t rfl hp
    · unfold wpY_take
      refine hz_inY0 8 rfl (by decide) c1 ?_
      exact br_t rfl hp
  · have vu : vp_in (nI u) 8 := vp_in_nI hu (by decide)
    have cu : (nI u).toNatClampNeg = u := hz_cl (by omega)
    obtain ⟨h, d, a1, a2, a3, a4, a5⟩ := hz_Ib I u hu
    by_cases c2 : v2 < 1
    · refine ⟨-1, ((nI m), (nI e), kdA, sjA, afA, rxA, mdA, scA, soA, plA, mkA, txA, goA, erA, laA, fsA, lsA, bxA, hdA, heA, owA, szA, sxA, itA, icA), ((nI m), (nI e), thA, kyA, sjA, scA, afA, ryA, opA, syA, oyA, szA, ioA, soA, plA, mkA, goA, txA, buA, heA), hz_in I, fun post hp => ?_, fun post hp => ?_⟩
      · unfold wpX_take
        refine hz_inX1 u 8 rfl rfl hu (by decide) ?_
        exact br_f hz_1n0 (br_t c2 hp)
      · unfold wpY_take
        refine hz_inY1 u 8 rfl rfl hu (by decide) ?_
        exact br_f hz_1n0 (br_t c2 hp)
    · by_cases c3 : nI h < v2
      · refine ⟨-1, ((nI m), (nI e), kdA, sjA, afA, rxA, mdA, scA, soA, plA, mkA, txA, goA, erA, laA, fsA, lsA, bxA, hdA, heA, owA, szA, sxA, itA, icA), ((nI m), (nI e), thA, kyA, sjA, scA, afA, ryA, opA, syA, oyA, szA, ioA, soA, plA, mkA, goA, txA, buA, heA), hz_in I, fun post hp => ?_, fun post hp => ?_⟩
        · unfold wpX_take
          refine hz_inX1 u 8 rfl rfl hu (by decide) ?_
          exact br_f hz_1n0 (br_f c2 (And.intro vu (br_t (by rw [cu, a3]; exact c3) hp)))
        · unfold wpY_take
          refine hz_inY1 u 8 rfl rfl hu (by decide) ?_
          exact br_f hz_1n0 (br_f c2 (And.intro vu (br_t (by rw [cu, a3]; exact c3) hp)))
      · have c3' : ¬ heA (nI u).toNatClampNeg < v2 := by rw [cu, a3]; exact c3
        by_cases c4 : e = 250
        · have c4' : nI e = 250 := by rw [c4]; rfl
          refine ⟨-1, ((nI m), (nI e), kdA, sjA, afA, rxA, mdA, scA, soA, plA, mkA, txA, goA, erA, laA, fsA, lsA, bxA, hdA, heA, owA, szA, sxA, itA, icA), ((nI m), (nI e), thA, kyA, sjA, scA, afA, ryA, opA, syA, oyA, szA, ioA, soA, plA, mkA, goA, txA, buA, heA), hz_in I, fun post hp => ?_, fun post hp => ?_⟩
          · unfold wpX_take
            refine hz_inX1 u 8 rfl rfl hu (by decide) ?_
            exact br_f hz_1n0 (br_f c2 (And.intro vu (br_f c3' (br_t c4' hp))))
          · unfold wpY_take
            refine hz_inY1 u 8 rfl rfl hu (by decide) ?_
            exact br_f hz_1n0 (br_f c2 (And.intro vu (br_f c3' (br_t c4' hp))))
        · have c4' : ¬ nI e = 250 := by
            intro z
            exact c4 ((nI_eq (b := 250) (by omega) (by omega)).mp z)
          obtain ⟨k, k1, rfl⟩ : ∃ k, k < 2 ^ 31 ∧ v2 = nI k := nI_of (fun z => c2 (Int32.lt_trans z (by decide)))
          have k2 : 1 ≤ k := by
            by_cases z : k = 0
            · subst z; exact absurd (by decide) c2
            · omega
          have k3 : k ≤ h := by
            by_cases z : k ≤ h
            · exact z
            · exact absurd (nI_lt (by omega) k1) c3
          refine ⟨nI (h - k), ((nI m), (nI (e + 1)), kdA, sjA, afA, rxA, mdA, scA, soA, plA, mkA, txA, goA, erA, laA, fsA, lsA, bxA, (upd hdA u (nI ((d + k) % 60))), (upd heA u (nI (h - k))), owA, szA, sxA, itA, icA), ((nI m), (nI (e + 1)), thA, kyA, sjA, scA, afA, ryA, opA, syA, oyA, szA, ioA, soA, plA, mkA, goA, txA, (hz_fl buA (60 * u) (h - k) (fun i => buA (60 * u + i + k))), (upd heA u (nI (h - k)))), ?_, fun post hp => ?_, fun post hp => ?_⟩
          · refine hz_in (e := e + 1) ⟨by omega, by omega, hz_Ir I, hz_Ic I, ?_, hz_It' I⟩
            exact hz_Bx_take (hz_Ib I) hu a1 k3 a2 a3 a4
          · have W : ∀ z0 : Int32, z0 = nI ((d + k) % 60) → wX_take_74 post (nI u) (nI k) z0 (nI u) (nI m) (nI (e + 1)) kdA sjA afA rxA mdA scA soA plA mkA txA goA erA laA fsA lsA bxA hdA heA owA szA sxA itA icA := by
              intro z0 ez
              subst ez
              unfold wX_take_74
              refine And.intro vu (nm_r (e' := upd hdA u (nI ((d + k) % 60))) ?_ (And.intro vu (And.intro vu (nm_r (e' := upd heA u (nI (h - k))) ?_ (And.intro vu ?_)))))
              · rw [cu, hz_nb (by omega)]
              · rw [cu, a3, pk_sub k3, hz_nb (by omega)]
              · rw [cu, pk_us]; exact hp
            unfold wpX_take
            refine hz_inX1 u 8 rfl rfl hu (by decide) ?_
            refine br_f hz_1n0 (br_f c2 (And.intro vu (br_f c3' (br_f c4' (nm_r (nI_1 e) (And.intro vu (nm_r (e' := nI (d + k)) ?_ ?_)))))))
            · rw [cu, a4, nI_add]
            · by_cases c : d + k < 60
              · exact br_t (nI_lt (b := 60) c (by decide)) (W _ (by rw [Nat.mod_eq_of_lt c]))
              · refine br_f (nI_nlt (b := 60) (by omega) (by omega)) (W _ ?_)
                rw [show (60 : Int32) = nI 60 from rfl, pk_sub (by omega), show d + k - 60 = (d + k) % 60 by omega]
          · unfold wpY_take
            refine hz_inY1 u 8 rfl rfl hu (by decide) ?_
            refine br_f hz_1n0 (br_f c2 (And.intro vu (br_f c3' (br_f c4' (nm_r (nI_1 e) (And.intro vu (And.intro vu (nm_r (e' := upd heA u (nI (h - k))) ?_ ⟨h - k + 1, ?_⟩))))))))
            · rw [cu, a3, pk_sub k3]
            · have Z := hz_ytk (post := post) (u := u) (L := h - k) (k := k) (m := m) (e := e + 1) (thA := thA) (kyA := kyA) (sjA := sjA) (scA := scA) (afA := afA) (ryA := ryA) (opA := opA) (syA := syA) (oyA := oyA) (szA := szA) (ioA := ioA) (soA := soA) (plA := plA) (mkA := mkA) (goA := goA) (txA := txA) (buA := buA) (heA := upd heA u (nI (h - k))) hu (by omega) pk_us hp (h - k) 0 (by omega) (h - k + 1) (by omega)
              rw [hz_fl_0] at Z
              exact Z
end HZ10
end
section
section HZ11
variable {m e : Nat} {kdA sjA afA rxA mdA scA soA plA mkA txA goA erA laA fsA lsA bxA hdA heA owA szA sxA itA icA thA kyA ryA opA syA oyA ioA buA : Nat → Int32}
theorem hz_m60 {a : Nat} (h : 60 ≤ a) : nI a + (-60) = nI (a - 60) := by
  obtain ⟨c, rfl⟩ : ∃ c, a = c + 60 := ⟨a - 60, by omega⟩
  rw [← nI_add, Int32.add_assoc, show nI 60 + (-60) = 0 from rfl, Int32.add_zero, Nat.add_sub_cancel]
theorem hz_n60 {h : Nat} (hh : h ≤ 60) (c : ¬ h = 60) : ¬ nI h = 60 := by
  intro z
  exact c ((nI_eq (a := h) (b := 60) (by omega) (by omega)).mp z)
theorem hz_xgive {post : Int32 → SX → Prop} {u w h d : Nat} (hu : u < 8) (hw : w < 250) (a1 : h ≤ 60) (a2 : d < 60) (a3 : heA u = nI h) (a4 : hdA u = nI d) (K0 : h = 60 → post 0 ((nI m), (nI e), kdA, sjA, afA, rxA, mdA, scA, soA, plA, mkA, txA, goA, erA, laA, fsA, lsA, bxA, hdA, heA, owA, szA, sxA, itA, icA))
    (K1 : h < 60 → post 1 ((nI m), (nI e), kdA, sjA, afA, rxA, mdA, scA, soA, plA, mkA, txA, goA, erA, laA, fsA, lsA, (upd bxA (60 * u + (d + h) % 60) (nI w)), hdA, (upd heA u (nI (h + 1))), owA, szA, sxA, itA, icA)) : wpX_give post ((nI m), (nI e), kdA, sjA, afA, rxA, mdA, scA, soA, plA, mkA, txA, goA, erA, laA, fsA, lsA, bxA, hdA, heA, owA, szA, sxA, itA, icA) (nI u) (nI w) := by
  have vu : vp_in (nI u) 8 := vp_in_nI hu (by decide)
  have cu : (nI u).toNatClampNeg = u := hz_cl (by omega)
  unfold wpX_give
  refine And.intro vu ?_
  by_cases c : h = 60
  · refine br_t ?_ (K0 c)
    rw [cu, a3, c]; rfl
  · have W : ∀ z : Int32, z = nI ((d + h) % 60) → wX_give_36 post (nI u) (nI w) z (nI m) (nI e) kdA sjA afA rxA mdA scA soA plA mkA txA goA erA laA fsA lsA bxA hdA heA owA szA sxA itA icA := by
      intro z ez
      subst ez
      unfold wX_give_36
      refine And.intro (hz_v60 hu (by omega)) (nm_r (e' := upd bxA (60 * u + (d + h) % 60) (nI w)) ?_ (And.intro vu (And.intro vu (nm_r (e' := upd heA u (nI (h + 1))) ?_ (K1 (by omega))))))
      · rw [hz_x60 hu (by omega), hz_ns (by omega)]
      · rw [cu, a3, nI_1, hz_nb (by omega)]
    refine br_f ?_ (And.intro vu (And.intro vu (nm_r (e' := nI (d + h)) ?_ ?_)))
    · rw [cu, a3]; exact hz_n60 a1 c
    · rw [cu, a4, a3, nI_add]
    · by_cases c2 : d + h < 60
      · exact br_t (nI_lt (b := 60) c2 (by decide)) (W _ (by rw [Nat.mod_eq_of_lt c2]))
      · refine br_f (nI_nlt (b := 60) (by omega) (by omega)) (nm_e (W _ ?_))
        rw [hz_m60 (by omega), show d + h - 60 = (d + h) % 60 by omega]
theorem hz_xgiveP {post : Int32 → SX → Prop} {u w : Nat} (hu : u < 8) (hw : w < 250) (H : hz_Bx heA hdA bxA buA)
    (K : ∀ r, post r ((nI m), (nI e), kdA, sjA, afA, rxA, mdA, scA, soA, plA, mkA, txA, goA, erA, laA, fsA, lsA, (hz_gx heA hdA bxA u (nI w)), hdA, (hz_gh heA u), owA, szA, sxA, itA, icA)) : wpX_give post ((nI m), (nI e), kdA, sjA, afA, rxA, mdA, scA, soA, plA, mkA, txA, goA, erA, laA, fsA, lsA, bxA, hdA, heA, owA, szA, sxA, itA, icA) (nI u) (nI w) := by
  obtain ⟨h, d, a1, a2, a3, a4, _⟩ := H u hu
  refine hz_xgive hu hw a1 a2 a3 a4 (fun c => ?_) (fun c => ?_)
  · subst c
    obtain ⟨g1, g2, _, _⟩ := hz_g60 (hdA := hdA) (bxA := bxA) (buA := bxA) (goA := heA) (m := 0) (w := nI w) a3
    have k := K 0
    rw [g1, g2] at k
    exact k
  · obtain ⟨g1, g2, _, _⟩ := hz_gn (bxA := bxA) (buA := bxA) (goA := heA) (m := 0) (w := nI w) a3 a4 c a2
    have k := K 1
    rw [g1, g2] at k
    exact k
theorem hz_ygive0 {post : SY → Prop} {u w h : Nat} (hu : u < 8) (a1 : h ≤ 60) (a3 : heA u = nI h)
    (K : post ((nI m), (nI e), thA, kyA, sjA, scA, afA, ryA, opA, syA, oyA, szA, ioA, soA, plA, mkA, goA, txA, (hz_gy heA buA u (nI w)), (hz_gh heA u))) : wpY_give post ((nI m), (nI e), thA, kyA, sjA, scA, afA, ryA, opA, syA, oyA, szA, ioA, soA, plA, mkA, goA, txA, buA, heA) (nI u) (nI w) 0 := by
  have vu : vp_in (nI u) 8 := vp_in_nI hu (by decide)
  have cu : (nI u).toNatClampNeg = u := hz_cl (by omega)
  unfold wpY_give
  refine And.intro vu ?_
  by_cases c : h = 60
  · subst c
    obtain ⟨g1, _, g3, g4⟩ := hz_g60 (hdA := heA) (bxA := heA) (buA := buA) (goA := goA) (m := w) (w := nI w) a3
    rw [g1, g3] at K
    exact br_t (by rw [cu, a3]; rfl) K
  · obtain ⟨g1, _, g3, g4⟩ := hz_gn (hdA := fun _ => nI 0) (d := 0) (bxA := heA) (buA := buA) (goA := goA) (m := w) (w := nI w) a3 rfl (by omega) (by omega)
    rw [g1, g3] at K
    refine br_f ?_ (And.intro vu (And.intro ?_ (nm_r (e' := upd buA (60 * u + h) (nI w)) ?_ (And.intro vu (And.intro vu (nm_r (e' := upd heA u (nI (h + 1))) ?_ (br_t rfl K)))))))
    · rw [cu, a3]; exact hz_n60 a1 c
    · rw [cu, a3]; exact hz_v60 hu (by omega)
    · rw [cu, a3, hz_x60 hu (by omega)]
    · rw [cu, a3, nI_1]
theorem hz_ygive1 {post : SY → Prop} {u w h : Nat} (hu : u < 8) (hw : w < 250) (a1 : h ≤ 60) (a3 : heA u = nI h)
    (K : post ((nI m), (nI e), thA, kyA, sjA, scA, afA, ryA, opA, syA, oyA, szA, ioA, soA, plA, mkA, (hz_gg heA goA u w), txA, (hz_gy heA buA u (nI w)), (hz_gh heA u))) : wpY_give post ((nI m), (nI e), thA, kyA, sjA, scA, afA, ryA, opA, syA, oyA, szA, ioA, soA, plA, mkA, goA, txA, buA, heA) (nI u) (nI w) 1 := by
  have vu : vp_in (nI u) 8 := vp_in_nI hu (by decide)
  have cu : (nI u).toNatClampNeg = u := hz_cl (by omega)
  have vw : vp_in (nI w) 250 := vp_in_nI hw (by decide)
  have cw : (nI w).toNatClampNeg = w := hz_cl (by omega)
  unfold wpY_give
  refine And.intro vu ?_
  by_cases c : h = 60
  · subst c
    obtain ⟨g1, _, g3, g4⟩ := hz_g60 (hdA := heA) (bxA := heA) (buA := buA) (goA := goA) (m := w) (w := nI w) a3
    rw [g1, g3, g4] at K
    exact br_t (by rw [cu, a3]; rfl) K
  · obtain ⟨g1, _, g3, g4⟩ := hz_gn (hdA := fun _ => nI 0) (d := 0) (bxA := heA) (buA := buA) (goA := goA) (m := w) (w := nI w) a3 rfl (by omega) (by omega)
    rw [g1, g3, g4] at K
    refine br_f ?_ (And.intro vu (And.intro ?_ (nm_r (e' := upd buA (60 * u + h) (nI w)) ?_ (And.intro vu (And.intro vu (nm_r (e' := upd heA u (nI (h + 1))) ?_ (br_f hz_1n0 (And.intro vw (And.intro vw (nm_r (e' := upd goA w (goA w + 1)) ?_ K))))))))))
    · rw [cu, a3]; exact hz_n60 a1 c
    · rw [cu, a3]; exact hz_v60 hu (by omega)
    · rw [cu, a3, hz_x60 hu (by omega)]
    · rw [cu, a3, nI_1]
    · rw [cw]
theorem hz_xsend60 {post : Int32 → SX → Prop} {x1 x2 x5 : Int32} {w : Nat} {b : Nat → Bool} (hw : w < 250) (H : hz_Bx heA hdA bxA buA) (hg0 : goA w = 0) (hb : ∀ u, u < 8 → (hz_b x5 u ↔ b u = true))
    (K : wX_send_60 post x1 x2 x5 (nI w) (0 + 1) (nI 8) (nI m) (nI e) kdA sjA afA rxA mdA scA soA plA mkA txA (hz_Lg b heA goA w 8) erA laA fsA lsA (hz_Lx b heA hdA bxA (nI w) 8) hdA (hz_Lh b heA 8) owA szA sxA itA icA) :
    ∀ d i, i + d = 8 → ∀ n, d < n → wX_send_60 post x1 x2 x5 (nI w) n (nI i) (nI m) (nI e) kdA sjA afA rxA mdA scA soA plA mkA txA (hz_Lg b heA goA w i) erA laA fsA lsA (hz_Lx b heA hdA bxA (nI w) i) hdA (hz_Lh b heA i) owA szA sxA itA icA := by
  intro d
  induction d with
  | zero =>
    intro i hi n hn
    obtain rfl : i = 8 := by omega
    obtain ⟨n, rfl⟩ := hz_pos_n hn
    have h8 : (8 : Int32) ≤ nI 8 := nI_le (a := 8) (Nat.le_refl _) (by omega)
    unfold wX_send_60 at K
    exact br_t h8 (K.1 h8)
  | succ d ih =>
    intro i hi n hn
    obtain ⟨n, rfl⟩ := hz_pos_n hn
    have i8 : i < 8 := by omega
    have vw : vp_in (nI w) 250 := vp_in_nI hw (by decide)
    have cw : (nI w).toNatClampNeg = w := hz_cl (by omega)
    have I1 := ih (i + 1) (by omega) n (by omega)
    obtain ⟨h, dd, a1, a2, a3, a4, _⟩ := hz_Bx_L (b := b) (w := nI w) H i (by omega) i i8
    obtain ⟨g, g1, g2⟩ := hz_Lg_v (b := b) (heA := heA) hg0 i
    refine br_f (nI_ge (b := 8) i8 (by decide)) ?_
    by_cases c : b i = true
    · obtain ⟨q1, q2, _, q4⟩ := hz_L_t (heA := heA) (hdA := hdA) (bxA := bxA) (buA := buA) (goA := goA) (w := nI w) (m := w) c
      rw [q1, q2, q4] at I1
      refine br_t ((hb i i8).mpr c) ?_
      refine hz_xgive i8 hw a1 a2 a3 a4 (fun c6 => ?_) (fun c6 => ?_)
      · subst c6
        obtain ⟨k1, k2, _, k4⟩ := hz_g60 (hdA := hdA) (bxA := hz_Lx b heA hdA bxA (nI w) i) (buA := buA) (goA := hz_Lg b heA goA w i) (m := w) (w := nI w) a3
        rw [k1, k2, k4] at I1
        refine br_t rfl ?_
        unfold wX_send_93 wX_send_94
        exact br_t rfl (nm_r (nI_1 i) I1)
      · obtain ⟨k1, k2, _, k4⟩ := hz_gn (bxA := hz_Lx b heA hdA bxA (nI w) i) (buA := buA) (goA := hz_Lg b heA goA w i) (m := w) (w := nI w) a3 a4 c6 a2
        rw [k1, k2, k4] at I1
        refine br_f hz_1n0 ?_
        unfold wX_send_94
        refine br_f hz_1n0 (And.intro vw (And.intro vw (nm_r (e' := upd (hz_Lg b heA goA w i) w (hz_Lg b heA goA w i w + 1)) ?_ (nm_r (nI_1 i) I1))))
        rw [cw, g2, nI_1, hz_nb (by omega)]
    · obtain ⟨q1, q2, _, q4⟩ := hz_L_f (heA := heA) (hdA := hdA) (bxA := bxA) (buA := buA) (goA := goA) (w := nI w) (m := w) c
      rw [q1, q2, q4] at I1
      refine br_f (fun z => c ((hb i i8).mp z)) ?_
      unfold wX_send_93 wX_send_94
      exact br_t rfl (nm_r (nI_1 i) I1)
/-- what a new message does to the chain: none, if it isn't said -/
theorem hz_Ch_none {w : Int32} {pp : Int32} (C : hz_Ch (hz_said soA plA) m erA laA fsA lsA) (hw : ¬ w = 0) : hz_Ch (hz_said (upd soA m w) (upd plA m pp)) (m + 1) erA laA fsA lsA := by
  refine hz_Ch_skip C (fun p j _ hj => ?_) (fun p _ => ?_)
  · unfold hz_said
    rw [pk_un (by omega), pk_un (by omega)]
  · unfold hz_said
    rw [pk_us]
    exact decide_eq_false (fun z => hw z.1)
theorem hz_xhang {p : Nat} {so0 pl0 : Nat → Int32} (C : hz_Ch (hz_said so0 pl0) m erA laA fsA lsA) (hw : m < 250) (hp4 : p < 4) :
    ∃ er' la' fs' ls' : Nat → Int32, hz_Ch (hz_said (upd so0 m 0) (upd pl0 m (nI p))) (m + 1) er' la' fs' ls' ∧
      ∀ post : SX → Prop, post ((nI (m + 1)), (nI e), kdA, sjA, afA, rxA, mdA, scA, soA, plA, mkA, txA, goA, er', la', fs', ls', bxA, hdA, heA, owA, szA, sxA, itA, icA) → wpX_hang post ((nI (m + 1)), (nI e), kdA, sjA, afA, rxA, mdA, scA, soA, plA, mkA, txA, goA, erA, laA, fsA, lsA, bxA, hdA, heA, owA, szA, sxA, itA, icA) (nI m) (nI p) := by
  have cp : (nI p).toNatClampNeg = p := hz_cl (by omega)
  have vp : vp_in (nI p) 4 := vp_in_nI hp4 (by decide)
  have vw : vp_in (nI m) 250 := vp_in_nI hw (by decide)
  have cw : (nI m).toNatClampNeg = m := hz_cl (by omega)
  have h1 : ∀ q j, q < 4 → j < m → hz_said (upd so0 m 0) (upd pl0 m (nI p)) q j = hz_said so0 pl0 q j := by
    intro q j _ hj
    unfold hz_said
    rw [pk_un (by omega), pk_un (by omega)]
  have h2 : ∀ q, q < 4 → hz_said (upd so0 m 0) (upd pl0 m (nI p)) q m = decide (q = p) := by
    intro q hq
    unfold hz_said
    rw [pk_us, pk_us]
    by_cases c : q = p
    · subst c; rw [decide_eq_true rfl, decide_eq_true ⟨rfl, rfl⟩]
    · rw [decide_eq_false c, decide_eq_false (fun z => c ((nI_eq (by omega) (by omega)).mp z.2).symm)]
  have h3 : ∀ q j, q < 4 → hz_said so0 pl0 q j = true → hz_said so0 pl0 p j = true → q = p := by
    intro q j hq z1 z2
    have y1 := (hz_said_t.mp z1).2
    have y2 := (hz_said_t.mp z2).2
    exact (nI_eq (by omega) (by omega)).mp (y1.symm.trans y2)
  have hl := (C p hp4).2.1
  cases hpv : hz_pv (hz_said so0 pl0 p) m with
  | none =>
    have hl' : lsA p = -1 := by rw [hl, hpv]; rfl
    refine ⟨_, _, _, _, hz_Ch_first C h1 hp4 h2 hpv, fun post hp => ?_⟩
    unfold wpX_hang
    refine And.intro vp (And.intro vw (nm_r (e' := upd erA m (-1)) ?_ (And.intro vw (nm_r (e' := upd laA m (-1)) ?_ (And.intro vp (br_f ?_ (And.intro vp (nm_r (e' := upd fsA p (nI m)) ?_ (And.intro vp (nm_r (e' := upd lsA p (nI m)) ?_ hp))))))))))
    · rw [cp, hl', cw, hz_nsm]
    · rw [cw, hz_nsm]
    · rw [cp, hl']; exact hz_n1'
    · rw [cp, hz_ns (by omega)]
    · rw [cp, hz_ns (by omega)]
  | some l =>
    have hl' : lsA p = nI l := by rw [hl, hpv]; rfl
    have hlm := (hz_pv_some m hpv).1
    refine ⟨_, _, _, _, hz_Ch_app C h1 hp4 h2 h3 hpv, fun post hp => ?_⟩
    unfold wpX_hang
    refine And.intro vp (And.intro vw (nm_r (e' := upd erA m (nI l)) ?_ (And.intro vw (nm_r (e' := upd laA m (-1)) ?_ (And.intro vp (br_t ?_ (And.intro vp (And.intro ?_ (nm_r (e' := upd (upd laA m (-1)) l (nI m)) ?_ (And.intro vp (nm_r (e' := upd lsA p (nI m)) ?_ hp)))))))))))
    · rw [cp, hl', cw, hz_ns' (by omega)]
    · rw [cw, hz_nsm]
    · rw [cp, hl']; exact nI_pos' (by omega)
    · rw [cp, hl']; exact vp_in_nI (by omega) (by decide)
    · rw [cp, hl', hz_cl (by omega), hz_ns (by omega)]
    · rw [cp, hz_ns (by omega)]
theorem hz_xsend139 {post : Int32 → SX → Prop} {p c : Nat} {x6 : Int32} (hp4 : p < 4) (hc : c ≤ 250) (hm : mdA p = nI c) (K : post x6 ((nI m), (nI e), kdA, sjA, afA, rxA, (upd mdA p (nI (c + 1))), scA, soA, plA, mkA, txA, goA, erA, laA, fsA, lsA, bxA, hdA, heA, owA, szA, sxA, itA, icA)) : wX_send_139 post (nI p) x6 (nI m) (nI e) kdA sjA afA rxA mdA scA soA plA mkA txA goA erA laA fsA lsA bxA hdA heA owA szA sxA itA icA := by
  have cp : (nI p).toNatClampNeg = p := hz_cl (by omega)
  have vp : vp_in (nI p) 4 := vp_in_nI hp4 (by decide)
  unfold wX_send_139
  refine And.intro vp (And.intro vp (nm_r (e' := upd mdA p (nI (c + 1))) ?_ K))
  rw [cp, hm, nI_1, hz_ns (by omega)]
/-- the first rows of send: the message is written, then the loop -/
theorem hz_xsendH {post : Int32 → SX → Prop} {p a : Nat} {q : Nat} {x x5 : Int32} {b : Nat → Bool} (hw : m < 250) (hp4 : p < 4) (ha : a < 8) (hq : q < 4) (H : hz_Bx heA hdA bxA buA) (hb : ∀ u, u < 8 → (hz_b x5 u ↔ b u = true))
    (K : wX_send_60 post (nI q) (nI p) x5 (nI m) (0 + 1) (nI 8) (nI (m + 1)) (nI e) kdA sjA afA rxA mdA scA (upd soA m (nI q)) (upd plA m (nI p)) (upd mkA m (nI a)) (upd txA m x) (hz_Lg b heA (upd goA m 0) m 8) erA laA fsA lsA (hz_Lx b heA hdA bxA (nI m) 8) hdA (hz_Lh b heA 8) owA szA sxA itA icA) :
    wpX_send post ((nI m), (nI e), kdA, sjA, afA, rxA, mdA, scA, soA, plA, mkA, txA, goA, erA, laA, fsA, lsA, bxA, hdA, heA, owA, szA, sxA, itA, icA) (nI q) (nI p) (nI a) x x5 := by
  have vw : vp_in (nI m) 250 := vp_in_nI hw (by decide)
  have cw : (nI m).toNatClampNeg = m := hz_cl (by omega)
  unfold wpX_send
  refine nm_r (nI_1 m) (And.intro vw (nm_r (e' := upd soA m (nI q)) ?_ (And.intro vw (nm_r (e' := upd plA m (nI p)) ?_ (And.intro vw (nm_r (e' := upd mkA m (nI a)) ?_ (And.intro vw (nm_r (e' := upd txA m x) ?_ (And.intro vw (nm_r (e' := upd goA m 0) ?_ ⟨9, ?_⟩))))))))))
  · rw [cw, hz_nb (by omega)]
  · rw [cw, hz_nb (by omega)]
  · rw [cw, hz_nb (by omega)]
  · rw [cw]
  · rw [cw, hz_nb0]
  · exact hz_xsend60 (m := m + 1) hw H pk_us hb K 8 0 rfl 9 (by omega)
theorem hz_xsend0 {p a c : Nat} {x x5 : Int32} {b : Nat → Bool} (hw : m < 250) (hp4 : p < 4) (ha : a < 8) (H : hz_Bx heA hdA bxA buA) (hb : ∀ u, u < 8 → (hz_b x5 u ↔ b u = true)) (hc : c ≤ 250) (hm : mdA p = nI c) (C : hz_Ch (hz_said soA plA) m erA laA fsA lsA) :
    ∃ er' la' fs' ls' : Nat → Int32, hz_Ch (hz_said (upd soA m 0) (upd plA m (nI p))) (m + 1) er' la' fs' ls' ∧
      ∀ post : Int32 → SX → Prop, post (nI m) ((nI (m + 1)), (nI e), kdA, sjA, afA, rxA, (upd mdA p (nI (c + 1))), scA, (upd soA m 0), (upd plA m (nI p)), (upd mkA m (nI a)), (upd txA m x), (hz_Lg b heA (upd goA m 0) m 8), er', la', fs', ls', (hz_Lx b heA hdA bxA (nI m) 8), hdA, (hz_Lh b heA 8), owA, szA, sxA, itA, icA) → wpX_send post ((nI m), (nI e), kdA, sjA, afA, rxA, mdA, scA, soA, plA, mkA, txA, goA, erA, laA, fsA, lsA, bxA, hdA, heA, owA, szA, sxA, itA, icA) 0 (nI p) (nI a) x x5 := by
  obtain ⟨er', la', fs', ls', C', hh⟩ := hz_xhang (e := e) (kdA := kdA) (sjA := sjA) (afA := afA) (rxA := rxA) (mdA := mdA) (scA := scA) (soA := upd soA m 0) (plA := upd plA m (nI p)) (mkA := upd mkA m (nI a)) (txA := upd txA m x) (goA := hz_Lg b heA (upd goA m 0) m 8) (bxA := hz_Lx b heA hdA bxA (nI m) 8) (hdA := hdA) (heA := hz_Lh b heA 8) (owA := owA) (szA := szA) (sxA := sxA) (itA := itA) (icA := icA) C hw hp4
  refine ⟨er', la', fs', ls', C', fun post hp => ?_⟩
  refine hz_xsendH (q := 0) hw hp4 ha (by omega) H hb ?_
  refine br_t (nI_le (a := 8) (Nat.le_refl _) (by omega)) (br_t rfl ?_)
  refine hh _ ?_
  show wX_send_130 post 0 (nI p) (nI m) _ _ _ _ _ _ _ _ _ _ _ _ _ _ _ _ _ _ _ _ _ _ _ _ _
  unfold wX_send_130
  refine br_t rfl ?_
  exact hz_xsend139 (m := m + 1) hp4 hc hm hp
theorem hz_xsend1 {p a c : Nat} {x x5 : Int32} {b : Nat → Bool} (hw : m < 250) (hp4 : p < 4) (ha : a < 8) (H : hz_Bx heA hdA bxA buA) (hb : ∀ u, u < 8 → (hz_b x5 u ↔ b u = true)) (hc : c ≤ 250) (hm : mdA p = nI c)
    {post : Int32 → SX → Prop} (hp : post (nI m) ((nI (m + 1)), (nI e), kdA, sjA, afA, rxA, (upd mdA p (nI (c + 1))), scA, (upd soA m 1), (upd plA m (nI p)), (upd mkA m (nI a)), (upd txA m x), (hz_Lg b heA (upd goA m 0) m 8), erA, laA, fsA, lsA, (hz_Lx b heA hdA bxA (nI m) 8), hdA, (hz_Lh b heA 8), owA, szA, sxA, itA, icA)) : wpX_send post ((nI m), (nI e), kdA, sjA, afA, rxA, mdA, scA, soA, plA, mkA, txA, goA, erA, laA, fsA, lsA, bxA, hdA, heA, owA, szA, sxA, itA, icA) 1 (nI p) (nI a) x x5 := by
  refine hz_xsendH (q := 1) hw hp4 ha (by omega) H hb ?_
  refine br_t (nI_le (a := 8) (Nat.le_refl _) (by omega)) (br_f (by decide) ?_)
  unfold wX_send_130
  refine br_f (by decide) (br_t rfl ?_)
  exact hz_xsend139 (m := m + 1) hp4 hc hm hp
theorem hz_xsend2 {p a q : Nat} {x x5 : Int32} {b : Nat → Bool} (hw : m < 250) (hp4 : p < 4) (ha : a < 8) (hq : q = 2 ∨ q = 3) (H : hz_Bx heA hdA bxA buA) (hb : ∀ u, u < 8 → (hz_b x5 u ↔ b u = true))
    {post : Int32 → SX → Prop} (hp : post (nI m) ((nI (m + 1)), (nI e), kdA, sjA, afA, rxA, mdA, scA, (upd soA m (nI q)), (upd plA m (nI p)), (upd mkA m (nI a)), (upd txA m x), (hz_Lg b heA (upd goA m 0) m 8), erA, laA, fsA, lsA, (hz_Lx b heA hdA bxA (nI m) 8), hdA, (hz_Lh b heA 8), owA, szA, sxA, itA, icA)) : wpX_send post ((nI m), (nI e), kdA, sjA, afA, rxA, mdA, scA, soA, plA, mkA, txA, goA, erA, laA, fsA, lsA, bxA, hdA, heA, owA, szA, sxA, itA, icA) (nI q) (nI p) (nI a) x x5 := by
  refine hz_xsendH (q := q) hw hp4 ha (by omega) H hb ?_
  have n0 : ¬ nI q = 0 := by rcases hq with rfl | rfl <;> decide
  have n1 : ¬ nI q = 1 := by rcases hq with rfl | rfl <;> decide
  refine br_t (nI_le (a := 8) (Nat.le_refl _) (by omega)) (br_f n0 ?_)
  unfold wX_send_130
  exact br_f n0 (br_f n1 hp)
/-! the reference -/
theorem hz_ymake {post : SY → Prop} {x0 x1 x2 x3 : Int32} (hw : m < 250)
    (K : post ((nI (m + 1)), (nI e), thA, kyA, sjA, scA, afA, ryA, opA, syA, oyA, szA, (upd ioA m (-1)), (upd soA m x0), (upd plA m x2), (upd mkA m x1), (upd goA m 0), (upd txA m x3), buA, heA)) : wpY_make post ((nI m), (nI e), thA, kyA, sjA, scA, afA, ryA, opA, syA, oyA, szA, ioA, soA, plA, mkA, goA, txA, buA, heA) x0 x1 x2 x3 := by
  have vw : vp_in (nI m) 250 := vp_in_nI hw (by decide)
  have cw : (nI m).toNatClampNeg = m := hz_cl (by omega)
  unfold wpY_make
  exact And.intro vw (nm_r (by rw [cw]) (And.intro vw (nm_r (by rw [cw]) (And.intro vw (nm_r (by rw [cw]) (And.intro vw (nm_r (by rw [cw]) (And.intro vw (nm_r (by rw [cw]) (And.intro vw (nm_r (by rw [cw]) (nm_r (nI_1 m) K))))))))))))
theorem hz_ytalk12 {post : SY → Prop} {p w : Nat} {b : Nat → Bool} (hw : w < 250) (hp4 : p < 4) (t1 : thA p = 1) (H : ∀ i, i ≤ 8 → ∀ u, u < 8 → ∃ h, h ≤ 60 ∧ hz_Lh b heA i u = nI h) (hb : ∀ u, u < 8 → (0 ≤ ryA (8 * p + u) ↔ b u = true))
    (K : post ((nI (w + 1)), (nI e), thA, kyA, sjA, scA, afA, ryA, opA, syA, oyA, szA, ioA, soA, plA, mkA, (hz_Lg b heA goA w 8), txA, (hz_Ly b heA buA (nI w) 8), (hz_Lh b heA 8))) :
    ∀ d i, i + d = 8 → ∀ n, d < n → wY_talk_12 post (nI p) n (nI i) (nI (w + 1)) (nI e) thA kyA sjA scA afA ryA opA syA oyA szA ioA soA plA mkA (hz_Lg b heA goA w i) txA (hz_Ly b heA buA (nI w) i) (hz_Lh b heA i) := by
  intro d
  induction d with
  | zero =>
    intro i hi n hn
    obtain rfl : i = 8 := by omega
    obtain ⟨n, rfl⟩ := hz_pos_n hn
    exact br_t (nI_le (a := 8) (Nat.le_refl _) (by omega)) K
  | succ d ih =>
    intro i hi n hn
    obtain ⟨n, rfl⟩ := hz_pos_n hn
    have i8 : i < 8 := by omega
    have I1 := ih (i + 1) (by omega) n (by omega)
    obtain ⟨h, a1, a3⟩ := H i (by omega) i i8
    refine br_f (nI_ge (b := 8) i8 (by decide)) ?_
    by_cases c : b i = true
    · obtain ⟨q1, _, q3, q4⟩ := hz_L_t (heA := heA) (hdA := heA) (bxA := heA) (buA := buA) (goA := goA) (w := nI w) (m := w) c
      rw [q1, q3, q4] at I1
      refine hz_ypres1 hp4 i8 t1 ((hb i i8).mpr c) ?_
      refine br_f hz_1n0 ?_
      rw [nI_pred]
      refine hz_ygive1 i8 hw a1 a3 ?_
      exact nm_r (nI_1 i) I1
    · obtain ⟨q1, _, q3, q4⟩ := hz_L_f (heA := heA) (hdA := heA) (bxA := heA) (buA := buA) (goA := goA) (w := nI w) (m := w) c
      rw [q1, q3, q4] at I1
      refine hz_ypres0 hp4 i8 (Or.inr ⟨t1, Int32.not_le.mp (fun z => c ((hb i i8).mp z))⟩) ?_
      exact br_t rfl (nm_r (nI_1 i) I1)
theorem hz_ytalk {post : SY → Prop} {p a : Nat} {x0 x : Int32} {b : Nat → Bool} (hw : m < 250) (hp4 : p < 4) (t1 : thA p = 1) (H : ∀ i, i ≤ 8 → ∀ u, u < 8 → ∃ h, h ≤ 60 ∧ hz_Lh b heA i u = nI h) (hb : ∀ u, u < 8 → (0 ≤ ryA (8 * p + u) ↔ b u = true))
    (K : post ((nI (m + 1)), (nI e), thA, kyA, sjA, scA, afA, ryA, opA, syA, oyA, szA, (upd ioA m (-1)), (upd soA m x0), (upd plA m (nI p)), (upd mkA m (nI a)), (hz_Lg b heA (upd goA m 0) m 8), (upd txA m x), (hz_Ly b heA buA (nI m) 8), (hz_Lh b heA 8))) : wpY_talk post ((nI m), (nI e), thA, kyA, sjA, scA, afA, ryA, opA, syA, oyA, szA, ioA, soA, plA, mkA, goA, txA, buA, heA) x0 (nI a) (nI p) x := by
  unfold wpY_talk
  refine hz_ymake hw ?_
  refine ⟨9, ?_⟩
  exact hz_ytalk12 hw hp4 t1 H hb K 8 0 rfl 9 (by omega)
theorem hz_yot207 {post : SY → Prop} {t w : Nat} {b : Nat → Bool} (hw : w < 250) (ht : t < 4) (H : ∀ i, i ≤ 8 → ∀ u, u < 8 → ∃ h, h ≤ 60 ∧ hz_Lh b heA i u = nI h) (hb : ∀ u, u < 8 → (¬ syA (8 * t + u) = 0 ↔ b u = true))
    (K : wY_onTopic_207 post (nI t) (0 + 1) (nI 8) (nI (w + 1)) (nI e) thA kyA sjA scA afA ryA opA syA oyA szA ioA soA plA mkA (hz_Lg b heA goA w 8) txA (hz_Ly b heA buA (nI w) 8) (hz_Lh b heA 8)) :
    ∀ d i, i + d = 8 → ∀ n, d < n → wY_onTopic_207 post (nI t) n (nI i) (nI (w + 1)) (nI e) thA kyA sjA scA afA ryA opA syA oyA szA ioA soA plA mkA (hz_Lg b heA goA w i) txA (hz_Ly b heA buA (nI w) i) (hz_Lh b heA i) := by
  intro d
  induction d with
  | zero =>
    intro i hi n hn
    obtain rfl : i = 8 := by omega
    obtain ⟨n, rfl⟩ := hz_pos_n hn
    have h8 : (8 : Int32) ≤ nI 8 := nI_le (a := 8) (Nat.le_refl _) (by omega)
    unfold wY_onTopic_207 at K
    exact br_t h8 (K.1 h8)
  | succ d ih =>
    intro i hi n hn
    obtain ⟨n, rfl⟩ := hz_pos_n hn
    have i8 : i < 8 := by omega
    have I1 := ih (i + 1) (by omega) n (by omega)
    obtain ⟨h, a1, a3⟩ := H i (by omega) i i8
    refine br_f (nI_ge (b := 8) i8 (by decide)) (And.intro (hz_v8 ht i8) ?_)
    by_cases c : b i = true
    · obtain ⟨q1, _, q3, q4⟩ := hz_L_t (heA := heA) (hdA := heA) (bxA := heA) (buA := buA) (goA := goA) (w := nI w) (m := w) c
      rw [q1, q3, q4] at I1
      refine br_f (by rw [hz_x8 ht i8]; exact (hb i i8).mpr c) ?_
      rw [nI_pred]
      refine hz_ygive1 i8 hw a1 a3 ?_
      exact nm_r (nI_1 i) I1
    · obtain ⟨q1, _, q3, q4⟩ := hz_L_f (heA := heA) (hdA := heA) (bxA := heA) (buA := buA) (goA := goA) (w := nI w) (m := w) c
      rw [q1, q3, q4] at I1
      refine br_t ?_ (nm_r (nI_1 i) I1)
      rw [hz_x8 ht i8]
      exact Decidable.not_not.mp (fun z => c ((hb i i8).mp z))
theorem hz_Lh_H {b : Nat → Bool} (H : hz_Bx heA hdA bxA buA) : ∀ i, i ≤ 8 → ∀ u, u < 8 → ∃ h, h ≤ 60 ∧ hz_Lh b heA i u = nI h := by
  intro i hi u hu
  obtain ⟨h, d, a1, a2, a3, _⟩ := hz_Bx_L (b := b) (w := 0) H i hi u hu
  exact ⟨h, a1, a3⟩
end HZ11
end
section
section HZ12
variable {m e : Nat} {kdA sjA afA rxA mdA scA soA plA mkA txA goA erA laA fsA lsA bxA hdA heA owA szA sxA itA icA thA kyA ryA opA syA oyA ioA buA : Nat → Int32}
theorem hz_yaff {post : Int32 → Prop} {p u : Nat} (hp4 : p < 4) (hu : u < 8) (hp : post (afA (8 * p + u))) : wpY_affiliationOf post ((nI m), (nI e), thA, kyA, sjA, scA, afA, ryA, opA, syA, oyA, szA, ioA, soA, plA, mkA, goA, txA, buA, heA) (nI u) (nI p) := by
  unfold wpY_affiliationOf
  refine And.intro (hz_v8 hp4 hu) ?_
  rw [hz_x8 hp4 hu]
  exact hp
theorem hz_q1 : ∀ q, q < 16 → ((nI q &&& 1) = 0 ∧ ¬ (nI q &&& 1) = 1) ∨ (¬ (nI q &&& 1) = 0 ∧ (nI q &&& 1) = 1) := by decide +kernel
theorem hz_q2 : ∀ q, q < 16 → ((nI q &&& 2) = 0 ∧ ¬ (nI q &&& 2) = 2) ∨ (¬ (nI q &&& 2) = 0 ∧ (nI q &&& 2) = 2) := by decide +kernel
theorem hz_yclosed {post : Int32 → Prop} {p q : Nat} (hp4 : p < 4) (hk : kyA p = nI q) (h0 : ¬ (nI q &&& 1) = 1 → post 0) (h1 : (nI q &&& 1) = 1 → post 1) : wpY_closed post ((nI m), (nI e), thA, kyA, sjA, scA, afA, ryA, opA, syA, oyA, szA, ioA, soA, plA, mkA, goA, txA, buA, heA) (nI p) := by
  unfold wpY_closed
  refine And.intro (vp_in_nI hp4 (by decide)) ?_
  rw [hz_cl (by omega), hk]
  exact ⟨h1, h0⟩
theorem hz_yquiet {post : Int32 → Prop} {p q : Nat} (hp4 : p < 4) (hk : kyA p = nI q) (h0 : ¬ (nI q &&& 2) = 2 → post 0) (h1 : (nI q &&& 2) = 2 → post 1) : wpY_quiet post ((nI m), (nI e), thA, kyA, sjA, scA, afA, ryA, opA, syA, oyA, szA, ioA, soA, plA, mkA, goA, txA, buA, heA) (nI p) := by
  unfold wpY_quiet
  refine And.intro (vp_in_nI hp4 (by decide)) ?_
  rw [hz_cl (by omega), hk]
  exact ⟨h1, h0⟩
theorem hz_ystay1 {post : Int32 → Prop} {p u q : Nat} (hp4 : p < 4) (hu : u < 8) (hq : q < 16) (hk : kyA p = nI q) (h0 : ¬ afA (8 * p + u) = 0) (h1 : (nI q &&& 1) = 0 ∨ 2 ≤ afA (8 * p + u)) (hp : post 1) : wpY_mayStay post ((nI m), (nI e), thA, kyA, sjA, scA, afA, ryA, opA, syA, oyA, szA, ioA, soA, plA, mkA, goA, txA, buA, heA) (nI u) (nI p) := by
  unfold wpY_mayStay
  refine hz_yaff hp4 hu ?_
  refine br_f h0 ?_
  refine hz_yclosed hp4 hk (fun _ => br_t rfl hp) (fun c => br_f hz_1n0 ?_)
  rcases h1 with h1 | h1
  · rcases hz_q1 q hq with ⟨_, z⟩ | ⟨z, _⟩
    · exact absurd c z
    · exact absurd h1 z
  · exact br_f (Int32.not_lt.mpr h1) hp
theorem hz_ystay0 {post : Int32 → Prop} {p u q : Nat} (hp4 : p < 4) (hu : u < 8) (hq : q < 16) (hk : kyA p = nI q) (h : afA (8 * p + u) = 0 ∨ (¬ (nI q &&& 1) = 0 ∧ ¬ 2 ≤ afA (8 * p + u))) (hp : post 0) : wpY_mayStay post ((nI m), (nI e), thA, kyA, sjA, scA, afA, ryA, opA, syA, oyA, szA, ioA, soA, plA, mkA, goA, txA, buA, heA) (nI u) (nI p) := by
  unfold wpY_mayStay
  refine hz_yaff hp4 hu ?_
  by_cases c0 : afA (8 * p + u) = 0
  · exact br_t c0 hp
  · obtain ⟨h1, h2⟩ := h.resolve_left c0
    refine br_f c0 ?_
    refine hz_yclosed hp4 hk (fun c => ?_) (fun _ => br_f hz_1n0 (br_t (Int32.not_le.mp h2) hp))
    rcases hz_q1 q hq with ⟨z, _⟩ | ⟨_, z⟩
    · exact absurd z h1
    · exact absurd z c
/-! a room that is not there -/
theorem hz_xmN {post : Int32 → Prop} {p b : Nat} {x1 us x : Int32} (h9 : x1 ≤ 9 ∨ (¬ x1 ≤ 9 ∧ 16 ≤ x1)) (h0 : ¬ x1 = 0) (hp4 : p < 4) (hk : kdA p = -1) (hp : post 0) : wpX_may post ((nI m), (nI e), kdA, sjA, afA, rxA, mdA, scA, soA, plA, mkA, txA, goA, erA, laA, fsA, lsA, bxA, hdA, heA, owA, szA, sxA, itA, icA) x1 (nI b) (nI p) us x := by
  have W : wX_may_22 post x1 (nI b) (nI p) us x (nI m) (nI e) kdA sjA afA rxA mdA scA soA plA mkA txA goA erA laA fsA lsA bxA hdA heA owA szA sxA itA icA := by
    unfold wX_may_22
    refine br_f h0 (And.intro (vp_in_nI hp4 (by decide)) (br_f ?_ hp))
    rw [hz_cl (by omega), hk]; exact hz_n1'
  unfold wpX_may
  rcases h9 with h | ⟨h, h2⟩
  · exact br_t h W
  · exact br_f h (br_t h2 W)
theorem hz_y17 {post : Int32 → Prop} {x1 us x : Int32} {p b : Nat} (h9 : x1 < 10 ∨ (¬ x1 < 10 ∧ x1 = 16)) (K : wY_may_17 post x1 (nI b) (nI p) us x 1 (nI m) (nI e) thA kyA sjA scA afA ryA opA syA oyA szA ioA soA plA mkA goA txA buA heA) : wpY_may post ((nI m), (nI e), thA, kyA, sjA, scA, afA, ryA, opA, syA, oyA, szA, ioA, soA, plA, mkA, goA, txA, buA, heA) x1 (nI b) (nI p) us x := by
  unfold wpY_may
  rcases h9 with h | ⟨h, h2⟩
  · exact br_t h K
  · exact br_f h (br_t h2 K)
theorem hz_ymN {post : Int32 → Prop} {p b : Nat} {x1 us x : Int32} (h9 : x1 < 10 ∨ (¬ x1 < 10 ∧ x1 = 16)) (h0 : ¬ x1 = 0) (h10 : ¬ x1 = 10) (hp4 : p < 4) (hk : thA p = 0) (hp : post 0) : wpY_may post ((nI m), (nI e), thA, kyA, sjA, scA, afA, ryA, opA, syA, oyA, szA, ioA, soA, plA, mkA, goA, txA, buA, heA) x1 (nI b) (nI p) us x := by
  refine hz_y17 h9 ?_
  unfold wY_may_17
  rcases hz_rng us 8 with c | ⟨k, hk2, rfl⟩
  · refine hz_inY0 8 rfl (by decide) c ?_
    refine br_f h0 (br_f h10 (br_f hz_1n0 (And.intro (vp_in_nI hp4 (by decide)) (br_t ?_ hp))))
    rw [hz_cl (by omega)]; exact hk
  · refine hz_inY1 k 8 rfl rfl hk2 (by decide) ?_
    refine br_f h0 (br_f h10 (br_f hz_1n0 (And.intro (vp_in_nI hp4 (by decide)) (br_t ?_ hp))))
    rw [hz_cl (by omega)]; exact hk
/-! a room that is there -/
theorem hz_yP0 {post : Int32 → Prop} {p b : Nat} {x1 us x : Int32} (h9 : x1 < 10 ∨ (¬ x1 < 10 ∧ x1 = 16)) (h0 : ¬ x1 = 0) (h10 : ¬ x1 = 10) (hp4 : p < 4) (hk : thA p = 1) (cu : ∀ j, j < 8 → us ≠ nI j) (K : wY_may_117 post x1 (nI b) (nI p) us x 0 (nI m) (nI e) thA kyA sjA scA afA ryA opA syA oyA szA ioA soA plA mkA goA txA buA heA) : wpY_may post ((nI m), (nI e), thA, kyA, sjA, scA, afA, ryA, opA, syA, oyA, szA, ioA, soA, plA, mkA, goA, txA, buA, heA) x1 (nI b) (nI p) us x := by
  refine hz_y17 h9 ?_
  unfold wY_may_17
  refine hz_inY0 8 rfl (by decide) cu ?_
  refine br_f h0 (br_f h10 (br_f hz_1n0 (And.intro (vp_in_nI hp4 (by decide)) (br_f ?_ K))))
  rw [hz_cl (by omega), hk]; exact hz_1n0
theorem hz_yP1 {post : Int32 → Prop} {p b k : Nat} {x1 x : Int32} (h9 : x1 < 10 ∨ (¬ x1 < 10 ∧ x1 = 16)) (h0 : ¬ x1 = 0) (h10 : ¬ x1 = 10) (hp4 : p < 4) (hk : thA p = 1) (hk8 : k < 8) (K : wY_may_117 post x1 (nI b) (nI p) (nI k) x 1 (nI m) (nI e) thA kyA sjA scA afA ryA opA syA oyA szA ioA soA plA mkA goA txA buA heA) : wpY_may post ((nI m), (nI e), thA, kyA, sjA, scA, afA, ryA, opA, syA, oyA, szA, ioA, soA, plA, mkA, goA, txA, buA, heA) x1 (nI b) (nI p) (nI k) x := by
  refine hz_y17 h9 ?_
  unfold wY_may_17
  refine hz_inY1 k 8 rfl rfl hk8 (by decide) ?_
  refine br_f h0 (br_f h10 (br_f hz_1n0 (And.intro (vp_in_nI hp4 (by decide)) (br_f ?_ K))))
  rw [hz_cl (by omega), hk]; exact hz_1n0
theorem hz_yP {post : Int32 → Prop} {p b : Nat} {x1 us x : Int32} (h9 : x1 < 10 ∨ (¬ x1 < 10 ∧ x1 = 16)) (h0 : ¬ x1 = 0) (h10 : ¬ x1 = 10) (hp4 : p < 4) (hk : thA p = 1) (K : ∀ r2, wY_may_117 post x1 (nI b) (nI p) us x r2 (nI m) (nI e) thA kyA sjA scA afA ryA opA syA oyA szA ioA soA plA mkA goA txA buA heA) : wpY_may post ((nI m), (nI e), thA, kyA, sjA, scA, afA, ryA, opA, syA, oyA, szA, ioA, soA, plA, mkA, goA, txA, buA, heA) x1 (nI b) (nI p) us x := by
  rcases hz_rng us 8 with c | ⟨k, hk2, rfl⟩
  · exact hz_yP0 h9 h0 h10 hp4 hk c (K 0)
  · exact hz_yP1 h9 h0 h10 hp4 hk hk2 (K 1)
theorem hz_xmT {post : Int32 → Prop} {p b k : Nat} {x1 x : Int32} (hp4 : p < 4) (hb : b < 8) (hk : k < 8)
    (K : ∀ z0 : Int32, (z0 = 0 ∧ rxA (8 * p + k) < 0) ∨ (z0 = 1 ∧ 0 ≤ rxA (8 * p + k)) → wX_mayTo_60 post x1 (nI b) (nI k) x (rxA (8 * p + b)) (afA (8 * p + b)) (afA (8 * p + k)) z0 (nI m) (nI e) kdA sjA afA rxA mdA scA soA plA mkA txA goA erA laA fsA lsA bxA hdA heA owA szA sxA itA icA) :
    wpX_mayTo post ((nI m), (nI e), kdA, sjA, afA, rxA, mdA, scA, soA, plA, mkA, txA, goA, erA, laA, fsA, lsA, bxA, hdA, heA, owA, szA, sxA, itA, icA) x1 (nI b) (nI p) (nI k) x := by
  unfold wpX_mayTo
  refine And.intro (hz_v8 hp4 hb) (nm_r (e' := rxA (8 * p + b)) (by rw [hz_x8 hp4 hb]) (And.intro (hz_v8 hp4 hb) (nm_r (e' := afA (8 * p + b)) (by rw [hz_x8 hp4 hb]) (And.intro (hz_v8 hp4 hk) (nm_r (e' := afA (8 * p + k)) (by rw [hz_x8 hp4 hk]) (And.intro (hz_v8 hp4 hk) ?_))))))
  rw [hz_x8 hp4 hk]
  exact br_c (fun c => K 0 (Or.inl ⟨rfl, c⟩)) (fun c => K 1 (Or.inr ⟨rfl, Int32.not_lt.mp c⟩))
theorem hz_xm286 {post : Int32 → Prop} {p b k : Nat} {x1 x : Int32} (hk : k < 8) (K : wpX_mayTo (fun r => ((r = 0 → (post 0)) ∧ (¬ r = 0 → (post 1)))) ((nI m), (nI e), kdA, sjA, afA, rxA, mdA, scA, soA, plA, mkA, txA, goA, erA, laA, fsA, lsA, bxA, hdA, heA, owA, szA, sxA, itA, icA) x1 (nI b) (nI p) (nI k) x) : wX_may_286 post x1 (nI b) (nI p) (nI k) x (nI m) (nI e) kdA sjA afA rxA mdA scA soA plA mkA txA goA erA laA fsA lsA bxA hdA heA owA szA sxA itA icA := by
  unfold wX_may_286
  refine hz_inX1 k 8 rfl rfl hk (by decide) ?_
  exact br_f hz_1n0 K
theorem hz_xm286n {post : Int32 → Prop} {p b : Nat} {x1 us x : Int32} (cu : ∀ j, j < 8 → us ≠ nI j) (hp : post 0) : wX_may_286 post x1 (nI b) (nI p) us x (nI m) (nI e) kdA sjA afA rxA mdA scA soA plA mkA txA goA erA laA fsA lsA bxA hdA heA owA szA sxA itA icA := by
  unfold wX_may_286
  refine hz_inX0 8 rfl (by decide) cu ?_
  exact br_t rfl hp
theorem hz_may_1 (I : hz_Inv m e kdA sjA afA rxA mdA scA soA plA mkA txA goA erA laA fsA lsA bxA hdA heA owA szA sxA itA icA thA kyA ryA opA syA oyA ioA buA) {b p : Nat} (hb : b < 8) (hp4 : p < 4) (us x : Int32) : ∃ r : Int32, (r = 0 ∨ (r = 1 ∧ thA p = 1 ∧ ¬ afA (8 * p + b) = 0)) ∧ (∀ post : Int32 → Prop, post r → wpX_may post ((nI m), (nI e), kdA, sjA, afA, rxA, mdA, scA, soA, plA, mkA, txA, goA, erA, laA, fsA, lsA, bxA, hdA, heA, owA, szA, sxA, itA, icA) 1 (nI b) (nI p) us x) ∧ (∀ post : Int32 → Prop, post r → wpY_may post ((nI m), (nI e), thA, kyA, sjA, scA, afA, ryA, opA, syA, oyA, szA, ioA, soA, plA, mkA, goA, txA, buA, heA) 1 (nI b) (nI p) us x) := by
  have vp : vp_in (nI p) 4 := vp_in_nI hp4 (by decide)
  have cp : (nI p).toNatClampNeg = p := hz_cl (by omega)
  rcases hz_Ir I p hp4 with ⟨t1, t2, t3⟩ | ⟨t1, ⟨q, q1, q2, q3⟩, t3, t4⟩
  · exact ⟨0, Or.inl rfl, fun post hp => hz_xmN (by decide) (by decide) hp4 t2 hp, fun post hp => hz_ymN (by decide) (by decide) (by decide) hp4 t1 hp⟩
  · obtain ⟨s1, s2⟩ := t4 b hb
    have hr : ryA (8 * p + b) = -1 ∨ 0 ≤ ryA (8 * p + b) := by rw [s1]; exact s2.imp id And.left
    have hkd : 0 ≤ kdA (nI p).toNatClampNeg := by rw [cp, q2]; exact nI_pos' (by omega)
    have hkx : kdA (nI p).toNatClampNeg = nI q := by rw [cp, q2]
    by_cases c1 : 0 ≤ rxA (8 * p + b)
    · refine ⟨0, Or.inl rfl, fun post hp => ?_, fun post hp => ?_⟩
      · unfold wpX_may
        refine br_t (by decide) ?_
        unfold wX_may_22
        refine br_f (by decide) (And.intro vp (br_t hkd (And.intro (hz_v8 hp4 hb) (nm_r (e' := rxA (8 * p + b)) (by rw [hz_x8 hp4 hb]) (And.intro (hz_v8 hp4 hb) (nm_r (e' := afA (8 * p + b)) (by rw [hz_x8 hp4 hb]) ?_))))))
        iterate 2 refine br_f (by decide) ?_
        refine br_t rfl ?_
        exact br_t c1 hp
      · refine hz_yP (by decide) (by decide) (by decide) hp4 t1 (fun r2 => ?_)
        unfold wY_may_117
        refine hz_yaff hp4 hb ?_
        refine hz_yroleOf1 hp4 hb t1 hr ?_
        rw [s1]
        iterate 2 refine br_f (by decide) ?_
        refine br_t rfl ?_
        exact br_t c1 hp
    · by_cases c2 : afA (8 * p + b) = 0
      · refine ⟨0, Or.inl rfl, fun post hp => ?_, fun post hp => ?_⟩
        · unfold wpX_may
          refine br_t (by decide) ?_
          unfold wX_may_22
          refine br_f (by decide) (And.intro vp (br_t hkd (And.intro (hz_v8 hp4 hb) (nm_r (e' := rxA (8 * p + b)) (by rw [hz_x8 hp4 hb]) (And.intro (hz_v8 hp4 hb) (nm_r (e' := afA (8 * p + b)) (by rw [hz_x8 hp4 hb]) ?_))))))
          iterate 2 refine br_f (by decide) ?_
          refine br_t rfl ?_
          exact br_f c1 (br_t c2 hp)
        · refine hz_yP (by decide) (by decide) (by decide) hp4 t1 (fun r2 => ?_)
          unfold wY_may_117
          refine hz_yaff hp4 hb ?_
          refine hz_yroleOf1 hp4 hb t1 hr ?_
          rw [s1]
          iterate 2 refine br_f (by decide) ?_
          refine br_t rfl ?_
          refine br_f c1 ?_
          refine hz_ystay0 hp4 hb q1 q3 (Or.inl c2) ?_
          exact br_t rfl hp
      · by_cases c3 : 2 ≤ afA (8 * p + b)
        · refine ⟨1, Or.inr ⟨rfl, t1, c2⟩, fun post hp => ?_, fun post hp => ?_⟩
          · unfold wpX_may
            refine br_t (by decide) ?_
            unfold wX_may_22
            refine br_f (by decide) (And.intro vp (br_t hkd (And.intro (hz_v8 hp4 hb) (nm_r (e' := rxA (8 * p + b)) (by rw [hz_x8 hp4 hb]) (And.intro (hz_v8 hp4 hb) (nm_r (e' := afA (8 * p + b)) (by rw [hz_x8 hp4 hb]) ?_))))))
            iterate 2 refine br_f (by decide) ?_
            refine br_t rfl ?_
            exact br_f c1 (br_f c2 (br_t c3 hp))
          · refine hz_yP (by decide) (by decide) (by decide) hp4 t1 (fun r2 => ?_)
            unfold wY_may_117
            refine hz_yaff hp4 hb ?_
            refine hz_yroleOf1 hp4 hb t1 hr ?_
            rw [s1]
            iterate 2 refine br_f (by decide) ?_
            refine br_t rfl ?_
            refine br_f c1 ?_
            refine hz_ystay1 hp4 hb q1 q3 c2 (Or.inr c3) ?_
            exact br_f hz_1n0 hp
        · by_cases c4 : (nI q &&& 1) = 0
          · refine ⟨1, Or.inr ⟨rfl, t1, c2⟩, fun post hp => ?_, fun post hp => ?_⟩
            · unfold wpX_may
              refine br_t (by decide) ?_
              unfold wX_may_22
              refine br_f (by decide) (And.intro vp (br_t hkd (And.intro (hz_v8 hp4 hb) (nm_r (e' := rxA (8 * p + b)) (by rw [hz_x8 hp4 hb]) (And.intro (hz_v8 hp4 hb) (nm_r (e' := afA (8 * p + b)) (by rw [hz_x8 hp4 hb]) ?_))))))
              iterate 2 refine br_f (by decide) ?_
              refine br_t rfl ?_
              exact br_f c1 (br_f c2 (br_f c3 (And.intro vp (br_t (by rw [hkx]; exact c4) hp))))
            · refine hz_yP (by decide) (by decide) (by decide) hp4 t1 (fun r2 => ?_)
              unfold wY_may_117
              refine hz_yaff hp4 hb ?_
              refine hz_yroleOf1 hp4 hb t1 hr ?_
              rw [s1]
              iterate 2 refine br_f (by decide) ?_
              refine br_t rfl ?_
              refine br_f c1 ?_
              refine hz_ystay1 hp4 hb q1 q3 c2 (Or.inl c4) ?_
              exact br_f hz_1n0 hp
          · refine ⟨0, Or.inl rfl, fun post hp => ?_, fun post hp => ?_⟩
            · unfold wpX_may
              refine br_t (by decide) ?_
              unfold wX_may_22
              refine br_f (by decide) (And.intro vp (br_t hkd (And.intro (hz_v8 hp4 hb) (nm_r (e' := rxA (8 * p + b)) (by rw [hz_x8 hp4 hb]) (And.intro (hz_v8 hp4 hb) (nm_r (e' := afA (8 * p + b)) (by rw [hz_x8 hp4 hb]) ?_))))))
              iterate 2 refine br_f (by decide) ?_
              refine br_t rfl ?_
              exact br_f c1 (br_f c2 (br_f c3 (And.intro vp (br_f (by rw [hkx]; exact c4) hp))))
            · refine hz_yP (by decide) (by decide) (by decide) hp4 t1 (fun r2 => ?_)
              unfold wY_may_117
              refine hz_yaff hp4 hb ?_
              refine hz_yroleOf1 hp4 hb t1 hr ?_
              rw [s1]
              iterate 2 refine br_f (by decide) ?_
              refine br_t rfl ?_
              refine br_f c1 ?_
              refine hz_ystay0 hp4 hb q1 q3 (Or.inr ⟨c4, c3⟩) ?_
              exact br_t rfl hp
theorem hz_may_2 (I : hz_Inv m e kdA sjA afA rxA mdA scA soA plA mkA txA goA erA laA fsA lsA bxA hdA heA owA szA sxA itA icA thA kyA ryA opA syA oyA ioA buA) {b p : Nat} (hb : b < 8) (hp4 : p < 4) (us x : Int32) : ∃ r : Int32, (r = 0 ∨ (r = 1 ∧ thA p = 1)) ∧ (∀ post : Int32 → Prop, post r → wpX_may post ((nI m), (nI e), kdA, sjA, afA, rxA, mdA, scA, soA, plA, mkA, txA, goA, erA, laA, fsA, lsA, bxA, hdA, heA, owA, szA, sxA, itA, icA) 2 (nI b) (nI p) us x) ∧ (∀ post : Int32 → Prop, post r → wpY_may post ((nI m), (nI e), thA, kyA, sjA, scA, afA, ryA, opA, syA, oyA, szA, ioA, soA, plA, mkA, goA, txA, buA, heA) 2 (nI b) (nI p) us x) := by
  have vp : vp_in (nI p) 4 := vp_in_nI hp4 (by decide)
  have cp : (nI p).toNatClampNeg = p := hz_cl (by omega)
  rcases hz_Ir I p hp4 with ⟨t1, t2, t3⟩ | ⟨t1, ⟨q, q1, q2, q3⟩, t3, t4⟩
  · exact ⟨0, Or.inl rfl, fun post hp => hz_xmN (by decide) (by decide) hp4 t2 hp, fun post hp => hz_ymN (by decide) (by decide) (by decide) hp4 t1 hp⟩
  · obtain ⟨s1, s2⟩ := t4 b hb
    have hr : ryA (8 * p + b) = -1 ∨ 0 ≤ ryA (8 * p + b) := by rw [s1]; exact s2.imp id And.left
    have hkd : 0 ≤ kdA (nI p).toNatClampNeg := by rw [cp, q2]; exact nI_pos' (by omega)
    have hkx : kdA (nI p).toNatClampNeg = nI q := by rw [cp, q2]
    by_cases c1 : rxA (8 * p + b) < 0
    · refine ⟨0, Or.inl rfl, fun post hp => ?_, fun post hp => ?_⟩
      · unfold wpX_may
        refine br_t (by decide) ?_
        unfold wX_may_22
        refine br_f (by decide) (And.intro vp (br_t hkd (And.intro (hz_v8 hp4 hb) (nm_r (e' := rxA (8 * p + b)) (by rw [hz_x8 hp4 hb]) (And.intro (hz_v8 hp4 hb) (nm_r (e' := afA (8 * p + b)) (by rw [hz_x8 hp4 hb]) ?_))))))
        iterate 3 refine br_f (by decide) ?_
        refine br_t rfl ?_
        exact br_t c1 hp
      · refine hz_yP (by decide) (by decide) (by decide) hp4 t1 (fun r2 => ?_)
        unfold wY_may_117
        refine hz_yaff hp4 hb ?_
        refine hz_yroleOf1 hp4 hb t1 hr ?_
        rw [s1]
        iterate 3 refine br_f (by decide) ?_
        refine br_t rfl ?_
        exact br_t c1 hp
    · refine ⟨1, Or.inr ⟨rfl, t1⟩, fun post hp => ?_, fun post hp => ?_⟩
      · unfold wpX_may
        refine br_t (by decide) ?_
        unfold wX_may_22
        refine br_f (by decide) (And.intro vp (br_t hkd (And.intro (hz_v8 hp4 hb) (nm_r (e' := rxA (8 * p + b)) (by rw [hz_x8 hp4 hb]) (And.intro (hz_v8 hp4 hb) (nm_r (e' := afA (8 * p + b)) (by rw [hz_x8 hp4 hb]) ?_))))))
        iterate 3 refine br_f (by decide) ?_
        refine br_t rfl ?_
        exact br_f c1 hp
      · refine hz_yP (by decide) (by decide) (by decide) hp4 t1 (fun r2 => ?_)
        unfold wY_may_117
        refine hz_yaff hp4 hb ?_
        refine hz_yroleOf1 hp4 hb t1 hr ?_
        rw [s1]
        iterate 3 refine br_f (by decide) ?_
        refine br_t rfl ?_
        exact br_f c1 hp
theorem hz_may_3 (I : hz_Inv m e kdA sjA afA rxA mdA scA soA plA mkA txA goA erA laA fsA lsA bxA hdA heA owA szA sxA itA icA thA kyA ryA opA syA oyA ioA buA) {b p : Nat} (hb : b < 8) (hp4 : p < 4) (us x : Int32) : ∃ r : Int32, (r = 0 ∨ (r = 1 ∧ thA p = 1)) ∧ (∀ post : Int32 → Prop, post r → wpX_may post ((nI m), (nI e), kdA, sjA, afA, rxA, mdA, scA, soA, plA, mkA, txA, goA, erA, laA, fsA, lsA, bxA, hdA, heA, owA, szA, sxA, itA, icA) 3 (nI b) (nI p) us x) ∧ (∀ post : Int32 → Prop, post r → wpY_may post ((nI m), (nI e), thA, kyA, sjA, scA, afA, ryA, opA, syA, oyA, szA, ioA, soA, plA, mkA, goA, txA, buA, heA) 3 (nI b) (nI p) us x) := by
  have vp : vp_in (nI p) 4 := vp_in_nI hp4 (by decide)
  have cp : (nI p).toNatClampNeg = p := hz_cl (by omega)
  rcases hz_Ir I p hp4 with ⟨t1, t2, t3⟩ | ⟨t1, ⟨q, q1, q2, q3⟩, t3, t4⟩
  · exact ⟨0, Or.inl rfl, fun post hp => hz_xmN (by decide) (by decide) hp4 t2 hp, fun post hp => hz_ymN (by decide) (by decide) (by decide) hp4 t1 hp⟩
  · obtain ⟨s1, s2⟩ := t4 b hb
    have hr : ryA (8 * p + b) = -1 ∨ 0 ≤ ryA (8 * p + b) := by rw [s1]; exact s2.imp id And.left
    have hkd : 0 ≤ kdA (nI p).toNatClampNeg := by rw [cp, q2]; exact nI_pos' (by omega)
    have hkx : kdA (nI p).toNatClampNeg = nI q := by rw [cp, q2]
    by_cases c1 : rxA (8 * p + b) ≤ 0
    · refine ⟨0, Or.inl rfl, fun post hp => ?_, fun post hp => ?_⟩
      · unfold wpX_may
        refine br_t (by decide) ?_
        unfold wX_may_22
        refine br_f (by decide) (And.intro vp (br_t hkd (And.intro (hz_v8 hp4 hb) (nm_r (e' := rxA (8 * p + b)) (by rw [hz_x8 hp4 hb]) (And.intro (hz_v8 hp4 hb) (nm_r (e' := afA (8 * p + b)) (by rw [hz_x8 hp4 hb]) ?_))))))
        iterate 4 refine br_f (by decide) ?_
        refine br_t rfl ?_
        exact br_t c1 hp
      · refine hz_yP (by decide) (by decide) (by decide) hp4 t1 (fun r2 => ?_)
        unfold wY_may_117
        refine hz_yaff hp4 hb ?_
        refine hz_yroleOf1 hp4 hb t1 hr ?_
        rw [s1]
        iterate 4 refine br_f (by decide) ?_
        refine br_t rfl ?_
        exact br_t c1 hp
    · refine ⟨1, Or.inr ⟨rfl, t1⟩, fun post hp => ?_, fun post hp => ?_⟩
      · unfold wpX_may
        refine br_t (by decide) ?_
        unfold wX_may_22
        refine br_f (by decide) (And.intro vp (br_t hkd (And.intro (hz_v8 hp4 hb) (nm_r (e' := rxA (8 * p + b)) (by rw [hz_x8 hp4 hb]) (And.intro (hz_v8 hp4 hb) (nm_r (e' := afA (8 * p + b)) (by rw [hz_x8 hp4 hb]) ?_))))))
        iterate 4 refine br_f (by decide) ?_
        refine br_t rfl ?_
        exact br_f c1 hp
      · refine hz_yP (by decide) (by decide) (by decide) hp4 t1 (fun r2 => ?_)
        unfold wY_may_117
        refine hz_yaff hp4 hb ?_
        refine hz_yroleOf1 hp4 hb t1 hr ?_
        rw [s1]
        iterate 4 refine br_f (by decide) ?_
        refine br_t rfl ?_
        exact br_f c1 hp
theorem hz_may_4 (I : hz_Inv m e kdA sjA afA rxA mdA scA soA plA mkA txA goA erA laA fsA lsA bxA hdA heA owA szA sxA itA icA thA kyA ryA opA syA oyA ioA buA) {b p : Nat} (hb : b < 8) (hp4 : p < 4) (us x : Int32) : ∃ r : Int32, (r = 0 ∨ (r = 1 ∧ thA p = 1)) ∧ (∀ post : Int32 → Prop, post r → wpX_may post ((nI m), (nI e), kdA, sjA, afA, rxA, mdA, scA, soA, plA, mkA, txA, goA, erA, laA, fsA, lsA, bxA, hdA, heA, owA, szA, sxA, itA, icA) 4 (nI b) (nI p) us x) ∧ (∀ post : Int32 → Prop, post r → wpY_may post ((nI m), (nI e), thA, kyA, sjA, scA, afA, ryA, opA, syA, oyA, szA, ioA, soA, plA, mkA, goA, txA, buA, heA) 4 (nI b) (nI p) us x) := by
  have vp : vp_in (nI p) 4 := vp_in_nI hp4 (by decide)
  have cp : (nI p).toNatClampNeg = p := hz_cl (by omega)
  rcases hz_Ir I p hp4 with ⟨t1, t2, t3⟩ | ⟨t1, ⟨q, q1, q2, q3⟩, t3, t4⟩
  · exact ⟨0, Or.inl rfl, fun post hp => hz_xmN (by decide) (by decide) hp4 t2 hp, fun post hp => hz_ymN (by decide) (by decide) (by decide) hp4 t1 hp⟩
  · obtain ⟨s1, s2⟩ := t4 b hb
    have hr : ryA (8 * p + b) = -1 ∨ 0 ≤ ryA (8 * p + b) := by rw [s1]; exact s2.imp id And.left
    have hkd : 0 ≤ kdA (nI p).toNatClampNeg := by rw [cp, q2]; exact nI_pos' (by omega)
    have hkx : kdA (nI p).toNatClampNeg = nI q := by rw [cp, q2]
    by_cases c1 : rxA (8 * p + b) = 2
    · refine ⟨1, Or.inr ⟨rfl, t1⟩, fun post hp => ?_, fun post hp => ?_⟩
      · unfold wpX_may
        refine br_t (by decide) ?_
        unfold wX_may_22
        refine br_f (by decide) (And.intro vp (br_t hkd (And.intro (hz_v8 hp4 hb) (nm_r (e' := rxA (8 * p + b)) (by rw [hz_x8 hp4 hb]) (And.intro (hz_v8 hp4 hb) (nm_r (e' := afA (8 * p + b)) (by rw [hz_x8 hp4 hb]) ?_))))))
        iterate 5 refine br_f (by decide) ?_
        refine br_t rfl ?_
        exact br_t c1 hp
      · refine hz_yP (by decide) (by decide) (by decide) hp4 t1 (fun r2 => ?_)
        unfold wY_may_117
        refine hz_yaff hp4 hb ?_
        refine hz_yroleOf1 hp4 hb t1 hr ?_
        rw [s1]
        iterate 5 refine br_f (by decide) ?_
        refine br_t rfl ?_
        exact br_t c1 hp
    · by_cases c2 : rxA (8 * p + b) = 1
      · rcases hz_q2 q q1 with ⟨c3, c4⟩ | ⟨c3, c4⟩
        · refine ⟨1, Or.inr ⟨rfl, t1⟩, fun post hp => ?_, fun post hp => ?_⟩
          · unfold wpX_may
            refine br_t (by decide) ?_
            unfold wX_may_22
            refine br_f (by decide) (And.intro vp (br_t hkd (And.intro (hz_v8 hp4 hb) (nm_r (e' := rxA (8 * p + b)) (by rw [hz_x8 hp4 hb]) (And.intro (hz_v8 hp4 hb) (nm_r (e' := afA (8 * p + b)) (by rw [hz_x8 hp4 hb]) ?_))))))
            iterate 5 refine br_f (by decide) ?_
            refine br_t rfl ?_
            exact br_f c1 (br_t c2 (And.intro vp (br_t (by rw [hkx]; exact c3) hp)))
          · refine hz_yP (by decide) (by decide) (by decide) hp4 t1 (fun r2 => ?_)
            unfold wY_may_117
            refine hz_yaff hp4 hb ?_
            refine hz_yroleOf1 hp4 hb t1 hr ?_
            rw [s1]
            iterate 5 refine br_f (by decide) ?_
            refine br_t rfl ?_
            refine br_f c1 (br_t c2 ?_)
            exact hz_yquiet hp4 q3 (fun _ => br_t rfl hp) (fun z => absurd z c4)
        · refine ⟨0, Or.inl rfl, fun post hp => ?_, fun post hp => ?_⟩
          · unfold wpX_may
            refine br_t (by decide) ?_
            unfold wX_may_22
            refine br_f (by decide) (And.intro vp (br_t hkd (And.intro (hz_v8 hp4 hb) (nm_r (e' := rxA (8 * p + b)) (by rw [hz_x8 hp4 hb]) (And.intro (hz_v8 hp4 hb) (nm_r (e' := afA (8 * p + b)) (by rw [hz_x8 hp4 hb]) ?_))))))
            iterate 5 refine br_f (by decide) ?_
            refine br_t rfl ?_
            exact br_f c1 (br_t c2 (And.intro vp (br_f (by rw [hkx]; exact c3) hp)))
          · refine hz_yP (by decide) (by decide) (by decide) hp4 t1 (fun r2 => ?_)
            unfold wY_may_117
            refine hz_yaff hp4 hb ?_
            refine hz_yroleOf1 hp4 hb t1 hr ?_
            rw [s1]
            iterate 5 refine br_f (by decide) ?_
            refine br_t rfl ?_
            refine br_f c1 (br_t c2 ?_)
            exact hz_yquiet hp4 q3 (fun z => absurd c4 z) (fun _ => br_f hz_1n0 hp)
      · refine ⟨0, Or.inl rfl, fun post hp => ?_, fun post hp => ?_⟩
        · unfold wpX_may
          refine br_t (by decide) ?_
          unfold wX_may_22
          refine br_f (by decide) (And.intro vp (br_t hkd (And.intro (hz_v8 hp4 hb) (nm_r (e' := rxA (8 * p + b)) (by rw [hz_x8 hp4 hb]) (And.intro (hz_v8 hp4 hb) (nm_r (e' := afA (8 * p + b)) (by rw [hz_x8 hp4 hb]) ?_))))))
          iterate 5 refine br_f (by decide) ?_
          refine br_t rfl ?_
          exact br_f c1 (br_f c2 hp)
        · refine hz_yP (by decide) (by decide) (by decide) hp4 t1 (fun r2 => ?_)
          unfold wY_may_117
          refine hz_yaff hp4 hb ?_
          refine hz_yroleOf1 hp4 hb t1 hr ?_
          rw [s1]
          iterate 5 refine br_f (by decide) ?_
          refine br_t rfl ?_
          exact br_f c1 (br_f c2 hp)
theorem hz_may_5 (I : hz_Inv m e kdA sjA afA rxA mdA scA soA plA mkA txA goA erA laA fsA lsA bxA hdA heA owA szA sxA itA icA thA kyA ryA opA syA oyA ioA buA) {b p : Nat} (hb : b < 8) (hp4 : p < 4) (us x : Int32) : ∃ r : Int32, (r = 0 ∨ (r = 1 ∧ thA p = 1 ∧ ∃ j, j < 16 ∧ x = nI j)) ∧ (∀ post : Int32 → Prop, post r → wpX_may post ((nI m), (nI e), kdA, sjA, afA, rxA, mdA, scA, soA, plA, mkA, txA, goA, erA, laA, fsA, lsA, bxA, hdA, heA, owA, szA, sxA, itA, icA) 5 (nI b) (nI p) us x) ∧ (∀ post : Int32 → Prop, post r → wpY_may post ((nI m), (nI e), thA, kyA, sjA, scA, afA, ryA, opA, syA, oyA, szA, ioA, soA, plA, mkA, goA, txA, buA, heA) 5 (nI b) (nI p) us x) := by
  have vp : vp_in (nI p) 4 := vp_in_nI hp4 (by decide)
  have cp : (nI p).toNatClampNeg = p := hz_cl (by omega)
  rcases hz_Ir I p hp4 with ⟨t1, t2, t3⟩ | ⟨t1, ⟨q, q1, q2, q3⟩, t3, t4⟩
  · exact ⟨0, Or.inl rfl, fun post hp => hz_xmN (by decide) (by decide) hp4 t2 hp, fun post hp => hz_ymN (by decide) (by decide) (by decide) hp4 t1 hp⟩
  · obtain ⟨s1, s2⟩ := t4 b hb
    have hr : ryA (8 * p + b) = -1 ∨ 0 ≤ ryA (8 * p + b) := by rw [s1]; exact s2.imp id And.left
    have hkd : 0 ≤ kdA (nI p).toNatClampNeg := by rw [cp, q2]; exact nI_pos' (by omega)
    have hkx : kdA (nI p).toNatClampNeg = nI q := by rw [cp, q2]
    by_cases c1 : afA (8 * p + b) = 4
    · rcases hz_rng x 16 with cx | ⟨j, hj, rfl⟩
      · refine ⟨0, Or.inl rfl, fun post hp => ?_, fun post hp => ?_⟩
        · unfold wpX_may
          refine br_t (by decide) ?_
          unfold wX_may_22
          refine br_f (by decide) (And.intro vp (br_t hkd (And.intro (hz_v8 hp4 hb) (nm_r (e' := rxA (8 * p + b)) (by rw [hz_x8 hp4 hb]) (And.intro (hz_v8 hp4 hb) (nm_r (e' := afA (8 * p + b)) (by rw [hz_x8 hp4 hb]) ?_))))))
          iterate 6 refine br_f (by decide) ?_
          refine br_t rfl ?_
          refine br_t c1 ?_
          refine hz_inX0 16 rfl (by decide) cx ?_
          exact br_t rfl hp
        · refine hz_yP (by decide) (by decide) (by decide) hp4 t1 (fun r2 => ?_)
          unfold wY_may_117
          refine hz_yaff hp4 hb ?_
          refine hz_yroleOf1 hp4 hb t1 hr ?_
          rw [s1]
          iterate 6 refine br_f (by decide) ?_
          refine br_t rfl ?_
          refine br_t c1 ?_
          refine hz_inY0 16 rfl (by decide) cx ?_
          exact br_t rfl hp
      · refine ⟨1, Or.inr ⟨rfl, t1, j, hj, rfl⟩, fun post hp => ?_, fun post hp => ?_⟩
        · unfold wpX_may
          refine br_t (by decide) ?_
          unfold wX_may_22
          refine br_f (by decide) (And.intro vp (br_t hkd (And.intro (hz_v8 hp4 hb) (nm_r (e' := rxA (8 * p + b)) (by rw [hz_x8 hp4 hb]) (And.intro (hz_v8 hp4 hb) (nm_r (e' := afA (8 * p + b)) (by rw [hz_x8 hp4 hb]) ?_))))))
          iterate 6 refine br_f (by decide) ?_
          refine br_t rfl ?_
          refine br_t c1 ?_
          refine hz_inX1 j 16 rfl rfl hj (by decide) ?_
          exact br_f hz_1n0 hp
        · refine hz_yP (by decide) (by decide) (by decide) hp4 t1 (fun r2 => ?_)
          unfold wY_may_117
          refine hz_yaff hp4 hb ?_
          refine hz_yroleOf1 hp4 hb t1 hr ?_
          rw [s1]
          iterate 6 refine br_f (by decide) ?_
          refine br_t rfl ?_
          refine br_t c1 ?_
          refine hz_inY1 j 16 rfl rfl hj (by decide) ?_
          exact br_f hz_1n0 hp
    · refine ⟨0, Or.inl rfl, fun post hp => ?_, fun post hp => ?_⟩
      · unfold wpX_may
        refine br_t (by decide) ?_
        unfold wX_may_22
        refine br_f (by decide) (And.intro vp (br_t hkd (And.intro (hz_v8 hp4 hb) (nm_r (e' := rxA (8 * p + b)) (by rw [hz_x8 hp4 hb]) (And.intro (hz_v8 hp4 hb) (nm_r (e' := afA (8 * p + b)) (by rw [hz_x8 hp4 hb]) ?_))))))
        iterate 6 refine br_f (by decide) ?_
        refine br_t rfl ?_
        exact br_f c1 hp
      · refine hz_yP (by decide) (by decide) (by decide) hp4 t1 (fun r2 => ?_)
        unfold wY_may_117
        refine hz_yaff hp4 hb ?_
        refine hz_yroleOf1 hp4 hb t1 hr ?_
        rw [s1]
        iterate 6 refine br_f (by decide) ?_
        refine br_t rfl ?_
        exact br_f c1 hp
theorem hz_may_16 (I : hz_Inv m e kdA sjA afA rxA mdA scA soA plA mkA txA goA erA laA fsA lsA bxA hdA heA owA szA sxA itA icA thA kyA ryA opA syA oyA ioA buA) {b p : Nat} (hb : b < 8) (hp4 : p < 4) (us x : Int32) : ∃ r : Int32, (r = 0 ∨ (r = 1 ∧ thA p = 1)) ∧ (∀ post : Int32 → Prop, post r → wpX_may post ((nI m), (nI e), kdA, sjA, afA, rxA, mdA, scA, soA, plA, mkA, txA, goA, erA, laA, fsA, lsA, bxA, hdA, heA, owA, szA, sxA, itA, icA) 16 (nI b) (nI p) us x) ∧ (∀ post : Int32 → Prop, post r → wpY_may post ((nI m), (nI e), thA, kyA, sjA, scA, afA, ryA, opA, syA, oyA, szA, ioA, soA, plA, mkA, goA, txA, buA, heA) 16 (nI b) (nI p) us x) := by
  have vp : vp_in (nI p) 4 := vp_in_nI hp4 (by decide)
  have cp : (nI p).toNatClampNeg = p := hz_cl (by omega)
  rcases hz_Ir I p hp4 with ⟨t1, t2, t3⟩ | ⟨t1, ⟨q, q1, q2, q3⟩, t3, t4⟩
  · exact ⟨0, Or.inl rfl, fun post hp => hz_xmN (by decide) (by decide) hp4 t2 hp, fun post hp => hz_ymN (by decide) (by decide) (by decide) hp4 t1 hp⟩
  · obtain ⟨s1, s2⟩ := t4 b hb
    have hr : ryA (8 * p + b) = -1 ∨ 0 ≤ ryA (8 * p + b) := by rw [s1]; exact s2.imp id And.left
    have hkd : 0 ≤ kdA (nI p).toNatClampNeg := by rw [cp, q2]; exact nI_pos' (by omega)
    have hkx : kdA (nI p).toNatClampNeg = nI q := by rw [cp, q2]
    by_cases c1 : afA (8 * p + b) = 4
    · refine ⟨1, Or.inr ⟨rfl, t1⟩, fun post hp => ?_, fun post hp => ?_⟩
      · unfold wpX_may
        refine br_f (by decide) (br_t (by decide) ?_)
        unfold wX_may_22
        refine br_f (by decide) (And.intro vp (br_t hkd (And.intro (hz_v8 hp4 hb) (nm_r (e' := rxA (8 * p + b)) (by rw [hz_x8 hp4 hb]) (And.intro (hz_v8 hp4 hb) (nm_r (e' := afA (8 * p + b)) (by rw [hz_x8 hp4 hb]) ?_))))))
        iterate 17 refine br_f (by decide) ?_
        refine br_t rfl ?_
        exact br_t c1 hp
      · refine hz_yP (by decide) (by decide) (by decide) hp4 t1 (fun r2 => ?_)
        unfold wY_may_117
        refine hz_yaff hp4 hb ?_
        refine hz_yroleOf1 hp4 hb t1 hr ?_
        rw [s1]
        refine br_f (by decide) (br_t (by decide) ?_)
        unfold wY_may_599
        exact br_t c1 hp
    · refine ⟨0, Or.inl rfl, fun post hp => ?_, fun post hp => ?_⟩
      · unfold wpX_may
        refine br_f (by decide) (br_t (by decide) ?_)
        unfold wX_may_22
        refine br_f (by decide) (And.intro vp (br_t hkd (And.intro (hz_v8 hp4 hb) (nm_r (e' := rxA (8 * p + b)) (by rw [hz_x8 hp4 hb]) (And.intro (hz_v8 hp4 hb) (nm_r (e' := afA (8 * p + b)) (by rw [hz_x8 hp4 hb]) ?_))))))
        iterate 17 refine br_f (by decide) ?_
        refine br_t rfl ?_
        exact br_f c1 hp
      · refine hz_yP (by decide) (by decide) (by decide) hp4 t1 (fun r2 => ?_)
        unfold wY_may_117
        refine hz_yaff hp4 hb ?_
        refine hz_yroleOf1 hp4 hb t1 hr ?_
        rw [s1]
        refine br_f (by decide) (br_t (by decide) ?_)
        unfold wY_may_599
        exact br_f c1 hp
theorem hz_may_6 (I : hz_Inv m e kdA sjA afA rxA mdA scA soA plA mkA txA goA erA laA fsA lsA bxA hdA heA owA szA sxA itA icA thA kyA ryA opA syA oyA ioA buA) {b p : Nat} (hb : b < 8) (hp4 : p < 4) (us x : Int32) : ∃ r : Int32, (r = 0 ∨ (r = 1 ∧ thA p = 1 ∧ ∃ k j, k < 8 ∧ us = nI k ∧ j < 5 ∧ x = nI j)) ∧ (∀ post : Int32 → Prop, post r → wpX_may post ((nI m), (nI e), kdA, sjA, afA, rxA, mdA, scA, soA, plA, mkA, txA, goA, erA, laA, fsA, lsA, bxA, hdA, heA, owA, szA, sxA, itA, icA) 6 (nI b) (nI p) us x) ∧ (∀ post : Int32 → Prop, post r → wpY_may post ((nI m), (nI e), thA, kyA, sjA, scA, afA, ryA, opA, syA, oyA, szA, ioA, soA, plA, mkA, goA, txA, buA, heA) 6 (nI b) (nI p) us x) := by
  have vp : vp_in (nI p) 4 := vp_in_nI hp4 (by decide)
  have cp : (nI p).toNatClampNeg = p := hz_cl (by omega)
  rcases hz_Ir I p hp4 with ⟨t1, t2, t3⟩ | ⟨t1, ⟨q, q1, q2, q3⟩, t3, t4⟩
  · exact ⟨0, Or.inl rfl, fun post hp => hz_xmN (by decide) (by decide) hp4 t2 hp, fun post hp => hz_ymN (by decide) (by decide) (by decide) hp4 t1 hp⟩
  · obtain ⟨s1, s2⟩ := t4 b hb
    have hr : ryA (8 * p + b) = -1 ∨ 0 ≤ ryA (8 * p + b) := by rw [s1]; exact s2.imp id And.left
    have hkd : 0 ≤ kdA (nI p).toNatClampNeg := by rw [cp, q2]; exact nI_pos' (by omega)
    have hkx : kdA (nI p).toNatClampNeg = nI q := by rw [cp, q2]
    rcases hz_rng us 8 with cu | ⟨k, hk, rfl⟩
    · refine ⟨0, Or.inl rfl, fun post hp => ?_, fun post hp => ?_⟩
      · unfold wpX_may
        refine br_t (by decide) ?_
        unfold wX_may_22
        refine br_f (by decide) (And.intro vp (br_t hkd (And.intro (hz_v8 hp4 hb) (nm_r (e' := rxA (8 * p + b)) (by rw [hz_x8 hp4 hb]) (And.intro (hz_v8 hp4 hb) (nm_r (e' := afA (8 * p + b)) (by rw [hz_x8 hp4 hb]) ?_))))))
        iterate 7 refine br_f (by decide) ?_
        refine br_t rfl ?_
        exact hz_xm286n cu hp
      · refine hz_yP0 (by decide) (by decide) (by decide) hp4 t1 cu ?_
        unfold wY_may_117
        refine hz_yaff hp4 hb ?_
        refine hz_yroleOf1 hp4 hb t1 hr ?_
        rw [s1]
        iterate 7 refine br_f (by decide) ?_
        refine br_t rfl ?_
        exact br_t rfl hp
    · obtain ⟨s3, s4⟩ := t4 k hk
      by_cases c1 : afA (8 * p + b) < 3
      · refine ⟨0, Or.inl rfl, fun post hp => ?_, fun post hp => ?_⟩
        · unfold wpX_may
          refine br_t (by decide) ?_
          unfold wX_may_22
          refine br_f (by decide) (And.intro vp (br_t hkd (And.intro (hz_v8 hp4 hb) (nm_r (e' := rxA (8 * p + b)) (by rw [hz_x8 hp4 hb]) (And.intro (hz_v8 hp4 hb) (nm_r (e' := afA (8 * p + b)) (by rw [hz_x8 hp4 hb]) ?_))))))
          iterate 7 refine br_f (by decide) ?_
          refine br_t rfl ?_
          refine hz_xm286 hk ?_
          refine hz_xmT hp4 hb hk (fun z0 hz0 => ?_)
          unfold wX_mayTo_60
          iterate 2 refine br_f (by decide) ?_
          refine br_t rfl ?_
          exact br_t c1 (br_t rfl hp)
        · refine hz_yP1 (by decide) (by decide) (by decide) hp4 t1 hk ?_
          unfold wY_may_117
          refine hz_yaff hp4 hb ?_
          refine hz_yroleOf1 hp4 hb t1 hr ?_
          rw [s1]
          iterate 7 refine br_f (by decide) ?_
          refine br_t rfl ?_
          refine br_f hz_1n0 ?_
          exact br_t c1 hp
      · rcases hz_rng x 5 with cx | ⟨j, hj, rfl⟩
        · refine ⟨0, Or.inl rfl, fun post hp => ?_, fun post hp => ?_⟩
          · unfold wpX_may
            refine br_t (by decide) ?_
            unfold wX_may_22
            refine br_f (by decide) (And.intro vp (br_t hkd (And.intro (hz_v8 hp4 hb) (nm_r (e' := rxA (8 * p + b)) (by rw [hz_x8 hp4 hb]) (And.intro (hz_v8 hp4 hb) (nm_r (e' := afA (8 * p + b)) (by rw [hz_x8 hp4 hb]) ?_))))))
            iterate 7 refine br_f (by decide) ?_
            refine br_t rfl ?_
            refine hz_xm286 hk ?_
            refine hz_xmT hp4 hb hk (fun z0 hz0 => ?_)
            unfold wX_mayTo_60
            iterate 2 refine br_f (by decide) ?_
            refine br_t rfl ?_
            refine br_f c1 ?_
            refine hz_inX0 5 rfl (by decide) cx ?_
            exact br_t rfl (br_t rfl hp)
          · refine hz_yP1 (by decide) (by decide) (by decide) hp4 t1 hk ?_
            unfold wY_may_117
            refine hz_yaff hp4 hb ?_
            refine hz_yroleOf1 hp4 hb t1 hr ?_
            rw [s1]
            iterate 7 refine br_f (by decide) ?_
            refine br_t rfl ?_
            refine br_f hz_1n0 ?_
            refine br_f c1 ?_
            refine hz_inY0 5 rfl (by decide) cx ?_
            exact br_t rfl hp
        · by_cases c2 : nI b = nI k
          · refine ⟨0, Or.inl rfl, fun post hp => ?_, fun post hp => ?_⟩
            · unfold wpX_may
              refine br_t (by decide) ?_
              unfold wX_may_22
              refine br_f (by decide) (And.intro vp (br_t hkd (And.intro (hz_v8 hp4 hb) (nm_r (e' := rxA (8 * p + b)) (by rw [hz_x8 hp4 hb]) (And.intro (hz_v8 hp4 hb) (nm_r (e' := afA (8 * p + b)) (by rw [hz_x8 hp4 hb]) ?_))))))
              iterate 7 refine br_f (by decide) ?_
              refine br_t rfl ?_
              refine hz_xm286 hk ?_
              refine hz_xmT hp4 hb hk (fun z0 hz0 => ?_)
              unfold wX_mayTo_60
              iterate 2 refine br_f (by decide) ?_
              refine br_t rfl ?_
              refine br_f c1 ?_
              refine hz_inX1 j 5 rfl rfl hj (by decide) ?_
              refine br_f hz_1n0 ?_
              exact br_t c2 (br_t rfl hp)
            · refine hz_yP1 (by decide) (by decide) (by decide) hp4 t1 hk ?_
              unfold wY_may_117
              refine hz_yaff hp4 hb ?_
              refine hz_yroleOf1 hp4 hb t1 hr ?_
              rw [s1]
              iterate 7 refine br_f (by decide) ?_
              refine br_t rfl ?_
              refine br_f hz_1n0 ?_
              refine br_f c1 ?_
              refine hz_inY1 j 5 rfl rfl hj (by decide) ?_
              refine br_f hz_1n0 ?_
              exact br_t c2 hp
          · by_cases c3 : afA (8 * p + b) = 4
            · refine ⟨1, Or.inr ⟨rfl, t1, k, j, hk, rfl, hj, rfl⟩, fun post hp => ?_, fun post hp => ?_⟩
              · unfold wpX_may
                refine br_t (by decide) ?_
                unfold wX_may_22
                refine br_f (by decide) (And.intro vp (br_t hkd (And.intro (hz_v8 hp4 hb) (nm_r (e' := rxA (8 * p + b)) (by rw [hz_x8 hp4 hb]) (And.intro (hz_v8 hp4 hb) (nm_r (e' := afA (8 * p + b)) (by rw [hz_x8 hp4 hb]) ?_))))))
                iterate 7 refine br_f (by decide) ?_
                refine br_t rfl ?_
                refine hz_xm286 hk ?_
                refine hz_xmT hp4 hb hk (fun z0 hz0 => ?_)
                unfold wX_mayTo_60
                iterate 2 refine br_f (by decide) ?_
                refine br_t rfl ?_
                refine br_f c1 ?_
                refine hz_inX1 j 5 rfl rfl hj (by decide) ?_
                refine br_f hz_1n0 ?_
                exact br_f c2 (br_t c3 (br_f hz_1n0 hp))
              · refine hz_yP1 (by decide) (by decide) (by decide) hp4 t1 hk ?_
                unfold wY_may_117
                refine hz_yaff hp4 hb ?_
                refine hz_yroleOf1 hp4 hb t1 hr ?_
                rw [s1]
                iterate 7 refine br_f (by decide) ?_
                refine br_t rfl ?_
                refine br_f hz_1n0 ?_
                refine br_f c1 ?_
                refine hz_inY1 j 5 rfl rfl hj (by decide) ?_
                refine br_f hz_1n0 ?_
                exact br_f c2 (br_t c3 hp)
            · by_cases c4 : 3 ≤ afA (8 * p + k)
              · refine ⟨0, Or.inl rfl, fun post hp => ?_, fun post hp => ?_⟩
                · unfold wpX_may
                  refine br_t (by decide) ?_
                  unfold wX_may_22
                  refine br_f (by decide) (And.intro vp (br_t hkd (And.intro (hz_v8 hp4 hb) (nm_r (e' := rxA (8 * p + b)) (by rw [hz_x8 hp4 hb]) (And.intro (hz_v8 hp4 hb) (nm_r (e' := afA (8 * p + b)) (by rw [hz_x8 hp4 hb]) ?_))))))
                  iterate 7 refine br_f (by decide) ?_
                  refine br_t rfl ?_
                  refine hz_xm286 hk ?_
                  refine hz_xmT hp4 hb hk (fun z0 hz0 => ?_)
                  unfold wX_mayTo_60
                  iterate 2 refine br_f (by decide) ?_
                  refine br_t rfl ?_
                  refine br_f c1 ?_
                  refine hz_inX1 j 5 rfl rfl hj (by decide) ?_
                  refine br_f hz_1n0 ?_
                  exact br_f c2 (br_f c3 (br_t c4 (br_t rfl hp)))
                · refine hz_yP1 (by decide) (by decide) (by decide) hp4 t1 hk ?_
                  unfold wY_may_117
                  refine hz_yaff hp4 hb ?_
                  refine hz_yroleOf1 hp4 hb t1 hr ?_
                  rw [s1]
                  iterate 7 refine br_f (by decide) ?_
                  refine br_t rfl ?_
                  refine br_f hz_1n0 ?_
                  refine br_f c1 ?_
                  refine hz_inY1 j 5 rfl rfl hj (by decide) ?_
                  refine br_f hz_1n0 ?_
                  refine br_f c2 (br_f c3 ?_)
                  refine hz_yaff hp4 hk ?_
                  exact br_t c4 hp
              · by_cases c5 : 3 ≤ nI j
                · refine ⟨0, Or.inl rfl, fun post hp => ?_, fun post hp => ?_⟩
                  · unfold wpX_may
                    refine br_t (by decide) ?_
                    unfold wX_may_22
                    refine br_f (by decide) (And.intro vp (br_t hkd (And.intro (hz_v8 hp4 hb) (nm_r (e' := rxA (8 * p + b)) (by rw [hz_x8 hp4 hb]) (And.intro (hz_v8 hp4 hb) (nm_r (e' := afA (8 * p + b)) (by rw [hz_x8 hp4 hb]) ?_))))))
                    iterate 7 refine br_f (by decide) ?_
                    refine br_t rfl ?_
                    refine hz_xm286 hk ?_
                    refine hz_xmT hp4 hb hk (fun z0 hz0 => ?_)
                    unfold wX_mayTo_60
                    iterate 2 refine br_f (by decide) ?_
                    refine br_t rfl ?_
                    refine br_f c1 ?_
                    refine hz_inX1 j 5 rfl rfl hj (by decide) ?_
                    refine br_f hz_1n0 ?_
                    exact br_f c2 (br_f c3 (br_f c4 (br_t c5 (br_t rfl hp))))
                  · refine hz_yP1 (by decide) (by decide) (by decide) hp4 t1 hk ?_
                    unfold wY_may_117
                    refine hz_yaff hp4 hb ?_
                    refine hz_yroleOf1 hp4 hb t1 hr ?_
                    rw [s1]
                    iterate 7 refine br_f (by decide) ?_
                    refine br_t rfl ?_
                    refine br_f hz_1n0 ?_
                    refine br_f c1 ?_
                    refine hz_inY1 j 5 rfl rfl hj (by decide) ?_
                    refine br_f hz_1n0 ?_
                    refine br_f c2 (br_f c3 ?_)
                    refine hz_yaff hp4 hk ?_
                    exact br_f c4 (br_t c5 hp)
                · refine ⟨1, Or.inr ⟨rfl, t1, k, j, hk, rfl, hj, rfl⟩, fun post hp => ?_, fun post hp => ?_⟩
                  · unfold wpX_may
                    refine br_t (by decide) ?_
                    unfold wX_may_22
                    refine br_f (by decide) (And.intro vp (br_t hkd (And.intro (hz_v8 hp4 hb) (nm_r (e' := rxA (8 * p + b)) (by rw [hz_x8 hp4 hb]) (And.intro (hz_v8 hp4 hb) (nm_r (e' := afA (8 * p + b)) (by rw [hz_x8 hp4 hb]) ?_))))))
                    iterate 7 refine br_f (by decide) ?_
                    refine br_t rfl ?_
                    refine hz_xm286 hk ?_
                    refine hz_xmT hp4 hb hk (fun z0 hz0 => ?_)
                    unfold wX_mayTo_60
                    iterate 2 refine br_f (by decide) ?_
                    refine br_t rfl ?_
                    refine br_f c1 ?_
                    refine hz_inX1 j 5 rfl rfl hj (by decide) ?_
                    refine br_f hz_1n0 ?_
                    exact br_f c2 (br_f c3 (br_f c4 (br_f c5 (br_f hz_1n0 hp))))
                  · refine hz_yP1 (by decide) (by decide) (by decide) hp4 t1 hk ?_
                    unfold wY_may_117
                    refine hz_yaff hp4 hb ?_
                    refine hz_yroleOf1 hp4 hb t1 hr ?_
                    rw [s1]
                    iterate 7 refine br_f (by decide) ?_
                    refine br_t rfl ?_
                    refine br_f hz_1n0 ?_
                    refine br_f c1 ?_
                    refine hz_inY1 j 5 rfl rfl hj (by decide) ?_
                    refine br_f hz_1n0 ?_
                    refine br_f c2 (br_f c3 ?_)
                    refine hz_yaff hp4 hk ?_
                    exact br_f c4 (br_f c5 hp)
theorem hz_may_7 (I : hz_Inv m e kdA sjA afA rxA mdA scA soA plA mkA txA goA erA laA fsA lsA bxA hdA heA owA szA sxA itA icA thA kyA ryA opA syA oyA ioA buA) {b p : Nat} (hb : b < 8) (hp4 : p < 4) (us x : Int32) : ∃ r : Int32, (r = 0 ∨ (r = 1 ∧ thA p = 1 ∧ ∃ k j, k < 8 ∧ us = nI k ∧ j < 3 ∧ x = nI j ∧ 0 ≤ rxA (8 * p + k))) ∧ (∀ post : Int32 → Prop, post r → wpX_may post ((nI m), (nI e), kdA, sjA, afA, rxA, mdA, scA, soA, plA, mkA, txA, goA, erA, laA, fsA, lsA, bxA, hdA, heA, owA, szA, sxA, itA, icA) 7 (nI b) (nI p) us x) ∧ (∀ post : Int32 → Prop, post r → wpY_may post ((nI m), (nI e), thA, kyA, sjA, scA, afA, ryA, opA, syA, oyA, szA, ioA, soA, plA, mkA, goA, txA, buA, heA) 7 (nI b) (nI p) us x) := by
  have vp : vp_in (nI p) 4 := vp_in_nI hp4 (by decide)
  have cp : (nI p).toNatClampNeg = p := hz_cl (by omega)
  rcases hz_Ir I p hp4 with ⟨t1, t2, t3⟩ | ⟨t1, ⟨q, q1, q2, q3⟩, t3, t4⟩
  · exact ⟨0, Or.inl rfl, fun post hp => hz_xmN (by decide) (by decide) hp4 t2 hp, fun post hp => hz_ymN (by decide) (by decide) (by decide) hp4 t1 hp⟩
  · obtain ⟨s1, s2⟩ := t4 b hb
    have hr : ryA (8 * p + b) = -1 ∨ 0 ≤ ryA (8 * p + b) := by rw [s1]; exact s2.imp id And.left
    have hkd : 0 ≤ kdA (nI p).toNatClampNeg := by rw [cp, q2]; exact nI_pos' (by omega)
    have hkx : kdA (nI p).toNatClampNeg = nI q := by rw [cp, q2]
    rcases hz_rng us 8 with cu | ⟨k, hk, rfl⟩
    · refine ⟨0, Or.inl rfl, fun post hp => ?_, fun post hp => ?_⟩
      · unfold wpX_may
        refine br_t (by decide) ?_
        unfold wX_may_22
        refine br_f (by decide) (And.intro vp (br_t hkd (And.intro (hz_v8 hp4 hb) (nm_r (e' := rxA (8 * p + b)) (by rw [hz_x8 hp4 hb]) (And.intro (hz_v8 hp4 hb) (nm_r (e' := afA (8 * p + b)) (by rw [hz_x8 hp4 hb]) ?_))))))
        iterate 8 refine br_f (by decide) ?_
        refine br_t rfl ?_
        exact hz_xm286n cu hp
      · refine hz_yP0 (by decide) (by decide) (by decide) hp4 t1 cu ?_
        unfold wY_may_117
        refine hz_yaff hp4 hb ?_
        refine hz_yroleOf1 hp4 hb t1 hr ?_
        rw [s1]
        iterate 8 refine br_f (by decide) ?_
        refine br_t rfl ?_
        exact br_t rfl hp
    · obtain ⟨s3, s4⟩ := t4 k hk
      by_cases c1 : rxA (8 * p + b) = 2
      · by_cases c2 : 0 ≤ rxA (8 * p + k)
        · by_cases c3 : 3 ≤ afA (8 * p + k)
          · refine ⟨0, Or.inl rfl, fun post hp => ?_, fun post hp => ?_⟩
            · unfold wpX_may
              refine br_t (by decide) ?_
              unfold wX_may_22
              refine br_f (by decide) (And.intro vp (br_t hkd (And.intro (hz_v8 hp4 hb) (nm_r (e' := rxA (8 * p + b)) (by rw [hz_x8 hp4 hb]) (And.intro (hz_v8 hp4 hb) (nm_r (e' := afA (8 * p + b)) (by rw [hz_x8 hp4 hb]) ?_))))))
              iterate 8 refine br_f (by decide) ?_
              refine br_t rfl ?_
              refine hz_xm286 hk ?_
              refine hz_xmT hp4 hb hk (fun z0 hz0 => ?_)
              unfold wX_mayTo_60
              iterate 3 refine br_f (by decide) ?_
              refine br_t rfl ?_
              rcases hz0 with ⟨_, hz0⟩ | ⟨rfl, _⟩
              · exact absurd c2 (Int32.not_le.mpr hz0)
              exact br_t c1 (br_f hz_1n0 (br_t c3 (br_t rfl hp)))
            · refine hz_yP1 (by decide) (by decide) (by decide) hp4 t1 hk ?_
              unfold wY_may_117
              refine hz_yaff hp4 hb ?_
              refine hz_yroleOf1 hp4 hb t1 hr ?_
              rw [s1]
              iterate 8 refine br_f (by decide) ?_
              refine br_t rfl ?_
              refine br_f hz_1n0 ?_
              refine br_t c1 ?_
              refine hz_ypres1 hp4 hk t1 (by rw [s3]; exact c2) ?_
              refine br_f hz_1n0 ?_
              refine hz_yaff hp4 hk ?_
              exact br_t c3 hp
          · rcases hz_rng x 3 with cx | ⟨j, hj, rfl⟩
            · refine ⟨0, Or.inl rfl, fun post hp => ?_, fun post hp => ?_⟩
              · unfold wpX_may
                refine br_t (by decide) ?_
                unfold wX_may_22
                refine br_f (by decide) (And.intro vp (br_t hkd (And.intro (hz_v8 hp4 hb) (nm_r (e' := rxA (8 * p + b)) (by rw [hz_x8 hp4 hb]) (And.intro (hz_v8 hp4 hb) (nm_r (e' := afA (8 * p + b)) (by rw [hz_x8 hp4 hb]) ?_))))))
                iterate 8 refine br_f (by decide) ?_
                refine br_t rfl ?_
                refine hz_xm286 hk ?_
                refine hz_xmT hp4 hb hk (fun z0 hz0 => ?_)
                unfold wX_mayTo_60
                iterate 3 refine br_f (by decide) ?_
                refine br_t rfl ?_
                rcases hz0 with ⟨_, hz0⟩ | ⟨rfl, _⟩
                · exact absurd c2 (Int32.not_le.mpr hz0)
                refine br_t c1 (br_f hz_1n0 (br_f c3 ?_))
                refine hz_inX0 3 rfl (by decide) cx ?_
                exact br_t rfl (br_t rfl hp)
              · refine hz_yP1 (by decide) (by decide) (by decide) hp4 t1 hk ?_
                unfold wY_may_117
                refine hz_yaff hp4 hb ?_
                refine hz_yroleOf1 hp4 hb t1 hr ?_
                rw [s1]
                iterate 8 refine br_f (by decide) ?_
                refine br_t rfl ?_
                refine br_f hz_1n0 ?_
                refine br_t c1 ?_
                refine hz_ypres1 hp4 hk t1 (by rw [s3]; exact c2) ?_
                refine br_f hz_1n0 ?_
                refine hz_yaff hp4 hk ?_
                refine br_f c3 ?_
                refine hz_inY0 3 rfl (by decide) cx ?_
                exact br_t rfl hp
            · refine ⟨1, Or.inr ⟨rfl, t1, k, j, hk, rfl, hj, rfl, c2⟩, fun post hp => ?_, fun post hp => ?_⟩
              · unfold wpX_may
                refine br_t (by decide) ?_
                unfold wX_may_22
                refine br_f (by decide) (And.intro vp (br_t hkd (And.intro (hz_v8 hp4 hb) (nm_r (e' := rxA (8 * p + b)) (by rw [hz_x8 hp4 hb]) (And.intro (hz_v8 hp4 hb) (nm_r (e' := afA (8 * p + b)) (by rw [hz_x8 hp4 hb]) ?_))))))
                iterate 8 refine br_f (by decide) ?_
                refine br_t rfl ?_
                refine hz_xm286 hk ?_
                refine hz_xmT hp4 hb hk (fun z0 hz0 => ?_)
                unfold wX_mayTo_60
                iterate 3 refine br_f (by decide) ?_
                refine br_t rfl ?_
                rcases hz0 with ⟨_, hz0⟩ | ⟨rfl, _⟩
                · exact absurd c2 (Int32.not_le.mpr hz0)
                refine br_t c1 (br_f hz_1n0 (br_f c3 ?_))
                refine hz_inX1 j 3 rfl rfl hj (by decide) ?_
                exact br_f hz_1n0 (br_f hz_1n0 hp)
              · refine hz_yP1 (by decide) (by decide) (by decide) hp4 t1 hk ?_
                unfold wY_may_117
                refine hz_yaff hp4 hb ?_
                refine hz_yroleOf1 hp4 hb t1 hr ?_
                rw [s1]
                iterate 8 refine br_f (by decide) ?_
                refine br_t rfl ?_
                refine br_f hz_1n0 ?_
                refine br_t c1 ?_
                refine hz_ypres1 hp4 hk t1 (by rw [s3]; exact c2) ?_
                refine br_f hz_1n0 ?_
                refine hz_yaff hp4 hk ?_
                refine br_f c3 ?_
                refine hz_inY1 j 3 rfl rfl hj (by decide) ?_
                exact br_f hz_1n0 hp
        · refine ⟨0, Or.inl rfl, fun post hp => ?_, fun post hp => ?_⟩
          · unfold wpX_may
            refine br_t (by decide) ?_
            unfold wX_may_22
            refine br_f (by decide) (And.intro vp (br_t hkd (And.intro (hz_v8 hp4 hb) (nm_r (e' := rxA (8 * p + b)) (by rw [hz_x8 hp4 hb]) (And.intro (hz_v8 hp4 hb) (nm_r (e' := afA (8 * p + b)) (by rw [hz_x8 hp4 hb]) ?_))))))
            iterate 8 refine br_f (by decide) ?_
            refine br_t rfl ?_
            refine hz_xm286 hk ?_
            refine hz_xmT hp4 hb hk (fun z0 hz0 => ?_)
            unfold wX_mayTo_60
            iterate 3 refine br_f (by decide) ?_
            refine br_t rfl ?_
            rcases hz0 with ⟨rfl, _⟩ | ⟨_, hz0⟩
            · exact br_t c1 (br_t rfl (br_t rfl hp))
            · exact absurd hz0 c2
          · refine hz_yP1 (by decide) (by decide) (by decide) hp4 t1 hk ?_
            unfold wY_may_117
            refine hz_yaff hp4 hb ?_
            refine hz_yroleOf1 hp4 hb t1 hr ?_
            rw [s1]
            iterate 8 refine br_f (by decide) ?_
            refine br_t rfl ?_
            refine br_f hz_1n0 ?_
            refine br_t c1 ?_
            refine hz_ypres0 hp4 hk (Or.inr ⟨t1, by rw [s3]; exact Int32.not_le.mp c2⟩) ?_
            exact br_t rfl hp
      · refine ⟨0, Or.inl rfl, fun post hp => ?_, fun post hp => ?_⟩
        · unfold wpX_may
          refine br_t (by decide) ?_
          unfold wX_may_22
          refine br_f (by decide) (And.intro vp (br_t hkd (And.intro (hz_v8 hp4 hb) (nm_r (e' := rxA (8 * p + b)) (by rw [hz_x8 hp4 hb]) (And.intro (hz_v8 hp4 hb) (nm_r (e' := afA (8 * p + b)) (by rw [hz_x8 hp4 hb]) ?_))))))
          iterate 8 refine br_f (by decide) ?_
          refine br_t rfl ?_
          refine hz_xm286 hk ?_
          refine hz_xmT hp4 hb hk (fun z0 hz0 => ?_)
          unfold wX_mayTo_60
          iterate 3 refine br_f (by decide) ?_
          refine br_t rfl ?_
          exact br_f c1 (br_t rfl hp)
        · refine hz_yP1 (by decide) (by decide) (by decide) hp4 t1 hk ?_
          unfold wY_may_117
          refine hz_yaff hp4 hb ?_
          refine hz_yroleOf1 hp4 hb t1 hr ?_
          rw [s1]
          iterate 8 refine br_f (by decide) ?_
          refine br_t rfl ?_
          refine br_f hz_1n0 ?_
          exact br_f c1 hp
theorem hz_may_8 (I : hz_Inv m e kdA sjA afA rxA mdA scA soA plA mkA txA goA erA laA fsA lsA bxA hdA heA owA szA sxA itA icA thA kyA ryA opA syA oyA ioA buA) {b p : Nat} (hb : b < 8) (hp4 : p < 4) (us x : Int32) : ∃ r : Int32, (r = 0 ∨ (r = 1 ∧ thA p = 1 ∧ ∃ k, k < 8 ∧ us = nI k)) ∧ (∀ post : Int32 → Prop, post r → wpX_may post ((nI m), (nI e), kdA, sjA, afA, rxA, mdA, scA, soA, plA, mkA, txA, goA, erA, laA, fsA, lsA, bxA, hdA, heA, owA, szA, sxA, itA, icA) 8 (nI b) (nI p) us x) ∧ (∀ post : Int32 → Prop, post r → wpY_may post ((nI m), (nI e), thA, kyA, sjA, scA, afA, ryA, opA, syA, oyA, szA, ioA, soA, plA, mkA, goA, txA, buA, heA) 8 (nI b) (nI p) us x) := by
  have vp : vp_in (nI p) 4 := vp_in_nI hp4 (by decide)
  have cp : (nI p).toNatClampNeg = p := hz_cl (by omega)
  rcases hz_Ir I p hp4 with ⟨t1, t2, t3⟩ | ⟨t1, ⟨q, q1, q2, q3⟩, t3, t4⟩
  · exact ⟨0, Or.inl rfl, fun post hp => hz_xmN (by decide) (by decide) hp4 t2 hp, fun post hp => hz_ymN (by decide) (by decide) (by decide) hp4 t1 hp⟩
  · obtain ⟨s1, s2⟩ := t4 b hb
    have hr : ryA (8 * p + b) = -1 ∨ 0 ≤ ryA (8 * p + b) := by rw [s1]; exact s2.imp id And.left
    have hkd : 0 ≤ kdA (nI p).toNatClampNeg := by rw [cp, q2]; exact nI_pos' (by omega)
    have hkx : kdA (nI p).toNatClampNeg = nI q := by rw [cp, q2]
    rcases hz_rng us 8 with cu | ⟨k, hk, rfl⟩
    · refine ⟨0, Or.inl rfl, fun post hp => ?_, fun post hp => ?_⟩
      · unfold wpX_may
        refine br_t (by decide) ?_
        unfold wX_may_22
        refine br_f (by decide) (And.intro vp (br_t hkd (And.intro (hz_v8 hp4 hb) (nm_r (e' := rxA (8 * p + b)) (by rw [hz_x8 hp4 hb]) (And.intro (hz_v8 hp4 hb) (nm_r (e' := afA (8 * p + b)) (by rw [hz_x8 hp4 hb]) ?_))))))
        iterate 9 refine br_f (by decide) ?_
        refine br_t rfl ?_
        exact hz_xm286n cu hp
      · refine hz_yP0 (by decide) (by decide) (by decide) hp4 t1 cu ?_
        unfold wY_may_117
        refine hz_yaff hp4 hb ?_
        refine hz_yroleOf1 hp4 hb t1 hr ?_
        rw [s1]
        iterate 9 refine br_f (by decide) ?_
        refine br_t rfl ?_
        exact br_t rfl hp
    · obtain ⟨s3, s4⟩ := t4 k hk
      by_cases c1 : rxA (8 * p + b) = 2
      · by_cases c2 : 0 ≤ rxA (8 * p + k)
        · by_cases c3 : afA (8 * p + b) ≤ afA (8 * p + k)
          · refine ⟨0, Or.inl rfl, fun post hp => ?_, fun post hp => ?_⟩
            · unfold wpX_may
              refine br_t (by decide) ?_
              unfold wX_may_22
              refine br_f (by decide) (And.intro vp (br_t hkd (And.intro (hz_v8 hp4 hb) (nm_r (e' := rxA (8 * p + b)) (by rw [hz_x8 hp4 hb]) (And.intro (hz_v8 hp4 hb) (nm_r (e' := afA (8 * p + b)) (by rw [hz_x8 hp4 hb]) ?_))))))
              iterate 9 refine br_f (by decide) ?_
              refine br_t rfl ?_
              refine hz_xm286 hk ?_
              refine hz_xmT hp4 hb hk (fun z0 hz0 => ?_)
              unfold wX_mayTo_60
              iterate 4 refine br_f (by decide) ?_
              refine br_t rfl ?_
              rcases hz0 with ⟨_, hz0⟩ | ⟨rfl, _⟩
              · exact absurd c2 (Int32.not_le.mpr hz0)
              exact br_t c1 (br_f hz_1n0 (br_t c3 (br_t rfl hp)))
            · refine hz_yP1 (by decide) (by decide) (by decide) hp4 t1 hk ?_
              unfold wY_may_117
              refine hz_yaff hp4 hb ?_
              refine hz_yroleOf1 hp4 hb t1 hr ?_
              rw [s1]
              iterate 9 refine br_f (by decide) ?_
              refine br_t rfl ?_
              refine br_f hz_1n0 ?_
              refine br_t c1 ?_
              refine hz_ypres1 hp4 hk t1 (by rw [s3]; exact c2) ?_
              refine br_f hz_1n0 ?_
              refine hz_yaff hp4 hk ?_
              exact br_t c3 hp
          · refine ⟨1, Or.inr ⟨rfl, t1, k, hk, rfl⟩, fun post hp => ?_, fun post hp => ?_⟩
            · unfold wpX_may
              refine br_t (by decide) ?_
              unfold wX_may_22
              refine br_f (by decide) (And.intro vp (br_t hkd (And.intro (hz_v8 hp4 hb) (nm_r (e' := rxA (8 * p + b)) (by rw [hz_x8 hp4 hb]) (And.intro (hz_v8 hp4 hb) (nm_r (e' := afA (8 * p + b)) (by rw [hz_x8 hp4 hb]) ?_))))))
              iterate 9 refine br_f (by decide) ?_
              refine br_t rfl ?_
              refine hz_xm286 hk ?_
              refine hz_xmT hp4 hb hk (fun z0 hz0 => ?_)
              unfold wX_mayTo_60
              iterate 4 refine br_f (by decide) ?_
              refine br_t rfl ?_
              rcases hz0 with ⟨_, hz0⟩ | ⟨rfl, _⟩
              · exact absurd c2 (Int32.not_le.mpr hz0)
              exact br_t c1 (br_f hz_1n0 (br_f c3 (br_f hz_1n0 hp)))
            · refine hz_yP1 (by decide) (by decide) (by decide) hp4 t1 hk ?_
              unfold wY_may_117
              refine hz_yaff hp4 hb ?_
              refine hz_yroleOf1 hp4 hb t1 hr ?_
              rw [s1]
              iterate 9 refine br_f (by decide) ?_
              refine br_t rfl ?_
              refine br_f hz_1n0 ?_
              refine br_t c1 ?_
              refine hz_ypres1 hp4 hk t1 (by rw [s3]; exact c2) ?_
              refine br_f hz_1n0 ?_
              refine hz_yaff hp4 hk ?_
              exact br_f c3 hp
        · refine ⟨0, Or.inl rfl, fun post hp => ?_, fun post hp => ?_⟩
          · unfold wpX_may
            refine br_t (by decide) ?_
            unfold wX_may_22
            refine br_f (by decide) (And.intro vp (br_t hkd (And.intro (hz_v8 hp4 hb) (nm_r (e' := rxA (8 * p + b)) (by rw [hz_x8 hp4 hb]) (And.intro (hz_v8 hp4 hb) (nm_r (e' := afA (8 * p + b)) (by rw [hz_x8 hp4 hb]) ?_))))))
            iterate 9 refine br_f (by decide) ?_
            refine br_t rfl ?_
            refine hz_xm286 hk ?_
            refine hz_xmT hp4 hb hk (fun z0 hz0 => ?_)
            unfold wX_mayTo_60
            iterate 4 refine br_f (by decide) ?_
            refine br_t rfl ?_
            rcases hz0 with ⟨rfl, _⟩ | ⟨_, hz0⟩
            · exact br_t c1 (br_t rfl (br_t rfl hp))
            · exact absurd hz0 c2
          · refine hz_yP1 (by decide) (by decide) (by decide) hp4 t1 hk ?_
            unfold wY_may_117
            refine hz_yaff hp4 hb ?_
            refine hz_yroleOf1 hp4 hb t1 hr ?_
            rw [s1]
            iterate 9 refine br_f (by decide) ?_
            refine br_t rfl ?_
            refine br_f hz_1n0 ?_
            refine br_t c1 ?_
            refine hz_ypres0 hp4 hk (Or.inr ⟨t1, by rw [s3]; exact Int32.not_le.mp c2⟩) ?_
            exact br_t rfl hp
      · refine ⟨0, Or.inl rfl, fun post hp => ?_, fun post hp => ?_⟩
        · unfold wpX_may
          refine br_t (by decide) ?_
          unfold wX_may_22
          refine br_f (by decide) (And.intro vp (br_t hkd (And.intro (hz_v8 hp4 hb) (nm_r (e' := rxA (8 * p + b)) (by rw [hz_x8 hp4 hb]) (And.intro (hz_v8 hp4 hb) (nm_r (e' := afA (8 * p + b)) (by rw [hz_x8 hp4 hb]) ?_))))))
          iterate 9 refine br_f (by decide) ?_
          refine br_t rfl ?_
          refine hz_xm286 hk ?_
          refine hz_xmT hp4 hb hk (fun z0 hz0 => ?_)
          unfold wX_mayTo_60
          iterate 4 refine br_f (by decide) ?_
          refine br_t rfl ?_
          exact br_f c1 (br_t rfl hp)
        · refine hz_yP1 (by decide) (by decide) (by decide) hp4 t1 hk ?_
          unfold wY_may_117
          refine hz_yaff hp4 hb ?_
          refine hz_yroleOf1 hp4 hb t1 hr ?_
          rw [s1]
          iterate 9 refine br_f (by decide) ?_
          refine br_t rfl ?_
          refine br_f hz_1n0 ?_
          exact br_f c1 hp
theorem hz_may_9 (I : hz_Inv m e kdA sjA afA rxA mdA scA soA plA mkA txA goA erA laA fsA lsA bxA hdA heA owA szA sxA itA icA thA kyA ryA opA syA oyA ioA buA) {b p : Nat} (hb : b < 8) (hp4 : p < 4) (us x : Int32) : ∃ r : Int32, (r = 0 ∨ (r = 1 ∧ thA p = 1 ∧ ∃ k, k < 8 ∧ us = nI k)) ∧ (∀ post : Int32 → Prop, post r → wpX_may post ((nI m), (nI e), kdA, sjA, afA, rxA, mdA, scA, soA, plA, mkA, txA, goA, erA, laA, fsA, lsA, bxA, hdA, heA, owA, szA, sxA, itA, icA) 9 (nI b) (nI p) us x) ∧ (∀ post : Int32 → Prop, post r → wpY_may post ((nI m), (nI e), thA, kyA, sjA, scA, afA, ryA, opA, syA, oyA, szA, ioA, soA, plA, mkA, goA, txA, buA, heA) 9 (nI b) (nI p) us x) := by
  have vp : vp_in (nI p) 4 := vp_in_nI hp4 (by decide)
  have cp : (nI p).toNatClampNeg = p := hz_cl (by omega)
  rcases hz_Ir I p hp4 with ⟨t1, t2, t3⟩ | ⟨t1, ⟨q, q1, q2, q3⟩, t3, t4⟩
  · exact ⟨0, Or.inl rfl, fun post hp => hz_xmN (by decide) (by decide) hp4 t2 hp, fun post hp => hz_ymN (by decide) (by decide) (by decide) hp4 t1 hp⟩
  · obtain ⟨s1, s2⟩ := t4 b hb
    have hr : ryA (8 * p + b) = -1 ∨ 0 ≤ ryA (8 * p + b) := by rw [s1]; exact s2.imp id And.left
    have hkd : 0 ≤ kdA (nI p).toNatClampNeg := by rw [cp, q2]; exact nI_pos' (by omega)
    have hkx : kdA (nI p).toNatClampNeg = nI q := by rw [cp, q2]
    rcases hz_rng us 8 with cu | ⟨k, hk, rfl⟩
    · refine ⟨0, Or.inl rfl, fun post hp => ?_, fun post hp => ?_⟩
      · unfold wpX_may
        refine br_t (by decide) ?_
        unfold wX_may_22
        refine br_f (by decide) (And.intro vp (br_t hkd (And.intro (hz_v8 hp4 hb) (nm_r (e' := rxA (8 * p + b)) (by rw [hz_x8 hp4 hb]) (And.intro (hz_v8 hp4 hb) (nm_r (e' := afA (8 * p + b)) (by rw [hz_x8 hp4 hb]) ?_))))))
        iterate 10 refine br_f (by decide) ?_
        refine br_t rfl ?_
        exact hz_xm286n cu hp
      · refine hz_yP0 (by decide) (by decide) (by decide) hp4 t1 cu ?_
        unfold wY_may_117
        refine hz_yaff hp4 hb ?_
        refine hz_yroleOf1 hp4 hb t1 hr ?_
        rw [s1]
        iterate 10 refine br_f (by decide) ?_
        refine br_t rfl ?_
        exact br_t rfl hp
    · obtain ⟨s3, s4⟩ := t4 k hk
      by_cases c1 : rxA (8 * p + b) < 0
      · refine ⟨0, Or.inl rfl, fun post hp => ?_, fun post hp => ?_⟩
        · unfold wpX_may
          refine br_t (by decide) ?_
          unfold wX_may_22
          refine br_f (by decide) (And.intro vp (br_t hkd (And.intro (hz_v8 hp4 hb) (nm_r (e' := rxA (8 * p + b)) (by rw [hz_x8 hp4 hb]) (And.intro (hz_v8 hp4 hb) (nm_r (e' := afA (8 * p + b)) (by rw [hz_x8 hp4 hb]) ?_))))))
          iterate 10 refine br_f (by decide) ?_
          refine br_t rfl ?_
          refine hz_xm286 hk ?_
          refine hz_xmT hp4 hb hk (fun z0 hz0 => ?_)
          unfold wX_mayTo_60
          iterate 1 refine br_f (by decide) ?_
          refine br_t (by decide) ?_
          exact br_t c1 (br_t rfl hp)
        · refine hz_yP1 (by decide) (by decide) (by decide) hp4 t1 hk ?_
          unfold wY_may_117
          refine hz_yaff hp4 hb ?_
          refine hz_yroleOf1 hp4 hb t1 hr ?_
          rw [s1]
          iterate 10 refine br_f (by decide) ?_
          refine br_t rfl ?_
          refine br_f hz_1n0 ?_
          exact br_t c1 hp
      · by_cases c2 : 0 ≤ rxA (8 * p + k)
        · by_cases c3 : nI b = nI k
          · refine ⟨0, Or.inl rfl, fun post hp => ?_, fun post hp => ?_⟩
            · unfold wpX_may
              refine br_t (by decide) ?_
              unfold wX_may_22
              refine br_f (by decide) (And.intro vp (br_t hkd (And.intro (hz_v8 hp4 hb) (nm_r (e' := rxA (8 * p + b)) (by rw [hz_x8 hp4 hb]) (And.intro (hz_v8 hp4 hb) (nm_r (e' := afA (8 * p + b)) (by rw [hz_x8 hp4 hb]) ?_))))))
              iterate 10 refine br_f (by decide) ?_
              refine br_t rfl ?_
              refine hz_xm286 hk ?_
              refine hz_xmT hp4 hb hk (fun z0 hz0 => ?_)
              unfold wX_mayTo_60
              iterate 1 refine br_f (by decide) ?_
              refine br_t (by decide) ?_
              rcases hz0 with ⟨_, hz0⟩ | ⟨rfl, _⟩
              · exact absurd c2 (Int32.not_le.mpr hz0)
              exact br_f c1 (br_f hz_1n0 (br_t c3 (br_t rfl hp)))
            · refine hz_yP1 (by decide) (by decide) (by decide) hp4 t1 hk ?_
              unfold wY_may_117
              refine hz_yaff hp4 hb ?_
              refine hz_yroleOf1 hp4 hb t1 hr ?_
              rw [s1]
              iterate 10 refine br_f (by decide) ?_
              refine br_t rfl ?_
              refine br_f hz_1n0 ?_
              refine br_f c1 ?_
              refine hz_ypres1 hp4 hk t1 (by rw [s3]; exact c2) ?_
              exact br_f hz_1n0 (br_t c3 hp)
          · refine ⟨1, Or.inr ⟨rfl, t1, k, hk, rfl⟩, fun post hp => ?_, fun post hp => ?_⟩
            · unfold wpX_may
              refine br_t (by decide) ?_
              unfold wX_may_22
              refine br_f (by decide) (And.intro vp (br_t hkd (And.intro (hz_v8 hp4 hb) (nm_r (e' := rxA (8 * p + b)) (by rw [hz_x8 hp4 hb]) (And.intro (hz_v8 hp4 hb) (nm_r (e' := afA (8 * p + b)) (by rw [hz_x8 hp4 hb]) ?_))))))
              iterate 10 refine br_f (by decide) ?_
              refine br_t rfl ?_
              refine hz_xm286 hk ?_
              refine hz_xmT hp4 hb hk (fun z0 hz0 => ?_)
              unfold wX_mayTo_60
              iterate 1 refine br_f (by decide) ?_
              refine br_t (by decide) ?_
              rcases hz0 with ⟨_, hz0⟩ | ⟨rfl, _⟩
              · exact absurd c2 (Int32.not_le.mpr hz0)
              exact br_f c1 (br_f hz_1n0 (br_f c3 (br_f hz_1n0 hp)))
            · refine hz_yP1 (by decide) (by decide) (by decide) hp4 t1 hk ?_
              unfold wY_may_117
              refine hz_yaff hp4 hb ?_
              refine hz_yroleOf1 hp4 hb t1 hr ?_
              rw [s1]
              iterate 10 refine br_f (by decide) ?_
              refine br_t rfl ?_
              refine br_f hz_1n0 ?_
              refine br_f c1 ?_
              refine hz_ypres1 hp4 hk t1 (by rw [s3]; exact c2) ?_
              exact br_f hz_1n0 (br_f c3 hp)
        · refine ⟨0, Or.inl rfl, fun post hp => ?_, fun post hp => ?_⟩
          · unfold wpX_may
            refine br_t (by decide) ?_
            unfold wX_may_22
            refine br_f (by decide) (And.intro vp (br_t hkd (And.intro (hz_v8 hp4 hb) (nm_r (e' := rxA (8 * p + b)) (by rw [hz_x8 hp4 hb]) (And.intro (hz_v8 hp4 hb) (nm_r (e' := afA (8 * p + b)) (by rw [hz_x8 hp4 hb]) ?_))))))
            iterate 10 refine br_f (by decide) ?_
            refine br_t rfl ?_
            refine hz_xm286 hk ?_
            refine hz_xmT hp4 hb hk (fun z0 hz0 => ?_)
            unfold wX_mayTo_60
            iterate 1 refine br_f (by decide) ?_
            refine br_t (by decide) ?_
            rcases hz0 with ⟨rfl, _⟩ | ⟨_, hz0⟩
            · exact br_f c1 (br_t rfl (br_t rfl hp))
            · exact absurd hz0 c2
          · refine hz_yP1 (by decide) (by decide) (by decide) hp4 t1 hk ?_
            unfold wY_may_117
            refine hz_yaff hp4 hb ?_
            refine hz_yroleOf1 hp4 hb t1 hr ?_
            rw [s1]
            iterate 10 refine br_f (by decide) ?_
            refine br_t rfl ?_
            refine br_f hz_1n0 ?_
            refine br_f c1 ?_
            refine hz_ypres0 hp4 hk (Or.inr ⟨t1, by rw [s3]; exact Int32.not_le.mp c2⟩) ?_
            exact br_t rfl hp
theorem hz_may_0 (I : hz_Inv m e kdA sjA afA rxA mdA scA soA plA mkA txA goA erA laA fsA lsA bxA hdA heA owA szA sxA itA icA thA kyA ryA opA syA oyA ioA buA) {b p : Nat} (hb : b < 8) (hp4 : p < 4) (us x : Int32) : ∃ r : Int32, (r = 0 ∨ (r = 1 ∧ thA p = 0 ∧ kdA p = -1 ∧ ∃ j, j < 16 ∧ x = nI j)) ∧ (∀ post : Int32 → Prop, post r → wpX_may post ((nI m), (nI e), kdA, sjA, afA, rxA, mdA, scA, soA, plA, mkA, txA, goA, erA, laA, fsA, lsA, bxA, hdA, heA, owA, szA, sxA, itA, icA) 0 (nI b) (nI p) us x) ∧ (∀ post : Int32 → Prop, post r → wpY_may post ((nI m), (nI e), thA, kyA, sjA, scA, afA, ryA, opA, syA, oyA, szA, ioA, soA, plA, mkA, goA, txA, buA, heA) 0 (nI b) (nI p) us x) := by
  have vp : vp_in (nI p) 4 := vp_in_nI hp4 (by decide)
  have cp : (nI p).toNatClampNeg = p := hz_cl (by omega)
  have Y17 : ∀ post : Int32 → Prop, (vp_in (nI p) 4 ∧ (((thA (nI p).toNatClampNeg) = 0 → (wpY_in (fun r => (((r = 0 → (post 0)) ∧ (¬ r = 0 → (post 1))))) x 16)) ∧ (¬ (thA (nI p).toNatClampNeg) = 0 → (post 0)))) → wpY_may post ((nI m), (nI e), thA, kyA, sjA, scA, afA, ryA, opA, syA, oyA, szA, ioA, soA, plA, mkA, goA, txA, buA, heA) 0 (nI b) (nI p) us x := by
    intro post K
    refine hz_y17 (by decide) ?_
    unfold wY_may_17
    rcases hz_rng us 8 with c | ⟨k, hk2, rfl⟩
    · refine hz_inY0 8 rfl (by decide) c ?_
      exact br_t rfl K
    · refine hz_inY1 k 8 rfl rfl hk2 (by decide) ?_
      exact br_t rfl K
  rcases hz_Ir I p hp4 with ⟨t1, t2, t3⟩ | ⟨t1, ⟨q, q1, q2, q3⟩, t3, t4⟩
  · rcases hz_rng x 16 with cx | ⟨j, hj, rfl⟩
    · refine ⟨0, Or.inl rfl, fun post hp => ?_, fun post hp => ?_⟩
      · unfold wpX_may
        refine br_t (by decide) ?_
        unfold wX_may_22
        refine br_t rfl (And.intro vp (br_f (by rw [cp, t2]; exact hz_n1') ?_))
        refine hz_inX0 16 rfl (by decide) cx ?_
        exact br_t rfl hp
      · refine Y17 post (And.intro vp (br_t (by rw [cp]; exact t1) ?_))
        refine hz_inY0 16 rfl (by decide) cx ?_
        exact br_t rfl hp
    · refine ⟨1, Or.inr ⟨rfl, t1, t2, j, hj, rfl⟩, fun post hp => ?_, fun post hp => ?_⟩
      · unfold wpX_may
        refine br_t (by decide) ?_
        unfold wX_may_22
        refine br_t rfl (And.intro vp (br_f (by rw [cp, t2]; exact hz_n1') ?_))
        refine hz_inX1 j 16 rfl rfl hj (by decide) ?_
        exact br_f hz_1n0 hp
      · refine Y17 post (And.intro vp (br_t (by rw [cp]; exact t1) ?_))
        refine hz_inY1 j 16 rfl rfl hj (by decide) ?_
        exact br_f hz_1n0 hp
  · refine ⟨0, Or.inl rfl, fun post hp => ?_, fun post hp => ?_⟩
    · unfold wpX_may
      refine br_t (by decide) ?_
      unfold wX_may_22
      exact br_t rfl (And.intro vp (br_t (by rw [cp, q2]; exact nI_pos' (by omega)) hp))
    · refine Y17 post (And.intro vp (br_f (by rw [cp, t1]; exact hz_1n0) hp))
end HZ12
end
section
section HZ13
variable {m e : Nat} {kdA sjA afA rxA mdA scA soA plA mkA txA goA erA laA fsA lsA bxA hdA heA owA szA sxA itA icA thA kyA ryA opA syA oyA ioA buA : Nat → Int32}
/-! where an item stands -/
theorem hz_xia_l {t j0 : Nat} (ht : t < 4) (T : hz_It itA icA ioA m t) (h0 : j0 < m) (hm : m ≤ 250) (hf : ioA j0 = nI t) :
    ∀ d i, i + d = hz_cn (hz_fi ioA t) j0 → ∀ n, d < n → ∀ post : Int32 → Prop, post (nI (hz_cn (hz_fi ioA t) j0)) → wX_itemAt_2 post (nI t) (nI j0) (nI m) (nI e) kdA sjA afA rxA mdA scA soA plA mkA txA goA erA laA fsA lsA bxA hdA heA owA szA sxA itA icA n (nI i) := by
  obtain ⟨i1, i2, i3⟩ := T
  have ct : (nI t).toNatClampNeg = t := hz_cl (by omega)
  have vt : vp_in (nI t) 4 := vp_in_nI ht (by decide)
  have lt := hz_cn_lt h0 (hz_fi_t.mpr hf)
  intro d
  induction d with
  | zero =>
    intro i hi n hn post hp
    obtain rfl : i = hz_cn (hz_fi ioA t) j0 := by omega
    obtain ⟨n, rfl⟩ := hz_pos_n hn
    refine And.intro vt (br_f ?_ (And.intro (hz_v5 ht (by omega)) (br_t ?_ hp)))
    · rw [ct, i1]; exact nI_ge (by omega) (by omega)
    · rw [hz_x5 ht (by omega)]; exact i3 j0 h0 hf
  | succ d ih =>
    intro i hi n hn post hp
    obtain ⟨n, rfl⟩ := hz_pos_n hn
    obtain ⟨j, j1, j2, j3⟩ := hz_cn_ex (f := hz_fi ioA t) (k := i) m (by omega)
    have ne : j ≠ j0 := by intro z; subst z; omega
    refine And.intro vt (br_f ?_ (And.intro (hz_v5 ht (by omega)) (br_f ?_ (nm_r (nI_1 i) (ih (i + 1) (by omega) n (by omega) post hp)))))
    · rw [ct, i1]; exact nI_ge (by omega) (by omega)
    · rw [hz_x5 ht (by omega), ← j3, i3 j j1 (hz_fi_t.mp j2), nI_eq (by omega) (by omega)]
      exact ne
theorem hz_xia1 {t j0 : Nat} (ht : t < 4) (T : hz_It itA icA ioA m t) (h0 : j0 < m) (hm : m ≤ 250) (hf : ioA j0 = nI t) {post : Int32 → Prop} (hp : post (nI (hz_cn (hz_fi ioA t) j0))) : wpX_itemAt post ((nI m), (nI e), kdA, sjA, afA, rxA, mdA, scA, soA, plA, mkA, txA, goA, erA, laA, fsA, lsA, bxA, hdA, heA, owA, szA, sxA, itA, icA) (nI t) (nI j0) :=
  ⟨hz_cn (hz_fi ioA t) j0 + 1, hz_xia_l ht T h0 hm hf _ 0 (Nat.zero_add _) _ (by omega) post hp⟩
theorem hz_xia_n {t : Nat} {x : Int32} (ht : t < 4) (T : hz_It itA icA ioA m t) (hm : m ≤ 250) (hx : ∀ j, j < m → ioA j = nI t → x ≠ nI j) :
    ∀ d i, i + d = hz_cn (hz_fi ioA t) m → ∀ n, d < n → ∀ post : Int32 → Prop, post (-1) → wX_itemAt_2 post (nI t) x (nI m) (nI e) kdA sjA afA rxA mdA scA soA plA mkA txA goA erA laA fsA lsA bxA hdA heA owA szA sxA itA icA n (nI i) := by
  obtain ⟨i1, i2, i3⟩ := T
  have ct : (nI t).toNatClampNeg = t := hz_cl (by omega)
  have vt : vp_in (nI t) 4 := vp_in_nI ht (by decide)
  intro d
  induction d with
  | zero =>
    intro i hi n hn post hp
    obtain ⟨n, rfl⟩ := hz_pos_n hn
    refine And.intro vt (br_t ?_ hp)
    rw [ct, i1]; exact nI_le (by omega) (by omega)
  | succ d ih =>
    intro i hi n hn post hp
    obtain ⟨n, rfl⟩ := hz_pos_n hn
    obtain ⟨j, j1, j2, j3⟩ := hz_cn_ex (f := hz_fi ioA t) (k := i) m (by omega)
    refine And.intro vt (br_f ?_ (And.intro (hz_v5 ht (by omega)) (br_f ?_ (nm_r (nI_1 i) (ih (i + 1) (by omega) n (by omega) post hp)))))
    · rw [ct, i1]; exact nI_ge (by omega) (by omega)
    · rw [hz_x5 ht (by omega), ← j3, i3 j j1 (hz_fi_t.mp j2)]
      exact fun z => hx j j1 (hz_fi_t.mp j2) z.symm
theorem hz_xia0 {t : Nat} {x : Int32} (ht : t < 4) (T : hz_It itA icA ioA m t) (hm : m ≤ 250) (hx : ∀ j, j < m → ioA j = nI t → x ≠ nI j) {post : Int32 → Prop} (hp : post (-1)) : wpX_itemAt post ((nI m), (nI e), kdA, sjA, afA, rxA, mdA, scA, soA, plA, mkA, txA, goA, erA, laA, fsA, lsA, bxA, hdA, heA, owA, szA, sxA, itA, icA) (nI t) x :=
  ⟨hz_cn (hz_fi ioA t) m + 1, hz_xia_n ht T hm hx _ 0 (Nat.zero_add _) _ (by omega) post hp⟩
/-! the reference's way to a topic -/
theorem hz_yrAny {post : Int32 → Prop} {p u : Nat} (I : hz_Inv m e kdA sjA afA rxA mdA scA soA plA mkA txA goA erA laA fsA lsA bxA hdA heA owA szA sxA itA icA thA kyA ryA opA syA oyA ioA buA) (hp4 : p < 4) (hu : u < 8) (hp : ∀ r, post r) : wpY_roleOf post ((nI m), (nI e), thA, kyA, sjA, scA, afA, ryA, opA, syA, oyA, szA, ioA, soA, plA, mkA, goA, txA, buA, heA) (nI u) (nI p) := by
  rcases hz_Ir I p hp4 with ⟨t1, t2, t3⟩ | ⟨t1, t2, t3, t4⟩
  · exact hz_yroleOf0 hp4 t1 (hp _)
  · obtain ⟨s1, s2⟩ := t4 u hu
    exact hz_yroleOf1 hp4 hu t1 (by rw [s1]; exact s2.imp id And.left) (hp _)
theorem hz_yt17 {post : Int32 → Prop} {x1 us x : Int32} {p b : Nat} (h9 : ¬ x1 < 10) (h16 : ¬ x1 = 16) (K : wY_may_17 post x1 (nI b) (nI p) us x 0 (nI m) (nI e) thA kyA sjA scA afA ryA opA syA oyA szA ioA soA plA mkA goA txA buA heA) : wpY_may post ((nI m), (nI e), thA, kyA, sjA, scA, afA, ryA, opA, syA, oyA, szA, ioA, soA, plA, mkA, goA, txA, buA, heA) x1 (nI b) (nI p) us x := by
  unfold wpY_may
  exact br_f h9 (br_f h16 K)
theorem hz_ytN {post : Int32 → Prop} {p b : Nat} {x1 us x : Int32} (h9 : ¬ x1 < 10) (h16 : ¬ x1 = 16) (h0 : ¬ x1 = 0) (h10 : ¬ x1 = 10) (hp4 : p < 4) (hk : opA p = 0) (hp : post 0) : wpY_may post ((nI m), (nI e), thA, kyA, sjA, scA, afA, ryA, opA, syA, oyA, szA, ioA, soA, plA, mkA, goA, txA, buA, heA) x1 (nI b) (nI p) us x := by
  refine hz_yt17 h9 h16 ?_
  unfold wY_may_17
  rcases hz_rng us 8 with c | ⟨k, hk2, rfl⟩
  · refine hz_inY0 8 rfl (by decide) c ?_
    refine br_f h0 (br_f h10 (br_t rfl (And.intro (vp_in_nI hp4 (by decide)) (br_t ?_ hp))))
    rw [hz_cl (by omega)]; exact hk
  · refine hz_inY1 k 8 rfl rfl hk2 (by decide) ?_
    refine br_f h0 (br_f h10 (br_t rfl (And.intro (vp_in_nI hp4 (by decide)) (br_t ?_ hp))))
    rw [hz_cl (by omega)]; exact hk
theorem hz_ytP {post : Int32 → Prop} {p b : Nat} {x1 us x : Int32} (h9 : ¬ x1 < 10) (h16 : ¬ x1 = 16) (h0 : ¬ x1 = 0) (h10 : ¬ x1 = 10) (hp4 : p < 4) (hk : opA p = 1) (K : ∀ r2, wY_may_117 post x1 (nI b) (nI p) us x r2 (nI m) (nI e) thA kyA sjA scA afA ryA opA syA oyA szA ioA soA plA mkA goA txA buA heA) : wpY_may post ((nI m), (nI e), thA, kyA, sjA, scA, afA, ryA, opA, syA, oyA, szA, ioA, soA, plA, mkA, goA, txA, buA, heA) x1 (nI b) (nI p) us x := by
  refine hz_yt17 h9 h16 ?_
  unfold wY_may_17
  rcases hz_rng us 8 with c | ⟨k, hk2, rfl⟩
  · refine hz_inY0 8 rfl (by decide) c ?_
    refine br_f h0 (br_f h10 (br_t rfl (And.intro (vp_in_nI hp4 (by decide)) (br_f ?_ (K 0)))))
    rw [hz_cl (by omega), hk]; exact hz_1n0
  · refine hz_inY1 k 8 rfl rfl hk2 (by decide) ?_
    refine br_f h0 (br_f h10 (br_t rfl (And.intro (vp_in_nI hp4 (by decide)) (br_f ?_ (K 1)))))
    rw [hz_cl (by omega), hk]; exact hz_1n0
/-! the component's way -/
theorem hz_xt {post : Int32 → Prop} {p b : Nat} {x1 us x : Int32} (h9 : ¬ x1 ≤ 9) (h16 : ¬ 16 ≤ x1) (K : wpX_mayOnTopic (fun r => (narrow .boolean (.int r) = .int r ∧ (post r))) ((nI m), (nI e), kdA, sjA, afA, rxA, mdA, scA, soA, plA, mkA, txA, goA, erA, laA, fsA, lsA, bxA, hdA, heA, owA, szA, sxA, itA, icA) x1 (nI b) (nI p) x) : wpX_may post ((nI m), (nI e), kdA, sjA, afA, rxA, mdA, scA, soA, plA, mkA, txA, goA, erA, laA, fsA, lsA, bxA, hdA, heA, owA, szA, sxA, itA, icA) x1 (nI b) (nI p) us x := by
  unfold wpX_may
  exact br_f h9 (br_f h16 K)
theorem hz_xtN {post : Int32 → Prop} {p b : Nat} {x1 us x : Int32} (h9 : ¬ x1 ≤ 9) (h16 : ¬ 16 ≤ x1) (h10 : ¬ x1 = 10) (hp4 : p < 4) (ho : owA p = -1) (hp : post 0) : wpX_may post ((nI m), (nI e), kdA, sjA, afA, rxA, mdA, scA, soA, plA, mkA, txA, goA, erA, laA, fsA, lsA, bxA, hdA, heA, owA, szA, sxA, itA, icA) x1 (nI b) (nI p) us x := by
  refine hz_xt h9 h16 ?_
  unfold wpX_mayOnTopic
  refine br_f h10 (And.intro (vp_in_nI hp4 (by decide)) (br_f ?_ (And.intro rfl hp)))
  rw [hz_cl (by omega), ho]; exact hz_n1'
theorem hz_xtP {post : Int32 → Prop} {p b c : Nat} {x1 us x : Int32} (h9 : ¬ x1 ≤ 9) (h16 : ¬ 16 ≤ x1) (h10 : ¬ x1 = 10) (hp4 : p < 4) (hc : c < 8) (ho : owA p = nI c)
    (K : ∀ z0 : Int32, (z0 = 1 ∧ hz_b (sxA p) b) ∨ (z0 = 0 ∧ ¬ hz_b (sxA p) b) → wX_mayOnTopic_62 (fun r => (narrow .boolean (.int r) = .int r ∧ (post r))) x1 (nI b) (nI p) x z0 (nI m) (nI e) kdA sjA afA rxA mdA scA soA plA mkA txA goA erA laA fsA lsA bxA hdA heA owA szA sxA itA icA) : wpX_may post ((nI m), (nI e), kdA, sjA, afA, rxA, mdA, scA, soA, plA, mkA, txA, goA, erA, laA, fsA, lsA, bxA, hdA, heA, owA, szA, sxA, itA, icA) x1 (nI b) (nI p) us x := by
  have vp : vp_in (nI p) 4 := vp_in_nI hp4 (by decide)
  refine hz_xt h9 h16 ?_
  unfold wpX_mayOnTopic
  refine br_f h10 (And.intro vp (br_t ?_ (And.intro vp ?_)))
  · rw [hz_cl (by omega), ho]; exact nI_pos' (by omega)
  · rw [hz_cl (by omega)]
    exact br_c (fun z => K 1 (Or.inl ⟨rfl, z⟩)) (fun z => K 0 (Or.inr ⟨rfl, z⟩))
theorem hz_may_11 (I : hz_Inv m e kdA sjA afA rxA mdA scA soA plA mkA txA goA erA laA fsA lsA bxA hdA heA owA szA sxA itA icA thA kyA ryA opA syA oyA ioA buA) {b p : Nat} (hb : b < 8) (hp4 : p < 4) (us x : Int32) : ∃ r : Int32, (r = 0 ∨ (r = 1 ∧ opA p = 1)) ∧ (∀ post : Int32 → Prop, post r → wpX_may post ((nI m), (nI e), kdA, sjA, afA, rxA, mdA, scA, soA, plA, mkA, txA, goA, erA, laA, fsA, lsA, bxA, hdA, heA, owA, szA, sxA, itA, icA) 11 (nI b) (nI p) us x) ∧ (∀ post : Int32 → Prop, post r → wpY_may post ((nI m), (nI e), thA, kyA, sjA, scA, afA, ryA, opA, syA, oyA, szA, ioA, soA, plA, mkA, goA, txA, buA, heA) 11 (nI b) (nI p) us x) := by
  obtain ⟨he1, he2⟩ := hz_Ie I
  have vp : vp_in (nI p) 4 := vp_in_nI hp4 (by decide)
  have cp : (nI p).toNatClampNeg = p := hz_cl (by omega)
  obtain ⟨s0, so⟩ := hz_It' I p hp4
  have s1 := s0 b hb
  rcases so with ⟨o1, o2⟩ | ⟨o1, ⟨c, b1, b2, b3⟩, ⟨z, z1, z2, z3, z4⟩, T⟩
  · exact ⟨0, Or.inl rfl, fun post hp => hz_xtN (by decide) (by decide) (by decide) hp4 o2 hp, fun post hp => hz_ytN (by decide) (by decide) (by decide) (by decide) hp4 o1 hp⟩
  · have ox : owA (nI p).toNatClampNeg = nI c := by rw [cp, b2]
    have oy : oyA (nI p).toNatClampNeg = nI c := by rw [cp, b3]
    rcases s1 with ⟨w1, w2⟩ | ⟨w1, w2⟩
    · refine ⟨0, Or.inl rfl, fun post hp => ?_, fun post hp => ?_⟩
      · refine hz_xtP (by decide) (by decide) (by decide) hp4 b1 b2 (fun z0 hz0 => ?_)
        unfold wX_mayOnTopic_62
        iterate 2 refine br_f (by decide) ?_
        refine br_t rfl ?_
        rcases hz0 with ⟨rfl, _⟩ | ⟨_, hz0⟩
        rotate_left
        · exact absurd w2 hz0
        exact br_f hz_1n0 (And.intro rfl hp)
      · refine hz_ytP (by decide) (by decide) (by decide) (by decide) hp4 o1 (fun r2 => ?_)
        unfold wY_may_117
        refine hz_yaff hp4 hb ?_
        refine hz_yrAny I hp4 hb (fun r => ?_)
        iterate 12 refine br_f (by decide) ?_
        refine br_t rfl ?_
        exact And.intro (hz_v8 hp4 hb) (br_f (by rw [hz_x8 hp4 hb, w1]; exact hz_1n0) hp)
    · refine ⟨1, Or.inr ⟨rfl, o1⟩, fun post hp => ?_, fun post hp => ?_⟩
      · refine hz_xtP (by decide) (by decide) (by decide) hp4 b1 b2 (fun z0 hz0 => ?_)
        unfold wX_mayOnTopic_62
        iterate 2 refine br_f (by decide) ?_
        refine br_t rfl ?_
        rcases hz0 with ⟨_, hz0⟩ | ⟨rfl, _⟩
        · exact absurd hz0 w2
        exact br_t rfl (And.intro rfl hp)
      · refine hz_ytP (by decide) (by decide) (by decide) (by decide) hp4 o1 (fun r2 => ?_)
        unfold wY_may_117
        refine hz_yaff hp4 hb ?_
        refine hz_yrAny I hp4 hb (fun r => ?_)
        iterate 12 refine br_f (by decide) ?_
        refine br_t rfl ?_
        exact And.intro (hz_v8 hp4 hb) (br_t (by rw [hz_x8 hp4 hb]; exact w1) hp)
theorem hz_may_12 (I : hz_Inv m e kdA sjA afA rxA mdA scA soA plA mkA txA goA erA laA fsA lsA bxA hdA heA owA szA sxA itA icA thA kyA ryA opA syA oyA ioA buA) {b p : Nat} (hb : b < 8) (hp4 : p < 4) (us x : Int32) : ∃ r : Int32, (r = 0 ∨ (r = 1 ∧ opA p = 1)) ∧ (∀ post : Int32 → Prop, post r → wpX_may post ((nI m), (nI e), kdA, sjA, afA, rxA, mdA, scA, soA, plA, mkA, txA, goA, erA, laA, fsA, lsA, bxA, hdA, heA, owA, szA, sxA, itA, icA) 12 (nI b) (nI p) us x) ∧ (∀ post : Int32 → Prop, post r → wpY_may post ((nI m), (nI e), thA, kyA, sjA, scA, afA, ryA, opA, syA, oyA, szA, ioA, soA, plA, mkA, goA, txA, buA, heA) 12 (nI b) (nI p) us x) := by
  obtain ⟨he1, he2⟩ := hz_Ie I
  have vp : vp_in (nI p) 4 := vp_in_nI hp4 (by decide)
  have cp : (nI p).toNatClampNeg = p := hz_cl (by omega)
  obtain ⟨s0, so⟩ := hz_It' I p hp4
  have s1 := s0 b hb
  rcases so with ⟨o1, o2⟩ | ⟨o1, ⟨c, b1, b2, b3⟩, ⟨z, z1, z2, z3, z4⟩, T⟩
  · exact ⟨0, Or.inl rfl, fun post hp => hz_xtN (by decide) (by decide) (by decide) hp4 o2 hp, fun post hp => hz_ytN (by decide) (by decide) (by decide) (by decide) hp4 o1 hp⟩
  · have ox : owA (nI p).toNatClampNeg = nI c := by rw [cp, b2]
    have oy : oyA (nI p).toNatClampNeg = nI c := by rw [cp, b3]
    rcases s1 with ⟨w1, w2⟩ | ⟨w1, w2⟩
    · refine ⟨1, Or.inr ⟨rfl, o1⟩, fun post hp => ?_, fun post hp => ?_⟩
      · refine hz_xtP (by decide) (by decide) (by decide) hp4 b1 b2 (fun z0 hz0 => ?_)
        unfold wX_mayOnTopic_62
        iterate 3 refine br_f (by decide) ?_
        refine br_t rfl ?_
        rcases hz0 with ⟨rfl, _⟩ | ⟨_, hz0⟩
        rotate_left
        · exact absurd w2 hz0
        exact And.intro rfl (And.intro rfl hp)
      · refine hz_ytP (by decide) (by decide) (by decide) (by decide) hp4 o1 (fun r2 => ?_)
        unfold wY_may_117
        refine hz_yaff hp4 hb ?_
        refine hz_yrAny I hp4 hb (fun r => ?_)
        iterate 13 refine br_f (by decide) ?_
        refine br_t rfl ?_
        refine And.intro (hz_v8 hp4 hb) ?_
        rw [hz_x8 hp4 hb, w1]
        exact And.intro rfl hp
    · refine ⟨0, Or.inl rfl, fun post hp => ?_, fun post hp => ?_⟩
      · refine hz_xtP (by decide) (by decide) (by decide) hp4 b1 b2 (fun z0 hz0 => ?_)
        unfold wX_mayOnTopic_62
        iterate 3 refine br_f (by decide) ?_
        refine br_t rfl ?_
        rcases hz0 with ⟨_, hz0⟩ | ⟨rfl, _⟩
        · exact absurd hz0 w2
        exact And.intro rfl (And.intro rfl hp)
      · refine hz_ytP (by decide) (by decide) (by decide) (by decide) hp4 o1 (fun r2 => ?_)
        unfold wY_may_117
        refine hz_yaff hp4 hb ?_
        refine hz_yrAny I hp4 hb (fun r => ?_)
        iterate 13 refine br_f (by decide) ?_
        refine br_t rfl ?_
        refine And.intro (hz_v8 hp4 hb) ?_
        rw [hz_x8 hp4 hb, w1]
        exact And.intro rfl hp
theorem hz_may_13 (I : hz_Inv m e kdA sjA afA rxA mdA scA soA plA mkA txA goA erA laA fsA lsA bxA hdA heA owA szA sxA itA icA thA kyA ryA opA syA oyA ioA buA) {b p : Nat} (hb : b < 8) (hp4 : p < 4) (us x : Int32) : ∃ r : Int32, (r = 0 ∨ (r = 1 ∧ opA p = 1)) ∧ (∀ post : Int32 → Prop, post r → wpX_may post ((nI m), (nI e), kdA, sjA, afA, rxA, mdA, scA, soA, plA, mkA, txA, goA, erA, laA, fsA, lsA, bxA, hdA, heA, owA, szA, sxA, itA, icA) 13 (nI b) (nI p) us x) ∧ (∀ post : Int32 → Prop, post r → wpY_may post ((nI m), (nI e), thA, kyA, sjA, scA, afA, ryA, opA, syA, oyA, szA, ioA, soA, plA, mkA, goA, txA, buA, heA) 13 (nI b) (nI p) us x) := by
  obtain ⟨he1, he2⟩ := hz_Ie I
  have vp : vp_in (nI p) 4 := vp_in_nI hp4 (by decide)
  have cp : (nI p).toNatClampNeg = p := hz_cl (by omega)
  obtain ⟨s0, so⟩ := hz_It' I p hp4
  have s1 := s0 b hb
  rcases so with ⟨o1, o2⟩ | ⟨o1, ⟨c, b1, b2, b3⟩, ⟨z, z1, z2, z3, z4⟩, T⟩
  · exact ⟨0, Or.inl rfl, fun post hp => hz_xtN (by decide) (by decide) (by decide) hp4 o2 hp, fun post hp => hz_ytN (by decide) (by decide) (by decide) (by decide) hp4 o1 hp⟩
  · have ox : owA (nI p).toNatClampNeg = nI c := by rw [cp, b2]
    have oy : oyA (nI p).toNatClampNeg = nI c := by rw [cp, b3]
    by_cases c1 : nI c = nI b
    · rcases s1 with ⟨w1, w2⟩ | ⟨w1, w2⟩
      · refine ⟨1, Or.inr ⟨rfl, o1⟩, fun post hp => ?_, fun post hp => ?_⟩
        · refine hz_xtP (by decide) (by decide) (by decide) hp4 b1 b2 (fun z0 hz0 => ?_)
          unfold wX_mayOnTopic_62
          iterate 4 refine br_f (by decide) ?_
          refine br_t rfl ?_
          rcases hz0 with ⟨rfl, _⟩ | ⟨_, hz0⟩
          rotate_left
          · exact absurd w2 hz0
          exact br_f hz_1n0 (And.intro rfl hp)
        · refine hz_ytP (by decide) (by decide) (by decide) (by decide) hp4 o1 (fun r2 => ?_)
          unfold wY_may_117
          refine hz_yaff hp4 hb ?_
          refine hz_yrAny I hp4 hb (fun r => ?_)
          iterate 14 refine br_f (by decide) ?_
          refine br_t rfl ?_
          exact And.intro vp (br_t (by rw [oy]; exact c1) hp)
      · refine ⟨1, Or.inr ⟨rfl, o1⟩, fun post hp => ?_, fun post hp => ?_⟩
        · refine hz_xtP (by decide) (by decide) (by decide) hp4 b1 b2 (fun z0 hz0 => ?_)
          unfold wX_mayOnTopic_62
          iterate 4 refine br_f (by decide) ?_
          refine br_t rfl ?_
          rcases hz0 with ⟨_, hz0⟩ | ⟨rfl, _⟩
          · exact absurd hz0 w2
          exact br_t rfl (And.intro vp (br_t (by rw [ox]; exact c1) (And.intro rfl hp)))
        · refine hz_ytP (by decide) (by decide) (by decide) (by decide) hp4 o1 (fun r2 => ?_)
          unfold wY_may_117
          refine hz_yaff hp4 hb ?_
          refine hz_yrAny I hp4 hb (fun r => ?_)
          iterate 14 refine br_f (by decide) ?_
          refine br_t rfl ?_
          exact And.intro vp (br_t (by rw [oy]; exact c1) hp)
    · rcases s1 with ⟨w1, w2⟩ | ⟨w1, w2⟩
      · refine ⟨1, Or.inr ⟨rfl, o1⟩, fun post hp => ?_, fun post hp => ?_⟩
        · refine hz_xtP (by decide) (by decide) (by decide) hp4 b1 b2 (fun z0 hz0 => ?_)
          unfold wX_mayOnTopic_62
          iterate 4 refine br_f (by decide) ?_
          refine br_t rfl ?_
          rcases hz0 with ⟨rfl, _⟩ | ⟨_, hz0⟩
          rotate_left
          · exact absurd w2 hz0
          exact br_f hz_1n0 (And.intro rfl hp)
        · refine hz_ytP (by decide) (by decide) (by decide) (by decide) hp4 o1 (fun r2 => ?_)
          unfold wY_may_117
          refine hz_yaff hp4 hb ?_
          refine hz_yrAny I hp4 hb (fun r => ?_)
          iterate 14 refine br_f (by decide) ?_
          refine br_t rfl ?_
          exact And.intro vp (br_f (by rw [oy]; exact c1) (And.intro (hz_v8 hp4 hb) (br_f (by rw [hz_x8 hp4 hb, w1]; exact hz_1n0) hp)))
      · refine ⟨0, Or.inl rfl, fun post hp => ?_, fun post hp => ?_⟩
        · refine hz_xtP (by decide) (by decide) (by decide) hp4 b1 b2 (fun z0 hz0 => ?_)
          unfold wX_mayOnTopic_62
          iterate 4 refine br_f (by decide) ?_
          refine br_t rfl ?_
          rcases hz0 with ⟨_, hz0⟩ | ⟨rfl, _⟩
          · exact absurd hz0 w2
          exact br_t rfl (And.intro vp (br_f (by rw [ox]; exact c1) (And.intro rfl hp)))
        · refine hz_ytP (by decide) (by decide) (by decide) (by decide) hp4 o1 (fun r2 => ?_)
          unfold wY_may_117
          refine hz_yaff hp4 hb ?_
          refine hz_yrAny I hp4 hb (fun r => ?_)
          iterate 14 refine br_f (by decide) ?_
          refine br_t rfl ?_
          exact And.intro vp (br_f (by rw [oy]; exact c1) (And.intro (hz_v8 hp4 hb) (br_t (by rw [hz_x8 hp4 hb]; exact w1) hp)))
theorem hz_may_15 (I : hz_Inv m e kdA sjA afA rxA mdA scA soA plA mkA txA goA erA laA fsA lsA bxA hdA heA owA szA sxA itA icA thA kyA ryA opA syA oyA ioA buA) {b p : Nat} (hb : b < 8) (hp4 : p < 4) (us x : Int32) : ∃ r : Int32, (r = 0 ∨ (r = 1 ∧ opA p = 1)) ∧ (∀ post : Int32 → Prop, post r → wpX_may post ((nI m), (nI e), kdA, sjA, afA, rxA, mdA, scA, soA, plA, mkA, txA, goA, erA, laA, fsA, lsA, bxA, hdA, heA, owA, szA, sxA, itA, icA) 15 (nI b) (nI p) us x) ∧ (∀ post : Int32 → Prop, post r → wpY_may post ((nI m), (nI e), thA, kyA, sjA, scA, afA, ryA, opA, syA, oyA, szA, ioA, soA, plA, mkA, goA, txA, buA, heA) 15 (nI b) (nI p) us x) := by
  obtain ⟨he1, he2⟩ := hz_Ie I
  have vp : vp_in (nI p) 4 := vp_in_nI hp4 (by decide)
  have cp : (nI p).toNatClampNeg = p := hz_cl (by omega)
  obtain ⟨s0, so⟩ := hz_It' I p hp4
  have s1 := s0 b hb
  rcases so with ⟨o1, o2⟩ | ⟨o1, ⟨c, b1, b2, b3⟩, ⟨z, z1, z2, z3, z4⟩, T⟩
  · exact ⟨0, Or.inl rfl, fun post hp => hz_xtN (by decide) (by decide) (by decide) hp4 o2 hp, fun post hp => hz_ytN (by decide) (by decide) (by decide) (by decide) hp4 o1 hp⟩
  · have ox : owA (nI p).toNatClampNeg = nI c := by rw [cp, b2]
    have oy : oyA (nI p).toNatClampNeg = nI c := by rw [cp, b3]
    by_cases c1 : nI c = nI b
    · refine ⟨1, Or.inr ⟨rfl, o1⟩, fun post hp => ?_, fun post hp => ?_⟩
      · refine hz_xtP (by decide) (by decide) (by decide) hp4 b1 b2 (fun z0 hz0 => ?_)
        unfold wX_mayOnTopic_62
        refine br_f (by decide) (br_t (by decide) ?_)
        exact And.intro vp (br_t (by rw [ox]; exact c1) (And.intro rfl hp))
      · refine hz_ytP (by decide) (by decide) (by decide) (by decide) hp4 o1 (fun r2 => ?_)
        unfold wY_may_117
        refine hz_yaff hp4 hb ?_
        refine hz_yrAny I hp4 hb (fun r => ?_)
        iterate 16 refine br_f (by decide) ?_
        refine br_t rfl ?_
        exact And.intro vp (br_t (by rw [oy]; exact c1) hp)
    · refine ⟨0, Or.inl rfl, fun post hp => ?_, fun post hp => ?_⟩
      · refine hz_xtP (by decide) (by decide) (by decide) hp4 b1 b2 (fun z0 hz0 => ?_)
        unfold wX_mayOnTopic_62
        refine br_f (by decide) (br_t (by decide) ?_)
        exact And.intro vp (br_f (by rw [ox]; exact c1) (And.intro rfl hp))
      · refine hz_ytP (by decide) (by decide) (by decide) (by decide) hp4 o1 (fun r2 => ?_)
        unfold wY_may_117
        refine hz_yaff hp4 hb ?_
        refine hz_yrAny I hp4 hb (fun r => ?_)
        iterate 16 refine br_f (by decide) ?_
        refine br_t rfl ?_
        exact And.intro vp (br_f (by rw [oy]; exact c1) hp)
theorem hz_may_14 (I : hz_Inv m e kdA sjA afA rxA mdA scA soA plA mkA txA goA erA laA fsA lsA bxA hdA heA owA szA sxA itA icA thA kyA ryA opA syA oyA ioA buA) {b p : Nat} (hb : b < 8) (hp4 : p < 4) (us x : Int32) : ∃ r : Int32, (r = 0 ∨ (r = 1 ∧ opA p = 1 ∧ ∃ j, j < m ∧ x = nI j ∧ ioA j = nI p)) ∧ (∀ post : Int32 → Prop, post r → wpX_may post ((nI m), (nI e), kdA, sjA, afA, rxA, mdA, scA, soA, plA, mkA, txA, goA, erA, laA, fsA, lsA, bxA, hdA, heA, owA, szA, sxA, itA, icA) 14 (nI b) (nI p) us x) ∧ (∀ post : Int32 → Prop, post r → wpY_may post ((nI m), (nI e), thA, kyA, sjA, scA, afA, ryA, opA, syA, oyA, szA, ioA, soA, plA, mkA, goA, txA, buA, heA) 14 (nI b) (nI p) us x) := by
  obtain ⟨he1, he2⟩ := hz_Ie I
  have vp : vp_in (nI p) 4 := vp_in_nI hp4 (by decide)
  have cp : (nI p).toNatClampNeg = p := hz_cl (by omega)
  obtain ⟨s0, so⟩ := hz_It' I p hp4
  have s1 := s0 b hb
  rcases so with ⟨o1, o2⟩ | ⟨o1, ⟨c, b1, b2, b3⟩, ⟨z, z1, z2, z3, z4⟩, T⟩
  · exact ⟨0, Or.inl rfl, fun post hp => hz_xtN (by decide) (by decide) (by decide) hp4 o2 hp, fun post hp => hz_ytN (by decide) (by decide) (by decide) (by decide) hp4 o1 hp⟩
  · have ox : owA (nI p).toNatClampNeg = nI c := by rw [cp, b2]
    have oy : oyA (nI p).toNatClampNeg = nI c := by rw [cp, b3]
    by_cases hx : ∀ j, j < m → ioA j = nI p → x ≠ nI j
    · refine ⟨0, Or.inl rfl, fun post hp => ?_, fun post hp => ?_⟩
      · refine hz_xtP (by decide) (by decide) (by decide) hp4 b1 b2 (fun z0 hz0 => ?_)
        unfold wX_mayOnTopic_62
        iterate 5 refine br_f (by decide) ?_
        refine br_t rfl ?_
        refine hz_xia0 hp4 T (by omega) hx ?_
        exact br_t hz_n1 (And.intro rfl hp)
      · refine hz_ytP (by decide) (by decide) (by decide) (by decide) hp4 o1 (fun r2 => ?_)
        unfold wY_may_117
        refine hz_yaff hp4 hb ?_
        refine hz_yrAny I hp4 hb (fun r => ?_)
        iterate 15 refine br_f (by decide) ?_
        refine br_t rfl ?_
        rcases hz_rng x m with cx | ⟨j, hj, rfl⟩
        · refine hz_inY0 m rfl (by omega) cx ?_
          exact br_t rfl hp
        · refine hz_inY1 j m rfl rfl hj (by omega) ?_
          refine br_f hz_1n0 (And.intro (vp_in_nI (by omega) (by decide)) (br_f ?_ hp))
          rw [hz_cl (by omega)]
          exact fun z => hx j hj z rfl
    · have hx2 : ∃ j, j < m ∧ ioA j = nI p ∧ x = nI j := by
        refine Classical.byContradiction (fun hn => hx (fun j h1 h2 h3 => hn ⟨j, h1, h2, h3⟩))
      obtain ⟨j, hj, hjt, rfl⟩ := hx2
      have cj : (nI j).toNatClampNeg = j := hz_cl (by omega)
      have vj : vp_in (nI j) 250 := vp_in_nI (by omega) (by decide)
      have lc := hz_cn_le (hz_fi ioA p) j
      by_cases c1 : mkA j = nI b
      · refine ⟨1, Or.inr ⟨rfl, o1, j, hj, rfl, hjt⟩, fun post hp => ?_, fun post hp => ?_⟩
        · refine hz_xtP (by decide) (by decide) (by decide) hp4 b1 b2 (fun z0 hz0 => ?_)
          unfold wX_mayOnTopic_62
          iterate 5 refine br_f (by decide) ?_
          refine br_t rfl ?_
          refine hz_xia1 hp4 T hj (by omega) hjt ?_
          refine br_f (nI_pos (by omega)) (And.intro vj ?_)
          exact br_t (by rw [cj]; exact c1) (And.intro rfl hp)
        · refine hz_ytP (by decide) (by decide) (by decide) (by decide) hp4 o1 (fun r2 => ?_)
          unfold wY_may_117
          refine hz_yaff hp4 hb ?_
          refine hz_yrAny I hp4 hb (fun r => ?_)
          iterate 15 refine br_f (by decide) ?_
          refine br_t rfl ?_
          refine hz_inY1 j m rfl rfl hj (by omega) ?_
          refine br_f hz_1n0 (And.intro vj (br_t (by rw [cj]; exact hjt) (And.intro vj ?_)))
          exact br_t (by rw [cj]; exact c1) hp
      · by_cases c2 : nI c = nI b
        · refine ⟨1, Or.inr ⟨rfl, o1, j, hj, rfl, hjt⟩, fun post hp => ?_, fun post hp => ?_⟩
          · refine hz_xtP (by decide) (by decide) (by decide) hp4 b1 b2 (fun z0 hz0 => ?_)
            unfold wX_mayOnTopic_62
            iterate 5 refine br_f (by decide) ?_
            refine br_t rfl ?_
            refine hz_xia1 hp4 T hj (by omega) hjt ?_
            refine br_f (nI_pos (by omega)) (And.intro vj ?_)
            exact br_f (by rw [cj]; exact c1) (And.intro vp (br_t (by rw [ox]; exact c2) (And.intro rfl hp)))
          · refine hz_ytP (by decide) (by decide) (by decide) (by decide) hp4 o1 (fun r2 => ?_)
            unfold wY_may_117
            refine hz_yaff hp4 hb ?_
            refine hz_yrAny I hp4 hb (fun r => ?_)
            iterate 15 refine br_f (by decide) ?_
            refine br_t rfl ?_
            refine hz_inY1 j m rfl rfl hj (by omega) ?_
            refine br_f hz_1n0 (And.intro vj (br_t (by rw [cj]; exact hjt) (And.intro vj ?_)))
            exact br_f (by rw [cj]; exact c1) (And.intro vp (br_t (by rw [oy]; exact c2) hp))
        · refine ⟨0, Or.inl rfl, fun post hp => ?_, fun post hp => ?_⟩
          · refine hz_xtP (by decide) (by decide) (by decide) hp4 b1 b2 (fun z0 hz0 => ?_)
            unfold wX_mayOnTopic_62
            iterate 5 refine br_f (by decide) ?_
            refine br_t rfl ?_
            refine hz_xia1 hp4 T hj (by omega) hjt ?_
            refine br_f (nI_pos (by omega)) (And.intro vj ?_)
            exact br_f (by rw [cj]; exact c1) (And.intro vp (br_f (by rw [ox]; exact c2) (And.intro rfl hp)))
          · refine hz_ytP (by decide) (by decide) (by decide) (by decide) hp4 o1 (fun r2 => ?_)
            unfold wY_may_117
            refine hz_yaff hp4 hb ?_
            refine hz_yrAny I hp4 hb (fun r => ?_)
            iterate 15 refine br_f (by decide) ?_
            refine br_t rfl ?_
            refine hz_inY1 j m rfl rfl hj (by omega) ?_
            refine br_f hz_1n0 (And.intro vj (br_t (by rw [cj]; exact hjt) (And.intro vj ?_)))
            exact br_f (by rw [cj]; exact c1) (And.intro vp (br_f (by rw [oy]; exact c2) hp))
theorem hz_may_10 (I : hz_Inv m e kdA sjA afA rxA mdA scA soA plA mkA txA goA erA laA fsA lsA bxA hdA heA owA szA sxA itA icA thA kyA ryA opA syA oyA ioA buA) {b p : Nat} (hb : b < 8) (hp4 : p < 4) (us x : Int32) : ∃ r : Int32, (r = 0 ∨ (r = 1 ∧ opA p = 0 ∧ ∃ z, 1 ≤ z ∧ z ≤ 4 ∧ x = nI z)) ∧ (∀ post : Int32 → Prop, post r → wpX_may post ((nI m), (nI e), kdA, sjA, afA, rxA, mdA, scA, soA, plA, mkA, txA, goA, erA, laA, fsA, lsA, bxA, hdA, heA, owA, szA, sxA, itA, icA) 10 (nI b) (nI p) us x) ∧ (∀ post : Int32 → Prop, post r → wpY_may post ((nI m), (nI e), thA, kyA, sjA, scA, afA, ryA, opA, syA, oyA, szA, ioA, soA, plA, mkA, goA, txA, buA, heA) 10 (nI b) (nI p) us x) := by
  have vp : vp_in (nI p) 4 := vp_in_nI hp4 (by decide)
  have cp : (nI p).toNatClampNeg = p := hz_cl (by omega)
  have Y17 : ∀ post : Int32 → Prop, (vp_in (nI p) 4 ∧ (((opA (nI p).toNatClampNeg) = 0 → (wpY_in (fun r => (((r = 0 → (post 0)) ∧ (¬ r = 0 → (post 1))))) (x - 1) 4)) ∧ (¬ (opA (nI p).toNatClampNeg) = 0 → (post 0)))) → wpY_may post ((nI m), (nI e), thA, kyA, sjA, scA, afA, ryA, opA, syA, oyA, szA, ioA, soA, plA, mkA, goA, txA, buA, heA) 10 (nI b) (nI p) us x := by
    intro post K
    refine hz_yt17 (by decide) (by decide) ?_
    unfold wY_may_17
    rcases hz_rng us 8 with c | ⟨k, hk2, rfl⟩
    · refine hz_inY0 8 rfl (by decide) c ?_
      exact br_f (by decide) (br_t rfl K)
    · refine hz_inY1 k 8 rfl rfl hk2 (by decide) ?_
      exact br_f (by decide) (br_t rfl K)
  rcases (hz_It' I p hp4).2 with ⟨o1, o2⟩ | ⟨o1, ⟨c, b1, b2, b3⟩, _⟩
  · have ox : ¬ 0 ≤ owA (nI p).toNatClampNeg := by rw [cp, o2]; exact hz_n1'
    by_cases hx : ∃ z, 1 ≤ z ∧ z ≤ 4 ∧ x = nI z
    · obtain ⟨z, z1, z2, rfl⟩ := hx
      refine ⟨1, Or.inr ⟨rfl, o1, z, z1, z2, rfl⟩, fun post hp => ?_, fun post hp => ?_⟩
      · refine hz_xt (by decide) (by decide) ?_
        unfold wpX_mayOnTopic
        exact br_t rfl (And.intro vp (br_f ox (br_f (nI_nle (by omega) (by omega)) (br_f (nI_ge (b := 5) (by omega) (by decide)) (And.intro rfl hp)))))
      · refine Y17 post (And.intro vp (br_t (by rw [cp]; exact o1) ?_))
        refine hz_inY1 (z - 1) 4 ?_ rfl (by omega) (by decide) ?_
        · exact pk_sub (b := 1) z1
        · exact br_f hz_1n0 hp
    · refine ⟨0, Or.inl rfl, fun post hp => ?_, fun post hp => ?_⟩
      · refine hz_xt (by decide) (by decide) ?_
        unfold wpX_mayOnTopic
        refine br_t rfl (And.intro vp (br_f ox ?_))
        by_cases c1 : x ≤ 0
        · exact br_t c1 (And.intro rfl hp)
        · refine br_f c1 (br_t ?_ (And.intro rfl hp))
          obtain ⟨z, z1, rfl⟩ := nI_of (x := x) (fun y => c1 (Int32.le_of_lt y))
          by_cases c2 : z < 5
          · refine absurd ⟨z, ?_, by omega, rfl⟩ hx
            by_cases c3 : z = 0
            · subst c3; exact absurd (by decide) c1
            · omega
          · exact nI_le (a := 5) (by omega) z1
      · refine Y17 post (And.intro vp (br_t (by rw [cp]; exact o1) ?_))
        refine hz_inY0 4 rfl (by decide) (fun j hj y => hx ⟨j + 1, by omega, by omega, ?_⟩) ?_
        · rw [← nI_1, ← y, Int32.sub_add_cancel]
        · exact br_t rfl hp
  · refine ⟨0, Or.inl rfl, fun post hp => ?_, fun post hp => ?_⟩
    · refine hz_xt (by decide) (by decide) ?_
      unfold wpX_mayOnTopic
      exact br_t rfl (And.intro vp (br_t (by rw [cp, b2]; exact nI_pos' (by omega)) (And.intro rfl hp)))
    · exact Y17 post (And.intro vp (br_f (by rw [cp, o1]; exact hz_1n0) hp))
end HZ13
end
section
section HZ14
variable {m e : Nat} {kdA sjA afA rxA mdA scA soA plA mkA txA goA erA laA fsA lsA bxA hdA heA owA szA sxA itA icA thA kyA ryA opA syA oyA ioA buA : Nat → Int32}
/-- one room is set anew; the others stay -/
theorem hz_Rm_set {kd2 th2 ky2 rx2 ry2 af2 sc2 md2 : Nat → Int32} {p : Nat} (R : ∀ q, q < 4 → hz_Rm kdA thA kyA rxA ryA afA scA mdA soA plA m q) (Rp : hz_Rm kd2 th2 ky2 rx2 ry2 af2 sc2 md2 soA plA m p)
    (h : ∀ q, q < 4 → q ≠ p → kd2 q = kdA q ∧ th2 q = thA q ∧ ky2 q = kyA q ∧ sc2 q = scA q ∧ md2 q = mdA q ∧ ∀ u, u < 8 → rx2 (8 * q + u) = rxA (8 * q + u) ∧ ry2 (8 * q + u) = ryA (8 * q + u) ∧ af2 (8 * q + u) = afA (8 * q + u)) :
    ∀ q, q < 4 → hz_Rm kd2 th2 ky2 rx2 ry2 af2 sc2 md2 soA plA m q := by
  intro q hq
  by_cases c : q = p
  · subst c; exact Rp
  · obtain ⟨h1, h2, h3, h4, h5, h6⟩ := h q hq c
    rcases R q hq with ⟨t1, t2, t3⟩ | ⟨t1, t2, t3, t4⟩
    · refine Or.inl ⟨by rw [h2]; exact t1, by rw [h1]; exact t2, fun u hu => ?_⟩
      rw [(h6 u hu).1]; exact t3 u hu
    · refine Or.inr ⟨by rw [h2]; exact t1, by rw [h1, h3]; exact t2, by rw [h4, h5]; exact t3, fun u hu => ?_⟩
      obtain ⟨g1, g2, g3⟩ := h6 u hu
      rw [g1, g2, g3]
      exact t4 u hu
theorem hz_Rm_there {p : Nat} (R : hz_Rm kdA thA kyA rxA ryA afA scA mdA soA plA m p) (t : thA p = 1) : (∃ q, q < 16 ∧ kdA p = nI q ∧ kyA p = nI q) ∧
    (∃ s, s ≤ m ∧ scA p = nI s ∧ mdA p = nI (hz_cn (hz_made soA plA p) m - hz_cn (hz_made soA plA p) s)) ∧
    ∀ u, u < 8 → ryA (8 * p + u) = rxA (8 * p + u) ∧ (rxA (8 * p + u) = -1 ∨ (0 ≤ rxA (8 * p + u) ∧ ¬ afA (8 * p + u) = 0)) := by
  rcases R with ⟨t1, t2, t3⟩ | ⟨t1, t2, t3, t4⟩
  · rw [t1] at t; exact absurd t.symm hz_1n0
  · exact ⟨t2, t3, t4⟩
/-- a role of one user in a room that is there -/
theorem hz_Rm_role {p k : Nat} {v : Int32} (R : ∀ q, q < 4 → hz_Rm kdA thA kyA rxA ryA afA scA mdA soA plA m q) (hp4 : p < 4) (hk : k < 8) (t1 : thA p = 1) (hv : v = -1 ∨ (0 ≤ v ∧ ¬ afA (8 * p + k) = 0)) :
    ∀ q, q < 4 → hz_Rm kdA thA kyA (upd rxA (8 * p + k) v) (upd ryA (8 * p + k) v) afA scA mdA soA plA m q := by
  refine hz_Rm_set R (p := p) ?_ (fun q hq c => ⟨rfl, rfl, rfl, rfl, rfl, fun u hu => ⟨pk_un (by omega), pk_un (by omega), rfl⟩⟩)
  obtain ⟨t2, t3, t4⟩ := hz_Rm_there (R p hp4) t1
  refine Or.inr ⟨t1, t2, t3, fun u hu => ?_⟩
  by_cases c : u = k
  · subst c
    rw [pk_us, pk_us]
    exact ⟨rfl, hv⟩
  · rw [pk_un (by omega), pk_un (by omega)]
    exact t4 u hu
/-! leaving, a role given, a kick -/
theorem hz_act_2 (I : hz_Inv m e kdA sjA afA rxA mdA scA soA plA mkA txA goA erA laA fsA lsA bxA hdA heA owA szA sxA itA icA thA kyA ryA opA syA oyA ioA buA) {b p : Nat} (hb : b < 8) (hp4 : p < 4) (us x : Int32) (he : e < 250) (t1 : thA p = 1) :
    ∃ u' v', i_Rel 0 u' v' ∧ (∀ post : SX → Prop, post u' → wpX_inRoom post ((nI m), (nI (e + 1)), kdA, sjA, afA, rxA, mdA, scA, soA, plA, mkA, txA, goA, erA, laA, fsA, lsA, bxA, hdA, heA, owA, szA, sxA, itA, icA) 2 (nI b) (nI p) us x) ∧ (∀ post : SY → Prop, post v' → wpY_inRoom post ((nI m), (nI (e + 1)), thA, kyA, sjA, scA, afA, ryA, opA, syA, oyA, szA, ioA, soA, plA, mkA, goA, txA, buA, heA) 2 (nI b) (nI p) us x) := by
  obtain ⟨i1, i2, i3, i4, i5, i6⟩ := I
  refine ⟨((nI m), (nI (e + 1)), kdA, sjA, afA, (upd rxA (8 * p + b) (-1)), mdA, scA, soA, plA, mkA, txA, goA, erA, laA, fsA, lsA, bxA, hdA, heA, owA, szA, sxA, itA, icA), ((nI m), (nI (e + 1)), thA, kyA, sjA, scA, afA, (upd ryA (8 * p + b) (-1)), opA, syA, oyA, szA, ioA, soA, plA, mkA, goA, txA, buA, heA), ?_, fun post hp => ?_, fun post hp => ?_⟩
  · exact hz_in (e := e + 1) ⟨by omega, by omega, hz_Rm_role i3 hp4 hb t1 (Or.inl rfl), i4, i5, i6⟩
  · unfold wpX_inRoom
    iterate 4 refine br_f (by decide) ?_
    refine br_t rfl (And.intro (hz_v8 hp4 hb) (nm_r (e' := upd rxA (8 * p + b) (-1)) ?_ hp))
    rw [hz_x8 hp4 hb, hz_nbm]
  · unfold wpY_inRoom
    iterate 4 refine br_f (by decide) ?_
    refine br_t rfl (And.intro (hz_v8 hp4 hb) (nm_r (e' := upd ryA (8 * p + b) (-1)) ?_ hp))
    rw [hz_x8 hp4 hb]
theorem hz_act_7 (I : hz_Inv m e kdA sjA afA rxA mdA scA soA plA mkA txA goA erA laA fsA lsA bxA hdA heA owA szA sxA itA icA thA kyA ryA opA syA oyA ioA buA) {b p k j : Nat} (hb : b < 8) (hp4 : p < 4) (he : e < 250) (t1 : thA p = 1) (hk : k < 8) (hj : j < 3) (hr : 0 ≤ rxA (8 * p + k)) :
    ∃ u' v', i_Rel 0 u' v' ∧ (∀ post : SX → Prop, post u' → wpX_inRoom post ((nI m), (nI (e + 1)), kdA, sjA, afA, rxA, mdA, scA, soA, plA, mkA, txA, goA, erA, laA, fsA, lsA, bxA, hdA, heA, owA, szA, sxA, itA, icA) 7 (nI b) (nI p) (nI k) (nI j)) ∧ (∀ post : SY → Prop, post v' → wpY_inRoom post ((nI m), (nI (e + 1)), thA, kyA, sjA, scA, afA, ryA, opA, syA, oyA, szA, ioA, soA, plA, mkA, goA, txA, buA, heA) 7 (nI b) (nI p) (nI k) (nI j)) := by
  obtain ⟨i1, i2, i3, i4, i5, i6⟩ := I
  refine ⟨((nI m), (nI (e + 1)), kdA, sjA, afA, (upd rxA (8 * p + k) (nI j)), mdA, scA, soA, plA, mkA, txA, goA, erA, laA, fsA, lsA, bxA, hdA, heA, owA, szA, sxA, itA, icA), ((nI m), (nI (e + 1)), thA, kyA, sjA, scA, afA, (upd ryA (8 * p + k) (nI j)), opA, syA, oyA, szA, ioA, soA, plA, mkA, goA, txA, buA, heA), ?_, fun post hp => ?_, fun post hp => ?_⟩
  · refine hz_in (e := e + 1) ⟨by omega, by omega, hz_Rm_role i3 hp4 hk t1 (Or.inr ⟨nI_pos' (by omega), ?_⟩), i4, i5, i6⟩
    rcases ((hz_Rm_there (i3 p hp4) t1).2.2 k hk).2 with z | z
    · rw [z] at hr; exact absurd hr hz_n1'
    · exact z.2
  · unfold wpX_inRoom
    iterate 9 refine br_f (by decide) ?_
    refine br_t rfl (And.intro (hz_v8 hp4 hk) (nm_r (e' := upd rxA (8 * p + k) (nI j)) ?_ hp))
    rw [hz_x8 hp4 hk, hz_nb (by omega)]
  · unfold wpY_inRoom
    iterate 9 refine br_f (by decide) ?_
    refine br_t rfl (And.intro (hz_v8 hp4 hk) (nm_r (e' := upd ryA (8 * p + k) (nI j)) ?_ hp))
    rw [hz_x8 hp4 hk]
theorem hz_act_8 (I : hz_Inv m e kdA sjA afA rxA mdA scA soA plA mkA txA goA erA laA fsA lsA bxA hdA heA owA szA sxA itA icA thA kyA ryA opA syA oyA ioA buA) {b p k : Nat} (hb : b < 8) (hp4 : p < 4) (x : Int32) (he : e < 250) (t1 : thA p = 1) (hk : k < 8) :
    ∃ u' v', i_Rel 0 u' v' ∧ (∀ post : SX → Prop, post u' → wpX_inRoom post ((nI m), (nI (e + 1)), kdA, sjA, afA, rxA, mdA, scA, soA, plA, mkA, txA, goA, erA, laA, fsA, lsA, bxA, hdA, heA, owA, szA, sxA, itA, icA) 8 (nI b) (nI p) (nI k) x) ∧ (∀ post : SY → Prop, post v' → wpY_inRoom post ((nI m), (nI (e + 1)), thA, kyA, sjA, scA, afA, ryA, opA, syA, oyA, szA, ioA, soA, plA, mkA, goA, txA, buA, heA) 8 (nI b) (nI p) (nI k) x) := by
  obtain ⟨i1, i2, i3, i4, i5, i6⟩ := I
  refine ⟨((nI m), (nI (e + 1)), kdA, sjA, afA, (upd rxA (8 * p + k) (-1)), mdA, scA, soA, plA, mkA, txA, goA, erA, laA, fsA, lsA, bxA, hdA, heA, owA, szA, sxA, itA, icA), ((nI m), (nI (e + 1)), thA, kyA, sjA, scA, afA, (upd ryA (8 * p + k) (-1)), opA, syA, oyA, szA, ioA, soA, plA, mkA, goA, txA, buA, heA), ?_, fun post hp => ?_, fun post hp => ?_⟩
  · exact hz_in (e := e + 1) ⟨by omega, by omega, hz_Rm_role i3 hp4 hk t1 (Or.inl rfl), i4, i5, i6⟩
  · unfold wpX_inRoom
    iterate 10 refine br_f (by decide) ?_
    refine br_t rfl (And.intro (hz_v8 hp4 hk) (nm_r (e' := upd rxA (8 * p + k) (-1)) ?_ hp))
    rw [hz_x8 hp4 hk, hz_nbm]
  · unfold wpY_inRoom
    iterate 10 refine br_f (by decide) ?_
    refine br_t rfl (And.intro (hz_v8 hp4 hk) (nm_r (e' := upd ryA (8 * p + k) (-1)) ?_ hp))
    rw [hz_x8 hp4 hk]
/-! the end of a room -/
theorem hz_x258 {post : SX → Prop} {p : Nat} (hp4 : p < 4) (K : post ((nI m), (nI e), kdA, sjA, afA, (hz_fl rxA (8 * p) 8 (fun _ => -1)), mdA, scA, soA, plA, mkA, txA, goA, erA, laA, fsA, lsA, bxA, hdA, heA, owA, szA, sxA, itA, icA)) :
    ∀ d i, i + d = 8 → ∀ n, d < n → wX_inRoom_258 post (nI p) (nI m) (nI e) n (nI i) kdA sjA afA (hz_fl rxA (8 * p) i (fun _ => -1)) mdA scA soA plA mkA txA goA erA laA fsA lsA bxA hdA heA owA szA sxA itA icA := by
  intro d
  induction d with
  | zero =>
    intro i hi n hn
    obtain rfl : i = 8 := by omega
    obtain ⟨n, rfl⟩ := hz_pos_n hn
    exact br_t (nI_le (a := 8) (Nat.le_refl _) (by omega)) K
  | succ d ih =>
    intro i hi n hn
    obtain ⟨n, rfl⟩ := hz_pos_n hn
    have i8 : i < 8 := by omega
    refine br_f (nI_ge (b := 8) i8 (by decide)) (And.intro (hz_v8 hp4 i8) (nm_r (e' := hz_fl rxA (8 * p) (i + 1) (fun _ => -1)) ?_ (nm_r (nI_1 i) (ih (i + 1) (by omega) n (by omega)))))
    rw [hz_x8 hp4 i8, hz_nbm]
    exact hz_fl_s (v := fun _ => -1)
theorem hz_act_16 (I : hz_Inv m e kdA sjA afA rxA mdA scA soA plA mkA txA goA erA laA fsA lsA bxA hdA heA owA szA sxA itA icA thA kyA ryA opA syA oyA ioA buA) {b p : Nat} (hb : b < 8) (hp4 : p < 4) (us x : Int32) (he : e < 250) (t1 : thA p = 1) :
    ∃ u' v', i_Rel 0 u' v' ∧ (∀ post : SX → Prop, post u' → wpX_inRoom post ((nI m), (nI (e + 1)), kdA, sjA, afA, rxA, mdA, scA, soA, plA, mkA, txA, goA, erA, laA, fsA, lsA, bxA, hdA, heA, owA, szA, sxA, itA, icA) 16 (nI b) (nI p) us x) ∧ (∀ post : SY → Prop, post v' → wpY_inRoom post ((nI m), (nI (e + 1)), thA, kyA, sjA, scA, afA, ryA, opA, syA, oyA, szA, ioA, soA, plA, mkA, goA, txA, buA, heA) 16 (nI b) (nI p) us x) := by
  have cp : (nI p).toNatClampNeg = p := hz_cl (by omega)
  have vp : vp_in (nI p) 4 := vp_in_nI hp4 (by decide)
  obtain ⟨i1, i2, i3, i4, i5, i6⟩ := I
  refine ⟨((nI m), (nI (e + 1)), (upd kdA p (-1)), sjA, afA, (hz_fl rxA (8 * p) 8 (fun _ => -1)), mdA, scA, soA, plA, mkA, txA, goA, erA, laA, fsA, lsA, bxA, hdA, heA, owA, szA, sxA, itA, icA), ((nI m), (nI (e + 1)), (upd thA p 0), kyA, sjA, scA, afA, ryA, opA, syA, oyA, szA, ioA, soA, plA, mkA, goA, txA, buA, heA), ?_, fun post hp => ?_, fun post hp => ?_⟩
  · refine hz_in (e := e + 1) ⟨by omega, by omega, ?_, i4, i5, i6⟩
    refine hz_Rm_set i3 (p := p) ?_ (fun q hq c => ⟨pk_un c, pk_un c, rfl, rfl, rfl, fun u hu => ⟨hz_fl_out (by omega), rfl, rfl⟩⟩)
    exact Or.inl ⟨pk_us, pk_us, fun u hu => hz_fl_in (v := fun _ => -1) hu⟩
  · unfold wpX_inRoom
    refine br_f (by decide) (br_t (by decide) (And.intro vp (nm_r (e' := upd kdA p (-1)) ?_ ⟨9, ?_⟩)))
    · rw [cp, hz_nbm]
    · have Z := hz_x258 (e := e + 1) hp4 hp 8 0 rfl 9 (by omega)
      rw [hz_fl_0] at Z
      exact Z
  · unfold wpY_inRoom
    refine br_f (by decide) (br_t (by decide) (And.intro vp (nm_r (e' := upd thA p 0) ?_ hp)))
    rw [cp, hz_nz0]
/-! the role of one who enters -/
def hz_rv (a : Int32) (q : Nat) : Int32 := if a < 3 then (if a = 2 then 1 else if (nI q &&& 2) = 0 then 1 else 0) else 2
theorem hz_rv_3 (a : Int32) (q : Nat) : hz_rv a q = 0 ∨ hz_rv a q = 1 ∨ hz_rv a q = 2 := by
  unfold hz_rv
  split
  · split
    · exact Or.inr (Or.inl rfl)
    · split
      · exact Or.inr (Or.inl rfl)
      · exact Or.inl rfl
  · exact Or.inr (Or.inr rfl)
theorem hz_rv_n (a : Int32) (q : Nat) : vp_nar .byte (hz_rv a q).toInt8.toInt32 = hz_rv a q := by
  rcases hz_rv_3 a q with z | z | z <;> rw [z]
  · exact hz_nb (g := 0) (by decide)
  · exact hz_nb (g := 1) (by decide)
  · exact hz_nb (g := 2) (by decide)
theorem hz_rv_p (a : Int32) (q : Nat) : 0 ≤ hz_rv a q := by
  rcases hz_rv_3 a q with z | z | z <;> rw [z] <;> decide
theorem hz_xroleOf {post : Int32 → Prop} {p u q : Nat} (hp4 : p < 4) (hu : u < 8) (hk : kdA p = nI q) (hp : post (hz_rv (afA (8 * p + u)) q)) : wpX_roleOf post ((nI m), (nI e), kdA, sjA, afA, rxA, mdA, scA, soA, plA, mkA, txA, goA, erA, laA, fsA, lsA, bxA, hdA, heA, owA, szA, sxA, itA, icA) (nI u) (nI p) := by
  unfold wpX_roleOf
  refine And.intro (hz_v8 hp4 hu) (nm_r (e' := afA (8 * p + u)) (by rw [hz_x8 hp4 hu]) ?_)
  unfold hz_rv at hp
  by_cases c1 : afA (8 * p + u) < 3
  · rw [if_pos c1] at hp
    refine br_t c1 ?_
    by_cases c2 : afA (8 * p + u) = 2
    · rw [if_pos c2] at hp
      exact br_t c2 hp
    · rw [if_neg c2] at hp
      refine br_f c2 (And.intro (vp_in_nI hp4 (by decide)) ?_)
      rw [hz_cl (by omega), hk]
      by_cases c3 : (nI q &&& 2) = 0
      · rw [if_pos c3] at hp
        exact br_t c3 hp
      · rw [if_neg c3] at hp
        exact br_f c3 hp
  · rw [if_neg c1] at hp
    exact br_f c1 hp
theorem hz_yent {post : Int32 → Prop} {p u q : Nat} (hp4 : p < 4) (hu : u < 8) (hq : q < 16) (hk : kyA p = nI q) (hp : post (hz_rv (afA (8 * p + u)) q)) : wpY_entering post ((nI m), (nI e), thA, kyA, sjA, scA, afA, ryA, opA, syA, oyA, szA, ioA, soA, plA, mkA, goA, txA, buA, heA) (nI u) (nI p) := by
  unfold wpY_entering
  refine hz_yaff hp4 hu ?_
  unfold hz_rv at hp
  by_cases c1 : afA (8 * p + u) < 3
  · rw [if_pos c1] at hp
    refine br_t c1 ?_
    by_cases c2 : afA (8 * p + u) = 2
    · rw [if_pos c2] at hp
      exact br_t c2 hp
    · rw [if_neg c2] at hp
      refine br_f c2 ?_
      rcases hz_q2 q hq with ⟨c3, c4⟩ | ⟨c3, c4⟩
      · rw [if_pos c3] at hp
        exact hz_yquiet hp4 hk (fun _ => br_t rfl hp) (fun z => absurd z c4)
      · rw [if_neg c3] at hp
        exact hz_yquiet hp4 hk (fun z => absurd c4 z) (fun _ => br_f hz_1n0 hp)
  · rw [if_neg c1] at hp
    exact br_f c1 hp
/-! who may stay -/
theorem hz_xset0 {post : SX → Prop} {p u : Nat} {x3 : Int32} (hp4 : p < 4) (hu : u < 8) (h : rxA (8 * p + u) = -1) (hp : post ((nI m), (nI e), kdA, sjA, afA, rxA, mdA, scA, soA, plA, mkA, txA, goA, erA, laA, fsA, lsA, bxA, hdA, heA, owA, szA, sxA, itA, icA)) : wpX_settle post ((nI m), (nI e), kdA, sjA, afA, rxA, mdA, scA, soA, plA, mkA, txA, goA, erA, laA, fsA, lsA, bxA, hdA, heA, owA, szA, sxA, itA, icA) (nI u) (nI p) x3 := by
  unfold wpX_settle
  refine And.intro (hz_v8 hp4 hu) (br_f ?_ hp)
  rw [hz_x8 hp4 hu, h]; exact hz_n1'
theorem hz_xset50 {post : SX → Prop} {p u q : Nat} {x3 : Int32} (hp4 : p < 4) (hu : u < 8) (hk : kdA p = nI q) (hp : post ((nI m), (nI e), kdA, sjA, afA, (upd rxA (8 * p + u) (-1)), mdA, scA, soA, plA, mkA, txA, goA, erA, laA, fsA, lsA, bxA, hdA, heA, owA, szA, sxA, itA, icA)) : wX_settle_50 post (nI u) (nI p) x3 (nI m) (nI e) kdA sjA afA rxA mdA scA soA plA mkA txA goA erA laA fsA lsA bxA hdA heA owA szA sxA itA icA := by
  unfold wX_settle_50 wX_settle_55
  refine hz_xroleOf hp4 hu hk ?_
  refine br_f hz_1n0 (And.intro (hz_v8 hp4 hu) (nm_r (e' := upd rxA (8 * p + u) (-1)) ?_ hp))
  rw [hz_x8 hp4 hu, hz_nbm]
theorem hz_xsetO {post : SX → Prop} {p u q : Nat} {x3 : Int32} (hp4 : p < 4) (hu : u < 8) (hk : kdA p = nI q) (h : 0 ≤ rxA (8 * p + u)) (ho : afA (8 * p + u) = 0 ∨ (¬ (nI q &&& 1) = 0 ∧ ¬ 2 ≤ afA (8 * p + u))) (hp : post ((nI m), (nI e), kdA, sjA, afA, (upd rxA (8 * p + u) (-1)), mdA, scA, soA, plA, mkA, txA, goA, erA, laA, fsA, lsA, bxA, hdA, heA, owA, szA, sxA, itA, icA)) : wpX_settle post ((nI m), (nI e), kdA, sjA, afA, rxA, mdA, scA, soA, plA, mkA, txA, goA, erA, laA, fsA, lsA, bxA, hdA, heA, owA, szA, sxA, itA, icA) (nI u) (nI p) x3 := by
  have W := hz_xset50 (x3 := x3) hp4 hu hk hp
  unfold wpX_settle
  refine And.intro (hz_v8 hp4 hu) (br_t (by rw [hz_x8 hp4 hu]; exact h) (And.intro (hz_v8 hp4 hu) (nm_r (e' := afA (8 * p + u)) (by rw [hz_x8 hp4 hu]) ?_)))
  by_cases c0 : afA (8 * p + u) = 0
  · exact br_t c0 W
  · obtain ⟨h1, h2⟩ := ho.resolve_left c0
    refine br_f c0 (br_f h2 (And.intro (vp_in_nI hp4 (by decide)) (br_f ?_ W)))
    rw [hz_cl (by omega), hk]; exact h1
theorem hz_xsetK {post : SX → Prop} {p u q : Nat} {x3 : Int32} (hp4 : p < 4) (hu : u < 8) (hk : kdA p = nI q) (h : 0 ≤ rxA (8 * p + u)) (h0 : ¬ afA (8 * p + u) = 0) (ho : (nI q &&& 1) = 0 ∨ 2 ≤ afA (8 * p + u)) (K : wX_settle_54 post (nI u) (nI p) x3 (nI m) (nI e) kdA sjA afA rxA mdA scA soA plA mkA txA goA erA laA fsA lsA bxA hdA heA owA szA sxA itA icA) : wpX_settle post ((nI m), (nI e), kdA, sjA, afA, rxA, mdA, scA, soA, plA, mkA, txA, goA, erA, laA, fsA, lsA, bxA, hdA, heA, owA, szA, sxA, itA, icA) (nI u) (nI p) x3 := by
  unfold wpX_settle
  refine And.intro (hz_v8 hp4 hu) (br_t (by rw [hz_x8 hp4 hu]; exact h) (And.intro (hz_v8 hp4 hu) (nm_r (e' := afA (8 * p + u)) (by rw [hz_x8 hp4 hu]) ?_)))
  refine br_f h0 ?_
  by_cases c2 : 2 ≤ afA (8 * p + u)
  · exact br_t c2 K
  · refine br_f c2 (And.intro (vp_in_nI hp4 (by decide)) (br_t ?_ K))
    rw [hz_cl (by omega), hk]; exact ho.resolve_right c2
theorem hz_xset54_0 {post : SX → Prop} {p u q : Nat} (hp4 : p < 4) (hu : u < 8) (hk : kdA p = nI q) (hp : post ((nI m), (nI e), kdA, sjA, afA, rxA, mdA, scA, soA, plA, mkA, txA, goA, erA, laA, fsA, lsA, bxA, hdA, heA, owA, szA, sxA, itA, icA)) : wX_settle_54 post (nI u) (nI p) 0 (nI m) (nI e) kdA sjA afA rxA mdA scA soA plA mkA txA goA erA laA fsA lsA bxA hdA heA owA szA sxA itA icA := by
  unfold wX_settle_54 wX_settle_55
  refine hz_xroleOf hp4 hu hk ?_
  exact br_t rfl (br_t rfl hp)
theorem hz_xset54_1 {post : SX → Prop} {p u q : Nat} (hp4 : p < 4) (hu : u < 8) (hk : kdA p = nI q) (hp : post ((nI m), (nI e), kdA, sjA, afA, (upd rxA (8 * p + u) (hz_rv (afA (8 * p + u)) q)), mdA, scA, soA, plA, mkA, txA, goA, erA, laA, fsA, lsA, bxA, hdA, heA, owA, szA, sxA, itA, icA)) : wX_settle_54 post (nI u) (nI p) 1 (nI m) (nI e) kdA sjA afA rxA mdA scA soA plA mkA txA goA erA laA fsA lsA bxA hdA heA owA szA sxA itA icA := by
  unfold wX_settle_54 wX_settle_55
  refine hz_xroleOf hp4 hu hk ?_
  refine br_t rfl (br_f hz_1n0 (And.intro (hz_v8 hp4 hu) (nm_r (e' := upd rxA (8 * p + u) (hz_rv (afA (8 * p + u)) q)) ?_ hp)))
  rw [hz_x8 hp4 hu, hz_rv_n]
/-! an affiliation given -/
theorem hz_act_6 (I : hz_Inv m e kdA sjA afA rxA mdA scA soA plA mkA txA goA erA laA fsA lsA bxA hdA heA owA szA sxA itA icA thA kyA ryA opA syA oyA ioA buA) {b p k j : Nat} (hb : b < 8) (hp4 : p < 4) (he : e < 250) (t1 : thA p = 1) (hk : k < 8) (hj : j < 5) :
    ∃ u' v', i_Rel 0 u' v' ∧ (∀ post : SX → Prop, post u' → wpX_inRoom post ((nI m), (nI (e + 1)), kdA, sjA, afA, rxA, mdA, scA, soA, plA, mkA, txA, goA, erA, laA, fsA, lsA, bxA, hdA, heA, owA, szA, sxA, itA, icA) 6 (nI b) (nI p) (nI k) (nI j)) ∧ (∀ post : SY → Prop, post v' → wpY_inRoom post ((nI m), (nI (e + 1)), thA, kyA, sjA, scA, afA, ryA, opA, syA, oyA, szA, ioA, soA, plA, mkA, goA, txA, buA, heA) 6 (nI b) (nI p) (nI k) (nI j)) := by
  obtain ⟨i1, i2, i3, i4, i5, i6⟩ := I
  obtain ⟨⟨q, q1, q2, q3⟩, r2, r3⟩ := hz_Rm_there (i3 p hp4) t1
  obtain ⟨s1, s2⟩ := r3 k hk
  have X0 : ∀ post : SX → Prop, wpX_settle (fun u => post u) ((nI m), (nI (e + 1)), kdA, sjA, (upd afA (8 * p + k) (nI j)), rxA, mdA, scA, soA, plA, mkA, txA, goA, erA, laA, fsA, lsA, bxA, hdA, heA, owA, szA, sxA, itA, icA) (nI k) (nI p) 1 → wpX_inRoom post ((nI m), (nI (e + 1)), kdA, sjA, afA, rxA, mdA, scA, soA, plA, mkA, txA, goA, erA, laA, fsA, lsA, bxA, hdA, heA, owA, szA, sxA, itA, icA) 6 (nI b) (nI p) (nI k) (nI j) := by
    intro post K
    unfold wpX_inRoom
    iterate 8 refine br_f (by decide) ?_
    refine br_t rfl (And.intro (hz_v8 hp4 hk) (nm_r (e' := upd afA (8 * p + k) (nI j)) ?_ K))
    rw [hz_x8 hp4 hk, hz_nb (by omega)]
  have eaf : upd afA (8 * p + k) (nI j) (8 * p + k) = nI j := pk_us
  rcases s2 with c0 | ⟨c0, c1⟩
  · refine ⟨((nI m), (nI (e + 1)), kdA, sjA, (upd afA (8 * p + k) (nI j)), rxA, mdA, scA, soA, plA, mkA, txA, goA, erA, laA, fsA, lsA, bxA, hdA, heA, owA, szA, sxA, itA, icA), ((nI m), (nI (e + 1)), thA, kyA, sjA, scA, (upd afA (8 * p + k) (nI j)), ryA, opA, syA, oyA, szA, ioA, soA, plA, mkA, goA, txA, buA, heA), ?_, fun post hp => X0 post ?_, fun post hp => ?_⟩
    · refine hz_in (e := e + 1) ⟨by omega, by omega, ?_, i4, i5, i6⟩
      refine hz_Rm_set i3 (p := p) ?_ (fun q hq c => ⟨rfl, rfl, rfl, rfl, rfl, fun u hu => ⟨rfl, rfl, pk_un (by omega)⟩⟩)
      refine Or.inr ⟨t1, ⟨q, q1, q2, q3⟩, r2, fun u hu => ?_⟩
      by_cases c : u = k
      · subst c; exact ⟨s1, Or.inl c0⟩
      · rw [pk_un (by omega)]; exact r3 u hu
    · exact hz_xset0 (e := e + 1) hp4 hk c0 hp
    · unfold wpY_inRoom
      iterate 8 refine br_f (by decide) ?_
      refine br_t rfl (And.intro (hz_v8 hp4 hk) (nm_r (e' := upd afA (8 * p + k) (nI j)) (by rw [hz_x8 hp4 hk]) ?_))
      refine hz_ypres0 (e := e + 1) hp4 hk (Or.inr ⟨t1, by rw [s1, c0]; exact hz_n1⟩) ?_
      exact br_t rfl hp
  · have yp : ∀ post : SY → Prop, wpY_mayStay (fun r => (((r = 0 → (vp_in ((8 * nI p) + nI k) 32 ∧ (∀ a, a = upd ryA ((8 * nI p) + nI k).toNatClampNeg (-1) → post ((nI m), (nI (e + 1)), thA, kyA, sjA, scA, (upd afA (8 * p + k) (nI j)), a, opA, syA, oyA, szA, ioA, soA, plA, mkA, goA, txA, buA, heA)))) ∧ (¬ r = 0 → (wpY_entering (fun r2 => (vp_in ((8 * nI p) + nI k) 32 ∧ (∀ a, a = upd ryA ((8 * nI p) + nI k).toNatClampNeg r2 → post ((nI m), (nI (e + 1)), thA, kyA, sjA, scA, (upd afA (8 * p + k) (nI j)), a, opA, syA, oyA, szA, ioA, soA, plA, mkA, goA, txA, buA, heA)))) ((nI m), (nI (e + 1)), thA, kyA, sjA, scA, (upd afA (8 * p + k) (nI j)), ryA, opA, syA, oyA, szA, ioA, soA, plA, mkA, goA, txA, buA, heA) (nI k) (nI p)))))) ((nI m), (nI (e + 1)), thA, kyA, sjA, scA, (upd afA (8 * p + k) (nI j)), ryA, opA, syA, oyA, szA, ioA, soA, plA, mkA, goA, txA, buA, heA) (nI k) (nI p) → wpY_inRoom post ((nI m), (nI (e + 1)), thA, kyA, sjA, scA, afA, ryA, opA, syA, oyA, szA, ioA, soA, plA, mkA, goA, txA, buA, heA) 6 (nI b) (nI p) (nI k) (nI j) := by
      intro post K
      unfold wpY_inRoom
      iterate 8 refine br_f (by decide) ?_
      refine br_t rfl (And.intro (hz_v8 hp4 hk) (nm_r (e' := upd afA (8 * p + k) (nI j)) (by rw [hz_x8 hp4 hk]) ?_))
      refine hz_ypres1 (e := e + 1) hp4 hk t1 (by rw [s1]; exact c0) ?_
      exact br_f hz_1n0 K
    by_cases co : nI j = 0 ∨ (¬ (nI q &&& 1) = 0 ∧ ¬ 2 ≤ nI j)
    · refine ⟨((nI m), (nI (e + 1)), kdA, sjA, (upd afA (8 * p + k) (nI j)), (upd rxA (8 * p + k) (-1)), mdA, scA, soA, plA, mkA, txA, goA, erA, laA, fsA, lsA, bxA, hdA, heA, owA, szA, sxA, itA, icA), ((nI m), (nI (e + 1)), thA, kyA, sjA, scA, (upd afA (8 * p + k) (nI j)), (upd ryA (8 * p + k) (-1)), opA, syA, oyA, szA, ioA, soA, plA, mkA, goA, txA, buA, heA), ?_, fun post hp => X0 post ?_, fun post hp => yp post ?_⟩
      · refine hz_in (e := e + 1) ⟨by omega, by omega, ?_, i4, i5, i6⟩
        refine hz_Rm_set i3 (p := p) ?_ (fun q hq c => ⟨rfl, rfl, rfl, rfl, rfl, fun u hu => ⟨pk_un (by omega), pk_un (by omega), pk_un (by omega)⟩⟩)
        refine Or.inr ⟨t1, ⟨q, q1, q2, q3⟩, r2, fun u hu => ?_⟩
        by_cases c : u = k
        · subst c; rw [pk_us, pk_us]; exact ⟨rfl, Or.inl rfl⟩
        · rw [pk_un (by omega), pk_un (by omega), pk_un (by omega)]; exact r3 u hu
      · exact hz_xsetO (e := e + 1) hp4 hk q2 c0 (by rw [eaf]; exact co) hp
      · refine hz_ystay0 (e := e + 1) hp4 hk q1 q3 (by rw [eaf]; exact co) ?_
        refine br_t rfl (And.intro (hz_v8 hp4 hk) (nm_r (e' := upd ryA (8 * p + k) (-1)) ?_ hp))
        rw [hz_x8 hp4 hk]
    · have n0 : ¬ nI j = 0 := fun z => co (Or.inl z)
      have n1 : (nI q &&& 1) = 0 ∨ 2 ≤ nI j := by
        by_cases z : (nI q &&& 1) = 0
        · exact Or.inl z
        · refine Or.inr (Decidable.not_not.mp (fun y => co (Or.inr ⟨z, y⟩)))
      refine ⟨((nI m), (nI (e + 1)), kdA, sjA, (upd afA (8 * p + k) (nI j)), (upd rxA (8 * p + k) (hz_rv (nI j) q)), mdA, scA, soA, plA, mkA, txA, goA, erA, laA, fsA, lsA, bxA, hdA, heA, owA, szA, sxA, itA, icA), ((nI m), (nI (e + 1)), thA, kyA, sjA, scA, (upd afA (8 * p + k) (nI j)), (upd ryA (8 * p + k) (hz_rv (nI j) q)), opA, syA, oyA, szA, ioA, soA, plA, mkA, goA, txA, buA, heA), ?_, fun post hp => X0 post ?_, fun post hp => yp post ?_⟩
      · refine hz_in (e := e + 1) ⟨by omega, by omega, ?_, i4, i5, i6⟩
        refine hz_Rm_set i3 (p := p) ?_ (fun q hq c => ⟨rfl, rfl, rfl, rfl, rfl, fun u hu => ⟨pk_un (by omega), pk_un (by omega), pk_un (by omega)⟩⟩)
        refine Or.inr ⟨t1, ⟨q, q1, q2, q3⟩, r2, fun u hu => ?_⟩
        by_cases c : u = k
        · subst c; rw [pk_us, pk_us, pk_us]; exact ⟨rfl, Or.inr ⟨hz_rv_p _ _, n0⟩⟩
        · rw [pk_un (by omega), pk_un (by omega), pk_un (by omega)]; exact r3 u hu
      · refine hz_xsetK (e := e + 1) hp4 hk q2 c0 (by rw [eaf]; exact n0) (by rw [eaf]; exact n1) ?_
        refine hz_xset54_1 (e := e + 1) hp4 hk q2 ?_
        rw [eaf]; exact hp
      · refine hz_ystay1 (e := e + 1) hp4 hk q1 q3 (by rw [eaf]; exact n0) (by rw [eaf]; exact n1) ?_
        refine br_f hz_1n0 ?_
        refine hz_yent (e := e + 1) hp4 hk q1 q3 ?_
        rw [eaf]
        refine And.intro (hz_v8 hp4 hk) (nm_r (e' := upd ryA (8 * p + k) (hz_rv (nI j) q)) ?_ hp)
        rw [hz_x8 hp4 hk]
end HZ14
end
section
section HZ15
variable {m e : Nat} {kdA sjA afA rxA mdA scA soA plA mkA txA goA erA laA fsA lsA bxA hdA heA owA szA sxA itA icA thA kyA ryA opA syA oyA ioA buA : Nat → Int32}
/-! a room's kind changed -/
def hz_v5x (rxA afA : Nat → Int32) (p q : Nat) (u : Nat) : Int32 := if 0 ≤ rxA (8 * p + u) ∧ (afA (8 * p + u) = 0 ∨ (¬ (nI q &&& 1) = 0 ∧ ¬ 2 ≤ afA (8 * p + u))) then -1 else rxA (8 * p + u)
def hz_v5y (ryA afA : Nat → Int32) (p q : Nat) (u : Nat) : Int32 := if (nI q &&& 1) = 1 ∧ ¬ 2 ≤ afA (8 * p + u) then -1 else ryA (8 * p + u)
theorem hz_x147 {post : SX → Prop} {p q : Nat} (hp4 : p < 4) (hk : kdA p = nI q) (hr : ∀ u, u < 8 → rxA (8 * p + u) = -1 ∨ 0 ≤ rxA (8 * p + u)) (K : post ((nI m), (nI e), kdA, sjA, afA, (hz_fl rxA (8 * p) 8 (hz_v5x rxA afA p q)), mdA, scA, soA, plA, mkA, txA, goA, erA, laA, fsA, lsA, bxA, hdA, heA, owA, szA, sxA, itA, icA)) :
    ∀ d i, i + d = 8 → ∀ n, d < n → wX_inRoom_147 post (nI p) n (nI i) (nI m) (nI e) kdA sjA afA (hz_fl rxA (8 * p) i (hz_v5x rxA afA p q)) mdA scA soA plA mkA txA goA erA laA fsA lsA bxA hdA heA owA szA sxA itA icA := by
  intro d
  induction d with
  | zero =>
    intro i hi n hn
    obtain rfl : i = 8 := by omega
    obtain ⟨n, rfl⟩ := hz_pos_n hn
    exact br_t (nI_le (a := 8) (Nat.le_refl _) (by omega)) K
  | succ d ih =>
    intro i hi n hn
    obtain ⟨n, rfl⟩ := hz_pos_n hn
    have i8 : i < 8 := by omega
    have I1 := ih (i + 1) (by omega) n (by omega)
    have now : hz_fl rxA (8 * p) i (hz_v5x rxA afA p q) (8 * p + i) = rxA (8 * p + i) := hz_fl_out (by omega)
    refine br_f (nI_ge (b := 8) i8 (by decide)) ?_
    rcases hr i i8 with c | c
    · have ev : hz_v5x rxA afA p q i = rxA (8 * p + i) := by
        unfold hz_v5x
        rw [if_neg (fun z => by rw [c] at z; exact absurd z.1 hz_n1')]
      rw [← hz_fl_n ev] at I1
      refine hz_xset0 hp4 i8 (by rw [now]; exact c) ?_
      exact nm_r (nI_1 i) I1
    · by_cases co : afA (8 * p + i) = 0 ∨ (¬ (nI q &&& 1) = 0 ∧ ¬ 2 ≤ afA (8 * p + i))
      · have ev : hz_v5x rxA afA p q i = -1 := by
          unfold hz_v5x
          rw [if_pos ⟨c, co⟩]
        rw [← hz_fl_s, ev] at I1
        refine hz_xsetO hp4 i8 hk (by rw [now]; exact c) co ?_
        exact nm_r (nI_1 i) I1
      · have ev : hz_v5x rxA afA p q i = rxA (8 * p + i) := by
          unfold hz_v5x
          rw [if_neg (fun z => co z.2)]
        rw [← hz_fl_n ev] at I1
        have n1 : (nI q &&& 1) = 0 ∨ 2 ≤ afA (8 * p + i) := by
          by_cases z : (nI q &&& 1) = 0
          · exact Or.inl z
          · refine Or.inr (Decidable.not_not.mp (fun y => co (Or.inr ⟨z, y⟩)))
        refine hz_xsetK hp4 i8 hk (by rw [now]; exact c) (fun z => co (Or.inl z)) n1 ?_
        refine hz_xset54_0 hp4 i8 hk ?_
        exact nm_r (nI_1 i) I1
theorem hz_y134 {post : SY → Prop} {p q : Nat} (hp4 : p < 4) (hk : kyA p = nI q) (K : post ((nI m), (nI e), thA, kyA, sjA, scA, afA, (hz_fl ryA (8 * p) 8 (hz_v5y ryA afA p q)), opA, syA, oyA, szA, ioA, soA, plA, mkA, goA, txA, buA, heA)) :
    ∀ d i, i + d = 8 → ∀ n, d < n → wY_inRoom_134 post (nI p) (nI m) (nI e) n (nI i) thA kyA sjA scA afA (hz_fl ryA (8 * p) i (hz_v5y ryA afA p q)) opA syA oyA szA ioA soA plA mkA goA txA buA heA := by
  intro d
  induction d with
  | zero =>
    intro i hi n hn
    obtain rfl : i = 8 := by omega
    obtain ⟨n, rfl⟩ := hz_pos_n hn
    exact br_t (nI_le (a := 8) (Nat.le_refl _) (by omega)) K
  | succ d ih =>
    intro i hi n hn
    obtain ⟨n, rfl⟩ := hz_pos_n hn
    have i8 : i < 8 := by omega
    have I1 := ih (i + 1) (by omega) n (by omega)
    refine br_f (nI_ge (b := 8) i8 (by decide)) ?_
    by_cases co : (nI q &&& 1) = 1 ∧ ¬ 2 ≤ afA (8 * p + i)
    · have ev : hz_v5y ryA afA p q i = -1 := by
        unfold hz_v5y
        rw [if_pos co]
      rw [← hz_fl_s, ev] at I1
      refine hz_yclosed hp4 hk (fun z => absurd co.1 z) (fun _ => br_f hz_1n0 ?_)
      refine hz_yaff hp4 i8 ?_
      refine br_f co.2 (And.intro (hz_v8 hp4 i8) (nm_r (e' := upd (hz_fl ryA (8 * p) i (hz_v5y ryA afA p q)) (8 * p + i) (-1)) (by rw [hz_x8 hp4 i8]) (nm_r (nI_1 i) I1)))
    · have ev : hz_v5y ryA afA p q i = ryA (8 * p + i) := by
        unfold hz_v5y
        rw [if_neg co]
      rw [← hz_fl_n ev] at I1
      refine hz_yclosed hp4 hk (fun _ => br_t rfl (nm_r (nI_1 i) I1)) (fun z => br_f hz_1n0 ?_)
      refine hz_yaff hp4 i8 ?_
      exact br_t (Decidable.not_not.mp (fun y => co ⟨z, y⟩)) (nm_r (nI_1 i) I1)
theorem hz_act_5 (I : hz_Inv m e kdA sjA afA rxA mdA scA soA plA mkA txA goA erA laA fsA lsA bxA hdA heA owA szA sxA itA icA thA kyA ryA opA syA oyA ioA buA) {b p j : Nat} (hb : b < 8) (hp4 : p < 4) (us : Int32) (he : e < 250) (t1 : thA p = 1) (hj : j < 16) :
    ∃ u' v', i_Rel 0 u' v' ∧ (∀ post : SX → Prop, post u' → wpX_inRoom post ((nI m), (nI (e + 1)), kdA, sjA, afA, rxA, mdA, scA, soA, plA, mkA, txA, goA, erA, laA, fsA, lsA, bxA, hdA, heA, owA, szA, sxA, itA, icA) 5 (nI b) (nI p) us (nI j)) ∧ (∀ post : SY → Prop, post v' → wpY_inRoom post ((nI m), (nI (e + 1)), thA, kyA, sjA, scA, afA, ryA, opA, syA, oyA, szA, ioA, soA, plA, mkA, goA, txA, buA, heA) 5 (nI b) (nI p) us (nI j)) := by
  have cp : (nI p).toNatClampNeg = p := hz_cl (by omega)
  have vp : vp_in (nI p) 4 := vp_in_nI hp4 (by decide)
  obtain ⟨i1, i2, i3, i4, i5, i6⟩ := I
  obtain ⟨q0, r2, r3⟩ := hz_Rm_there (i3 p hp4) t1
  refine ⟨((nI m), (nI (e + 1)), (upd kdA p (nI j)), sjA, afA, (hz_fl rxA (8 * p) 8 (hz_v5x rxA afA p j)), mdA, scA, soA, plA, mkA, txA, goA, erA, laA, fsA, lsA, bxA, hdA, heA, owA, szA, sxA, itA, icA), ((nI m), (nI (e + 1)), thA, (upd kyA p (nI j)), sjA, scA, afA, (hz_fl ryA (8 * p) 8 (hz_v5y ryA afA p j)), opA, syA, oyA, szA, ioA, soA, plA, mkA, goA, txA, buA, heA), ?_, fun post hp => ?_, fun post hp => ?_⟩
  · refine hz_in (e := e + 1) ⟨by omega, by omega, ?_, i4, i5, i6⟩
    refine hz_Rm_set i3 (p := p) ?_ (fun q hq c => ⟨pk_un c, rfl, pk_un c, rfl, rfl, fun u hu => ⟨hz_fl_out (by omega), hz_fl_out (by omega), rfl⟩⟩)
    refine Or.inr ⟨t1, ⟨j, hj, pk_us, pk_us⟩, r2, fun u hu => ?_⟩
    rw [hz_fl_in hu, hz_fl_in hu]
    obtain ⟨s1, s2⟩ := r3 u hu
    unfold hz_v5x hz_v5y
    rw [s1]
    rcases s2 with c | ⟨c, d⟩
    · rw [c, ite_self, ite_self]
      exact ⟨rfl, Or.inl rfl⟩
    · rcases hz_q1 j hj with ⟨k1, k2⟩ | ⟨k1, k2⟩
      · rw [if_neg (fun z => k2 z.1), if_neg (fun z => by rcases z.2 with y | y; exact d y; exact y.1 k1)]
        exact ⟨rfl, Or.inr ⟨c, d⟩⟩
      · by_cases c2 : 2 ≤ afA (8 * p + u)
        · rw [if_neg (fun z => z.2 c2), if_neg (fun z => by rcases z.2 with y | y; exact d y; exact y.2 c2)]
          exact ⟨rfl, Or.inr ⟨c, d⟩⟩
        · rw [if_pos ⟨k2, c2⟩, if_pos ⟨c, Or.inr ⟨k1, c2⟩⟩]
          exact ⟨rfl, Or.inl rfl⟩
  · unfold wpX_inRoom
    iterate 7 refine br_f (by decide) ?_
    refine br_t rfl (And.intro vp (nm_r (e' := upd kdA p (nI j)) ?_ ⟨9, ?_⟩))
    · rw [cp, hz_nb (by omega)]
    · have Z := hz_x147 (e := e + 1) (kdA := upd kdA p (nI j)) hp4 pk_us (fun u hu => (r3 u hu).2.imp id And.left) hp 8 0 rfl 9 (by omega)
      rw [hz_fl_0] at Z
      exact Z
  · unfold wpY_inRoom
    iterate 7 refine br_f (by decide) ?_
    refine br_t rfl (And.intro vp (nm_r (e' := upd kyA p (nI j)) ?_ ⟨9, ?_⟩))
    · rw [cp]
    · have Z := hz_y134 (e := e + 1) (kyA := upd kyA p (nI j)) hp4 pk_us hp 8 0 rfl 9 (by omega)
      rw [hz_fl_0] at Z
      exact Z
/-! a room made -/
def hz_va (b u : Nat) : Int32 := if u = b then 4 else 1
def hz_vr (b u : Nat) : Int32 := if u = b then 2 else -1
theorem hz_x36 {post : SX → Prop} {p b : Nat} (hp4 : p < 4) (hb : b < 8) (K : post ((nI m), (nI e), kdA, sjA, (upd (hz_fl afA (8 * p) 8 (fun _ => 1)) (8 * p + b) 4), (upd rxA (8 * p + b) 2), mdA, scA, soA, plA, mkA, txA, goA, erA, laA, fsA, lsA, bxA, hdA, heA, owA, szA, sxA, itA, icA)) :
    ∀ d i, i + d = 8 → ∀ n, d < n → wX_create_36 post (nI b) (nI p) (nI m) (nI e) n (nI i) kdA sjA (hz_fl afA (8 * p) i (fun _ => 1)) rxA mdA scA soA plA mkA txA goA erA laA fsA lsA bxA hdA heA owA szA sxA itA icA := by
  intro d
  induction d with
  | zero =>
    intro i hi n hn
    obtain rfl : i = 8 := by omega
    obtain ⟨n, rfl⟩ := hz_pos_n hn
    refine br_t (nI_le (a := 8) (Nat.le_refl _) (by omega)) (And.intro (hz_v8 hp4 hb) (nm_r (e' := upd (hz_fl afA (8 * p) 8 (fun _ => 1)) (8 * p + b) 4) ?_ (And.intro (hz_v8 hp4 hb) (nm_r (e' := upd rxA (8 * p + b) 2) ?_ K))))
    · rw [hz_x8 hp4 hb, hz_nb4]
    · rw [hz_x8 hp4 hb, hz_nb2]
  | succ d ih =>
    intro i hi n hn
    obtain ⟨n, rfl⟩ := hz_pos_n hn
    have i8 : i < 8 := by omega
    refine br_f (nI_ge (b := 8) i8 (by decide)) (And.intro (hz_v8 hp4 i8) (nm_r (e' := hz_fl afA (8 * p) (i + 1) (fun _ => 1)) ?_ (nm_r (nI_1 i) (ih (i + 1) (by omega) n (by omega)))))
    rw [hz_x8 hp4 i8, hz_nb1]
    exact hz_fl_s (v := fun _ => 1)
theorem hz_y34 {post : SY → Prop} {p b : Nat} (hp4 : p < 4) (hb : b < 8) (K : post ((nI m), (nI e), thA, kyA, sjA, scA, (hz_fl afA (8 * p) 8 (hz_va b)), (hz_fl ryA (8 * p) 8 (hz_vr b)), opA, syA, oyA, szA, ioA, soA, plA, mkA, goA, txA, buA, heA)) :
    ∀ d i, i + d = 8 → ∀ n, d < n → wY_create_34 post (nI b) (nI p) (nI m) (nI e) n (nI i) thA kyA sjA scA (hz_fl afA (8 * p) i (hz_va b)) (hz_fl ryA (8 * p) i (hz_vr b)) opA syA oyA szA ioA soA plA mkA goA txA buA heA := by
  intro d
  induction d with
  | zero =>
    intro i hi n hn
    obtain rfl : i = 8 := by omega
    obtain ⟨n, rfl⟩ := hz_pos_n hn
    exact br_t (nI_le (a := 8) (Nat.le_refl _) (by omega)) K
  | succ d ih =>
    intro i hi n hn
    obtain ⟨n, rfl⟩ := hz_pos_n hn
    have i8 : i < 8 := by omega
    have I1 := ih (i + 1) (by omega) n (by omega)
    refine br_f (nI_ge (b := 8) i8 (by decide)) ?_
    by_cases c : i = b
    · have c' : nI i = nI b := by rw [c]
      have ea : hz_va b i = 4 := if_pos c
      have er : hz_vr b i = 2 := if_pos c
      rw [← hz_fl_s (f := afA), ← hz_fl_s (f := ryA), ea, er] at I1
      refine br_t c' ?_
      unfold wY_create_63
      exact And.intro (hz_v8 hp4 i8) (nm_r (by rw [hz_x8 hp4 i8]) (br_t c' (And.intro (hz_v8 hp4 i8) (nm_r (by rw [hz_x8 hp4 i8]) (nm_r (nI_1 i) I1)))))
    · have c' : ¬ nI i = nI b := by rw [nI_eq (by omega) (by omega)]; exact c
      have ea : hz_va b i = 1 := if_neg c
      have er : hz_vr b i = -1 := if_neg c
      rw [← hz_fl_s (f := afA), ← hz_fl_s (f := ryA), ea, er] at I1
      refine br_f c' ?_
      unfold wY_create_63
      exact And.intro (hz_v8 hp4 i8) (nm_r (by rw [hz_x8 hp4 i8]) (br_f c' (And.intro (hz_v8 hp4 i8) (nm_r (by rw [hz_x8 hp4 i8]) (nm_r (nI_1 i) I1)))))
theorem hz_af_eq {p b : Nat} (hb : b < 8) : upd (hz_fl afA (8 * p) 8 (fun _ => 1)) (8 * p + b) 4 = hz_fl afA (8 * p) 8 (hz_va b) := by
  funext j
  by_cases c : j = 8 * p + b
  · subst c
    rw [pk_us, hz_fl_in hb]
    exact (if_pos rfl).symm
  · rw [pk_un c]
    by_cases d : 8 * p ≤ j ∧ j < 8 * p + 8
    · obtain ⟨u, rfl⟩ : ∃ u, j = 8 * p + u := ⟨j - 8 * p, by omega⟩
      rw [hz_fl_in (by omega), hz_fl_in (by omega)]
      exact (if_neg (by omega)).symm
    · rw [hz_fl_out (by omega), hz_fl_out (by omega)]
theorem hz_act_0 (I : hz_Inv m e kdA sjA afA rxA mdA scA soA plA mkA txA goA erA laA fsA lsA bxA hdA heA owA szA sxA itA icA thA kyA ryA opA syA oyA ioA buA) {b p j : Nat} (hb : b < 8) (hp4 : p < 4) (us : Int32) (he : e < 250) (t1 : thA p = 0) (hj : j < 16) :
    ∃ u' v', i_Rel 0 u' v' ∧ (∀ post : SX → Prop, post u' → wpX_inRoom post ((nI m), (nI (e + 1)), kdA, sjA, afA, rxA, mdA, scA, soA, plA, mkA, txA, goA, erA, laA, fsA, lsA, bxA, hdA, heA, owA, szA, sxA, itA, icA) 0 (nI b) (nI p) us (nI j)) ∧ (∀ post : SY → Prop, post v' → wpY_inRoom post ((nI m), (nI (e + 1)), thA, kyA, sjA, scA, afA, ryA, opA, syA, oyA, szA, ioA, soA, plA, mkA, goA, txA, buA, heA) 0 (nI b) (nI p) us (nI j)) := by
  have cp : (nI p).toNatClampNeg = p := hz_cl (by omega)
  have vp : vp_in (nI p) 4 := vp_in_nI hp4 (by decide)
  obtain ⟨i1, i2, i3, i4, i5, i6⟩ := I
  have t3 : ∀ u, u < 8 → rxA (8 * p + u) = -1 := by
    rcases i3 p hp4 with ⟨_, _, t3⟩ | ⟨z, _⟩
    · exact t3
    · rw [t1] at z; exact absurd z.symm hz_1n0
  refine ⟨((nI m), (nI (e + 1)), (upd kdA p (nI j)), (upd sjA p 0), (hz_fl afA (8 * p) 8 (hz_va b)), (upd rxA (8 * p + b) 2), (upd mdA p 0), (upd scA p (nI m)), soA, plA, mkA, txA, goA, erA, laA, fsA, lsA, bxA, hdA, heA, owA, szA, sxA, itA, icA), ((nI m), (nI (e + 1)), (upd thA p 1), (upd kyA p (nI j)), (upd sjA p 0), (upd scA p (nI m)), (hz_fl afA (8 * p) 8 (hz_va b)), (hz_fl ryA (8 * p) 8 (hz_vr b)), opA, syA, oyA, szA, ioA, soA, plA, mkA, goA, txA, buA, heA), ?_, fun post hp => ?_, fun post hp => ?_⟩
  · refine hz_in (e := e + 1) ⟨by omega, by omega, ?_, i4, i5, i6⟩
    refine hz_Rm_set i3 (p := p) ?_ (fun q hq c => ⟨pk_un c, pk_un c, pk_un c, pk_un c, pk_un c, fun u hu => ⟨pk_un (by omega), hz_fl_out (by omega), hz_fl_out (by omega)⟩⟩)
    refine Or.inr ⟨pk_us, ⟨j, hj, pk_us, pk_us⟩, ⟨m, Nat.le_refl m, pk_us, by rw [pk_us, Nat.sub_self]; rfl⟩, fun u hu => ?_⟩
    rw [hz_fl_in hu, hz_fl_in hu]
    unfold hz_va hz_vr
    by_cases c : u = b
    · subst c
      rw [pk_us, if_pos rfl, if_pos rfl]
      exact ⟨rfl, Or.inr ⟨by decide, by decide⟩⟩
    · rw [pk_un (by omega), if_neg c, if_neg c, t3 u hu]
      exact ⟨rfl, Or.inl rfl⟩
  · unfold wpX_inRoom
    iterate 2 refine br_f (by decide) ?_
    refine br_t rfl ?_
    unfold wpX_create
    refine And.intro vp (nm_r (e' := upd kdA p (nI j)) ?_ (And.intro vp (nm_r (e' := upd sjA p 0) ?_ (And.intro vp (nm_r (e' := upd mdA p 0) ?_ (And.intro vp (nm_r (e' := upd scA p (nI m)) ?_ ⟨9, ?_⟩)))))))
    · rw [cp, hz_nb (by omega)]
    · rw [cp]
    · rw [cp, hz_ns0]
    · rw [cp, hz_ns (by omega)]
    · refine (fun Z => ?_) (hz_x36 (post := post) (e := e + 1) (kdA := upd kdA p (nI j)) (sjA := upd sjA p 0) (mdA := upd mdA p 0) (scA := upd scA p (nI m)) hp4 hb (by rw [hz_af_eq hb]; exact hp) 8 0 rfl 9 (by omega))
      rw [hz_fl_0] at Z
      exact Z
  · unfold wpY_inRoom
    iterate 2 refine br_f (by decide) ?_
    refine br_t rfl ?_
    unfold wpY_create
    refine And.intro vp (nm_r (e' := upd thA p 1) ?_ (And.intro vp (nm_r (e' := upd kyA p (nI j)) ?_ (And.intro vp (nm_r (e' := upd sjA p 0) ?_ (And.intro vp (nm_r (e' := upd scA p (nI m)) ?_ ⟨9, ?_⟩)))))))
    · rw [cp, hz_nz1]
    · rw [cp]
    · rw [cp]
    · rw [cp]
    · have Z := hz_y34 (post := post) (e := e + 1) (thA := upd thA p 1) (kyA := upd kyA p (nI j)) (sjA := upd sjA p 0) (scA := upd scA p (nI m)) hp4 hb hp 8 0 rfl 9 (by omega)
      rw [hz_fl_0, hz_fl_0] at Z
      exact Z
end HZ15
end
section
section HZ16
variable {m e : Nat} {kdA sjA afA rxA mdA scA soA plA mkA txA goA erA laA fsA lsA bxA hdA heA owA szA sxA itA icA thA kyA ryA opA syA oyA ioA buA : Nat → Int32}
theorem hz_Rm_new {md2 : Nat → Int32} {w : Int32} {p : Nat} (hp4 : p < 4) (R : ∀ q, q < 4 → hz_Rm kdA thA kyA rxA ryA afA scA mdA soA plA m q) (hmd : ∀ q, q < 4 → thA q = 1 → md2 q = if q = p ∧ ¬ 2 ≤ w then mdA q + 1 else mdA q) :
    ∀ q, q < 4 → hz_Rm kdA thA kyA rxA ryA afA scA md2 (upd soA m w) (upd plA m (nI p)) (m + 1) q := by
  intro q hq
  rcases R q hq with ⟨t1, t2, t3⟩ | ⟨t1, t2, ⟨s, s1, s2, s3⟩, t4⟩
  · exact Or.inl ⟨t1, t2, t3⟩
  · refine Or.inr ⟨t1, t2, ⟨s, by omega, s2, ?_⟩, t4⟩
    have ec : ∀ n, n ≤ m → hz_cn (hz_made (upd soA m w) (upd plA m (nI p)) q) n = hz_cn (hz_made soA plA q) n := by
      intro n hn
      refine hz_cn_congr n (fun j hj => ?_)
      unfold hz_made
      rw [pk_un (by omega), pk_un (by omega)]
    have mono := hz_cn_mono (f := hz_made soA plA q) m s1
    rw [hmd q hq t1]
    by_cases c : q = p ∧ ¬ 2 ≤ w
    · have mt : hz_made (upd soA m w) (upd plA m (nI p)) q m = true := by
        unfold hz_made
        rw [pk_us, pk_us]
        exact decide_eq_true ⟨by rw [c.1], c.2⟩
      rw [if_pos c, hz_cn_t mt, ec m (Nat.le_refl m), ec s s1, s3, nI_1]
      exact congrArg nI (by omega)
    · have mf : hz_made (upd soA m w) (upd plA m (nI p)) q m = false := by
        unfold hz_made
        rw [pk_us, pk_us]
        exact decide_eq_false (fun z => c ⟨((nI_eq (by omega) (by omega)).mp z.1).symm, z.2⟩)
      rw [if_neg c, hz_cn_f mf, ec m (Nat.le_refl m), ec s s1, s3]
theorem hz_Tp_new {t : Nat} (ht : t < 4) (T : hz_Tp owA opA oyA szA sxA syA itA icA ioA m t) : hz_Tp owA opA oyA szA sxA syA itA icA (upd ioA m (-1)) (m + 1) t := by
  obtain ⟨s1, s2⟩ := T
  refine ⟨s1, ?_⟩
  rcases s2 with o | ⟨o1, o2, ⟨z, z1, z2, z3, z4⟩, T⟩
  · exact Or.inl o
  · have hio : ∀ j, j < m → (upd ioA m (-1) j = nI t ↔ ioA j = nI t) := by
      intro j hj
      rw [pk_un (by omega)]
    have hm : ¬ upd ioA m (-1) m = nI t := by
      rw [pk_us]
      exact fun y => hz_ne1 (a := t) (by omega) y.symm
    refine Or.inr ⟨o1, o2, ⟨z, z1, z2, z3, ?_⟩, hz_It_u (hz_It_c T hio (fun _ _ => rfl) rfl) hm⟩
    rw [hz_cn_f (decide_eq_false hm), hz_cn_congr m (hz_fi_c hio)]
    exact z4
theorem hz_md_le {p : Nat} (R : hz_Rm kdA thA kyA rxA ryA afA scA mdA soA plA m p) (t1 : thA p = 1) (hm : m ≤ 250) : ∃ c, c ≤ 250 ∧ mdA p = nI c := by
  obtain ⟨_, ⟨s, s1, s2, s3⟩, _⟩ := hz_Rm_there R t1
  have := hz_cn_le (hz_made soA plA p) m
  exact ⟨_, by omega, s3⟩
theorem hz_act_3 (I : hz_Inv m e kdA sjA afA rxA mdA scA soA plA mkA txA goA erA laA fsA lsA bxA hdA heA owA szA sxA itA icA thA kyA ryA opA syA oyA ioA buA) {b p : Nat} (hb : b < 8) (hp4 : p < 4) (us x : Int32) (he : e < 250) (t1 : thA p = 1) :
    ∃ u' v', i_Rel 0 u' v' ∧ (∀ post : SX → Prop, post u' → wpX_inRoom post ((nI m), (nI (e + 1)), kdA, sjA, afA, rxA, mdA, scA, soA, plA, mkA, txA, goA, erA, laA, fsA, lsA, bxA, hdA, heA, owA, szA, sxA, itA, icA) 3 (nI b) (nI p) us x) ∧ (∀ post : SY → Prop, post v' → wpY_inRoom post ((nI m), (nI (e + 1)), thA, kyA, sjA, scA, afA, ryA, opA, syA, oyA, szA, ioA, soA, plA, mkA, goA, txA, buA, heA) 3 (nI b) (nI p) us x) := by
  obtain ⟨i1, i2, i3, i4, i5, i6⟩ := I
  obtain ⟨c, c1, c2⟩ := hz_md_le (i3 p hp4) t1 (by omega)
  obtain ⟨_, _, r3⟩ := hz_Rm_there (i3 p hp4) t1
  obtain ⟨s', a1, a2, a3⟩ := hz_xpres (m := m) (e := e + 1) (kdA := kdA) (sjA := sjA) (afA := afA) (rxA := rxA) (mdA := mdA) (scA := scA) (soA := soA) (plA := plA) (mkA := mkA) (txA := txA) (goA := goA) (erA := erA) (laA := laA) (fsA := fsA) (lsA := lsA) (bxA := bxA) (hdA := hdA) (heA := heA) (owA := owA) (szA := szA) (sxA := sxA) (itA := itA) (icA := icA) hp4
  have hbx : ∀ u, u < 8 → (hz_b (nI s') u ↔ (fun u => decide (0 ≤ rxA (8 * p + u))) u = true) := fun u hu => (a2 u hu).trans decide_eq_true_iff.symm
  have hby : ∀ u, u < 8 → (0 ≤ ryA (8 * p + u) ↔ (fun u => decide (0 ≤ rxA (8 * p + u))) u = true) := by
    intro u hu
    rw [(r3 u hu).1]
    exact decide_eq_true_iff.symm
  obtain ⟨er', la', fs', ls', C', hX⟩ := hz_xsend0 (e := e + 1) (kdA := kdA) (sjA := sjA) (afA := afA) (rxA := rxA) (scA := scA) (mkA := mkA) (txA := txA) (goA := goA) (owA := owA) (szA := szA) (sxA := sxA) (itA := itA) (icA := icA) (x := x) (show m < 250 by omega) hp4 hb i5 hbx c1 c2 i4
  refine ⟨((nI (m + 1)), (nI (e + 1)), kdA, sjA, afA, rxA, (upd mdA p (nI (c + 1))), scA, (upd soA m 0), (upd plA m (nI p)), (upd mkA m (nI b)), (upd txA m x), (hz_Lg (fun u => decide (0 ≤ rxA (8 * p + u))) heA (upd goA m 0) m 8), er', la', fs', ls', (hz_Lx (fun u => decide (0 ≤ rxA (8 * p + u))) heA hdA bxA (nI m) 8), hdA, (hz_Lh (fun u => decide (0 ≤ rxA (8 * p + u))) heA 8), owA, szA, sxA, itA, icA), ((nI (m + 1)), (nI (e + 1)), thA, kyA, sjA, scA, afA, ryA, opA, syA, oyA, szA, (upd ioA m (-1)), (upd soA m 0), (upd plA m (nI p)), (upd mkA m (nI b)), (hz_Lg (fun u => decide (0 ≤ rxA (8 * p + u))) heA (upd goA m 0) m 8), (upd txA m x), (hz_Ly (fun u => decide (0 ≤ rxA (8 * p + u))) heA buA (nI m) 8), (hz_Lh (fun u => decide (0 ≤ rxA (8 * p + u))) heA 8)), ?_, fun post hp => ?_, fun post hp => ?_⟩
  · refine hz_in (m := m + 1) (e := e + 1) ⟨by omega, by omega, hz_Rm_new (w := 0) (p := p) hp4 i3 ?_, C', hz_Bx_L i5 8 (by omega), fun t ht => hz_Tp_new ht (i6 t ht)⟩
    intro q hq _
    by_cases z : q = p
    · subst z; rw [pk_us, if_pos ⟨rfl, by decide⟩, c2, nI_1]
    · rw [pk_un z, if_neg (fun y => z y.1)]
  · unfold wpX_inRoom
    iterate 5 refine br_f (by decide) ?_
    refine br_t rfl ?_
    refine a3 _ ?_
    refine hX _ ?_
    exact hp
  · unfold wpY_inRoom
    iterate 5 refine br_f (by decide) ?_
    refine br_t rfl ?_
    refine hz_ytalk (e := e + 1) (b := fun u => decide (0 ≤ rxA (8 * p + u))) (show m < 250 by omega) hp4 t1 (hz_Lh_H i5) hby ?_
    exact hp
theorem hz_act_4 (I : hz_Inv m e kdA sjA afA rxA mdA scA soA plA mkA txA goA erA laA fsA lsA bxA hdA heA owA szA sxA itA icA thA kyA ryA opA syA oyA ioA buA) {b p : Nat} (hb : b < 8) (hp4 : p < 4) (us x : Int32) (he : e < 250) (t1 : thA p = 1) :
    ∃ u' v', i_Rel 0 u' v' ∧ (∀ post : SX → Prop, post u' → wpX_inRoom post ((nI m), (nI (e + 1)), kdA, sjA, afA, rxA, mdA, scA, soA, plA, mkA, txA, goA, erA, laA, fsA, lsA, bxA, hdA, heA, owA, szA, sxA, itA, icA) 4 (nI b) (nI p) us x) ∧ (∀ post : SY → Prop, post v' → wpY_inRoom post ((nI m), (nI (e + 1)), thA, kyA, sjA, scA, afA, ryA, opA, syA, oyA, szA, ioA, soA, plA, mkA, goA, txA, buA, heA) 4 (nI b) (nI p) us x) := by
  have cp : (nI p).toNatClampNeg = p := hz_cl (by omega)
  have vp : vp_in (nI p) 4 := vp_in_nI hp4 (by decide)
  obtain ⟨i1, i2, i3, i4, i5, i6⟩ := I
  obtain ⟨c, c1, c2⟩ := hz_md_le (i3 p hp4) t1 (by omega)
  obtain ⟨_, _, r3⟩ := hz_Rm_there (i3 p hp4) t1
  obtain ⟨s', a1, a2, a3⟩ := hz_xpres (m := m) (e := e + 1) (kdA := kdA) (sjA := upd sjA p x) (afA := afA) (rxA := rxA) (mdA := mdA) (scA := scA) (soA := soA) (plA := plA) (mkA := mkA) (txA := txA) (goA := goA) (erA := erA) (laA := laA) (fsA := fsA) (lsA := lsA) (bxA := bxA) (hdA := hdA) (heA := heA) (owA := owA) (szA := szA) (sxA := sxA) (itA := itA) (icA := icA) hp4
  have hbx : ∀ u, u < 8 → (hz_b (nI s') u ↔ (fun u => decide (0 ≤ rxA (8 * p + u))) u = true) := fun u hu => (a2 u hu).trans decide_eq_true_iff.symm
  have hby : ∀ u, u < 8 → (0 ≤ ryA (8 * p + u) ↔ (fun u => decide (0 ≤ rxA (8 * p + u))) u = true) := by
    intro u hu
    rw [(r3 u hu).1]
    exact decide_eq_true_iff.symm
  refine ⟨((nI (m + 1)), (nI (e + 1)), kdA, (upd sjA p x), afA, rxA, (upd mdA p (nI (c + 1))), scA, (upd soA m 1), (upd plA m (nI p)), (upd mkA m (nI b)), (upd txA m x), (hz_Lg (fun u => decide (0 ≤ rxA (8 * p + u))) heA (upd goA m 0) m 8), erA, laA, fsA, lsA, (hz_Lx (fun u => decide (0 ≤ rxA (8 * p + u))) heA hdA bxA (nI m) 8), hdA, (hz_Lh (fun u => decide (0 ≤ rxA (8 * p + u))) heA 8), owA, szA, sxA, itA, icA), ((nI (m + 1)), (nI (e + 1)), thA, kyA, (upd sjA p x), scA, afA, ryA, opA, syA, oyA, szA, (upd ioA m (-1)), (upd soA m 1), (upd plA m (nI p)), (upd mkA m (nI b)), (hz_Lg (fun u => decide (0 ≤ rxA (8 * p + u))) heA (upd goA m 0) m 8), (upd txA m x), (hz_Ly (fun u => decide (0 ≤ rxA (8 * p + u))) heA buA (nI m) 8), (hz_Lh (fun u => decide (0 ≤ rxA (8 * p + u))) heA 8)), ?_, fun post hp => ?_, fun post hp => ?_⟩
  · refine hz_in (m := m + 1) (e := e + 1) ⟨by omega, by omega, hz_Rm_new (w := 1) (p := p) hp4 i3 ?_, hz_Ch_none (pp := nI p) i4 (by decide), hz_Bx_L i5 8 (by omega), fun t ht => hz_Tp_new ht (i6 t ht)⟩
    intro q hq _
    by_cases z : q = p
    · subst z; rw [pk_us, if_pos ⟨rfl, by decide⟩, c2, nI_1]
    · rw [pk_un z, if_neg (fun y => z y.1)]
  · unfold wpX_inRoom
    iterate 6 refine br_f (by decide) ?_
    refine br_t rfl (And.intro vp (nm_r (e' := upd sjA p x) (by rw [cp]) ?_))
    refine a3 _ ?_
    refine hz_xsend1 (e := e + 1) (show m < 250 by omega) hp4 hb i5 hbx c1 c2 ?_
    exact hp
  · unfold wpY_inRoom
    iterate 6 refine br_f (by decide) ?_
    refine br_t rfl (And.intro vp (nm_r (e' := upd sjA p x) (by rw [cp]) ?_))
    refine hz_ytalk (e := e + 1) (b := fun u => decide (0 ≤ rxA (8 * p + u))) (show m < 250 by omega) hp4 t1 (hz_Lh_H i5) hby ?_
    exact hp
theorem hz_act_9 (I : hz_Inv m e kdA sjA afA rxA mdA scA soA plA mkA txA goA erA laA fsA lsA bxA hdA heA owA szA sxA itA icA thA kyA ryA opA syA oyA ioA buA) {b p k : Nat} (hb : b < 8) (hp4 : p < 4) (x : Int32) (he : e < 250) (t1 : thA p = 1) (hk : k < 8) :
    ∃ u' v', i_Rel 0 u' v' ∧ (∀ post : SX → Prop, post u' → wpX_inRoom post ((nI m), (nI (e + 1)), kdA, sjA, afA, rxA, mdA, scA, soA, plA, mkA, txA, goA, erA, laA, fsA, lsA, bxA, hdA, heA, owA, szA, sxA, itA, icA) 9 (nI b) (nI p) (nI k) x) ∧ (∀ post : SY → Prop, post v' → wpY_inRoom post ((nI m), (nI (e + 1)), thA, kyA, sjA, scA, afA, ryA, opA, syA, oyA, szA, ioA, soA, plA, mkA, goA, txA, buA, heA) 9 (nI b) (nI p) (nI k) x) := by
  obtain ⟨i1, i2, i3, i4, i5, i6⟩ := I
  have hbx : ∀ u, u < 8 → (hz_b ((1 : Int32) <<< (nI k &&& 31)) u ↔ (fun u => decide (u = k)) u = true) := fun u hu => (hz_b_1 (by omega) (by omega)).trans decide_eq_true_iff.symm
  obtain ⟨l1, l2, l3, l4⟩ := (hz_L_one (b := fun u => decide (u = k)) (heA := heA) (hdA := hdA) (bxA := bxA) (buA := buA) (goA := upd goA m 0) (w := nI m) (m := m) (fun u _ => decide_eq_true_iff) 8 (by omega)).2 hk
  obtain ⟨h, d, g1, g2, g3, _⟩ := i5 k hk
  refine ⟨((nI (m + 1)), (nI (e + 1)), kdA, sjA, afA, rxA, mdA, scA, (upd soA m 2), (upd plA m (nI p)), (upd mkA m (nI b)), (upd txA m x), (hz_gg heA (upd goA m 0) k m), erA, laA, fsA, lsA, (hz_gx heA hdA bxA k (nI m)), hdA, (hz_gh heA k), owA, szA, sxA, itA, icA), ((nI (m + 1)), (nI (e + 1)), thA, kyA, sjA, scA, afA, ryA, opA, syA, oyA, szA, (upd ioA m (-1)), (upd soA m 2), (upd plA m (nI p)), (upd mkA m (nI b)), (hz_gg heA (upd goA m 0) k m), (upd txA m x), (hz_gy heA buA k (nI m)), (hz_gh heA k)), ?_, fun post hp => ?_, fun post hp => ?_⟩
  · refine hz_in (m := m + 1) (e := e + 1) ⟨by omega, by omega, hz_Rm_new (w := 2) (p := p) (md2 := mdA) hp4 i3 ?_, hz_Ch_none (pp := nI p) i4 (by decide), hz_Bx_give (w := nI m) i5 hk, fun t ht => hz_Tp_new ht (i6 t ht)⟩
    intro q hq _
    rw [if_neg (fun y => absurd (by decide) y.2)]
  · unfold wpX_inRoom
    iterate 11 refine br_f (by decide) ?_
    refine br_t rfl ?_
    refine hz_xsend2 (q := 2) (e := e + 1) (show m < 250 by omega) hp4 hb (Or.inl rfl) i5 hbx ?_
    rw [l1, l2, l4]
    exact hp
  · unfold wpY_inRoom
    iterate 11 refine br_f (by decide) ?_
    refine br_t rfl ?_
    refine hz_ymake (e := e + 1) (show m < 250 by omega) ?_
    show wpY_give _ _ (nI k) (nI (m + 1) - 1) 1
    rw [nI_pred]
    refine hz_ygive1 (m := m + 1) (e := e + 1) hk (show m < 250 by omega) g1 g3 ?_
    exact hp
end HZ16
end
section
section HZ17
variable {m e : Nat} {kdA sjA afA rxA mdA scA soA plA mkA txA goA erA laA fsA lsA bxA hdA heA owA szA sxA itA icA thA kyA ryA opA syA oyA ioA buA : Nat → Int32}
theorem hz_add1 {x : Int32} (h : x.toInt < 1000) : (x + 1).toInt = x.toInt + 1 := by
  have h1 := x.le_toInt
  rw [Int32.toInt_add, show (1 : Int32).toInt = 1 by decide]
  exact Int.bmod_eq_of_le (by omega) (by omega)
theorem hz_sub1 {x : Int32} (h : -1000 < x.toInt) : (x + (-1)).toInt = x.toInt - 1 := by
  have h1 := x.toInt_lt
  rw [Int32.toInt_add, show (-1 : Int32).toInt = -1 by decide]
  exact Int.bmod_eq_of_le (by omega) (by omega)
theorem hz_gt0 {x : Int32} : 0 < x ↔ 0 < x.toInt := by
  rw [Int32.lt_iff_toInt_lt, show (0 : Int32).toInt = 0 by decide]
theorem hz_m1lt {s : Nat} (h : s < 2 ^ 31) : (-1 : Int32) < nI s := by
  rw [Int32.lt_iff_toInt_lt, nI_toInt h, show (-1 : Int32).toInt = -1 by decide]
  omega
theorem hz_neg : ∀ n, n < 4 → (-(nI n)).toInt = -(n : Int) := by decide +kernel
theorem hz_ye35 {post : SY → Prop} {p s u n0 : Nat} (hm : m ≤ 250) (hn0 : n0 ≤ 3)
    (K : ∀ x3 : Int32, x3.toInt = (hz_cn (hz_said soA plA p) m : Int) - (hz_cn (hz_said soA plA p) s : Int) - (n0 : Int) → (vp_in (nI p) 4 ∧ (∀ x4 : Int32, x4 = scA (nI p).toNatClampNeg → ∃ n71 : Nat, wY_enter_71 post (nI u) (nI p) n71 x3 x4 (nI m) (nI e) thA kyA sjA scA afA ryA opA syA oyA szA ioA soA plA mkA goA txA buA heA))) :
    ∀ d j (x3 : Int32), j + d = m → s ≤ j → x3.toInt = (hz_cn (hz_said soA plA p) j : Int) - (hz_cn (hz_said soA plA p) s : Int) - (n0 : Int) → ∀ n, d < n → wY_enter_35 post (nI u) (nI p) (nI m) (nI e) thA kyA sjA scA afA ryA opA syA oyA szA ioA soA plA mkA goA txA buA heA n x3 (nI j) := by
  intro d
  induction d with
  | zero =>
    intro j x3 hj hs h3 n hn
    obtain rfl : j = m := by omega
    obtain ⟨n, rfl⟩ := hz_pos_n hn
    exact br_t (nI_le (Nat.le_refl _) (by omega)) (K x3 h3)
  | succ d ih =>
    intro j x3 hj hs h3 n hn
    obtain ⟨n, rfl⟩ := hz_pos_n hn
    have j250 : j < 250 := by omega
    have lj := hz_cn_le (hz_said soA plA p) j
    refine br_f (nI_ge (by omega) (by omega)) ?_
    cases hF : hz_said soA plA p j with
    | false =>
      refine hz_ysaid0 j250 hF ?_
      exact br_t rfl (nm_r (nI_1 j) (ih (j + 1) x3 (by omega) (by omega) (by rw [hz_cn_f hF]; exact h3) n (by omega)))
    | true =>
      refine hz_ysaid1 j250 hF ?_
      refine br_f hz_1n0 (nm_e (nm_r (nI_1 j) (ih (j + 1) (x3 + 1) (by omega) (by omega) ?_ n (by omega))))
      rw [hz_cn_t hF, hz_add1 (by omega)]
      omega
theorem hz_yskip {post : SY → Prop} {p s u n0 js : Nat} (hm : m ≤ 250) (hn0 : n0 ≤ 3) (hjs : js ≤ m) (hsk : ∀ i, s ≤ i → i < js → hz_said soA plA p i = true → n0 + hz_cn (hz_said soA plA p) i < hz_cn (hz_said soA plA p) m)
    (K : ∀ x3 : Int32, x3.toInt = (hz_cn (hz_said soA plA p) m : Int) - (hz_cn (hz_said soA plA p) js : Int) - (n0 : Int) → ∀ n, m - js < n → wY_enter_71 post (nI u) (nI p) n x3 (nI js) (nI m) (nI e) thA kyA sjA scA afA ryA opA syA oyA szA ioA soA plA mkA goA txA buA heA) :
    ∀ d j (x3 : Int32), j + d = js → s ≤ j → x3.toInt = (hz_cn (hz_said soA plA p) m : Int) - (hz_cn (hz_said soA plA p) j : Int) - (n0 : Int) → ∀ n, m - j < n → wY_enter_71 post (nI u) (nI p) n x3 (nI j) (nI m) (nI e) thA kyA sjA scA afA ryA opA syA oyA szA ioA soA plA mkA goA txA buA heA := by
  intro d
  induction d with
  | zero =>
    intro j x3 hj hs h3 n hn
    obtain rfl : j = js := by omega
    exact K x3 h3 n hn
  | succ d ih =>
    intro j x3 hj hs h3 n hn
    obtain ⟨n, rfl⟩ := hz_pos_n hn
    have j250 : j < 250 := by omega
    refine br_f (nI_ge (by omega) (by omega)) ?_
    cases hF : hz_said soA plA p j with
    | false =>
      refine hz_ysaid0 j250 hF ?_
      exact br_t rfl (nm_r (nI_1 j) (ih (j + 1) x3 (by omega) (by omega) (by rw [hz_cn_f hF]; exact h3) n (by omega)))
    | true =>
      have gt := hsk j hs (by omega) hF
      refine hz_ysaid1 j250 hF ?_
      refine br_f hz_1n0 (br_t ?_ (nm_e (nm_r (nI_1 j) (ih (j + 1) (x3 + (-1)) (by omega) (by omega) ?_ n (by omega)))))
      · rw [hz_gt0]; omega
      · rw [hz_cn_t hF, hz_sub1 (by omega)]
        omega
theorem hz_give_l {p s u n0 : Nat} (hp4 : p < 4) (hu : u < 8) (hm : m ≤ 250) (hn0 : n0 ≤ 3) (hs : scA p = nI s) (hla : ∀ j, j < m → hz_said soA plA p j = true → laA j = hz_o (hz_nx (hz_said soA plA p) (m - (j + 1)) (j + 1))) :
    ∀ d j (h0 b0 c0 : Nat → Int32) (x3 : Int32), j + d = m → s ≤ j → x3.toInt = (hz_cn (hz_said soA plA p) m : Int) - (hz_cn (hz_said soA plA p) j : Int) - (n0 : Int) → x3.toInt ≤ 0 → hz_Bx h0 hdA b0 c0 →
      ∃ h1 b1 c1 : Nat → Int32, hz_Bx h1 hdA b1 c1 ∧ (∀ n, d < n → ∀ post : SX → Prop, post ((nI m), (nI e), kdA, sjA, afA, rxA, mdA, scA, soA, plA, mkA, txA, goA, erA, laA, fsA, lsA, b1, hdA, h1, owA, szA, sxA, itA, icA) → wX_enter_94 post (nI u) (nI p) n (hz_o (hz_nx (hz_said soA plA p) d j)) (nI m) (nI e) kdA sjA afA rxA mdA scA soA plA mkA txA goA erA laA fsA lsA b0 hdA h0 owA szA sxA itA icA) ∧
        (∀ n, d < n → ∀ post : SY → Prop, post ((nI m), (nI e), thA, kyA, sjA, scA, afA, ryA, opA, syA, oyA, szA, ioA, soA, plA, mkA, goA, txA, c1, h1) → wY_enter_71 post (nI u) (nI p) n x3 (nI j) (nI m) (nI e) thA kyA sjA scA afA ryA opA syA oyA szA ioA soA plA mkA goA txA c0 h0) := by
  have cp : (nI p).toNatClampNeg = p := hz_cl (by omega)
  have vp : vp_in (nI p) 4 := vp_in_nI hp4 (by decide)
  intro d
  induction d with
  | zero =>
    intro j h0 b0 c0 x3 hj hsj h3 h30 H
    refine ⟨h0, b0, c0, H, fun n hn post hp => ?_, fun n hn post hp => ?_⟩
    · obtain ⟨n, rfl⟩ := hz_pos_n hn
      refine And.intro vp (br_t ?_ hp)
      rw [cp, hs]; exact hz_m1lt (by omega)
    · obtain ⟨n, rfl⟩ := hz_pos_n hn
      exact br_t (nI_le (by omega) (by omega)) hp
  | succ d ih =>
    intro j h0 b0 c0 x3 hj hsj h3 h30 H
    have j250 : j < 250 := by omega
    have vj : vp_in (nI j) 250 := vp_in_nI j250 (by decide)
    have cj : (nI j).toNatClampNeg = j := hz_cl (by omega)
    have nle : ¬ nI m ≤ nI j := nI_ge (by omega) (by omega)
    cases hF : hz_said soA plA p j with
    | false =>
      obtain ⟨h1, b1, c1, H1, hX, hY⟩ := ih (j + 1) h0 b0 c0 x3 (by omega) (by omega) (by rw [hz_cn_f hF]; exact h3) h30 H
      refine ⟨h1, b1, c1, H1, fun n hn post hp => ?_, fun n hn post hp => ?_⟩
      · rw [hz_nx_f hF]
        exact hX n (by omega) post hp
      · obtain ⟨n, rfl⟩ := hz_pos_n hn
        refine br_f nle ?_
        refine hz_ysaid0 j250 hF ?_
        exact br_t rfl (nm_r (nI_1 j) (hY n (by omega) post hp))
    | true =>
      have lj := hz_cn_lt (show j < m by omega) hF
      have lm := hz_cn_le (hz_said soA plA p) m
      have ela : laA (nI j).toNatClampNeg = hz_o (hz_nx (hz_said soA plA p) d (j + 1)) := by
        rw [cj, hla j (by omega) hF, show m - (j + 1) = d by omega]
      have enx : hz_o (hz_nx (hz_said soA plA p) (d + 1) j) = nI j := by
        rw [hz_nx_t hF]; rfl
      obtain ⟨h1, b1, c1, H1, hX, hY⟩ := ih (j + 1) (hz_gh h0 u) (hz_gx h0 hdA b0 u (nI j)) (hz_gy h0 c0 u (nI j)) (x3 + (-1)) (by omega) (by omega) (by rw [hz_cn_t hF, hz_sub1 (by omega)]; omega) (by rw [hz_sub1 (by omega)]; omega) (hz_Bx_give H hu)
      obtain ⟨hh, dd, a1, a2, a3, a4, _⟩ := H u hu
      refine ⟨h1, b1, c1, H1, fun n hn post hp => ?_, fun n hn post hp => ?_⟩
      · obtain ⟨n, rfl⟩ := hz_pos_n hn
        rw [enx]
        refine And.intro vp (br_f ?_ ?_)
        · rw [cp, hs]; exact nI_nlt (by omega) (by omega)
        · refine hz_xgiveP hu j250 H (fun r => ?_)
          exact And.intro vj (nm_r ela (hX n (by omega) post hp))
      · obtain ⟨n, rfl⟩ := hz_pos_n hn
        refine br_f nle ?_
        refine hz_ysaid1 j250 hF ?_
        refine br_f hz_1n0 (br_f ?_ ?_)
        · rw [hz_gt0]; omega
        · refine hz_ygive0 hu a1 a3 ?_
          exact nm_e (nm_r (nI_1 j) (hY n (by omega) post hp))
theorem hz_x38 {p s u n0 : Nat} (hp4 : p < 4) (hm : m ≤ 250) (hn0 : n0 ≤ 3) (hs : scA p = nI s) (hs2 : s ≤ m) (her : ∀ j, j < m → hz_said soA plA p j = true → erA j = hz_o (hz_pv (hz_said soA plA p) j)) :
    ∀ nn j, 1 ≤ nn → s ≤ j → j < m → hz_said soA plA p j = true → hz_cn (hz_said soA plA p) m + nn = hz_cn (hz_said soA plA p) j + n0 + 1 →
      ∃ js, s ≤ js ∧ js < m ∧ hz_said soA plA p js = true ∧ hz_cn (hz_said soA plA p) m ≤ hz_cn (hz_said soA plA p) js + n0 ∧ (∀ i, s ≤ i → i < js → hz_said soA plA p i = true → n0 + hz_cn (hz_said soA plA p) i < hz_cn (hz_said soA plA p) m) ∧
        ∀ n, nn ≤ n → ∀ post : SX → Prop, (∃ n94 : Nat, wX_enter_94 post (nI u) (nI p) n94 (nI js) (nI m) (nI e) kdA sjA afA rxA mdA scA soA plA mkA txA goA erA laA fsA lsA bxA hdA heA owA szA sxA itA icA) → wX_enter_38 post (nI u) (nI p) (nI m) (nI e) kdA sjA afA rxA mdA scA soA plA mkA txA goA erA laA fsA lsA bxA hdA heA owA szA sxA itA icA n (nI nn) (nI j) := by
  have cp : (nI p).toNatClampNeg = p := hz_cl (by omega)
  have vp : vp_in (nI p) 4 := vp_in_nI hp4 (by decide)
  intro nn
  induction nn with
  | zero => intro j h; omega
  | succ nn ih =>
    intro j _ hsj hjm hF hc
    have vj : vp_in (nI j) 250 := vp_in_nI (by omega) (by decide)
    have cj : (nI j).toNatClampNeg = j := hz_cl (by omega)
    have lm := hz_cn_le (hz_said soA plA p) m
    have lj := hz_cn_lt hjm hF
    have W : ∀ post : SX → Prop, (∃ n94 : Nat, wX_enter_94 post (nI u) (nI p) n94 (nI j) (nI m) (nI e) kdA sjA afA rxA mdA scA soA plA mkA txA goA erA laA fsA lsA bxA hdA heA owA szA sxA itA icA) → wX_enter_86 post (nI u) (nI p) (nI (nn + 1)) (nI j) (nI m) (nI e) kdA sjA afA rxA mdA scA soA plA mkA txA goA erA laA fsA lsA bxA hdA heA owA szA sxA itA icA := by
      intro post hE
      unfold wX_enter_86
      exact br_f (nI_ne0 (by omega) (by omega)) hE
    by_cases c1 : nn = 0
    · subst c1
      refine ⟨j, hsj, hjm, hF, by omega, ?_, ?_⟩
      · intro i h1 h2 h3
        have := hz_cn_lt h2 h3
        omega
      · intro n hn post hE
        obtain ⟨n, rfl⟩ := hz_pos_n (d := 0) (n := n) (by omega)
        exact br_t (nI_le (b := 1) (Nat.le_refl _) (by decide)) (W post hE)
    · have big : ¬ nI (nn + 1) ≤ 1 := nI_ge (a := 1) (by omega) (by omega)
      have hin : ¬ nI j < scA (nI p).toNatClampNeg := by rw [cp, hs]; exact nI_nlt (by omega) (by omega)
      cases hpv : hz_pv (hz_said soA plA p) j with
      | none =>
        have hno := hz_pv_none j hpv
        have ee : erA (nI j).toNatClampNeg = -1 := by rw [cj, her j hjm hF, hpv]; rfl
        refine ⟨j, hsj, hjm, hF, by omega, ?_, ?_⟩
        · intro i h1 h2 h3
          rw [hno i h2] at h3; exact absurd h3 (by decide)
        · intro n hn post hE
          obtain ⟨n, rfl⟩ := hz_pos_n (d := 0) (n := n) (by omega)
          refine br_f big (And.intro vp (br_f hin (And.intro vj (And.intro vp (br_t ?_ (W post hE))))))
          rw [ee, cp, hs]; exact hz_m1lt (by omega)
      | some l =>
        obtain ⟨l1, l2, l3⟩ := hz_pv_some j hpv
        have ee : erA (nI j).toNatClampNeg = nI l := by rw [cj, her j hjm hF, hpv]; rfl
        by_cases c2 : l < s
        · refine ⟨j, hsj, hjm, hF, by omega, ?_, ?_⟩
          · intro i h1 h2 h3
            rw [l3 i (by omega) h2] at h3; exact absurd h3 (by decide)
          · intro n hn post hE
            obtain ⟨n, rfl⟩ := hz_pos_n (d := 0) (n := n) (by omega)
            refine br_f big (And.intro vp (br_f hin (And.intro vj (And.intro vp (br_t ?_ (W post hE))))))
            rw [ee, cp, hs]; exact nI_lt c2 (by omega)
        · have ec := hz_pv_cn hpv
          obtain ⟨js, k1, k2, k3, k4, k5, k6⟩ := ih l (by omega) (by omega) (by omega) l2 (by omega)
          refine ⟨js, k1, k2, k3, k4, k5, ?_⟩
          intro n hn post hE
          obtain ⟨n, rfl⟩ := hz_pos_n (d := 0) (n := n) (by omega)
          refine br_f big (And.intro vp (br_f hin (And.intro vj (And.intro vp (br_f ?_ (And.intro vj (nm_r ee (nm_r (pk_m1 nn) (k6 n (by omega) post hE)))))))))
          rw [ee, cp, hs]; exact nI_nlt (by omega) (by omega)
theorem hz_enter_b {p s u n0 : Nat} (hp4 : p < 4) (hu : u < 8) (hm : m ≤ 250) (hn0 : n0 ≤ 3) (hs : scA p = nI s) (hs2 : s ≤ m) (C : hz_Ch (hz_said soA plA) m erA laA fsA lsA) (H : hz_Bx heA hdA bxA buA) :
    ∃ h1 b1 c1 : Nat → Int32, hz_Bx h1 hdA b1 c1 ∧ (∀ post : SX → Prop, post ((nI m), (nI e), kdA, sjA, afA, rxA, mdA, scA, soA, plA, mkA, txA, goA, erA, laA, fsA, lsA, b1, hdA, h1, owA, szA, sxA, itA, icA) → ∃ n38 : Nat, wX_enter_38 post (nI u) (nI p) (nI m) (nI e) kdA sjA afA rxA mdA scA soA plA mkA txA goA erA laA fsA lsA bxA hdA heA owA szA sxA itA icA n38 (nI n0) (lsA p)) ∧
      (∀ post : SY → Prop, post ((nI m), (nI e), thA, kyA, sjA, scA, afA, ryA, opA, syA, oyA, szA, ioA, soA, plA, mkA, goA, txA, c1, h1) → ∃ n35 : Nat, wY_enter_35 post (nI u) (nI p) (nI m) (nI e) thA kyA sjA scA afA ryA opA syA oyA szA ioA soA plA mkA goA txA buA heA n35 (-(nI n0)) (nI s)) := by
  have cp : (nI p).toNatClampNeg = p := hz_cl (by omega)
  have vp : vp_in (nI p) 4 := vp_in_nI hp4 (by decide)
  obtain ⟨_, hl, hch⟩ := C p hp4
  have Y : ∀ (post : SY → Prop) (js : Nat), s ≤ js → js ≤ m → (∀ i, s ≤ i → i < js → hz_said soA plA p i = true → n0 + hz_cn (hz_said soA plA p) i < hz_cn (hz_said soA plA p) m) →
      (∀ x3 : Int32, x3.toInt = (hz_cn (hz_said soA plA p) m : Int) - (hz_cn (hz_said soA plA p) js : Int) - (n0 : Int) → ∀ n, m - js < n → wY_enter_71 post (nI u) (nI p) n x3 (nI js) (nI m) (nI e) thA kyA sjA scA afA ryA opA syA oyA szA ioA soA plA mkA goA txA buA heA) →
      ∃ n35 : Nat, wY_enter_35 post (nI u) (nI p) (nI m) (nI e) thA kyA sjA scA afA ryA opA syA oyA szA ioA soA plA mkA goA txA buA heA n35 (-(nI n0)) (nI s) := by
    intro post js h1 h2 h3 K
    refine ⟨m - s + 1, ?_⟩
    refine hz_ye35 (s := s) (n0 := n0) hm hn0 ?_ (m - s) s (-(nI n0)) (by omega) (Nat.le_refl s) (by rw [hz_neg n0 (by omega)]; omega) (m - s + 1) (by omega)
    intro x3 hx3
    refine And.intro vp (nm_r (e' := nI s) (by rw [cp]; exact hs) ⟨m - s + 1, ?_⟩)
    exact hz_yskip hm hn0 h2 h3 K (js - s) s x3 (by omega) (Nat.le_refl s) hx3 (m - s + 1) (by omega)
  have lm := hz_cn_le (hz_said soA plA p) m
  have Y0 : (∀ i, s ≤ i → i < m → hz_said soA plA p i = true → n0 + hz_cn (hz_said soA plA p) i < hz_cn (hz_said soA plA p) m) → ∀ post : SY → Prop, post ((nI m), (nI e), thA, kyA, sjA, scA, afA, ryA, opA, syA, oyA, szA, ioA, soA, plA, mkA, goA, txA, buA, heA) → ∃ n35 : Nat, wY_enter_35 post (nI u) (nI p) (nI m) (nI e) thA kyA sjA scA afA ryA opA syA oyA szA ioA soA plA mkA goA txA buA heA n35 (-(nI n0)) (nI s) := by
    intro h3 post hp
    refine Y post m hs2 (Nat.le_refl m) h3 ?_
    intro x3 _ n hn
    obtain ⟨n, rfl⟩ := hz_pos_n hn
    exact br_t (nI_le (Nat.le_refl _) (by omega)) hp
  by_cases z0 : n0 = 0
  · subst z0
    refine ⟨heA, bxA, buA, H, fun post hp => ⟨1, ?_⟩, Y0 ?_⟩
    · refine br_t (nI_le (b := 1) (by omega) (by decide)) ?_
      unfold wX_enter_86
      refine br_t rfl ⟨1, ?_⟩
      refine And.intro vp (br_t ?_ hp)
      rw [cp, hs]; exact hz_m1lt (by omega)
    · intro i _ h2 h3
      have := hz_cn_lt h2 h3
      omega
  · have X0 : lsA p < scA p → ∀ post : SX → Prop, post ((nI m), (nI e), kdA, sjA, afA, rxA, mdA, scA, soA, plA, mkA, txA, goA, erA, laA, fsA, lsA, bxA, hdA, heA, owA, szA, sxA, itA, icA) → ∃ n38 : Nat, wX_enter_38 post (nI u) (nI p) (nI m) (nI e) kdA sjA afA rxA mdA scA soA plA mkA txA goA erA laA fsA lsA bxA hdA heA owA szA sxA itA icA n38 (nI n0) (lsA p) := by
      intro hlt post hp
      have hlt' : lsA p < scA (nI p).toNatClampNeg := by rw [cp]; exact hlt
      have W : wX_enter_86 post (nI u) (nI p) (nI n0) (lsA p) (nI m) (nI e) kdA sjA afA rxA mdA scA soA plA mkA txA goA erA laA fsA lsA bxA hdA heA owA szA sxA itA icA := by
        unfold wX_enter_86
        exact br_f (nI_ne0 (by omega) (by omega)) ⟨1, And.intro vp (br_t hlt' hp)⟩
      refine ⟨1, ?_⟩
      by_cases c : n0 ≤ 1
      · exact br_t (nI_le (b := 1) c (by decide)) W
      · exact br_f (nI_ge (a := 1) (by omega) (by omega)) (And.intro vp (br_t hlt' W))
    cases hpv : hz_pv (hz_said soA plA p) m with
    | none =>
      have hno := hz_pv_none m hpv
      refine ⟨heA, bxA, buA, H, X0 ?_, Y0 ?_⟩
      · rw [hl, hpv, hs]; exact hz_m1lt (by omega)
      · intro i _ h2 h3
        rw [hno i h2] at h3; exact absurd h3 (by decide)
    | some l =>
      obtain ⟨l1, l2, l3⟩ := hz_pv_some m hpv
      have el : lsA p = nI l := by rw [hl, hpv]; rfl
      by_cases c2 : l < s
      · refine ⟨heA, bxA, buA, H, X0 ?_, Y0 ?_⟩
        · rw [el, hs]; exact nI_lt c2 (by omega)
        · intro i h1 h2 h3
          rw [l3 i (by omega) h2] at h3; exact absurd h3 (by decide)
      · have ec := hz_pv_cn hpv
        obtain ⟨js, k1, k2, k3, k4, k5, k6⟩ := hz_x38 (m := m) (e := e) (kdA := kdA) (sjA := sjA) (afA := afA) (rxA := rxA) (mdA := mdA) (scA := scA) (soA := soA) (plA := plA) (mkA := mkA) (txA := txA) (goA := goA) (erA := erA) (laA := laA) (fsA := fsA) (lsA := lsA) (bxA := bxA) (hdA := hdA) (heA := heA) (owA := owA) (szA := szA) (sxA := sxA) (itA := itA) (icA := icA) (u := u) hp4 hm hn0 hs hs2 (fun j hj hF => (hch j hj hF).2) n0 l (by omega) (by omega) l1 l2 (by omega)
        have G := fun (x3 : Int32) h3 h30 => hz_give_l (m := m) (e := e) (kdA := kdA) (sjA := sjA) (afA := afA) (rxA := rxA) (mdA := mdA) (scA := scA) (soA := soA) (plA := plA) (mkA := mkA) (txA := txA) (goA := goA) (erA := erA) (laA := laA) (fsA := fsA) (lsA := lsA) (hdA := hdA) (owA := owA) (szA := szA) (sxA := sxA) (itA := itA) (icA := icA) (thA := thA) (kyA := kyA) (ryA := ryA) (opA := opA) (syA := syA) (oyA := oyA) (ioA := ioA) (u := u) (n0 := n0) hp4 hu hm hn0 hs (fun j hj hF => (hch j hj hF).1) (m - js) js heA bxA buA x3 (by omega) k1 h3 h30 H
        have hx3 : ∃ x3 : Int32, x3.toInt = (hz_cn (hz_said soA plA p) m : Int) - (hz_cn (hz_said soA plA p) js : Int) - (n0 : Int) := by
          have l5 := hz_cn_le (hz_said soA plA p) js
          have l6 := hz_cn_mono (f := hz_said soA plA p) m (Nat.le_of_lt k2)
          by_cases y : hz_cn (hz_said soA plA p) js + n0 ≤ hz_cn (hz_said soA plA p) m
          · refine ⟨nI (hz_cn (hz_said soA plA p) m - (hz_cn (hz_said soA plA p) js + n0)), ?_⟩
            rw [nI_toInt (by omega)]
            omega
          · refine ⟨-(nI (hz_cn (hz_said soA plA p) js + n0 - hz_cn (hz_said soA plA p) m)), ?_⟩
            rw [hz_neg _ (by omega)]
            omega
        obtain ⟨x3, h3⟩ := hx3
        obtain ⟨h1, b1, c1, H1, gX, gY⟩ := G x3 h3 (by omega)
        refine ⟨h1, b1, c1, H1, fun post hp => ⟨n0, ?_⟩, fun post hp => ?_⟩
        · rw [el]
          refine k6 n0 (Nat.le_refl _) post ⟨m - js + 1, ?_⟩
          have Z := gX (m - js + 1) (by omega) post hp
          obtain ⟨d, hd⟩ : ∃ d, m - js = d + 1 := ⟨m - js - 1, by omega⟩
          rw [hd, hz_nx_t k3, ← hd] at Z
          exact Z
        · refine Y post js k1 (by omega) k5 ?_
          intro y3 hy3 n hn
          obtain rfl : y3 = x3 := Int32.toInt_inj.mp (hy3.trans h3.symm)
          exact gY n hn post hp
theorem hz_act_1 (I : hz_Inv m e kdA sjA afA rxA mdA scA soA plA mkA txA goA erA laA fsA lsA bxA hdA heA owA szA sxA itA icA thA kyA ryA opA syA oyA ioA buA) {b p : Nat} (hb : b < 8) (hp4 : p < 4) (us x : Int32) (he : e < 250) (t1 : thA p = 1) (ha : ¬ afA (8 * p + b) = 0) :
    ∃ u' v', i_Rel 0 u' v' ∧ (∀ post : SX → Prop, post u' → wpX_inRoom post ((nI m), (nI (e + 1)), kdA, sjA, afA, rxA, mdA, scA, soA, plA, mkA, txA, goA, erA, laA, fsA, lsA, bxA, hdA, heA, owA, szA, sxA, itA, icA) 1 (nI b) (nI p) us x) ∧ (∀ post : SY → Prop, post v' → wpY_inRoom post ((nI m), (nI (e + 1)), thA, kyA, sjA, scA, afA, ryA, opA, syA, oyA, szA, ioA, soA, plA, mkA, goA, txA, buA, heA) 1 (nI b) (nI p) us x) := by
  have cp : (nI p).toNatClampNeg = p := hz_cl (by omega)
  have vp : vp_in (nI p) 4 := vp_in_nI hp4 (by decide)
  obtain ⟨i1, i2, i3, i4, i5, i6⟩ := I
  obtain ⟨⟨q, q1, q2, q3⟩, ⟨s, s1, s2, s3⟩, r3⟩ := hz_Rm_there (i3 p hp4) t1
  obtain ⟨h1, b1, c1, H1, hX, hY⟩ := hz_enter_b (m := m) (e := e + 1) (kdA := kdA) (sjA := sjA) (afA := afA) (rxA := upd rxA (8 * p + b) (hz_rv (afA (8 * p + b)) q)) (mdA := mdA) (scA := scA) (soA := soA) (plA := plA) (mkA := mkA) (txA := txA) (goA := goA) (erA := erA) (laA := laA) (fsA := fsA) (lsA := lsA) (bxA := bxA) (hdA := hdA) (heA := heA) (owA := owA) (szA := szA) (sxA := sxA) (itA := itA) (icA := icA) (thA := thA) (kyA := kyA) (ryA := upd ryA (8 * p + b) (hz_rv (afA (8 * p + b)) q)) (opA := opA) (syA := syA) (oyA := oyA) (ioA := ioA) (buA := buA) (u := b) (n0 := q / 4) hp4 hb (show m ≤ 250 by omega) (by omega) s2 s1 i4 i5
  refine ⟨((nI m), (nI (e + 1)), kdA, sjA, afA, (upd rxA (8 * p + b) (hz_rv (afA (8 * p + b)) q)), mdA, scA, soA, plA, mkA, txA, goA, erA, laA, fsA, lsA, b1, hdA, h1, owA, szA, sxA, itA, icA), ((nI m), (nI (e + 1)), thA, kyA, sjA, scA, afA, (upd ryA (8 * p + b) (hz_rv (afA (8 * p + b)) q)), opA, syA, oyA, szA, ioA, soA, plA, mkA, goA, txA, c1, h1), ?_, fun post hp => ?_, fun post hp => ?_⟩
  · exact hz_in (e := e + 1) ⟨by omega, by omega, hz_Rm_role i3 hp4 hb t1 (Or.inr ⟨hz_rv_p _ _, ha⟩), i4, H1, i6⟩
  · unfold wpX_inRoom
    iterate 3 refine br_f (by decide) ?_
    refine br_t rfl ?_
    unfold wpX_enter
    refine hz_xroleOf (e := e + 1) hp4 hb q2 ?_
    refine And.intro (hz_v8 hp4 hb) (nm_r (e' := upd rxA (8 * p + b) (hz_rv (afA (8 * p + b)) q)) ?_ (And.intro vp (nm_r (e' := nI (q / 4)) ?_ (And.intro vp (nm_r (e' := lsA p) ?_ ?_)))))
    · rw [hz_x8 hp4 hb, hz_rv_n]
    · rw [cp, q2]; exact pk_shrN (by omega) _ 2 (by decide)
    · rw [cp]
    · exact hX _ hp
  · unfold wpY_inRoom
    iterate 3 refine br_f (by decide) ?_
    refine br_t rfl ?_
    unfold wpY_enter
    refine hz_yent (e := e + 1) hp4 hb q1 q3 ?_
    refine And.intro (hz_v8 hp4 hb) (nm_r (e' := upd ryA (8 * p + b) (hz_rv (afA (8 * p + b)) q)) ?_ (And.intro vp (nm_r (e' := -(nI (q / 4))) ?_ (And.intro vp (nm_r (e' := nI s) ?_ ?_)))))
    · rw [hz_x8 hp4 hb]
    · rw [cp, q3]; exact congrArg (fun z => -z) (pk_shrN (by omega) _ 2 (by decide))
    · rw [cp]; exact s2
    · exact hY _ hp
end HZ17
end
section
section HZ18
variable {m e : Nat} {kdA sjA afA rxA mdA scA soA plA mkA txA goA erA laA fsA lsA bxA hdA heA owA szA sxA itA icA thA kyA ryA opA syA oyA ioA buA : Nat → Int32}
theorem hz_Tp_set {ow2 op2 oy2 sz2 sx2 sy2 it2 ic2 io2 : Nat → Int32} {t : Nat} (T : ∀ q, q < 4 → hz_Tp owA opA oyA szA sxA syA itA icA ioA m q) (Tt : hz_Tp ow2 op2 oy2 sz2 sx2 sy2 it2 ic2 io2 m t)
    (h : ∀ q, q < 4 → q ≠ t → ow2 q = owA q ∧ op2 q = opA q ∧ oy2 q = oyA q ∧ sz2 q = szA q ∧ sx2 q = sxA q ∧ ic2 q = icA q ∧ (∀ u, u < 8 → sy2 (8 * q + u) = syA (8 * q + u)) ∧ (∀ k, k < 5 → it2 (5 * q + k) = itA (5 * q + k)) ∧ ∀ j, j < m → (io2 j = nI q ↔ ioA j = nI q)) :
    ∀ q, q < 4 → hz_Tp ow2 op2 oy2 sz2 sx2 sy2 it2 ic2 io2 m q := by
  intro q hq
  by_cases c : q = t
  · subst c; exact Tt
  · obtain ⟨h1, h2, h3, h4, h5, h6, h7, h8, h9⟩ := h q hq c
    obtain ⟨s1, s2⟩ := T q hq
    refine ⟨fun u hu => ?_, ?_⟩
    · rw [h5, h7 u hu]; exact s1 u hu
    · rcases s2 with o | ⟨o1, o2, ⟨z, z1, z2, z3, z4⟩, o4⟩
      · rw [h1, h2]; exact Or.inl o
      · refine Or.inr ⟨by rw [h2]; exact o1, by rw [h1, h3]; exact o2, ⟨z, z1, z2, by rw [h4]; exact z3, ?_⟩, hz_It_c o4 h9 h8 h6⟩
        rw [hz_cn_congr m (hz_fi_c h9)]
        exact z4
theorem hz_Tp_open {t : Nat} (T : hz_Tp owA opA oyA szA sxA syA itA icA ioA m t) (o : opA t = 1) : (∃ b, b < 8 ∧ owA t = nI b ∧ oyA t = nI b) ∧ (∃ z, 1 ≤ z ∧ z ≤ 4 ∧ szA t = nI z ∧ hz_cn (hz_fi ioA t) m ≤ z) ∧ hz_It itA icA ioA m t := by
  rcases T.2 with ⟨o1, _⟩ | ⟨_, o2, o3, o4⟩
  · rw [o1] at o; exact absurd o.symm hz_1n0
  · exact ⟨o2, o3, o4⟩
/-! a topic closed -/
theorem hz_act_15 (I : hz_Inv m e kdA sjA afA rxA mdA scA soA plA mkA txA goA erA laA fsA lsA bxA hdA heA owA szA sxA itA icA thA kyA ryA opA syA oyA ioA buA) {b t : Nat} (hb : b < 8) (ht : t < 4) (x : Int32) (he : e < 250) :
    ∃ u' v', i_Rel 0 u' v' ∧ (∀ post : SX → Prop, post u' → wpX_onTopic post ((nI m), (nI (e + 1)), kdA, sjA, afA, rxA, mdA, scA, soA, plA, mkA, txA, goA, erA, laA, fsA, lsA, bxA, hdA, heA, owA, szA, sxA, itA, icA) 15 (nI b) (nI t) x) ∧ (∀ post : SY → Prop, post v' → wpY_onTopic post ((nI m), (nI (e + 1)), thA, kyA, sjA, scA, afA, ryA, opA, syA, oyA, szA, ioA, soA, plA, mkA, goA, txA, buA, heA) 15 (nI b) (nI t) x) := by
  have ct : (nI t).toNatClampNeg = t := hz_cl (by omega)
  have vt : vp_in (nI t) 4 := vp_in_nI ht (by decide)
  obtain ⟨i1, i2, i3, i4, i5, i6⟩ := I
  refine ⟨((nI m), (nI (e + 1)), kdA, sjA, afA, rxA, mdA, scA, soA, plA, mkA, txA, goA, erA, laA, fsA, lsA, bxA, hdA, heA, (upd owA t (-1)), szA, sxA, itA, icA), ((nI m), (nI (e + 1)), thA, kyA, sjA, scA, afA, ryA, (upd opA t 0), syA, oyA, szA, ioA, soA, plA, mkA, goA, txA, buA, heA), ?_, fun post hp => ?_, fun post hp => ?_⟩
  · refine hz_in (e := e + 1) ⟨by omega, by omega, i3, i4, i5, ?_⟩
    refine hz_Tp_set i6 (t := t) ?_ (fun q hq c => ⟨pk_un c, pk_un c, rfl, rfl, rfl, rfl, fun _ _ => rfl, fun _ _ => rfl, fun _ _ => Iff.rfl⟩)
    exact ⟨(i6 t ht).1, Or.inl ⟨pk_us, pk_us⟩⟩
  · unfold wpX_onTopic
    refine br_f (by decide) (br_t (by decide) (And.intro vt (nm_r (e' := upd owA t (-1)) ?_ hp)))
    rw [ct, hz_nbm]
  · unfold wpY_onTopic
    refine br_f (by decide) (br_t (by decide) (And.intro vt (nm_r (e' := upd opA t 0) ?_ hp)))
    rw [ct, hz_nz0]
/-! unsubscribed -/
theorem hz_act_12 (I : hz_Inv m e kdA sjA afA rxA mdA scA soA plA mkA txA goA erA laA fsA lsA bxA hdA heA owA szA sxA itA icA thA kyA ryA opA syA oyA ioA buA) {b t : Nat} (hb : b < 8) (ht : t < 4) (x : Int32) (he : e < 250) :
    ∃ u' v', i_Rel 0 u' v' ∧ (∀ post : SX → Prop, post u' → wpX_onTopic post ((nI m), (nI (e + 1)), kdA, sjA, afA, rxA, mdA, scA, soA, plA, mkA, txA, goA, erA, laA, fsA, lsA, bxA, hdA, heA, owA, szA, sxA, itA, icA) 12 (nI b) (nI t) x) ∧ (∀ post : SY → Prop, post v' → wpY_onTopic post ((nI m), (nI (e + 1)), thA, kyA, sjA, scA, afA, ryA, opA, syA, oyA, szA, ioA, soA, plA, mkA, goA, txA, buA, heA) 12 (nI b) (nI t) x) := by
  have ct : (nI t).toNatClampNeg = t := hz_cl (by omega)
  have vt : vp_in (nI t) 4 := vp_in_nI ht (by decide)
  obtain ⟨i1, i2, i3, i4, i5, i6⟩ := I
  refine ⟨((nI m), (nI (e + 1)), kdA, sjA, afA, rxA, mdA, scA, soA, plA, mkA, txA, goA, erA, laA, fsA, lsA, bxA, hdA, heA, owA, szA, (upd sxA t (sxA t &&& (((1 : Int32) <<< (nI b &&& 31)) ^^^ (-1)))), itA, icA), ((nI m), (nI (e + 1)), thA, kyA, sjA, scA, afA, ryA, opA, (upd syA (8 * t + b) 0), oyA, szA, ioA, soA, plA, mkA, goA, txA, buA, heA), ?_, fun post hp => ?_, fun post hp => ?_⟩
  · refine hz_in (e := e + 1) ⟨by omega, by omega, i3, i4, i5, ?_⟩
    refine hz_Tp_set i6 (t := t) ?_ (fun q hq c => ⟨rfl, rfl, rfl, rfl, pk_un c, rfl, fun u hu => pk_un (by omega), fun _ _ => rfl, fun _ _ => Iff.rfl⟩)
    refine ⟨fun u hu => ?_, (i6 t ht).2⟩
    rw [pk_us, hz_b_an (by omega) (by omega)]
    by_cases c : u = b
    · subst c
      rw [pk_us]
      exact Or.inr ⟨rfl, fun z => z.2 rfl⟩
    · rw [pk_un (by omega)]
      rcases (i6 t ht).1 u hu with ⟨w1, w2⟩ | ⟨w1, w2⟩
      · exact Or.inl ⟨w1, w2, c⟩
      · exact Or.inr ⟨w1, fun z => w2 z.1⟩
  · unfold wpX_onTopic
    iterate 4 refine br_f (by decide) ?_
    refine br_t rfl (And.intro vt (And.intro vt (nm_r (e' := upd sxA t (sxA t &&& (((1 : Int32) <<< (nI b &&& 31)) ^^^ (-1)))) ?_ hp)))
    rw [ct]
  · unfold wpY_onTopic
    iterate 4 refine br_f (by decide) ?_
    refine br_t rfl (And.intro (hz_v8 ht hb) (nm_r (e' := upd syA (8 * t + b) 0) ?_ hp))
    rw [hz_x8 ht hb, hz_nz0]
/-! a topic opened -/
def hz_ci (ioA : Nat → Int32) (t i : Nat) : Nat → Int32 := fun j => if j < i ∧ ioA j = nI t then -1 else ioA j
theorem hz_ci_0 {t : Nat} : hz_ci ioA t 0 = ioA := by
  funext j
  exact if_neg (fun z => absurd z.1 (Nat.not_lt_zero _))
theorem hz_ci_i {t i : Nat} : hz_ci ioA t i i = ioA i := if_neg (fun z => absurd z.1 (Nat.lt_irrefl _))
theorem hz_ci_t {t i : Nat} (h : ioA i = nI t) : upd (hz_ci ioA t i) i (-1) = hz_ci ioA t (i + 1) := by
  funext j
  by_cases c : j = i
  · subst c
    rw [pk_us]
    exact (if_pos ⟨by omega, h⟩).symm
  · rw [pk_un c]
    unfold hz_ci
    by_cases d : j < i ∧ ioA j = nI t
    · rw [if_pos d, if_pos ⟨by omega, d.2⟩]
    · rw [if_neg d, if_neg (fun z => d ⟨by omega, z.2⟩)]
theorem hz_ci_f {t i : Nat} (h : ¬ ioA i = nI t) : hz_ci ioA t i = hz_ci ioA t (i + 1) := by
  funext j
  unfold hz_ci
  by_cases d : j < i ∧ ioA j = nI t
  · rw [if_pos d, if_pos ⟨by omega, d.2⟩]
  · rw [if_neg d, if_neg (fun z => d ⟨?_, z.2⟩)]
    by_cases c : j = i
    · subst c; exact absurd z.2 h
    · omega
theorem hz_y90 {post : SY → Prop} {t : Nat} (hm : m ≤ 250) (K : post ((nI m), (nI e), thA, kyA, sjA, scA, afA, ryA, opA, syA, oyA, szA, (hz_ci ioA t m), soA, plA, mkA, goA, txA, buA, heA)) :
    ∀ d i, i + d = m → ∀ n, d < n → wY_onTopic_90 post (nI t) (nI m) (nI e) n (nI i) thA kyA sjA scA afA ryA opA syA oyA szA (hz_ci ioA t i) soA plA mkA goA txA buA heA := by
  intro d
  induction d with
  | zero =>
    intro i hi n hn
    obtain rfl : i = m := by omega
    obtain ⟨n, rfl⟩ := hz_pos_n hn
    exact br_t (nI_le (Nat.le_refl _) (by omega)) K
  | succ d ih =>
    intro i hi n hn
    obtain ⟨n, rfl⟩ := hz_pos_n hn
    have vi : vp_in (nI i) 250 := vp_in_nI (by omega) (by decide)
    have ci : (nI i).toNatClampNeg = i := hz_cl (by omega)
    have I1 := ih (i + 1) (by omega) n (by omega)
    refine br_f (nI_ge (by omega) (by omega)) (And.intro vi ?_)
    by_cases c : ioA i = nI t
    · refine br_t (by rw [ci, hz_ci_i]; exact c) (And.intro vi (nm_r (e' := hz_ci ioA t (i + 1)) ?_ (nm_r (nI_1 i) I1)))
      rw [ci, hz_ci_t c]
    · rw [← hz_ci_f c] at I1
      exact br_f (by rw [ci, hz_ci_i]; exact c) (nm_r (nI_1 i) I1)
theorem hz_y61 {post : SY → Prop} {t : Nat} (ht : t < 4) (K : ∃ n90 : Nat, wY_onTopic_90 post (nI t) (nI m) (nI e) n90 0 thA kyA sjA scA afA ryA opA (hz_fl syA (8 * t) 8 (fun _ => 0)) oyA szA ioA soA plA mkA goA txA buA heA) :
    ∀ d i, i + d = 8 → ∀ n, d < n → wY_onTopic_61 post (nI t) (nI m) (nI e) n (nI i) thA kyA sjA scA afA ryA opA (hz_fl syA (8 * t) i (fun _ => 0)) oyA szA ioA soA plA mkA goA txA buA heA := by
  intro d
  induction d with
  | zero =>
    intro i hi n hn
    obtain rfl : i = 8 := by omega
    obtain ⟨n, rfl⟩ := hz_pos_n hn
    exact br_t (nI_le (a := 8) (Nat.le_refl _) (by omega)) K
  | succ d ih =>
    intro i hi n hn
    obtain ⟨n, rfl⟩ := hz_pos_n hn
    have i8 : i < 8 := by omega
    refine br_f (nI_ge (b := 8) i8 (by decide)) (And.intro (hz_v8 ht i8) (nm_r (e' := hz_fl syA (8 * t) (i + 1) (fun _ => 0)) ?_ (nm_r (nI_1 i) (ih (i + 1) (by omega) n (by omega)))))
    rw [hz_x8 ht i8, hz_nz0]
    exact hz_fl_s (v := fun _ => 0)
theorem hz_act_10 (I : hz_Inv m e kdA sjA afA rxA mdA scA soA plA mkA txA goA erA laA fsA lsA bxA hdA heA owA szA sxA itA icA thA kyA ryA opA syA oyA ioA buA) {b t z : Nat} (hb : b < 8) (ht : t < 4) (z1 : 1 ≤ z) (z2 : z ≤ 4) (he : e < 250) :
    ∃ u' v', i_Rel 0 u' v' ∧ (∀ post : SX → Prop, post u' → wpX_onTopic post ((nI m), (nI (e + 1)), kdA, sjA, afA, rxA, mdA, scA, soA, plA, mkA, txA, goA, erA, laA, fsA, lsA, bxA, hdA, heA, owA, szA, sxA, itA, icA) 10 (nI b) (nI t) (nI z)) ∧ (∀ post : SY → Prop, post v' → wpY_onTopic post ((nI m), (nI (e + 1)), thA, kyA, sjA, scA, afA, ryA, opA, syA, oyA, szA, ioA, soA, plA, mkA, goA, txA, buA, heA) 10 (nI b) (nI t) (nI z)) := by
  have ct : (nI t).toNatClampNeg = t := hz_cl (by omega)
  have vt : vp_in (nI t) 4 := vp_in_nI ht (by decide)
  obtain ⟨i1, i2, i3, i4, i5, i6⟩ := I
  have ne : ∀ j, j < m → ¬ hz_ci ioA t m j = nI t := by
    intro j hj z
    unfold hz_ci at z
    by_cases c : ioA j = nI t
    · rw [if_pos ⟨hj, c⟩] at z
      exact hz_ne1 (a := t) (by omega) z.symm
    · rw [if_neg (fun y => c y.2)] at z
      exact c z
  refine ⟨((nI m), (nI (e + 1)), kdA, sjA, afA, rxA, mdA, scA, soA, plA, mkA, txA, goA, erA, laA, fsA, lsA, bxA, hdA, heA, (upd owA t (nI b)), (upd szA t (nI z)), (upd sxA t 0), itA, (upd icA t 0)), ((nI m), (nI (e + 1)), thA, kyA, sjA, scA, afA, ryA, (upd opA t 1), (hz_fl syA (8 * t) 8 (fun _ => 0)), (upd oyA t (nI b)), (upd szA t (nI z)), (hz_ci ioA t m), soA, plA, mkA, goA, txA, buA, heA), ?_, fun post hp => ?_, fun post hp => ?_⟩
  · refine hz_in (e := e + 1) ⟨by omega, by omega, i3, i4, i5, ?_⟩
    refine hz_Tp_set i6 (t := t) ?_ (fun q hq c => ⟨pk_un c, pk_un c, pk_un c, pk_un c, pk_un c, pk_un c, fun u hu => hz_fl_out (by omega), fun _ _ => rfl, fun j hj => ?_⟩)
    · obtain ⟨T, T0⟩ := hz_It_0 (itA := itA) (icA := upd icA t 0) (t := t) ne pk_us
      refine ⟨fun u hu => Or.inr ⟨hz_fl_in (v := fun _ => 0) hu, ?_⟩, Or.inr ⟨pk_us, ⟨b, hb, pk_us, pk_us⟩, ⟨z, z1, z2, pk_us, by rw [T0]; omega⟩, T⟩⟩
      rw [pk_us]
      exact hz_b_0 (by omega)
    · unfold hz_ci
      by_cases y : ioA j = nI t
      · rw [if_pos ⟨hj, y⟩, y]
        exact ⟨fun w => absurd w.symm (hz_ne1 (by omega)), fun w => absurd ((nI_eq (by omega) (by omega)).mp w).symm c⟩
      · rw [if_neg (fun w => y w.2)]
  · unfold wpX_onTopic
    iterate 2 refine br_f (by decide) ?_
    refine br_t rfl (And.intro vt (nm_r (e' := upd owA t (nI b)) ?_ (And.intro vt (nm_r (e' := upd szA t (nI z)) ?_ (And.intro vt (nm_r (e' := upd sxA t 0) ?_ (And.intro vt (nm_r (e' := upd icA t 0) ?_ hp))))))))
    · rw [ct, hz_nb (by omega)]
    · rw [ct, hz_nb (by omega)]
    · rw [ct]
    · rw [ct, hz_nb0]
  · unfold wpY_onTopic
    iterate 2 refine br_f (by decide) ?_
    refine br_t rfl (And.intro vt (nm_r (e' := upd opA t 1) ?_ (And.intro vt (nm_r (e' := upd oyA t (nI b)) ?_ (And.intro vt (nm_r (e' := upd szA t (nI z)) ?_ ⟨9, ?_⟩))))))
    · rw [ct, hz_nz1]
    · rw [ct]
    · rw [ct]
    · have Z1 := hz_y90 (post := post) (e := e + 1) (t := t) (opA := upd opA t 1) (oyA := upd oyA t (nI b)) (szA := upd szA t (nI z)) (syA := hz_fl syA (8 * t) 8 (fun _ => 0)) (show m ≤ 250 by omega) hp m 0 (by omega) (m + 1) (by omega)
      rw [hz_ci_0] at Z1
      have Z2 := hz_y61 ht ⟨m + 1, Z1⟩ 8 0 rfl 9 (by omega)
      rw [hz_fl_0] at Z2
      exact Z2
/-! subscribed: the newest item is given -/
theorem hz_yitems_l {post : Int32 → Prop} {t : Nat} (hm : m ≤ 250) (hp : post (nI (hz_cn (hz_fi ioA t) m))) :
    ∀ d i, i + d = m → ∀ n, d < n → wY_items_4 post (nI t) (nI m) (nI e) thA kyA sjA scA afA ryA opA syA oyA szA ioA soA plA mkA goA txA buA heA n (nI (hz_cn (hz_fi ioA t) i)) (nI i) := by
  intro d
  induction d with
  | zero =>
    intro i hi n hn
    obtain rfl : i = m := by omega
    obtain ⟨n, rfl⟩ := hz_pos_n hn
    exact br_t (nI_le (Nat.le_refl _) (by omega)) hp
  | succ d ih =>
    intro i hi n hn
    obtain ⟨n, rfl⟩ := hz_pos_n hn
    have vi : vp_in (nI i) 250 := vp_in_nI (by omega) (by decide)
    have ci : (nI i).toNatClampNeg = i := hz_cl (by omega)
    have I1 := ih (i + 1) (by omega) n (by omega)
    refine br_f (nI_ge (by omega) (by omega)) (And.intro vi ?_)
    by_cases c : ioA i = nI t
    · rw [hz_cn_t (hz_fi_t.mpr c)] at I1
      exact br_t (by rw [ci]; exact c) (nm_r (nI_1 _) (nm_r (nI_1 i) I1))
    · rw [hz_cn_f (decide_eq_false c)] at I1
      exact br_f (by rw [ci]; exact c) (nm_r (nI_1 i) I1)
theorem hz_yitems {post : Int32 → Prop} {t : Nat} (hm : m ≤ 250) (hp : post (nI (hz_cn (hz_fi ioA t) m))) : wpY_items post ((nI m), (nI e), thA, kyA, sjA, scA, afA, ryA, opA, syA, oyA, szA, ioA, soA, plA, mkA, goA, txA, buA, heA) (nI t) :=
  ⟨m + 1, hz_yitems_l hm hp m 0 (Nat.zero_add m) (m + 1) (by omega)⟩
theorem hz_act_11 (I : hz_Inv m e kdA sjA afA rxA mdA scA soA plA mkA txA goA erA laA fsA lsA bxA hdA heA owA szA sxA itA icA thA kyA ryA opA syA oyA ioA buA) {b t : Nat} (hb : b < 8) (ht : t < 4) (x : Int32) (he : e < 250) (o1 : opA t = 1) :
    ∃ u' v', i_Rel 0 u' v' ∧ (∀ post : SX → Prop, post u' → wpX_onTopic post ((nI m), (nI (e + 1)), kdA, sjA, afA, rxA, mdA, scA, soA, plA, mkA, txA, goA, erA, laA, fsA, lsA, bxA, hdA, heA, owA, szA, sxA, itA, icA) 11 (nI b) (nI t) x) ∧ (∀ post : SY → Prop, post v' → wpY_onTopic post ((nI m), (nI (e + 1)), thA, kyA, sjA, scA, afA, ryA, opA, syA, oyA, szA, ioA, soA, plA, mkA, goA, txA, buA, heA) 11 (nI b) (nI t) x) := by
  have ct : (nI t).toNatClampNeg = t := hz_cl (by omega)
  have vt : vp_in (nI t) 4 := vp_in_nI ht (by decide)
  obtain ⟨i1, i2, i3, i4, i5, i6⟩ := I
  obtain ⟨o2, o3, n1, n2, n3⟩ := hz_Tp_open (i6 t ht) o1
  have T : ∀ q, q < 4 → hz_Tp owA opA oyA szA (upd sxA t (sxA t ||| ((1 : Int32) <<< (nI b &&& 31)))) (upd syA (8 * t + b) 1) itA icA ioA m q := by
    refine hz_Tp_set i6 (t := t) ?_ (fun q hq c => ⟨rfl, rfl, rfl, rfl, pk_un c, rfl, fun u hu => pk_un (by omega), fun _ _ => rfl, fun _ _ => Iff.rfl⟩)
    refine ⟨fun u hu => ?_, (i6 t ht).2⟩
    rw [pk_us, hz_b_or (by omega) (by omega)]
    by_cases c : u = b
    · subst c
      rw [pk_us]
      exact Or.inl ⟨rfl, Or.inr rfl⟩
    · rw [pk_un (by omega)]
      rcases (i6 t ht).1 u hu with ⟨w1, w2⟩ | ⟨w1, w2⟩
      · exact Or.inl ⟨w1, Or.inl w2⟩
      · exact Or.inr ⟨w1, fun z => z.elim w2 c⟩
  by_cases c0 : hz_cn (hz_fi ioA t) m = 0
  · refine ⟨((nI m), (nI (e + 1)), kdA, sjA, afA, rxA, mdA, scA, soA, plA, mkA, txA, goA, erA, laA, fsA, lsA, bxA, hdA, heA, owA, szA, (upd sxA t (sxA t ||| ((1 : Int32) <<< (nI b &&& 31)))), itA, icA), ((nI m), (nI (e + 1)), thA, kyA, sjA, scA, afA, ryA, opA, (upd syA (8 * t + b) 1), oyA, szA, ioA, soA, plA, mkA, goA, txA, buA, heA), hz_in (e := e + 1) ⟨by omega, by omega, i3, i4, i5, T⟩, fun post hp => ?_, fun post hp => ?_⟩
    · unfold wpX_onTopic
      iterate 3 refine br_f (by decide) ?_
      refine br_t rfl (And.intro vt (And.intro vt (nm_r (e' := upd sxA t (sxA t ||| ((1 : Int32) <<< (nI b &&& 31)))) (by rw [ct]) (And.intro vt (br_t ?_ hp)))))
      rw [ct, n1, c0]; decide
    · unfold wpY_onTopic
      iterate 3 refine br_f (by decide) ?_
      refine br_t rfl (And.intro (hz_v8 ht hb) (nm_r (e' := upd syA (8 * t + b) 1) (by rw [hz_x8 ht hb, hz_nz1]) ?_))
      refine hz_yitems (e := e + 1) (by omega) ?_
      rw [c0]
      exact br_t (by decide) hp
  · obtain ⟨j0, j1, j2, j3⟩ := hz_cn_ex (f := hz_fi ioA t) (k := hz_cn (hz_fi ioA t) m - 1) m (by omega)
    have j2' := hz_fi_t.mp j2
    have ei : (5 : Int32) * nI t + nI (hz_cn (hz_fi ioA t) m) - 1 = nI (5 * t + (hz_cn (hz_fi ioA t) m - 1)) := by
      rw [hz_i5, show 5 * t + hz_cn (hz_fi ioA t) m = 5 * t + (hz_cn (hz_fi ioA t) m - 1) + 1 by omega, nI_pred]
    have e60 : ∃ h, h ≤ 60 ∧ heA b = nI h := by
      obtain ⟨h, d, a1, a2, a3, _⟩ := i5 b hb
      exact ⟨h, a1, a3⟩
    obtain ⟨h, a1, a3⟩ := e60
    refine ⟨((nI m), (nI (e + 1)), kdA, sjA, afA, rxA, mdA, scA, soA, plA, mkA, txA, goA, erA, laA, fsA, lsA, (hz_gx heA hdA bxA b (nI j0)), hdA, (hz_gh heA b), owA, szA, (upd sxA t (sxA t ||| ((1 : Int32) <<< (nI b &&& 31)))), itA, icA), ((nI m), (nI (e + 1)), thA, kyA, sjA, scA, afA, ryA, opA, (upd syA (8 * t + b) 1), oyA, szA, ioA, soA, plA, mkA, goA, txA, (hz_gy heA buA b (nI j0)), (hz_gh heA b)), hz_in (e := e + 1) ⟨by omega, by omega, i3, i4, hz_Bx_give i5 hb, T⟩, fun post hp => ?_, fun post hp => ?_⟩
    · unfold wpX_onTopic
      iterate 3 refine br_f (by decide) ?_
      refine br_t rfl (And.intro vt (And.intro vt (nm_r (e' := upd sxA t (sxA t ||| ((1 : Int32) <<< (nI b &&& 31)))) (by rw [ct]) (And.intro vt (br_f ?_ (And.intro vt ?_))))))
      · rw [ct, n1]; exact nI_nle (by omega) (by omega)
      · rw [ct, n1, ei]
        refine And.intro (vp_in_nI (by omega) (by decide)) ?_
        rw [hz_cl (by omega), ← j3, n3 j0 j1 j2']
        refine hz_xgiveP (e := e + 1) hb (by omega) i5 (fun r => ?_)
        exact hp
    · unfold wpY_onTopic
      iterate 3 refine br_f (by decide) ?_
      refine br_t rfl (And.intro (hz_v8 ht hb) (nm_r (e' := upd syA (8 * t + b) 1) (by rw [hz_x8 ht hb, hz_nz1]) ?_))
      refine hz_yitems (e := e + 1) (by omega) ?_
      refine br_f (nI_nle (by omega) (by omega)) ?_
      refine hz_yitems (e := e + 1) (by omega) ?_
      refine hz_yitem1 (e := e + 1) (j0 := j0) (by omega) ht o1 j1 j2' ?_ ?_
      · rw [j3, show nI (hz_cn (hz_fi ioA t) m) - 1 = nI (hz_cn (hz_fi ioA t) m - 1) from pk_sub (b := 1) (by omega)]
      · refine hz_ygive0 (e := e + 1) hb a1 a3 ?_
        exact hp
/-! an item removed -/
theorem hz_xrm_l {post : SX → Prop} {t k c : Nat} (ht : t < 4) (hc : c ≤ 4) (hk : k ≤ c) (hic : icA t = nI c) (hit : ∀ i, i ≤ c → ∃ j, j < 300 ∧ itA (5 * t + i) = nI j)
    (K : post ((nI m), (nI e), kdA, sjA, afA, rxA, mdA, scA, soA, plA, mkA, txA, goA, erA, laA, fsA, lsA, bxA, hdA, heA, owA, szA, sxA, (hz_fl itA (5 * t + k) (c - k) (fun i => itA (5 * t + k + i + 1))), icA)) :
    ∀ d i, i + d = c - k → ∀ n, d < n → wX_remove_13 post (nI t) (nI m) (nI e) n (nI (k + i)) kdA sjA afA rxA mdA scA soA plA mkA txA goA erA laA fsA lsA bxA hdA heA owA szA sxA (hz_fl itA (5 * t + k) i (fun i => itA (5 * t + k + i + 1))) icA := by
  have ct : (nI t).toNatClampNeg = t := hz_cl (by omega)
  have vt : vp_in (nI t) 4 := vp_in_nI ht (by decide)
  intro d
  induction d with
  | zero =>
    intro i hi n hn
    obtain rfl : i = c - k := by omega
    obtain ⟨n, rfl⟩ := hz_pos_n hn
    refine And.intro vt (br_t ?_ K)
    rw [ct, hic]; exact nI_le (by omega) (by omega)
  | succ d ih =>
    intro i hi n hn
    obtain ⟨n, rfl⟩ := hz_pos_n hn
    obtain ⟨j, j1, j2⟩ := hit (k + i + 1) (by omega)
    have e1 : (5 : Int32) * nI t + nI (k + i) + 1 = nI (5 * t + k + i + 1) := by
      rw [hz_i5, nI_1]
      exact congrArg nI (by omega)
    refine And.intro vt (br_f ?_ (And.intro ?_ (And.intro (hz_v5 ht (by omega)) (nm_r (e' := hz_fl itA (5 * t + k) (i + 1) (fun i => itA (5 * t + k + i + 1))) ?_ (nm_r (e' := nI (k + (i + 1))) (nI_1 (k + i)) (ih (i + 1) (by omega) n (by omega)))))))
    · rw [ct, hic]; exact nI_ge (by omega) (by omega)
    · rw [e1]; exact vp_in_nI (by omega) (by decide)
    · rw [e1, hz_x5 ht (by omega), hz_cl (by omega), hz_fl_out (by omega), ← hz_fl_s]
      have ej : itA (5 * t + k + i + 1) = nI j := by
        rw [show 5 * t + k + i + 1 = 5 * t + (k + i + 1) by omega]; exact j2
      rw [ej, hz_ns' j1, Nat.add_assoc (5 * t) k i]
theorem hz_xremove {post : SX → Prop} {t k c : Nat} (ht : t < 4) (hc : c ≤ 4) (hk : k ≤ c) (hic : icA t = nI (c + 1)) (hit : ∀ i, i ≤ c → ∃ j, j < 300 ∧ itA (5 * t + i) = nI j)
    (K : post ((nI m), (nI e), kdA, sjA, afA, rxA, mdA, scA, soA, plA, mkA, txA, goA, erA, laA, fsA, lsA, bxA, hdA, heA, owA, szA, sxA, (hz_fl itA (5 * t + k) (c - k) (fun i => itA (5 * t + k + i + 1))), (upd icA t (nI c)))) : wpX_remove post ((nI m), (nI e), kdA, sjA, afA, rxA, mdA, scA, soA, plA, mkA, txA, goA, erA, laA, fsA, lsA, bxA, hdA, heA, owA, szA, sxA, itA, icA) (nI t) (nI k) := by
  have ct : (nI t).toNatClampNeg = t := hz_cl (by omega)
  have vt : vp_in (nI t) 4 := vp_in_nI ht (by decide)
  unfold wpX_remove
  refine And.intro vt (And.intro vt (nm_r (e' := upd icA t (nI c)) ?_ ⟨c - k + 1, ?_⟩))
  · rw [ct, hic, nI_pred, hz_nb (by omega)]
  · have Z := hz_xrm_l (post := post) (m := m) (e := e) (kdA := kdA) (sjA := sjA) (afA := afA) (rxA := rxA) (mdA := mdA) (scA := scA) (soA := soA) (plA := plA) (mkA := mkA) (txA := txA) (goA := goA) (erA := erA) (laA := laA) (fsA := fsA) (lsA := lsA) (bxA := bxA) (hdA := hdA) (heA := heA) (owA := owA) (szA := szA) (sxA := sxA) (itA := itA) (icA := upd icA t (nI c)) ht hc hk (pk_us) hit K (c - k) 0 (by omega) (c - k + 1) (by omega)
    rw [hz_fl_0] at Z
    exact Z
theorem hz_It_v {t : Nat} (T : hz_It itA icA ioA m t) (hm : m ≤ 250) : ∀ i, i < hz_cn (hz_fi ioA t) m → ∃ j, j < 300 ∧ itA (5 * t + i) = nI j := by
  intro i hi
  obtain ⟨j, j1, j2, j3⟩ := hz_cn_ex (f := hz_fi ioA t) m hi
  exact ⟨j, by omega, by rw [← j3]; exact T.2.2 j j1 (hz_fi_t.mp j2)⟩
theorem hz_act_14 (I : hz_Inv m e kdA sjA afA rxA mdA scA soA plA mkA txA goA erA laA fsA lsA bxA hdA heA owA szA sxA itA icA thA kyA ryA opA syA oyA ioA buA) {b t j : Nat} (hb : b < 8) (ht : t < 4) (he : e < 250) (o1 : opA t = 1) (hj : j < m) (hjt : ioA j = nI t) :
    ∃ u' v', i_Rel 0 u' v' ∧ (∀ post : SX → Prop, post u' → wpX_onTopic post ((nI m), (nI (e + 1)), kdA, sjA, afA, rxA, mdA, scA, soA, plA, mkA, txA, goA, erA, laA, fsA, lsA, bxA, hdA, heA, owA, szA, sxA, itA, icA) 14 (nI b) (nI t) (nI j)) ∧ (∀ post : SY → Prop, post v' → wpY_onTopic post ((nI m), (nI (e + 1)), thA, kyA, sjA, scA, afA, ryA, opA, syA, oyA, szA, ioA, soA, plA, mkA, goA, txA, buA, heA) 14 (nI b) (nI t) (nI j)) := by
  have cj : (nI j).toNatClampNeg = j := hz_cl (by have := I.1; have := I.2.1; omega)
  obtain ⟨i1, i2, i3, i4, i5, i6⟩ := I
  have vj : vp_in (nI j) 250 := vp_in_nI (by omega) (by decide)
  obtain ⟨o2, ⟨z, z1, z2, z3, z4⟩, T⟩ := hz_Tp_open (i6 t ht) o1
  have lt := hz_cn_lt hj (hz_fi_t.mpr hjt)
  obtain ⟨R, Rc⟩ := hz_It_rm T hj hjt ht
  refine ⟨((nI m), (nI (e + 1)), kdA, sjA, afA, rxA, mdA, scA, soA, plA, mkA, txA, goA, erA, laA, fsA, lsA, bxA, hdA, heA, owA, szA, sxA, (hz_fl itA (5 * t + hz_cn (hz_fi ioA t) j) (hz_cn (hz_fi ioA t) m - 1 - hz_cn (hz_fi ioA t) j) (fun i => itA (5 * t + hz_cn (hz_fi ioA t) j + i + 1))), (upd icA t (nI (hz_cn (hz_fi ioA t) m - 1)))), ((nI m), (nI (e + 1)), thA, kyA, sjA, scA, afA, ryA, opA, syA, oyA, szA, (upd ioA j (-1)), soA, plA, mkA, goA, txA, buA, heA), ?_, fun post hp => ?_, fun post hp => ?_⟩
  · refine hz_in (e := e + 1) ⟨by omega, by omega, i3, i4, i5, ?_⟩
    refine hz_Tp_set i6 (t := t) ?_ (fun q hq c => ⟨rfl, rfl, rfl, rfl, rfl, pk_un c, fun _ _ => rfl, fun k hk => hz_fl_out (by omega), fun i hi => ?_⟩)
    · exact ⟨(i6 t ht).1, Or.inr ⟨o1, o2, ⟨z, z1, z2, z3, by rw [Rc]; omega⟩, R⟩⟩
    · by_cases y : i = j
      · subst y
        rw [pk_us, hjt]
        exact ⟨fun w => absurd w.symm (hz_ne1 (by omega)), fun w => absurd ((nI_eq (by omega) (by omega)).mp w).symm c⟩
      · rw [pk_un y]
  · unfold wpX_onTopic
    iterate 6 refine br_f (by decide) ?_
    refine br_t rfl ?_
    refine hz_xia1 (e := e + 1) ht T hj (by omega) hjt ?_
    refine hz_xremove (e := e + 1) (c := hz_cn (hz_fi ioA t) m - 1) ht (by omega) (by omega) ?_ (fun i hi => hz_It_v T (by omega) i (by omega)) ?_
    · rw [T.1]; exact congrArg nI (by omega)
    · exact hp
  · unfold wpY_onTopic
    iterate 6 refine br_f (by decide) ?_
    refine br_t rfl (And.intro vj (nm_r (e' := upd ioA j (-1)) (by rw [cj]) hp))
end HZ18
end
section
section HZ19
variable {m e : Nat} {kdA sjA afA rxA mdA scA soA plA mkA txA goA erA laA fsA lsA bxA hdA heA owA szA sxA itA icA thA kyA ryA opA syA oyA ioA buA : Nat → Int32}
theorem hz_act_13 (I : hz_Inv m e kdA sjA afA rxA mdA scA soA plA mkA txA goA erA laA fsA lsA bxA hdA heA owA szA sxA itA icA thA kyA ryA opA syA oyA ioA buA) {b t : Nat} (hb : b < 8) (ht : t < 4) (x : Int32) (he : e < 250) (o1 : opA t = 1) :
    ∃ u' v', i_Rel 0 u' v' ∧ (∀ post : SX → Prop, post u' → wpX_onTopic post ((nI m), (nI (e + 1)), kdA, sjA, afA, rxA, mdA, scA, soA, plA, mkA, txA, goA, erA, laA, fsA, lsA, bxA, hdA, heA, owA, szA, sxA, itA, icA) 13 (nI b) (nI t) x) ∧ (∀ post : SY → Prop, post v' → wpY_onTopic post ((nI m), (nI (e + 1)), thA, kyA, sjA, scA, afA, ryA, opA, syA, oyA, szA, ioA, soA, plA, mkA, goA, txA, buA, heA) 13 (nI b) (nI t) x) := by
  have ct : (nI t).toNatClampNeg = t := hz_cl (by omega)
  have vt : vp_in (nI t) 4 := vp_in_nI ht (by decide)
  obtain ⟨i1, i2, i3, i4, i5, i6⟩ := I
  have m250 : m < 250 := by omega
  have cm : (nI m).toNatClampNeg = m := hz_cl (by omega)
  have vm : vp_in (nI m) 250 := vp_in_nI m250 (by decide)
  obtain ⟨o2, ⟨z, z1, z2, z3, z4⟩, T⟩ := hz_Tp_open (i6 t ht) o1
  have hbx : ∀ u, u < 8 → (hz_b (sxA t) u ↔ (fun u => decide (¬ syA (8 * t + u) = 0)) u = true) := by
    intro u hu
    show hz_b (sxA t) u ↔ decide (¬ syA (8 * t + u) = 0) = true
    rw [decide_eq_true_iff]
    rcases (i6 t ht).1 u hu with ⟨w1, w2⟩ | ⟨w1, w2⟩
    · rw [w1]; exact ⟨fun _ => hz_1n0, fun _ => w2⟩
    · rw [w1]; exact ⟨fun y => absurd y w2, fun y => absurd rfl y⟩
  have hby : ∀ u, u < 8 → (¬ syA (8 * t + u) = 0 ↔ (fun u => decide (¬ syA (8 * t + u) = 0)) u = true) := fun u _ => decide_eq_true_iff.symm
  -- the items with the new one
  have ioj : ∀ j, j < m → upd (upd ioA m (-1)) m (nI t) j = ioA j := by
    intro j hj
    rw [pk_un (by omega), pk_un (by omega)]
  have iom : upd (upd ioA m (-1)) m (nI t) m = nI t := pk_us
  have hio : ∀ j, j < m → (upd (upd ioA m (-1)) m (nI t) j = nI t ↔ ioA j = nI t) := fun j hj => by rw [ioj j hj]
  have ec0 : hz_cn (hz_fi (upd (upd ioA m (-1)) m (nI t)) t) m = hz_cn (hz_fi ioA t) m := hz_cn_congr m (hz_fi_c hio)
  have ec : hz_cn (hz_fi (upd (upd ioA m (-1)) m (nI t)) t) (m + 1) = hz_cn (hz_fi ioA t) m + 1 := by
    rw [hz_cn_t (hz_fi_t.mpr iom), ec0]
  have T2 : hz_It (upd itA (5 * t + hz_cn (hz_fi ioA t) m) (nI m)) (upd icA t (nI (hz_cn (hz_fi ioA t) m + 1))) (upd (upd ioA m (-1)) m (nI t)) (m + 1) t := by
    have Z := hz_It_a (hz_It_c T hio (fun _ _ => rfl) rfl) iom (by rw [ec0]; omega)
    rw [ec0] at Z
    exact Z
  have T1 : ∀ q, q < 4 → hz_Tp owA opA oyA szA sxA syA itA icA (upd ioA m (-1)) (m + 1) q := fun q hq => hz_Tp_new hq (i6 q hq)
  have hoth : ∀ q, q < 4 → q ≠ t → ∀ j, j < m + 1 → (upd (upd ioA m (-1)) m (nI t) j = nI q ↔ upd ioA m (-1) j = nI q) := by
    intro q hq c j hj
    by_cases y : j = m
    · subst y
      rw [pk_us, pk_us]
      exact ⟨fun w => absurd ((nI_eq (by omega) (by omega)).mp w).symm c, fun w => absurd w.symm (hz_ne1 (by omega))⟩
    · rw [pk_un y]
  have R1 : ∀ q, q < 4 → hz_Rm kdA thA kyA rxA ryA afA scA mdA (upd soA m 3) (upd plA m (nI t)) (m + 1) q := by
    refine hz_Rm_new (w := 3) (p := t) ht i3 ?_
    intro q hq _
    rw [if_neg (fun y => absurd (by decide) y.2)]
  have C1 : hz_Ch (hz_said (upd soA m 3) (upd plA m (nI t))) (m + 1) erA laA fsA lsA := hz_Ch_none i4 (by decide)
  have B1 := hz_Bx_L (b := fun u => decide (¬ syA (8 * t + u) = 0)) (w := nI m) i5 8 (by omega)
  by_cases cz : hz_cn (hz_fi ioA t) m + 1 ≤ z
  · refine ⟨((nI (m + 1)), (nI (e + 1)), kdA, sjA, afA, rxA, mdA, scA, (upd soA m 3), (upd plA m (nI t)), (upd mkA m (nI b)), (upd txA m x), (hz_Lg (fun u => decide (¬ syA (8 * t + u) = 0)) heA (upd goA m 0) m 8), erA, laA, fsA, lsA, (hz_Lx (fun u => decide (¬ syA (8 * t + u) = 0)) heA hdA bxA (nI m) 8), hdA, (hz_Lh (fun u => decide (¬ syA (8 * t + u) = 0)) heA 8), owA, szA, sxA, (upd itA (5 * t + hz_cn (hz_fi ioA t) m) (nI m)), (upd icA t (nI (hz_cn (hz_fi ioA t) m + 1)))),
      ((nI (m + 1)), (nI (e + 1)), thA, kyA, sjA, scA, afA, ryA, opA, syA, oyA, szA, (upd (upd ioA m (-1)) m (nI t)), (upd soA m 3), (upd plA m (nI t)), (upd mkA m (nI b)), (hz_Lg (fun u => decide (¬ syA (8 * t + u) = 0)) heA (upd goA m 0) m 8), (upd txA m x), (hz_Ly (fun u => decide (¬ syA (8 * t + u) = 0)) heA buA (nI m) 8), (hz_Lh (fun u => decide (¬ syA (8 * t + u) = 0)) heA 8)), ?_, fun post hp => ?_, fun post hp => ?_⟩
    · refine hz_in (m := m + 1) (e := e + 1) ⟨by omega, by omega, R1, C1, B1, ?_⟩
      refine hz_Tp_set T1 (t := t) ?_ (fun q hq c => ⟨rfl, rfl, rfl, rfl, rfl, pk_un c, fun _ _ => rfl, fun k hk => pk_un (by omega), hoth q hq c⟩)
      exact ⟨(i6 t ht).1, Or.inr ⟨o1, o2, ⟨z, z1, z2, z3, by rw [ec]; exact cz⟩, T2⟩⟩
    · unfold wpX_onTopic
      iterate 5 refine br_f (by decide) ?_
      refine br_t rfl ?_
      unfold wpX_publish
      refine And.intro vt ?_
      rw [ct]
      refine hz_xsend2 (q := 3) (e := e + 1) m250 ht hb (Or.inr rfl) i5 hbx ?_
      refine And.intro vt (And.intro vt (nm_r (e' := upd icA t (nI (hz_cn (hz_fi ioA t) m + 1))) ?_ (And.intro ?_ (nm_r (e' := upd itA (5 * t + hz_cn (hz_fi ioA t) m) (nI m)) ?_ (And.intro vt (And.intro vt (br_t ?_ hp)))))))
      · rw [T.1, nI_1, hz_nb (by omega)]
      · rw [T.1]; exact hz_v5 ht (by omega)
      · rw [T.1, hz_x5 ht (by omega), hz_ns (by omega)]
      · rw [pk_us, z3]; exact nI_le cz (by omega)
    · unfold wpY_onTopic
      iterate 5 refine br_f (by decide) ?_
      refine br_t rfl ?_
      refine hz_ymake (e := e + 1) m250 ?_
      refine And.intro (by rw [nI_pred]; exact vm) (nm_r (e' := upd (upd ioA m (-1)) m (nI t)) (by rw [nI_pred, cm]) ⟨9, ?_⟩)
      refine hz_yot207 (w := m) (e := e + 1) (b := fun u => decide (¬ syA (8 * t + u) = 0)) (heA := heA) (goA := upd goA m 0) (buA := buA) m250 ht (hz_Lh_H i5) hby ?_ 8 0 rfl 9 (by omega)
      refine br_t (nI_le (a := 8) (Nat.le_refl _) (by omega)) ?_
      refine hz_yitems (m := m + 1) (e := e + 1) (by omega) ?_
      refine And.intro vt (br_t ?_ hp)
      rw [ct, z3, ec]; exact nI_le cz (by omega)
  · obtain ⟨j0, j1, j2, j3⟩ := hz_cn_ex (f := hz_fi (upd (upd ioA m (-1)) m (nI t)) t) (k := 0) (m + 1) (by omega)
    have j2' := hz_fi_t.mp j2
    obtain ⟨R, Rc⟩ := hz_It_rm T2 j1 j2' ht
    rw [j3, ec] at R
    rw [ec] at Rc
    refine ⟨((nI (m + 1)), (nI (e + 1)), kdA, sjA, afA, rxA, mdA, scA, (upd soA m 3), (upd plA m (nI t)), (upd mkA m (nI b)), (upd txA m x), (hz_Lg (fun u => decide (¬ syA (8 * t + u) = 0)) heA (upd goA m 0) m 8), erA, laA, fsA, lsA, (hz_Lx (fun u => decide (¬ syA (8 * t + u) = 0)) heA hdA bxA (nI m) 8), hdA, (hz_Lh (fun u => decide (¬ syA (8 * t + u) = 0)) heA 8), owA, szA, sxA, (hz_fl (upd itA (5 * t + hz_cn (hz_fi ioA t) m) (nI m)) (5 * t + 0) (hz_cn (hz_fi ioA t) m + 1 - 1 - 0) (fun i => upd itA (5 * t + hz_cn (hz_fi ioA t) m) (nI m) (5 * t + 0 + i + 1))), (upd (upd icA t (nI (hz_cn (hz_fi ioA t) m + 1))) t (nI (hz_cn (hz_fi ioA t) m + 1 - 1)))),
      ((nI (m + 1)), (nI (e + 1)), thA, kyA, sjA, scA, afA, ryA, opA, syA, oyA, szA, (upd (upd (upd ioA m (-1)) m (nI t)) j0 (-1)), (upd soA m 3), (upd plA m (nI t)), (upd mkA m (nI b)), (hz_Lg (fun u => decide (¬ syA (8 * t + u) = 0)) heA (upd goA m 0) m 8), (upd txA m x), (hz_Ly (fun u => decide (¬ syA (8 * t + u) = 0)) heA buA (nI m) 8), (hz_Lh (fun u => decide (¬ syA (8 * t + u) = 0)) heA 8)), ?_, fun post hp => ?_, fun post hp => ?_⟩
    · refine hz_in (m := m + 1) (e := e + 1) ⟨by omega, by omega, R1, C1, B1, ?_⟩
      refine hz_Tp_set T1 (t := t) ?_ (fun q hq c => ⟨rfl, rfl, rfl, rfl, rfl, by rw [pk_un c, pk_un c], fun _ _ => rfl, fun k hk => by rw [hz_fl_out (by omega), pk_un (by omega)], fun j hj => ?_⟩)
      · exact ⟨(i6 t ht).1, Or.inr ⟨o1, o2, ⟨z, z1, z2, z3, by rw [Rc]; omega⟩, R⟩⟩
      · rw [← hoth q hq c j hj]
        by_cases y : j = j0
        · subst y
          rw [pk_us, j2']
          exact ⟨fun w => absurd w.symm (hz_ne1 (by omega)), fun w => absurd ((nI_eq (by omega) (by omega)).mp w).symm c⟩
        · rw [pk_un y]
    · unfold wpX_onTopic
      iterate 5 refine br_f (by decide) ?_
      refine br_t rfl ?_
      unfold wpX_publish
      refine And.intro vt ?_
      rw [ct]
      refine hz_xsend2 (q := 3) (e := e + 1) m250 ht hb (Or.inr rfl) i5 hbx ?_
      refine And.intro vt (And.intro vt (nm_r (e' := upd icA t (nI (hz_cn (hz_fi ioA t) m + 1))) ?_ (And.intro ?_ (nm_r (e' := upd itA (5 * t + hz_cn (hz_fi ioA t) m) (nI m)) ?_ (And.intro vt (And.intro vt (br_f ?_ ?_)))))))
      · rw [T.1, nI_1, hz_nb (by omega)]
      · rw [T.1]; exact hz_v5 ht (by omega)
      · rw [T.1, hz_x5 ht (by omega), hz_ns (by omega)]
      · rw [pk_us, z3]; exact nI_ge (by omega) (by omega)
      · refine hz_xremove (m := m + 1) (e := e + 1) (k := 0) (c := hz_cn (hz_fi ioA t) m) ht (by omega) (Nat.zero_le _) pk_us (fun i hi => hz_It_v T2 (by omega) i (by omega)) ?_
        exact hp
    · unfold wpY_onTopic
      iterate 5 refine br_f (by decide) ?_
      refine br_t rfl ?_
      refine hz_ymake (e := e + 1) m250 ?_
      refine And.intro (by rw [nI_pred]; exact vm) (nm_r (e' := upd (upd ioA m (-1)) m (nI t)) (by rw [nI_pred, cm]) ⟨9, ?_⟩)
      refine hz_yot207 (w := m) (e := e + 1) (b := fun u => decide (¬ syA (8 * t + u) = 0)) (heA := heA) (goA := upd goA m 0) (buA := buA) m250 ht (hz_Lh_H i5) hby ?_ 8 0 rfl 9 (by omega)
      refine br_t (nI_le (a := 8) (Nat.le_refl _) (by omega)) ?_
      refine hz_yitems (m := m + 1) (e := e + 1) (by omega) ?_
      refine And.intro vt (br_f ?_ ?_)
      · rw [ct, z3, ec]; exact nI_ge (by omega) (by omega)
      · refine hz_yitem1 (m := m + 1) (e := e + 1) (j0 := j0) (by omega) ht o1 j1 j2' ?_ ?_
        · rw [j3]; rfl
        · refine And.intro (vp_in_nI (by omega) (by decide)) (nm_r (e' := upd (upd (upd ioA m (-1)) m (nI t)) j0 (-1)) ?_ hp)
          rw [hz_cl (by omega)]
end HZ19
end
section
section HZ20
variable {m e : Nat} {kdA sjA afA rxA mdA scA soA plA mkA txA goA erA laA fsA lsA bxA hdA heA owA szA sxA itA icA thA kyA ryA opA syA oyA ioA buA : Nat → Int32}
theorem hz_xactR {post : Int32 → SX → Prop} {w b p : Nat} {us x : Int32} (hw : w < 17) (hb : b < 8) (hp4 : p < 4) (he : e < 250) (M : ∀ post : Int32 → Prop, post 0 → wpX_may post ((nI m), (nI e), kdA, sjA, afA, rxA, mdA, scA, soA, plA, mkA, txA, goA, erA, laA, fsA, lsA, bxA, hdA, heA, owA, szA, sxA, itA, icA) (nI w) (nI b) (nI p) us x) (hp : post 1 ((nI m), (nI e), kdA, sjA, afA, rxA, mdA, scA, soA, plA, mkA, txA, goA, erA, laA, fsA, lsA, bxA, hdA, heA, owA, szA, sxA, itA, icA)) : wpX_act post ((nI m), (nI e), kdA, sjA, afA, rxA, mdA, scA, soA, plA, mkA, txA, goA, erA, laA, fsA, lsA, bxA, hdA, heA, owA, szA, sxA, itA, icA) (nI w) (nI b) (nI p) us x := by
  have e250 : ¬ nI e = 250 := fun z => absurd ((nI_eq (b := 250) (by omega) (by omega)).mp z) (by omega)
  unfold wpX_act
  refine hz_inX1 w 17 rfl rfl hw (by decide) ?_
  refine br_f hz_1n0 ?_
  refine hz_inX1 b 8 rfl rfl hb (by decide) ?_
  refine br_f hz_1n0 ?_
  refine hz_inX1 p 4 rfl rfl hp4 (by decide) ?_
  refine br_f hz_1n0 (br_f e250 ?_)
  refine M _ ?_
  exact br_t rfl hp
theorem hz_yactR {post : Int32 → SY → Prop} {w b p : Nat} {us x : Int32} (hw : w < 17) (hb : b < 8) (hp4 : p < 4) (he : e < 250) (M : ∀ post : Int32 → Prop, post 0 → wpY_may post ((nI m), (nI e), thA, kyA, sjA, scA, afA, ryA, opA, syA, oyA, szA, ioA, soA, plA, mkA, goA, txA, buA, heA) (nI w) (nI b) (nI p) us x) (hp : post 1 ((nI m), (nI e), thA, kyA, sjA, scA, afA, ryA, opA, syA, oyA, szA, ioA, soA, plA, mkA, goA, txA, buA, heA)) : wpY_act post ((nI m), (nI e), thA, kyA, sjA, scA, afA, ryA, opA, syA, oyA, szA, ioA, soA, plA, mkA, goA, txA, buA, heA) (nI w) (nI b) (nI p) us x := by
  have e250 : ¬ nI e = 250 := fun z => absurd ((nI_eq (b := 250) (by omega) (by omega)).mp z) (by omega)
  unfold wpY_act
  refine hz_inY1 w 17 rfl rfl hw (by decide) ?_
  refine br_f hz_1n0 ?_
  refine hz_inY1 b 8 rfl rfl hb (by decide) ?_
  refine br_f hz_1n0 ?_
  refine hz_inY1 p 4 rfl rfl hp4 (by decide) ?_
  refine br_f hz_1n0 (br_f e250 ?_)
  refine M _ ?_
  exact br_t rfl hp
theorem hz_xactI {post : Int32 → SX → Prop} {w b p : Nat} {us x : Int32} {u' : SX} (hr : nI w < 10 ∨ (¬ nI w < 10 ∧ nI w = 16)) (hw : w < 17) (hb : b < 8) (hp4 : p < 4) (he : e < 250) (M : ∀ post : Int32 → Prop, post 1 → wpX_may post ((nI m), (nI e), kdA, sjA, afA, rxA, mdA, scA, soA, plA, mkA, txA, goA, erA, laA, fsA, lsA, bxA, hdA, heA, owA, szA, sxA, itA, icA) (nI w) (nI b) (nI p) us x)
    (A : ∀ post : SX → Prop, post u' → wpX_inRoom post ((nI m), (nI (e + 1)), kdA, sjA, afA, rxA, mdA, scA, soA, plA, mkA, txA, goA, erA, laA, fsA, lsA, bxA, hdA, heA, owA, szA, sxA, itA, icA) (nI w) (nI b) (nI p) us x) (hp : post 0 u') : wpX_act post ((nI m), (nI e), kdA, sjA, afA, rxA, mdA, scA, soA, plA, mkA, txA, goA, erA, laA, fsA, lsA, bxA, hdA, heA, owA, szA, sxA, itA, icA) (nI w) (nI b) (nI p) us x := by
  have e250 : ¬ nI e = 250 := fun z => absurd ((nI_eq (b := 250) (by omega) (by omega)).mp z) (by omega)
  have W : wX_act_78 post (nI w) (nI b) (nI p) us x (nI m) (nI (e + 1)) kdA sjA afA rxA mdA scA soA plA mkA txA goA erA laA fsA lsA bxA hdA heA owA szA sxA itA icA := by
    unfold wX_act_78
    refine A _ ?_
    exact hp
  unfold wpX_act
  refine hz_inX1 w 17 rfl rfl hw (by decide) ?_
  refine br_f hz_1n0 ?_
  refine hz_inX1 b 8 rfl rfl hb (by decide) ?_
  refine br_f hz_1n0 ?_
  refine hz_inX1 p 4 rfl rfl hp4 (by decide) ?_
  refine br_f hz_1n0 (br_f e250 ?_)
  refine M _ ?_
  refine br_f hz_1n0 (nm_r (nI_1 e) ?_)
  rcases hr with h | ⟨h, h2⟩
  · exact br_t h W
  · exact br_f h (br_t h2 W)
theorem hz_yactI {post : Int32 → SY → Prop} {w b p : Nat} {us x : Int32} {u' : SY} (hr : nI w < 10 ∨ (¬ nI w < 10 ∧ nI w = 16)) (hw : w < 17) (hb : b < 8) (hp4 : p < 4) (he : e < 250) (M : ∀ post : Int32 → Prop, post 1 → wpY_may post ((nI m), (nI e), thA, kyA, sjA, scA, afA, ryA, opA, syA, oyA, szA, ioA, soA, plA, mkA, goA, txA, buA, heA) (nI w) (nI b) (nI p) us x)
    (A : ∀ post : SY → Prop, post u' → wpY_inRoom post ((nI m), (nI (e + 1)), thA, kyA, sjA, scA, afA, ryA, opA, syA, oyA, szA, ioA, soA, plA, mkA, goA, txA, buA, heA) (nI w) (nI b) (nI p) us x) (hp : post 0 u') : wpY_act post ((nI m), (nI e), thA, kyA, sjA, scA, afA, ryA, opA, syA, oyA, szA, ioA, soA, plA, mkA, goA, txA, buA, heA) (nI w) (nI b) (nI p) us x := by
  have e250 : ¬ nI e = 250 := fun z => absurd ((nI_eq (b := 250) (by omega) (by omega)).mp z) (by omega)
  have W : wY_act_78 post (nI w) (nI b) (nI p) us x (nI m) (nI (e + 1)) thA kyA sjA scA afA ryA opA syA oyA szA ioA soA plA mkA goA txA buA heA := by
    unfold wY_act_78
    refine A _ ?_
    exact hp
  unfold wpY_act
  refine hz_inY1 w 17 rfl rfl hw (by decide) ?_
  refine br_f hz_1n0 ?_
  refine hz_inY1 b 8 rfl rfl hb (by decide) ?_
  refine br_f hz_1n0 ?_
  refine hz_inY1 p 4 rfl rfl hp4 (by decide) ?_
  refine br_f hz_1n0 (br_f e250 ?_)
  refine M _ ?_
  refine br_f hz_1n0 (nm_r (nI_1 e) ?_)
  rcases hr with h | ⟨h, h2⟩
  · exact br_t h W
  · exact br_f h (br_t h2 W)
theorem hz_xactT {post : Int32 → SX → Prop} {w b p : Nat} {us x : Int32} {u' : SX} (h9 : ¬ nI w < 10) (h16 : ¬ nI w = 16) (hw : w < 17) (hb : b < 8) (hp4 : p < 4) (he : e < 250) (M : ∀ post : Int32 → Prop, post 1 → wpX_may post ((nI m), (nI e), kdA, sjA, afA, rxA, mdA, scA, soA, plA, mkA, txA, goA, erA, laA, fsA, lsA, bxA, hdA, heA, owA, szA, sxA, itA, icA) (nI w) (nI b) (nI p) us x)
    (A : ∀ post : SX → Prop, post u' → wpX_onTopic post ((nI m), (nI (e + 1)), kdA, sjA, afA, rxA, mdA, scA, soA, plA, mkA, txA, goA, erA, laA, fsA, lsA, bxA, hdA, heA, owA, szA, sxA, itA, icA) (nI w) (nI b) (nI p) x) (hp : post 0 u') : wpX_act post ((nI m), (nI e), kdA, sjA, afA, rxA, mdA, scA, soA, plA, mkA, txA, goA, erA, laA, fsA, lsA, bxA, hdA, heA, owA, szA, sxA, itA, icA) (nI w) (nI b) (nI p) us x := by
  have e250 : ¬ nI e = 250 := fun z => absurd ((nI_eq (b := 250) (by omega) (by omega)).mp z) (by omega)
  unfold wpX_act
  refine hz_inX1 w 17 rfl rfl hw (by decide) ?_
  refine br_f hz_1n0 ?_
  refine hz_inX1 b 8 rfl rfl hb (by decide) ?_
  refine br_f hz_1n0 ?_
  refine hz_inX1 p 4 rfl rfl hp4 (by decide) ?_
  refine br_f hz_1n0 (br_f e250 ?_)
  refine M _ ?_
  refine br_f hz_1n0 (nm_r (nI_1 e) (br_f h9 (br_f h16 ?_)))
  refine A _ ?_
  exact hp
theorem hz_yactT {post : Int32 → SY → Prop} {w b p : Nat} {us x : Int32} {u' : SY} (h9 : ¬ nI w < 10) (h16 : ¬ nI w = 16) (hw : w < 17) (hb : b < 8) (hp4 : p < 4) (he : e < 250) (M : ∀ post : Int32 → Prop, post 1 → wpY_may post ((nI m), (nI e), thA, kyA, sjA, scA, afA, ryA, opA, syA, oyA, szA, ioA, soA, plA, mkA, goA, txA, buA, heA) (nI w) (nI b) (nI p) us x)
    (A : ∀ post : SY → Prop, post u' → wpY_onTopic post ((nI m), (nI (e + 1)), thA, kyA, sjA, scA, afA, ryA, opA, syA, oyA, szA, ioA, soA, plA, mkA, goA, txA, buA, heA) (nI w) (nI b) (nI p) x) (hp : post 0 u') : wpY_act post ((nI m), (nI e), thA, kyA, sjA, scA, afA, ryA, opA, syA, oyA, szA, ioA, soA, plA, mkA, goA, txA, buA, heA) (nI w) (nI b) (nI p) us x := by
  have e250 : ¬ nI e = 250 := fun z => absurd ((nI_eq (b := 250) (by omega) (by omega)).mp z) (by omega)
  unfold wpY_act
  refine hz_inY1 w 17 rfl rfl hw (by decide) ?_
  refine br_f hz_1n0 ?_
  refine hz_inY1 b 8 rfl rfl hb (by decide) ?_
  refine br_f hz_1n0 ?_
  refine hz_inY1 p 4 rfl rfl hp4 (by decide) ?_
  refine br_f hz_1n0 (br_f e250 ?_)
  refine M _ ?_
  refine br_f hz_1n0 (nm_r (nI_1 e) (br_f h9 (br_f h16 ?_)))
  refine A _ ?_
  exact hp
theorem hz_A0 (I : hz_Inv m e kdA sjA afA rxA mdA scA soA plA mkA txA goA erA laA fsA lsA bxA hdA heA owA szA sxA itA icA thA kyA ryA opA syA oyA ioA buA) {b p : Nat} (hb : b < 8) (hp4 : p < 4) (us x : Int32) (he : e < 250) : ∃ (r : Int32) (u' : SX) (v' : SY), i_Rel 0 u' v' ∧ (∀ post : Int32 → SX → Prop, post r u' → wpX_act post ((nI m), (nI e), kdA, sjA, afA, rxA, mdA, scA, soA, plA, mkA, txA, goA, erA, laA, fsA, lsA, bxA, hdA, heA, owA, szA, sxA, itA, icA) (nI 0) (nI b) (nI p) us x) ∧ (∀ post : Int32 → SY → Prop, post r v' → wpY_act post ((nI m), (nI e), thA, kyA, sjA, scA, afA, ryA, opA, syA, oyA, szA, ioA, soA, plA, mkA, goA, txA, buA, heA) (nI 0) (nI b) (nI p) us x) := by
  obtain ⟨r, hr0, mX, mY⟩ := hz_may_0 I hb hp4 us x
  rcases hr0 with rfl | ⟨rfl, t1, t2, j, hj, rfl⟩
  · exact ⟨1, ((nI m), (nI e), kdA, sjA, afA, rxA, mdA, scA, soA, plA, mkA, txA, goA, erA, laA, fsA, lsA, bxA, hdA, heA, owA, szA, sxA, itA, icA), ((nI m), (nI e), thA, kyA, sjA, scA, afA, ryA, opA, syA, oyA, szA, ioA, soA, plA, mkA, goA, txA, buA, heA), hz_in I, fun post hp => hz_xactR (w := 0) (by decide) hb hp4 he mX hp, fun post hp => hz_yactR (w := 0) (by decide) hb hp4 he mY hp⟩
  · obtain ⟨u', v', R, aX, aY⟩ := hz_act_0 I hb hp4 us he t1 hj
    exact ⟨0, u', v', R, fun post hp => hz_xactI (w := 0) (by decide) (by decide) hb hp4 he mX aX hp, fun post hp => hz_yactI (w := 0) (by decide) (by decide) hb hp4 he mY aY hp⟩
theorem hz_A1 (I : hz_Inv m e kdA sjA afA rxA mdA scA soA plA mkA txA goA erA laA fsA lsA bxA hdA heA owA szA sxA itA icA thA kyA ryA opA syA oyA ioA buA) {b p : Nat} (hb : b < 8) (hp4 : p < 4) (us x : Int32) (he : e < 250) : ∃ (r : Int32) (u' : SX) (v' : SY), i_Rel 0 u' v' ∧ (∀ post : Int32 → SX → Prop, post r u' → wpX_act post ((nI m), (nI e), kdA, sjA, afA, rxA, mdA, scA, soA, plA, mkA, txA, goA, erA, laA, fsA, lsA, bxA, hdA, heA, owA, szA, sxA, itA, icA) (nI 1) (nI b) (nI p) us x) ∧ (∀ post : Int32 → SY → Prop, post r v' → wpY_act post ((nI m), (nI e), thA, kyA, sjA, scA, afA, ryA, opA, syA, oyA, szA, ioA, soA, plA, mkA, goA, txA, buA, heA) (nI 1) (nI b) (nI p) us x) := by
  obtain ⟨r, hr0, mX, mY⟩ := hz_may_1 I hb hp4 us x
  rcases hr0 with rfl | ⟨rfl, t1, ha⟩
  · exact ⟨1, ((nI m), (nI e), kdA, sjA, afA, rxA, mdA, scA, soA, plA, mkA, txA, goA, erA, laA, fsA, lsA, bxA, hdA, heA, owA, szA, sxA, itA, icA), ((nI m), (nI e), thA, kyA, sjA, scA, afA, ryA, opA, syA, oyA, szA, ioA, soA, plA, mkA, goA, txA, buA, heA), hz_in I, fun post hp => hz_xactR (w := 1) (by decide) hb hp4 he mX hp, fun post hp => hz_yactR (w := 1) (by decide) hb hp4 he mY hp⟩
  · obtain ⟨u', v', R, aX, aY⟩ := hz_act_1 I hb hp4 us x he t1 ha
    exact ⟨0, u', v', R, fun post hp => hz_xactI (w := 1) (by decide) (by decide) hb hp4 he mX aX hp, fun post hp => hz_yactI (w := 1) (by decide) (by decide) hb hp4 he mY aY hp⟩
theorem hz_A2 (I : hz_Inv m e kdA sjA afA rxA mdA scA soA plA mkA txA goA erA laA fsA lsA bxA hdA heA owA szA sxA itA icA thA kyA ryA opA syA oyA ioA buA) {b p : Nat} (hb : b < 8) (hp4 : p < 4) (us x : Int32) (he : e < 250) : ∃ (r : Int32) (u' : SX) (v' : SY), i_Rel 0 u' v' ∧ (∀ post : Int32 → SX → Prop, post r u' → wpX_act post ((nI m), (nI e), kdA, sjA, afA, rxA, mdA, scA, soA, plA, mkA, txA, goA, erA, laA, fsA, lsA, bxA, hdA, heA, owA, szA, sxA, itA, icA) (nI 2) (nI b) (nI p) us x) ∧ (∀ post : Int32 → SY → Prop, post r v' → wpY_act post ((nI m), (nI e), thA, kyA, sjA, scA, afA, ryA, opA, syA, oyA, szA, ioA, soA, plA, mkA, goA, txA, buA, heA) (nI 2) (nI b) (nI p) us x) := by
  obtain ⟨r, hr0, mX, mY⟩ := hz_may_2 I hb hp4 us x
  rcases hr0 with rfl | ⟨rfl, t1⟩
  · exact ⟨1, ((nI m), (nI e), kdA, sjA, afA, rxA, mdA, scA, soA, plA, mkA, txA, goA, erA, laA, fsA, lsA, bxA, hdA, heA, owA, szA, sxA, itA, icA), ((nI m), (nI e), thA, kyA, sjA, scA, afA, ryA, opA, syA, oyA, szA, ioA, soA, plA, mkA, goA, txA, buA, heA), hz_in I, fun post hp => hz_xactR (w := 2) (by decide) hb hp4 he mX hp, fun post hp => hz_yactR (w := 2) (by decide) hb hp4 he mY hp⟩
  · obtain ⟨u', v', R, aX, aY⟩ := hz_act_2 I hb hp4 us x he t1
    exact ⟨0, u', v', R, fun post hp => hz_xactI (w := 2) (by decide) (by decide) hb hp4 he mX aX hp, fun post hp => hz_yactI (w := 2) (by decide) (by decide) hb hp4 he mY aY hp⟩
theorem hz_A3 (I : hz_Inv m e kdA sjA afA rxA mdA scA soA plA mkA txA goA erA laA fsA lsA bxA hdA heA owA szA sxA itA icA thA kyA ryA opA syA oyA ioA buA) {b p : Nat} (hb : b < 8) (hp4 : p < 4) (us x : Int32) (he : e < 250) : ∃ (r : Int32) (u' : SX) (v' : SY), i_Rel 0 u' v' ∧ (∀ post : Int32 → SX → Prop, post r u' → wpX_act post ((nI m), (nI e), kdA, sjA, afA, rxA, mdA, scA, soA, plA, mkA, txA, goA, erA, laA, fsA, lsA, bxA, hdA, heA, owA, szA, sxA, itA, icA) (nI 3) (nI b) (nI p) us x) ∧ (∀ post : Int32 → SY → Prop, post r v' → wpY_act post ((nI m), (nI e), thA, kyA, sjA, scA, afA, ryA, opA, syA, oyA, szA, ioA, soA, plA, mkA, goA, txA, buA, heA) (nI 3) (nI b) (nI p) us x) := by
  obtain ⟨r, hr0, mX, mY⟩ := hz_may_3 I hb hp4 us x
  rcases hr0 with rfl | ⟨rfl, t1⟩
  · exact ⟨1, ((nI m), (nI e), kdA, sjA, afA, rxA, mdA, scA, soA, plA, mkA, txA, goA, erA, laA, fsA, lsA, bxA, hdA, heA, owA, szA, sxA, itA, icA), ((nI m), (nI e), thA, kyA, sjA, scA, afA, ryA, opA, syA, oyA, szA, ioA, soA, plA, mkA, goA, txA, buA, heA), hz_in I, fun post hp => hz_xactR (w := 3) (by decide) hb hp4 he mX hp, fun post hp => hz_yactR (w := 3) (by decide) hb hp4 he mY hp⟩
  · obtain ⟨u', v', R, aX, aY⟩ := hz_act_3 I hb hp4 us x he t1
    exact ⟨0, u', v', R, fun post hp => hz_xactI (w := 3) (by decide) (by decide) hb hp4 he mX aX hp, fun post hp => hz_yactI (w := 3) (by decide) (by decide) hb hp4 he mY aY hp⟩
theorem hz_A4 (I : hz_Inv m e kdA sjA afA rxA mdA scA soA plA mkA txA goA erA laA fsA lsA bxA hdA heA owA szA sxA itA icA thA kyA ryA opA syA oyA ioA buA) {b p : Nat} (hb : b < 8) (hp4 : p < 4) (us x : Int32) (he : e < 250) : ∃ (r : Int32) (u' : SX) (v' : SY), i_Rel 0 u' v' ∧ (∀ post : Int32 → SX → Prop, post r u' → wpX_act post ((nI m), (nI e), kdA, sjA, afA, rxA, mdA, scA, soA, plA, mkA, txA, goA, erA, laA, fsA, lsA, bxA, hdA, heA, owA, szA, sxA, itA, icA) (nI 4) (nI b) (nI p) us x) ∧ (∀ post : Int32 → SY → Prop, post r v' → wpY_act post ((nI m), (nI e), thA, kyA, sjA, scA, afA, ryA, opA, syA, oyA, szA, ioA, soA, plA, mkA, goA, txA, buA, heA) (nI 4) (nI b) (nI p) us x) := by
  obtain ⟨r, hr0, mX, mY⟩ := hz_may_4 I hb hp4 us x
  rcases hr0 with rfl | ⟨rfl, t1⟩
  · exact ⟨1, ((nI m), (nI e), kdA, sjA, afA, rxA, mdA, scA, soA, plA, mkA, txA, goA, erA, laA, fsA, lsA, bxA, hdA, heA, owA, szA, sxA, itA, icA), ((nI m), (nI e), thA, kyA, sjA, scA, afA, ryA, opA, syA, oyA, szA, ioA, soA, plA, mkA, goA, txA, buA, heA), hz_in I, fun post hp => hz_xactR (w := 4) (by decide) hb hp4 he mX hp, fun post hp => hz_yactR (w := 4) (by decide) hb hp4 he mY hp⟩
  · obtain ⟨u', v', R, aX, aY⟩ := hz_act_4 I hb hp4 us x he t1
    exact ⟨0, u', v', R, fun post hp => hz_xactI (w := 4) (by decide) (by decide) hb hp4 he mX aX hp, fun post hp => hz_yactI (w := 4) (by decide) (by decide) hb hp4 he mY aY hp⟩
theorem hz_A5 (I : hz_Inv m e kdA sjA afA rxA mdA scA soA plA mkA txA goA erA laA fsA lsA bxA hdA heA owA szA sxA itA icA thA kyA ryA opA syA oyA ioA buA) {b p : Nat} (hb : b < 8) (hp4 : p < 4) (us x : Int32) (he : e < 250) : ∃ (r : Int32) (u' : SX) (v' : SY), i_Rel 0 u' v' ∧ (∀ post : Int32 → SX → Prop, post r u' → wpX_act post ((nI m), (nI e), kdA, sjA, afA, rxA, mdA, scA, soA, plA, mkA, txA, goA, erA, laA, fsA, lsA, bxA, hdA, heA, owA, szA, sxA, itA, icA) (nI 5) (nI b) (nI p) us x) ∧ (∀ post : Int32 → SY → Prop, post r v' → wpY_act post ((nI m), (nI e), thA, kyA, sjA, scA, afA, ryA, opA, syA, oyA, szA, ioA, soA, plA, mkA, goA, txA, buA, heA) (nI 5) (nI b) (nI p) us x) := by
  obtain ⟨r, hr0, mX, mY⟩ := hz_may_5 I hb hp4 us x
  rcases hr0 with rfl | ⟨rfl, t1, j, hj, rfl⟩
  · exact ⟨1, ((nI m), (nI e), kdA, sjA, afA, rxA, mdA, scA, soA, plA, mkA, txA, goA, erA, laA, fsA, lsA, bxA, hdA, heA, owA, szA, sxA, itA, icA), ((nI m), (nI e), thA, kyA, sjA, scA, afA, ryA, opA, syA, oyA, szA, ioA, soA, plA, mkA, goA, txA, buA, heA), hz_in I, fun post hp => hz_xactR (w := 5) (by decide) hb hp4 he mX hp, fun post hp => hz_yactR (w := 5) (by decide) hb hp4 he mY hp⟩
  · obtain ⟨u', v', R, aX, aY⟩ := hz_act_5 I hb hp4 us he t1 hj
    exact ⟨0, u', v', R, fun post hp => hz_xactI (w := 5) (by decide) (by decide) hb hp4 he mX aX hp, fun post hp => hz_yactI (w := 5) (by decide) (by decide) hb hp4 he mY aY hp⟩
theorem hz_A6 (I : hz_Inv m e kdA sjA afA rxA mdA scA soA plA mkA txA goA erA laA fsA lsA bxA hdA heA owA szA sxA itA icA thA kyA ryA opA syA oyA ioA buA) {b p : Nat} (hb : b < 8) (hp4 : p < 4) (us x : Int32) (he : e < 250) : ∃ (r : Int32) (u' : SX) (v' : SY), i_Rel 0 u' v' ∧ (∀ post : Int32 → SX → Prop, post r u' → wpX_act post ((nI m), (nI e), kdA, sjA, afA, rxA, mdA, scA, soA, plA, mkA, txA, goA, erA, laA, fsA, lsA, bxA, hdA, heA, owA, szA, sxA, itA, icA) (nI 6) (nI b) (nI p) us x) ∧ (∀ post : Int32 → SY → Prop, post r v' → wpY_act post ((nI m), (nI e), thA, kyA, sjA, scA, afA, ryA, opA, syA, oyA, szA, ioA, soA, plA, mkA, goA, txA, buA, heA) (nI 6) (nI b) (nI p) us x) := by
  obtain ⟨r, hr0, mX, mY⟩ := hz_may_6 I hb hp4 us x
  rcases hr0 with rfl | ⟨rfl, t1, k, j, hk, rfl, hj, rfl⟩
  · exact ⟨1, ((nI m), (nI e), kdA, sjA, afA, rxA, mdA, scA, soA, plA, mkA, txA, goA, erA, laA, fsA, lsA, bxA, hdA, heA, owA, szA, sxA, itA, icA), ((nI m), (nI e), thA, kyA, sjA, scA, afA, ryA, opA, syA, oyA, szA, ioA, soA, plA, mkA, goA, txA, buA, heA), hz_in I, fun post hp => hz_xactR (w := 6) (by decide) hb hp4 he mX hp, fun post hp => hz_yactR (w := 6) (by decide) hb hp4 he mY hp⟩
  · obtain ⟨u', v', R, aX, aY⟩ := hz_act_6 I hb hp4 he t1 hk hj
    exact ⟨0, u', v', R, fun post hp => hz_xactI (w := 6) (by decide) (by decide) hb hp4 he mX aX hp, fun post hp => hz_yactI (w := 6) (by decide) (by decide) hb hp4 he mY aY hp⟩
theorem hz_A7 (I : hz_Inv m e kdA sjA afA rxA mdA scA soA plA mkA txA goA erA laA fsA lsA bxA hdA heA owA szA sxA itA icA thA kyA ryA opA syA oyA ioA buA) {b p : Nat} (hb : b < 8) (hp4 : p < 4) (us x : Int32) (he : e < 250) : ∃ (r : Int32) (u' : SX) (v' : SY), i_Rel 0 u' v' ∧ (∀ post : Int32 → SX → Prop, post r u' → wpX_act post ((nI m), (nI e), kdA, sjA, afA, rxA, mdA, scA, soA, plA, mkA, txA, goA, erA, laA, fsA, lsA, bxA, hdA, heA, owA, szA, sxA, itA, icA) (nI 7) (nI b) (nI p) us x) ∧ (∀ post : Int32 → SY → Prop, post r v' → wpY_act post ((nI m), (nI e), thA, kyA, sjA, scA, afA, ryA, opA, syA, oyA, szA, ioA, soA, plA, mkA, goA, txA, buA, heA) (nI 7) (nI b) (nI p) us x) := by
  obtain ⟨r, hr0, mX, mY⟩ := hz_may_7 I hb hp4 us x
  rcases hr0 with rfl | ⟨rfl, t1, k, j, hk, rfl, hj, rfl, hr⟩
  · exact ⟨1, ((nI m), (nI e), kdA, sjA, afA, rxA, mdA, scA, soA, plA, mkA, txA, goA, erA, laA, fsA, lsA, bxA, hdA, heA, owA, szA, sxA, itA, icA), ((nI m), (nI e), thA, kyA, sjA, scA, afA, ryA, opA, syA, oyA, szA, ioA, soA, plA, mkA, goA, txA, buA, heA), hz_in I, fun post hp => hz_xactR (w := 7) (by decide) hb hp4 he mX hp, fun post hp => hz_yactR (w := 7) (by decide) hb hp4 he mY hp⟩
  · obtain ⟨u', v', R, aX, aY⟩ := hz_act_7 I hb hp4 he t1 hk hj hr
    exact ⟨0, u', v', R, fun post hp => hz_xactI (w := 7) (by decide) (by decide) hb hp4 he mX aX hp, fun post hp => hz_yactI (w := 7) (by decide) (by decide) hb hp4 he mY aY hp⟩
theorem hz_A8 (I : hz_Inv m e kdA sjA afA rxA mdA scA soA plA mkA txA goA erA laA fsA lsA bxA hdA heA owA szA sxA itA icA thA kyA ryA opA syA oyA ioA buA) {b p : Nat} (hb : b < 8) (hp4 : p < 4) (us x : Int32) (he : e < 250) : ∃ (r : Int32) (u' : SX) (v' : SY), i_Rel 0 u' v' ∧ (∀ post : Int32 → SX → Prop, post r u' → wpX_act post ((nI m), (nI e), kdA, sjA, afA, rxA, mdA, scA, soA, plA, mkA, txA, goA, erA, laA, fsA, lsA, bxA, hdA, heA, owA, szA, sxA, itA, icA) (nI 8) (nI b) (nI p) us x) ∧ (∀ post : Int32 → SY → Prop, post r v' → wpY_act post ((nI m), (nI e), thA, kyA, sjA, scA, afA, ryA, opA, syA, oyA, szA, ioA, soA, plA, mkA, goA, txA, buA, heA) (nI 8) (nI b) (nI p) us x) := by
  obtain ⟨r, hr0, mX, mY⟩ := hz_may_8 I hb hp4 us x
  rcases hr0 with rfl | ⟨rfl, t1, k, hk, rfl⟩
  · exact ⟨1, ((nI m), (nI e), kdA, sjA, afA, rxA, mdA, scA, soA, plA, mkA, txA, goA, erA, laA, fsA, lsA, bxA, hdA, heA, owA, szA, sxA, itA, icA), ((nI m), (nI e), thA, kyA, sjA, scA, afA, ryA, opA, syA, oyA, szA, ioA, soA, plA, mkA, goA, txA, buA, heA), hz_in I, fun post hp => hz_xactR (w := 8) (by decide) hb hp4 he mX hp, fun post hp => hz_yactR (w := 8) (by decide) hb hp4 he mY hp⟩
  · obtain ⟨u', v', R, aX, aY⟩ := hz_act_8 I hb hp4 x he t1 hk
    exact ⟨0, u', v', R, fun post hp => hz_xactI (w := 8) (by decide) (by decide) hb hp4 he mX aX hp, fun post hp => hz_yactI (w := 8) (by decide) (by decide) hb hp4 he mY aY hp⟩
theorem hz_A9 (I : hz_Inv m e kdA sjA afA rxA mdA scA soA plA mkA txA goA erA laA fsA lsA bxA hdA heA owA szA sxA itA icA thA kyA ryA opA syA oyA ioA buA) {b p : Nat} (hb : b < 8) (hp4 : p < 4) (us x : Int32) (he : e < 250) : ∃ (r : Int32) (u' : SX) (v' : SY), i_Rel 0 u' v' ∧ (∀ post : Int32 → SX → Prop, post r u' → wpX_act post ((nI m), (nI e), kdA, sjA, afA, rxA, mdA, scA, soA, plA, mkA, txA, goA, erA, laA, fsA, lsA, bxA, hdA, heA, owA, szA, sxA, itA, icA) (nI 9) (nI b) (nI p) us x) ∧ (∀ post : Int32 → SY → Prop, post r v' → wpY_act post ((nI m), (nI e), thA, kyA, sjA, scA, afA, ryA, opA, syA, oyA, szA, ioA, soA, plA, mkA, goA, txA, buA, heA) (nI 9) (nI b) (nI p) us x) := by
  obtain ⟨r, hr0, mX, mY⟩ := hz_may_9 I hb hp4 us x
  rcases hr0 with rfl | ⟨rfl, t1, k, hk, rfl⟩
  · exact ⟨1, ((nI m), (nI e), kdA, sjA, afA, rxA, mdA, scA, soA, plA, mkA, txA, goA, erA, laA, fsA, lsA, bxA, hdA, heA, owA, szA, sxA, itA, icA), ((nI m), (nI e), thA, kyA, sjA, scA, afA, ryA, opA, syA, oyA, szA, ioA, soA, plA, mkA, goA, txA, buA, heA), hz_in I, fun post hp => hz_xactR (w := 9) (by decide) hb hp4 he mX hp, fun post hp => hz_yactR (w := 9) (by decide) hb hp4 he mY hp⟩
  · obtain ⟨u', v', R, aX, aY⟩ := hz_act_9 I hb hp4 x he t1 hk
    exact ⟨0, u', v', R, fun post hp => hz_xactI (w := 9) (by decide) (by decide) hb hp4 he mX aX hp, fun post hp => hz_yactI (w := 9) (by decide) (by decide) hb hp4 he mY aY hp⟩
theorem hz_A10 (I : hz_Inv m e kdA sjA afA rxA mdA scA soA plA mkA txA goA erA laA fsA lsA bxA hdA heA owA szA sxA itA icA thA kyA ryA opA syA oyA ioA buA) {b p : Nat} (hb : b < 8) (hp4 : p < 4) (us x : Int32) (he : e < 250) : ∃ (r : Int32) (u' : SX) (v' : SY), i_Rel 0 u' v' ∧ (∀ post : Int32 → SX → Prop, post r u' → wpX_act post ((nI m), (nI e), kdA, sjA, afA, rxA, mdA, scA, soA, plA, mkA, txA, goA, erA, laA, fsA, lsA, bxA, hdA, heA, owA, szA, sxA, itA, icA) (nI 10) (nI b) (nI p) us x) ∧ (∀ post : Int32 → SY → Prop, post r v' → wpY_act post ((nI m), (nI e), thA, kyA, sjA, scA, afA, ryA, opA, syA, oyA, szA, ioA, soA, plA, mkA, goA, txA, buA, heA) (nI 10) (nI b) (nI p) us x) := by
  obtain ⟨r, hr0, mX, mY⟩ := hz_may_10 I hb hp4 us x
  rcases hr0 with rfl | ⟨rfl, o1, z, z1, z2, rfl⟩
  · exact ⟨1, ((nI m), (nI e), kdA, sjA, afA, rxA, mdA, scA, soA, plA, mkA, txA, goA, erA, laA, fsA, lsA, bxA, hdA, heA, owA, szA, sxA, itA, icA), ((nI m), (nI e), thA, kyA, sjA, scA, afA, ryA, opA, syA, oyA, szA, ioA, soA, plA, mkA, goA, txA, buA, heA), hz_in I, fun post hp => hz_xactR (w := 10) (by decide) hb hp4 he mX hp, fun post hp => hz_yactR (w := 10) (by decide) hb hp4 he mY hp⟩
  · obtain ⟨u', v', R, aX, aY⟩ := hz_act_10 I hb hp4 z1 z2 he
    exact ⟨0, u', v', R, fun post hp => hz_xactT (w := 10) (by decide) (by decide) (by decide) hb hp4 he mX aX hp, fun post hp => hz_yactT (w := 10) (by decide) (by decide) (by decide) hb hp4 he mY aY hp⟩
theorem hz_A11 (I : hz_Inv m e kdA sjA afA rxA mdA scA soA plA mkA txA goA erA laA fsA lsA bxA hdA heA owA szA sxA itA icA thA kyA ryA opA syA oyA ioA buA) {b p : Nat} (hb : b < 8) (hp4 : p < 4) (us x : Int32) (he : e < 250) : ∃ (r : Int32) (u' : SX) (v' : SY), i_Rel 0 u' v' ∧ (∀ post : Int32 → SX → Prop, post r u' → wpX_act post ((nI m), (nI e), kdA, sjA, afA, rxA, mdA, scA, soA, plA, mkA, txA, goA, erA, laA, fsA, lsA, bxA, hdA, heA, owA, szA, sxA, itA, icA) (nI 11) (nI b) (nI p) us x) ∧ (∀ post : Int32 → SY → Prop, post r v' → wpY_act post ((nI m), (nI e), thA, kyA, sjA, scA, afA, ryA, opA, syA, oyA, szA, ioA, soA, plA, mkA, goA, txA, buA, heA) (nI 11) (nI b) (nI p) us x) := by
  obtain ⟨r, hr0, mX, mY⟩ := hz_may_11 I hb hp4 us x
  rcases hr0 with rfl | ⟨rfl, o1⟩
  · exact ⟨1, ((nI m), (nI e), kdA, sjA, afA, rxA, mdA, scA, soA, plA, mkA, txA, goA, erA, laA, fsA, lsA, bxA, hdA, heA, owA, szA, sxA, itA, icA), ((nI m), (nI e), thA, kyA, sjA, scA, afA, ryA, opA, syA, oyA, szA, ioA, soA, plA, mkA, goA, txA, buA, heA), hz_in I, fun post hp => hz_xactR (w := 11) (by decide) hb hp4 he mX hp, fun post hp => hz_yactR (w := 11) (by decide) hb hp4 he mY hp⟩
  · obtain ⟨u', v', R, aX, aY⟩ := hz_act_11 I hb hp4 x he o1
    exact ⟨0, u', v', R, fun post hp => hz_xactT (w := 11) (by decide) (by decide) (by decide) hb hp4 he mX aX hp, fun post hp => hz_yactT (w := 11) (by decide) (by decide) (by decide) hb hp4 he mY aY hp⟩
theorem hz_A12 (I : hz_Inv m e kdA sjA afA rxA mdA scA soA plA mkA txA goA erA laA fsA lsA bxA hdA heA owA szA sxA itA icA thA kyA ryA opA syA oyA ioA buA) {b p : Nat} (hb : b < 8) (hp4 : p < 4) (us x : Int32) (he : e < 250) : ∃ (r : Int32) (u' : SX) (v' : SY), i_Rel 0 u' v' ∧ (∀ post : Int32 → SX → Prop, post r u' → wpX_act post ((nI m), (nI e), kdA, sjA, afA, rxA, mdA, scA, soA, plA, mkA, txA, goA, erA, laA, fsA, lsA, bxA, hdA, heA, owA, szA, sxA, itA, icA) (nI 12) (nI b) (nI p) us x) ∧ (∀ post : Int32 → SY → Prop, post r v' → wpY_act post ((nI m), (nI e), thA, kyA, sjA, scA, afA, ryA, opA, syA, oyA, szA, ioA, soA, plA, mkA, goA, txA, buA, heA) (nI 12) (nI b) (nI p) us x) := by
  obtain ⟨r, hr0, mX, mY⟩ := hz_may_12 I hb hp4 us x
  rcases hr0 with rfl | ⟨rfl, o1⟩
  · exact ⟨1, ((nI m), (nI e), kdA, sjA, afA, rxA, mdA, scA, soA, plA, mkA, txA, goA, erA, laA, fsA, lsA, bxA, hdA, heA, owA, szA, sxA, itA, icA), ((nI m), (nI e), thA, kyA, sjA, scA, afA, ryA, opA, syA, oyA, szA, ioA, soA, plA, mkA, goA, txA, buA, heA), hz_in I, fun post hp => hz_xactR (w := 12) (by decide) hb hp4 he mX hp, fun post hp => hz_yactR (w := 12) (by decide) hb hp4 he mY hp⟩
  · obtain ⟨u', v', R, aX, aY⟩ := hz_act_12 I hb hp4 x he
    exact ⟨0, u', v', R, fun post hp => hz_xactT (w := 12) (by decide) (by decide) (by decide) hb hp4 he mX aX hp, fun post hp => hz_yactT (w := 12) (by decide) (by decide) (by decide) hb hp4 he mY aY hp⟩
theorem hz_A13 (I : hz_Inv m e kdA sjA afA rxA mdA scA soA plA mkA txA goA erA laA fsA lsA bxA hdA heA owA szA sxA itA icA thA kyA ryA opA syA oyA ioA buA) {b p : Nat} (hb : b < 8) (hp4 : p < 4) (us x : Int32) (he : e < 250) : ∃ (r : Int32) (u' : SX) (v' : SY), i_Rel 0 u' v' ∧ (∀ post : Int32 → SX → Prop, post r u' → wpX_act post ((nI m), (nI e), kdA, sjA, afA, rxA, mdA, scA, soA, plA, mkA, txA, goA, erA, laA, fsA, lsA, bxA, hdA, heA, owA, szA, sxA, itA, icA) (nI 13) (nI b) (nI p) us x) ∧ (∀ post : Int32 → SY → Prop, post r v' → wpY_act post ((nI m), (nI e), thA, kyA, sjA, scA, afA, ryA, opA, syA, oyA, szA, ioA, soA, plA, mkA, goA, txA, buA, heA) (nI 13) (nI b) (nI p) us x) := by
  obtain ⟨r, hr0, mX, mY⟩ := hz_may_13 I hb hp4 us x
  rcases hr0 with rfl | ⟨rfl, o1⟩
  · exact ⟨1, ((nI m), (nI e), kdA, sjA, afA, rxA, mdA, scA, soA, plA, mkA, txA, goA, erA, laA, fsA, lsA, bxA, hdA, heA, owA, szA, sxA, itA, icA), ((nI m), (nI e), thA, kyA, sjA, scA, afA, ryA, opA, syA, oyA, szA, ioA, soA, plA, mkA, goA, txA, buA, heA), hz_in I, fun post hp => hz_xactR (w := 13) (by decide) hb hp4 he mX hp, fun post hp => hz_yactR (w := 13) (by decide) hb hp4 he mY hp⟩
  · obtain ⟨u', v', R, aX, aY⟩ := hz_act_13 I hb hp4 x he o1
    exact ⟨0, u', v', R, fun post hp => hz_xactT (w := 13) (by decide) (by decide) (by decide) hb hp4 he mX aX hp, fun post hp => hz_yactT (w := 13) (by decide) (by decide) (by decide) hb hp4 he mY aY hp⟩
theorem hz_A14 (I : hz_Inv m e kdA sjA afA rxA mdA scA soA plA mkA txA goA erA laA fsA lsA bxA hdA heA owA szA sxA itA icA thA kyA ryA opA syA oyA ioA buA) {b p : Nat} (hb : b < 8) (hp4 : p < 4) (us x : Int32) (he : e < 250) : ∃ (r : Int32) (u' : SX) (v' : SY), i_Rel 0 u' v' ∧ (∀ post : Int32 → SX → Prop, post r u' → wpX_act post ((nI m), (nI e), kdA, sjA, afA, rxA, mdA, scA, soA, plA, mkA, txA, goA, erA, laA, fsA, lsA, bxA, hdA, heA, owA, szA, sxA, itA, icA) (nI 14) (nI b) (nI p) us x) ∧ (∀ post : Int32 → SY → Prop, post r v' → wpY_act post ((nI m), (nI e), thA, kyA, sjA, scA, afA, ryA, opA, syA, oyA, szA, ioA, soA, plA, mkA, goA, txA, buA, heA) (nI 14) (nI b) (nI p) us x) := by
  obtain ⟨r, hr0, mX, mY⟩ := hz_may_14 I hb hp4 us x
  rcases hr0 with rfl | ⟨rfl, o1, j, hj, rfl, hjt⟩
  · exact ⟨1, ((nI m), (nI e), kdA, sjA, afA, rxA, mdA, scA, soA, plA, mkA, txA, goA, erA, laA, fsA, lsA, bxA, hdA, heA, owA, szA, sxA, itA, icA), ((nI m), (nI e), thA, kyA, sjA, scA, afA, ryA, opA, syA, oyA, szA, ioA, soA, plA, mkA, goA, txA, buA, heA), hz_in I, fun post hp => hz_xactR (w := 14) (by decide) hb hp4 he mX hp, fun post hp => hz_yactR (w := 14) (by decide) hb hp4 he mY hp⟩
  · obtain ⟨u', v', R, aX, aY⟩ := hz_act_14 I hb hp4 he o1 hj hjt
    exact ⟨0, u', v', R, fun post hp => hz_xactT (w := 14) (by decide) (by decide) (by decide) hb hp4 he mX aX hp, fun post hp => hz_yactT (w := 14) (by decide) (by decide) (by decide) hb hp4 he mY aY hp⟩
theorem hz_A15 (I : hz_Inv m e kdA sjA afA rxA mdA scA soA plA mkA txA goA erA laA fsA lsA bxA hdA heA owA szA sxA itA icA thA kyA ryA opA syA oyA ioA buA) {b p : Nat} (hb : b < 8) (hp4 : p < 4) (us x : Int32) (he : e < 250) : ∃ (r : Int32) (u' : SX) (v' : SY), i_Rel 0 u' v' ∧ (∀ post : Int32 → SX → Prop, post r u' → wpX_act post ((nI m), (nI e), kdA, sjA, afA, rxA, mdA, scA, soA, plA, mkA, txA, goA, erA, laA, fsA, lsA, bxA, hdA, heA, owA, szA, sxA, itA, icA) (nI 15) (nI b) (nI p) us x) ∧ (∀ post : Int32 → SY → Prop, post r v' → wpY_act post ((nI m), (nI e), thA, kyA, sjA, scA, afA, ryA, opA, syA, oyA, szA, ioA, soA, plA, mkA, goA, txA, buA, heA) (nI 15) (nI b) (nI p) us x) := by
  obtain ⟨r, hr0, mX, mY⟩ := hz_may_15 I hb hp4 us x
  rcases hr0 with rfl | ⟨rfl, o1⟩
  · exact ⟨1, ((nI m), (nI e), kdA, sjA, afA, rxA, mdA, scA, soA, plA, mkA, txA, goA, erA, laA, fsA, lsA, bxA, hdA, heA, owA, szA, sxA, itA, icA), ((nI m), (nI e), thA, kyA, sjA, scA, afA, ryA, opA, syA, oyA, szA, ioA, soA, plA, mkA, goA, txA, buA, heA), hz_in I, fun post hp => hz_xactR (w := 15) (by decide) hb hp4 he mX hp, fun post hp => hz_yactR (w := 15) (by decide) hb hp4 he mY hp⟩
  · obtain ⟨u', v', R, aX, aY⟩ := hz_act_15 I hb hp4 x he
    exact ⟨0, u', v', R, fun post hp => hz_xactT (w := 15) (by decide) (by decide) (by decide) hb hp4 he mX aX hp, fun post hp => hz_yactT (w := 15) (by decide) (by decide) (by decide) hb hp4 he mY aY hp⟩
theorem hz_A16 (I : hz_Inv m e kdA sjA afA rxA mdA scA soA plA mkA txA goA erA laA fsA lsA bxA hdA heA owA szA sxA itA icA thA kyA ryA opA syA oyA ioA buA) {b p : Nat} (hb : b < 8) (hp4 : p < 4) (us x : Int32) (he : e < 250) : ∃ (r : Int32) (u' : SX) (v' : SY), i_Rel 0 u' v' ∧ (∀ post : Int32 → SX → Prop, post r u' → wpX_act post ((nI m), (nI e), kdA, sjA, afA, rxA, mdA, scA, soA, plA, mkA, txA, goA, erA, laA, fsA, lsA, bxA, hdA, heA, owA, szA, sxA, itA, icA) (nI 16) (nI b) (nI p) us x) ∧ (∀ post : Int32 → SY → Prop, post r v' → wpY_act post ((nI m), (nI e), thA, kyA, sjA, scA, afA, ryA, opA, syA, oyA, szA, ioA, soA, plA, mkA, goA, txA, buA, heA) (nI 16) (nI b) (nI p) us x) := by
  obtain ⟨r, hr0, mX, mY⟩ := hz_may_16 I hb hp4 us x
  rcases hr0 with rfl | ⟨rfl, t1⟩
  · exact ⟨1, ((nI m), (nI e), kdA, sjA, afA, rxA, mdA, scA, soA, plA, mkA, txA, goA, erA, laA, fsA, lsA, bxA, hdA, heA, owA, szA, sxA, itA, icA), ((nI m), (nI e), thA, kyA, sjA, scA, afA, ryA, opA, syA, oyA, szA, ioA, soA, plA, mkA, goA, txA, buA, heA), hz_in I, fun post hp => hz_xactR (w := 16) (by decide) hb hp4 he mX hp, fun post hp => hz_yactR (w := 16) (by decide) hb hp4 he mY hp⟩
  · obtain ⟨u', v', R, aX, aY⟩ := hz_act_16 I hb hp4 us x he t1
    exact ⟨0, u', v', R, fun post hp => hz_xactI (w := 16) (by decide) (by decide) hb hp4 he mX aX hp, fun post hp => hz_yactI (w := 16) (by decide) (by decide) hb hp4 he mY aY hp⟩
theorem hz_AA (I : hz_Inv m e kdA sjA afA rxA mdA scA soA plA mkA txA goA erA laA fsA lsA bxA hdA heA owA szA sxA itA icA thA kyA ryA opA syA oyA ioA buA) {b p : Nat} (hb : b < 8) (hp4 : p < 4) (us x : Int32) (he : e < 250) {w : Nat} (hw : w < 17) : ∃ (r : Int32) (u' : SX) (v' : SY), i_Rel 0 u' v' ∧ (∀ post : Int32 → SX → Prop, post r u' → wpX_act post ((nI m), (nI e), kdA, sjA, afA, rxA, mdA, scA, soA, plA, mkA, txA, goA, erA, laA, fsA, lsA, bxA, hdA, heA, owA, szA, sxA, itA, icA) (nI w) (nI b) (nI p) us x) ∧ (∀ post : Int32 → SY → Prop, post r v' → wpY_act post ((nI m), (nI e), thA, kyA, sjA, scA, afA, ryA, opA, syA, oyA, szA, ioA, soA, plA, mkA, goA, txA, buA, heA) (nI w) (nI b) (nI p) us x) := by
  match w, hw with
  | 0, _ => exact hz_A0 I hb hp4 us x he
  | 1, _ => exact hz_A1 I hb hp4 us x he
  | 2, _ => exact hz_A2 I hb hp4 us x he
  | 3, _ => exact hz_A3 I hb hp4 us x he
  | 4, _ => exact hz_A4 I hb hp4 us x he
  | 5, _ => exact hz_A5 I hb hp4 us x he
  | 6, _ => exact hz_A6 I hb hp4 us x he
  | 7, _ => exact hz_A7 I hb hp4 us x he
  | 8, _ => exact hz_A8 I hb hp4 us x he
  | 9, _ => exact hz_A9 I hb hp4 us x he
  | 10, _ => exact hz_A10 I hb hp4 us x he
  | 11, _ => exact hz_A11 I hb hp4 us x he
  | 12, _ => exact hz_A12 I hb hp4 us x he
  | 13, _ => exact hz_A13 I hb hp4 us x he
  | 14, _ => exact hz_A14 I hb hp4 us x he
  | 15, _ => exact hz_A15 I hb hp4 us x he
  | 16, _ => exact hz_A16 I hb hp4 us x he
  | n + 17, h => exact absurd h (by omega)
theorem hz_act (I : hz_Inv m e kdA sjA afA rxA mdA scA soA plA mkA txA goA erA laA fsA lsA bxA hdA heA owA szA sxA itA icA thA kyA ryA opA syA oyA ioA buA) (v1 v2 v3 v4 v5 : Int32) : ∃ (r : Int32) (u' : SX) (v' : SY), i_Rel 0 u' v' ∧ (∀ post : Int32 → SX → Prop, post r u' → wpX_act post ((nI m), (nI e), kdA, sjA, afA, rxA, mdA, scA, soA, plA, mkA, txA, goA, erA, laA, fsA, lsA, bxA, hdA, heA, owA, szA, sxA, itA, icA) v1 v2 v3 v4 v5) ∧ (∀ post : Int32 → SY → Prop, post r v' → wpY_act post ((nI m), (nI e), thA, kyA, sjA, scA, afA, ryA, opA, syA, oyA, szA, ioA, soA, plA, mkA, goA, txA, buA, heA) v1 v2 v3 v4 v5) := by
  obtain ⟨e1, e2⟩ := hz_Ie I
  rcases hz_rng v1 17 with c1 | ⟨w, hw, rfl⟩
  · refine ⟨-1, ((nI m), (nI e), kdA, sjA, afA, rxA, mdA, scA, soA, plA, mkA, txA, goA, erA, laA, fsA, lsA, bxA, hdA, heA, owA, szA, sxA, itA, icA), ((nI m), (nI e), thA, kyA, sjA, scA, afA, ryA, opA, syA, oyA, szA, ioA, soA, plA, mkA, goA, txA, buA, heA), hz_in I, fun post hp => ?_, fun post hp => ?_⟩
    · unfold wpX_act
      refine hz_inX0 17 rfl (by decide) c1 ?_
      exact br_t rfl hp
    · unfold wpY_act
      refine hz_inY0 17 rfl (by decide) c1 ?_
      exact br_t rfl hp
  · rcases hz_rng v2 8 with c2 | ⟨b, hb, rfl⟩
    · refine ⟨-1, ((nI m), (nI e), kdA, sjA, afA, rxA, mdA, scA, soA, plA, mkA, txA, goA, erA, laA, fsA, lsA, bxA, hdA, heA, owA, szA, sxA, itA, icA), ((nI m), (nI e), thA, kyA, sjA, scA, afA, ryA, opA, syA, oyA, szA, ioA, soA, plA, mkA, goA, txA, buA, heA), hz_in I, fun post hp => ?_, fun post hp => ?_⟩
      · unfold wpX_act
        refine hz_inX1 w 17 rfl rfl hw (by decide) ?_
        refine br_f hz_1n0 ?_
        refine hz_inX0 8 rfl (by decide) c2 ?_
        exact br_t rfl hp
      · unfold wpY_act
        refine hz_inY1 w 17 rfl rfl hw (by decide) ?_
        refine br_f hz_1n0 ?_
        refine hz_inY0 8 rfl (by decide) c2 ?_
        exact br_t rfl hp
    · rcases hz_rng v3 4 with c3 | ⟨p, hp4, rfl⟩
      · refine ⟨-1, ((nI m), (nI e), kdA, sjA, afA, rxA, mdA, scA, soA, plA, mkA, txA, goA, erA, laA, fsA, lsA, bxA, hdA, heA, owA, szA, sxA, itA, icA), ((nI m), (nI e), thA, kyA, sjA, scA, afA, ryA, opA, syA, oyA, szA, ioA, soA, plA, mkA, goA, txA, buA, heA), hz_in I, fun post hp => ?_, fun post hp => ?_⟩
        · unfold wpX_act
          refine hz_inX1 w 17 rfl rfl hw (by decide) ?_
          refine br_f hz_1n0 ?_
          refine hz_inX1 b 8 rfl rfl hb (by decide) ?_
          refine br_f hz_1n0 ?_
          refine hz_inX0 4 rfl (by decide) c3 ?_
          exact br_t rfl hp
        · unfold wpY_act
          refine hz_inY1 w 17 rfl rfl hw (by decide) ?_
          refine br_f hz_1n0 ?_
          refine hz_inY1 b 8 rfl rfl hb (by decide) ?_
          refine br_f hz_1n0 ?_
          refine hz_inY0 4 rfl (by decide) c3 ?_
          exact br_t rfl hp
      · by_cases c4 : e = 250
        · have c4' : nI e = 250 := by rw [c4]; rfl
          refine ⟨2, ((nI m), (nI e), kdA, sjA, afA, rxA, mdA, scA, soA, plA, mkA, txA, goA, erA, laA, fsA, lsA, bxA, hdA, heA, owA, szA, sxA, itA, icA), ((nI m), (nI e), thA, kyA, sjA, scA, afA, ryA, opA, syA, oyA, szA, ioA, soA, plA, mkA, goA, txA, buA, heA), hz_in I, fun post hp => ?_, fun post hp => ?_⟩
          · unfold wpX_act
            refine hz_inX1 w 17 rfl rfl hw (by decide) ?_
            refine br_f hz_1n0 ?_
            refine hz_inX1 b 8 rfl rfl hb (by decide) ?_
            refine br_f hz_1n0 ?_
            refine hz_inX1 p 4 rfl rfl hp4 (by decide) ?_
            exact br_f hz_1n0 (br_t c4' hp)
          · unfold wpY_act
            refine hz_inY1 w 17 rfl rfl hw (by decide) ?_
            refine br_f hz_1n0 ?_
            refine hz_inY1 b 8 rfl rfl hb (by decide) ?_
            refine br_f hz_1n0 ?_
            refine hz_inY1 p 4 rfl rfl hp4 (by decide) ?_
            exact br_f hz_1n0 (br_t c4' hp)
        · exact hz_AA I hb hp4 v4 v5 (by omega) hw
end HZ20
end
section
section HZ21
theorem i_vc_act {k : Nat} {u : SX} {v : SY} (I : i_Rel k u v) (hk : k + 6 ≤ 3072) (v1 : Int32) (v2 : Int32) (v3 : Int32) (v4 : Int32) (v5 : Int32) : wpX_act (fun r u' => wpY_act (fun r' v' => r' = r ∧ i_Rel (k + 6) u' v') v v1 v2 v3 v4 v5) u v1 v2 v3 v4 v5 := by
  refine hz_el (P := fun u v => wpX_act (fun r u' => wpY_act (fun r' v' => r' = r ∧ i_Rel (k + 6) u' v') v v1 v2 v3 v4 v5) u v1 v2 v3 v4 v5) ?_ I
  intro m e kdA sjA afA rxA mdA scA soA plA mkA txA goA erA laA fsA lsA bxA hdA heA owA szA sxA itA icA thA kyA ryA opA syA oyA ioA buA I
  obtain ⟨r, u', v', R, hX, hY⟩ := hz_act I v1 v2 v3 v4 v5
  exact hX _ (hY _ ⟨rfl, R⟩)
theorem i_vc_take {k : Nat} {u : SX} {v : SY} (I : i_Rel k u v) (hk : k + 6 ≤ 3072) (v1 : Int32) (v2 : Int32) : wpX_take (fun r u' => wpY_take (fun r' v' => r' = r ∧ i_Rel (k + 6) u' v') v v1 v2) u v1 v2 := by
  refine hz_el (P := fun u v => wpX_take (fun r u' => wpY_take (fun r' v' => r' = r ∧ i_Rel (k + 6) u' v') v v1 v2) u v1 v2) ?_ I
  intro m e kdA sjA afA rxA mdA scA soA plA mkA txA goA erA laA fsA lsA bxA hdA heA owA szA sxA itA icA thA kyA ryA opA syA oyA ioA buA I
  obtain ⟨r, u', v', R, hX, hY⟩ := hz_take I v1 v2
  exact hX _ (hY _ ⟨rfl, R⟩)
theorem i_vc_box {k : Nat} {u : SX} {v : SY} (I : i_Rel k u v) (hk : k + 6 ≤ 3072) (v1 : Int32) (v2 : Int32) : wpX_box (fun r => wpY_box (fun r' => r' = r ∧ i_Rel (k + 6) u v) v v1 v2) u v1 v2 := by
  refine hz_el (P := fun u v => wpX_box (fun r => wpY_box (fun r' => r' = r ∧ i_Rel (k + 6) u v) v v1 v2) u v1 v2) ?_ I
  intro m e kdA sjA afA rxA mdA scA soA plA mkA txA goA erA laA fsA lsA bxA hdA heA owA szA sxA itA icA thA kyA ryA opA syA oyA ioA buA I
  obtain ⟨r, hX, hY⟩ := hz_box I v1 v2
  exact hX _ (hY _ ⟨rfl, hz_in I⟩)
theorem i_vc_message {k : Nat} {u : SX} {v : SY} (I : i_Rel k u v) (hk : k + 6 ≤ 3072) (v1 : Int32) (v2 : Int32) : wpX_message (fun r => wpY_message (fun r' => r' = r ∧ i_Rel (k + 6) u v) v v1 v2) u v1 v2 := by
  refine hz_el (P := fun u v => wpX_message (fun r => wpY_message (fun r' => r' = r ∧ i_Rel (k + 6) u v) v v1 v2) u v1 v2) ?_ I
  intro m e kdA sjA afA rxA mdA scA soA plA mkA txA goA erA laA fsA lsA bxA hdA heA owA szA sxA itA icA thA kyA ryA opA syA oyA ioA buA I
  obtain ⟨r, hX, hY⟩ := hz_message I v1 v2
  exact hX _ (hY _ ⟨rfl, hz_in I⟩)
theorem i_vc_text {k : Nat} {u : SX} {v : SY} (I : i_Rel k u v) (hk : k + 6 ≤ 3072) (v1 : Int32) : wpX_text (fun r => wpY_text (fun r' => r' = r ∧ i_Rel (k + 6) u v) v v1) u v1 := by
  refine hz_el (P := fun u v => wpX_text (fun r => wpY_text (fun r' => r' = r ∧ i_Rel (k + 6) u v) v v1) u v1) ?_ I
  intro m e kdA sjA afA rxA mdA scA soA plA mkA txA goA erA laA fsA lsA bxA hdA heA owA szA sxA itA icA thA kyA ryA opA syA oyA ioA buA I
  obtain ⟨r, hX, hY⟩ := hz_text I v1
  exact hX _ (hY _ ⟨rfl, hz_in I⟩)
theorem i_vc_room {k : Nat} {u : SX} {v : SY} (I : i_Rel k u v) (hk : k + 6 ≤ 3072) (v1 : Int32) (v2 : Int32) : wpX_room (fun r => wpY_room (fun r' => r' = r ∧ i_Rel (k + 6) u v) v v1 v2) u v1 v2 := by
  refine hz_el (P := fun u v => wpX_room (fun r => wpY_room (fun r' => r' = r ∧ i_Rel (k + 6) u v) v v1 v2) u v1 v2) ?_ I
  intro m e kdA sjA afA rxA mdA scA soA plA mkA txA goA erA laA fsA lsA bxA hdA heA owA szA sxA itA icA thA kyA ryA opA syA oyA ioA buA I
  obtain ⟨r, hX, hY⟩ := hz_room I v1 v2
  exact hX _ (hY _ ⟨rfl, hz_in I⟩)
theorem i_vc_affiliation {k : Nat} {u : SX} {v : SY} (I : i_Rel k u v) (hk : k + 6 ≤ 3072) (v1 : Int32) (v2 : Int32) : wpX_affiliation (fun r => wpY_affiliation (fun r' => r' = r ∧ i_Rel (k + 6) u v) v v1 v2) u v1 v2 := by
  refine hz_el (P := fun u v => wpX_affiliation (fun r => wpY_affiliation (fun r' => r' = r ∧ i_Rel (k + 6) u v) v v1 v2) u v1 v2) ?_ I
  intro m e kdA sjA afA rxA mdA scA soA plA mkA txA goA erA laA fsA lsA bxA hdA heA owA szA sxA itA icA thA kyA ryA opA syA oyA ioA buA I
  obtain ⟨r, hX, hY⟩ := hz_affiliation I v1 v2
  exact hX _ (hY _ ⟨rfl, hz_in I⟩)
theorem i_vc_role {k : Nat} {u : SX} {v : SY} (I : i_Rel k u v) (hk : k + 6 ≤ 3072) (v1 : Int32) (v2 : Int32) : wpX_role (fun r => wpY_role (fun r' => r' = r ∧ i_Rel (k + 6) u v) v v1 v2) u v1 v2 := by
  refine hz_el (P := fun u v => wpX_role (fun r => wpY_role (fun r' => r' = r ∧ i_Rel (k + 6) u v) v v1 v2) u v1 v2) ?_ I
  intro m e kdA sjA afA rxA mdA scA soA plA mkA txA goA erA laA fsA lsA bxA hdA heA owA szA sxA itA icA thA kyA ryA opA syA oyA ioA buA I
  obtain ⟨r, hX, hY⟩ := hz_role I v1 v2
  exact hX _ (hY _ ⟨rfl, hz_in I⟩)
theorem i_vc_item {k : Nat} {u : SX} {v : SY} (I : i_Rel k u v) (hk : k + 6 ≤ 3072) (v1 : Int32) (v2 : Int32) : wpX_item (fun r => wpY_item (fun r' => r' = r ∧ i_Rel (k + 6) u v) v v1 v2) u v1 v2 := by
  refine hz_el (P := fun u v => wpX_item (fun r => wpY_item (fun r' => r' = r ∧ i_Rel (k + 6) u v) v v1 v2) u v1 v2) ?_ I
  intro m e kdA sjA afA rxA mdA scA soA plA mkA txA goA erA laA fsA lsA bxA hdA heA owA szA sxA itA icA thA kyA ryA opA syA oyA ioA buA I
  obtain ⟨r, hX, hY⟩ := hz_item I v1 v2
  exact hX _ (hY _ ⟨rfl, hz_in I⟩)
theorem i_vc_subscribed {k : Nat} {u : SX} {v : SY} (I : i_Rel k u v) (hk : k + 6 ≤ 3072) (v1 : Int32) (v2 : Int32) : wpX_subscribed (fun r => wpY_subscribed (fun r' => r' = r ∧ i_Rel (k + 6) u v) v v1 v2) u v1 v2 := by
  refine hz_el (P := fun u v => wpX_subscribed (fun r => wpY_subscribed (fun r' => r' = r ∧ i_Rel (k + 6) u v) v v1 v2) u v1 v2) ?_ I
  intro m e kdA sjA afA rxA mdA scA soA plA mkA txA goA erA laA fsA lsA bxA hdA heA owA szA sxA itA icA thA kyA ryA opA syA oyA ioA buA I
  obtain ⟨r, hX, hY⟩ := hz_subscribed I v1 v2
  exact hX _ (hY _ ⟨rfl, hz_in I⟩)
theorem i_vc_page {k : Nat} {u : SX} {v : SY} (I : i_Rel k u v) (hk : k + 6 ≤ 3072) (v1 : Int32) (v2 : Int32) (v3 : Int32) (v4 : Int32) : wpX_page (fun r => wpY_page (fun r' => r' = r ∧ i_Rel (k + 6) u v) v v1 v2 v3 v4) u v1 v2 v3 v4 := by
  refine hz_el (P := fun u v => wpX_page (fun r => wpY_page (fun r' => r' = r ∧ i_Rel (k + 6) u v) v v1 v2 v3 v4) u v1 v2 v3 v4) ?_ I
  intro m e kdA sjA afA rxA mdA scA soA plA mkA txA goA erA laA fsA lsA bxA hdA heA owA szA sxA itA icA thA kyA ryA opA syA oyA ioA buA I
  obtain ⟨r, hX, hY⟩ := hz_page I v1 v2 v3 v4
  exact hX _ (hY _ ⟨rfl, hz_in I⟩)
theorem i_vc_back {k : Nat} {u : SX} {v : SY} (I : i_Rel k u v) (hk : k + 6 ≤ 3072) (v1 : Int32) (v2 : Int32) (v3 : Int32) (v4 : Int32) : wpX_back (fun r => wpY_back (fun r' => r' = r ∧ i_Rel (k + 6) u v) v v1 v2 v3 v4) u v1 v2 v3 v4 := by
  refine hz_el (P := fun u v => wpX_back (fun r => wpY_back (fun r' => r' = r ∧ i_Rel (k + 6) u v) v v1 v2 v3 v4) u v1 v2 v3 v4) ?_ I
  intro m e kdA sjA afA rxA mdA scA soA plA mkA txA goA erA laA fsA lsA bxA hdA heA owA szA sxA itA icA thA kyA ryA opA syA oyA ioA buA I
  obtain ⟨r, hX, hY⟩ := hz_back I v1 v2 v3 v4
  exact hX _ (hY _ ⟨rfl, hz_in I⟩)
theorem i_vc_count {k : Nat} {u : SX} {v : SY} (I : i_Rel k u v) (hk : k + 6 ≤ 3072) (v1 : Int32) : wpX_count (fun r => wpY_count (fun r' => r' = r ∧ i_Rel (k + 6) u v) v v1) u v1 := by
  refine hz_el (P := fun u v => wpX_count (fun r => wpY_count (fun r' => r' = r ∧ i_Rel (k + 6) u v) v v1) u v1) ?_ I
  intro m e kdA sjA afA rxA mdA scA soA plA mkA txA goA erA laA fsA lsA bxA hdA heA owA szA sxA itA icA thA kyA ryA opA syA oyA ioA buA I
  obtain ⟨r, hX, hY⟩ := hz_count I v1
  exact hX _ (hY _ ⟨rfl, hz_in I⟩)
end HZ21
end

section
/-! pure rows to paste: stores, nI and lN arithmetic, masks, shifts, narrowing, branches by naturals (pk_le, pk_lt, pk_eq), loops (lp1 .. lp16: the measure of the state; rp1 ..: recursion), negatives. Take what you need -/
theorem pk_us {f : Nat → Int32} {k : Nat} {x : Int32} : upd f k x k = x := if_pos rfl
theorem pk_un {f : Nat → Int32} {k j : Nat} {x : Int32} (h : j ≠ k) : upd f k x j = f j := if_neg h
theorem pk_uLs {f : Nat → Int64} {k : Nat} {x : Int64} : vp_updL f k x k = x := if_pos rfl
theorem pk_uLn {f : Nat → Int64} {k j : Nat} {x : Int64} (h : j ≠ k) : vp_updL f k x j = f j := if_neg h
theorem pk_sub {a b : Nat} (h : b ≤ a) : nI a - nI b = nI (a - b) := by
  obtain ⟨c, rfl⟩ : ∃ c, a = c + b := ⟨a - b, by omega⟩
  rw [← nI_add, Int32.add_sub_cancel, Nat.add_sub_cancel]
theorem pk_m1 (n : Nat) : nI (n + 1) + (-1) = nI n := by
  rw [← nI_1, Int32.add_assoc, show (1 : Int32) + (-1) = 0 from rfl, Int32.add_zero]
theorem pk_mul (a b : Nat) : nI a * nI b = nI (a * b) := (Int32.ofNat_mul a b).symm
theorem pk_div {a d : Nat} (ha : a < 2 ^ 31) (h0 : 0 < d) (hd : d < 2 ^ 31) : nI a / nI d = nI (a / d) := by
  apply Int32.toInt_inj.mp
  rw [lg_idiv_nonneg (by rw [nI_toInt ha]; omega) (by rw [nI_toInt hd]; omega), nI_toInt ha, nI_toInt hd, nI_toInt (Nat.lt_of_le_of_lt (Nat.div_le_self a d) ha)]
  first | rfl | exact (Int.natCast_ediv _ _).symm
theorem pk_rem {a d : Nat} (ha : a < 2 ^ 31) (h0 : 0 < d) (hd : d < 2 ^ 31) : nI a - nI a / nI d * nI d = nI (a % d) := by
  rw [pk_div ha h0 hd, pk_mul, pk_sub (Nat.div_mul_le_self a d)]
  exact congrArg nI (by have := Nat.div_add_mod' a d; omega)
theorem pk_sub_toInt {a b : Nat} (ha : a < 2 ^ 30) (hb : b < 2 ^ 30) : (nI a - nI b).toInt = (a : Int) - b := by
  rw [Int32.toInt_sub, nI_toInt (by omega), nI_toInt (by omega)]
  exact Int.bmod_eq_of_le (by omega) (by omega)
theorem pk_sneg {a b : Nat} (hb : b < 2 ^ 30) (h : a < b) : nI a - nI b < 0 := by
  rw [Int32.lt_iff_toInt_lt, pk_sub_toInt (by omega) hb, show (0 : Int32).toInt = 0 from by decide]
  omega
theorem pk_ix (x : Int32) {n : Nat} (hn : n < 2 ^ 31) : x < 0 ∨ nI n ≤ x ∨ ∃ j : Nat, j < n ∧ x = nI j := by
  by_cases h : x < 0
  · exact Or.inl h
  · obtain ⟨j, hj, rfl⟩ := nI_of h
    by_cases h2 : j < n
    · exact Or.inr (Or.inr ⟨j, h2, rfl⟩)
    · exact Or.inr (Or.inl (nI_le (by omega) hj))
theorem pk_le {x y : Int32} {A B : Prop} (a b : Nat) (f : a ≤ b → A) (g : b < a → B) (hx : x = nI a := by rfl) (hy : y = nI b := by rfl) (ha : a < 2 ^ 31 := by omega) (hb : b < 2 ^ 31 := by omega) : (x ≤ y → A) ∧ (¬ x ≤ y → B) := by
  subst hx hy
  rw [nI_leI ha hb]
  exact ⟨f, fun z => g (by omega)⟩
theorem pk_lt {x y : Int32} {A B : Prop} (a b : Nat) (f : a < b → A) (g : b ≤ a → B) (hx : x = nI a := by rfl) (hy : y = nI b := by rfl) (ha : a < 2 ^ 31 := by omega) (hb : b < 2 ^ 31 := by omega) : (x < y → A) ∧ (¬ x < y → B) := by
  subst hx hy
  rw [nI_ltI ha hb]
  exact ⟨f, fun z => g (by omega)⟩
theorem pk_eq {x y : Int32} {A B : Prop} (a b : Nat) (f : a = b → A) (g : a ≠ b → B) (hx : x = nI a := by rfl) (hy : y = nI b := by rfl) (ha : a < 2 ^ 31 := by omega) (hb : b < 2 ^ 31 := by omega) : (x = y → A) ∧ (¬ x = y → B) := by
  subst hx hy
  rw [nI_eq ha hb]
  exact ⟨f, g⟩
theorem pk_in {x : Int32} (n N : Nat) (h : n < N) (hx : x = nI n := by rfl) (hN : N < 2 ^ 31 := by omega) : vp_in x N := by
  subst hx
  exact vp_in_nI h hN
theorem pk_cl {x : Int32} (n : Nat) (hx : x = nI n := by rfl) (h : n < 2 ^ 31 := by omega) : x.toNatClampNeg = n := by
  subst hx
  exact nI_clamp h
theorem pk_tn {n : Nat} (h : n < 2 ^ 32) : (nI n).toBitVec.toNat = n := Nat.mod_eq_of_lt h
theorem pk_and (x : Int32) {m : Int32} (k : Nat) (hm : m.toBitVec.toNat = 2 ^ k - 1) : x &&& m = nI (x.toBitVec.toNat % 2 ^ k) := by
  apply Int32.toBitVec_inj.mp
  apply BitVec.eq_of_toNat_eq
  rw [Int32.toBitVec_and, BitVec.toNat_and, hm, Nat.and_two_pow_sub_one_eq_mod]
  show _ = (BitVec.ofNat 32 _).toNat
  rw [BitVec.toNat_ofNat]
  exact (Nat.mod_eq_of_lt (Nat.lt_of_le_of_lt (Nat.mod_le _ _) x.toBitVec.isLt)).symm
theorem pk_andN {n : Nat} (h : n < 2 ^ 32) {m : Int32} (k : Nat) (hm : m.toBitVec.toNat = 2 ^ k - 1) : nI n &&& m = nI (n % 2 ^ k) := by
  rw [pk_and _ k hm, pk_tn h]
theorem pk_andE (x : Int32) {m : Int32} (k : Nat) (hm : m.toBitVec.toNat = 2 ^ k - 1) : ∃ j : Nat, j < 2 ^ k ∧ x &&& m = nI j := ⟨_, Nat.mod_lt _ (Nat.two_pow_pos k), pk_and x k hm⟩
theorem pk_andIn (x : Int32) {m : Int32} (k : Nat) (hm : m.toBitVec.toNat = 2 ^ k - 1) (hk : k ≤ 30) : vp_in (x &&& m) (2 ^ k) := by
  obtain ⟨j, hj, e⟩ := pk_andE x k hm
  rw [e]
  exact vp_in_nI hj (Nat.lt_of_le_of_lt (Nat.pow_le_pow_right (by decide) hk) (by decide))
theorem pk_shl (a s : Int32) (k : Nat) (hs : (s.toBitVec.smod 32).toNat = k) : (a <<< s).toBitVec.toNat = a.toBitVec.toNat * 2 ^ k % 2 ^ 32 := by
  show (a.toBitVec <<< (s.toBitVec.smod 32).toNat).toNat = _
  rw [hs, BitVec.toNat_shiftLeft, Nat.shiftLeft_eq]
theorem pk_shlN {n : Nat} (s : Int32) (k : Nat) (hs : (s.toBitVec.smod 32).toNat = k) (h : n * 2 ^ k < 2 ^ 32) : nI n <<< s = nI (n * 2 ^ k) := by
  apply Int32.toBitVec_inj.mp
  apply BitVec.eq_of_toNat_eq
  have hn : n < 2 ^ 32 := Nat.lt_of_le_of_lt (Nat.le_mul_of_pos_right n (Nat.two_pow_pos k)) h
  rw [pk_shl _ _ k hs, pk_tn hn, pk_tn h, Nat.mod_eq_of_lt h]
theorem pk_shr (a s : Int32) (k : Nat) (hs : (s.toBitVec.smod 32).toNat = k) : (a >>> s).toInt = a.toInt >>> k := by
  show (a.toBitVec.sshiftRight (s.toBitVec.smod 32).toNat).toInt = _
  rw [hs, BitVec.toInt_sshiftRight]
  rfl
theorem pk_shrN {n : Nat} (h : n < 2 ^ 31) (s : Int32) (k : Nat) (hs : (s.toBitVec.smod 32).toNat = k) : nI n >>> s = nI (n / 2 ^ k) := by
  apply Int32.toInt_inj.mp
  have h2 : n / 2 ^ k ≤ n := Nat.div_le_self _ _
  rw [pk_shr _ _ k hs, nI_toInt h, nI_toInt (by omega), Int.shiftRight_eq_div_pow]
  rfl
theorem pk_ushr (x s : Int32) (k : Nat) (hs : ((s.toUInt32 &&& Int32.toUInt32 31).toBitVec % 32).toNat = k) : (x.toUInt32 >>> (s.toUInt32 &&& Int32.toUInt32 31)).toInt32.toBitVec.toNat = x.toBitVec.toNat / 2 ^ k := by
  have e : (x.toUInt32 >>> (s.toUInt32 &&& Int32.toUInt32 31)).toInt32.toBitVec = x.toBitVec >>> k := by
    rw [← hs]
    exact UInt32.toBitVec_shiftRight _ _
  rw [e, BitVec.toNat_ushiftRight, Nat.shiftRight_eq_div_pow]
theorem pk_ushrN {n : Nat} (hn : n < 2 ^ 32) (s : Int32) (k : Nat) (hs : ((s.toUInt32 &&& Int32.toUInt32 31).toBitVec % 32).toNat = k) : ((nI n).toUInt32 >>> (s.toUInt32 &&& Int32.toUInt32 31)).toInt32 = nI (n / 2 ^ k) := by
  apply Int32.toBitVec_inj.mp
  apply BitVec.eq_of_toNat_eq
  rw [pk_ushr _ s k hs, pk_tn hn, pk_tn (Nat.lt_of_le_of_lt (Nat.div_le_self _ _) hn)]
theorem pk_nb (z : Int32) : narrow .byte (.int z.toInt8.toInt32) = .int z.toInt8.toInt32 := congrArg Value.int (by simp)
theorem pk_ns (z : Int32) : narrow .short (.int z.toInt16.toInt32) = .int z.toInt16.toInt32 := congrArg Value.int (by simp)
theorem pk_fb (r : Int32) : fits .byte (.int r.toInt8.toInt32) = true := by
  have ⟨a, b⟩ := lg_i2b_range r
  have h1 : (-128 : Int32).toInt = -128 := by decide
  have h2 : (127 : Int32).toInt = 127 := by decide
  simp only [fits, Bool.and_eq_true, decide_eq_true_eq, Int32.le_iff_toInt_le, h1, h2]
  omega
theorem pk_fs (r : Int32) : fits .short (.int r.toInt16.toInt32) = true := by
  have ⟨a, b⟩ := lg_i2s_range r
  have h1 : (-32768 : Int32).toInt = -32768 := by decide
  have h2 : (32767 : Int32).toInt = 32767 := by decide
  simp only [fits, Bool.and_eq_true, decide_eq_true_eq, Int32.le_iff_toInt_le, h1, h2]
  omega
theorem pk_charN {q : Nat} (hq : q < 65536) : narrow .char (.int (nI q)) = .int (nI q) ∧ fits .char (.int (nI q)) = true := by
  constructor
  · have e : (nI q).toUInt32.toUInt16.toUInt32.toInt32 = nI q := by
      apply Int32.toBitVec_inj.mp
      apply BitVec.eq_of_toNat_eq
      show (nI q).toUInt32.toUInt16.toUInt32.toNat = q % 2 ^ 32
      rw [UInt16.toNat_toUInt32, UInt32.toNat_toUInt16, show (nI q).toUInt32.toNat = q % 2 ^ 32 from rfl]
      omega
    exact congrArg Value.int e
  · have a : (0 : Int32) ≤ nI q := nI_pos' (by omega)
    have b : nI q ≤ 65535 := nI_le (b := 65535) (by omega) (by decide)
    show (decide ((0 : Int32) ≤ nI q) && decide (nI q ≤ 65535)) = true
    rw [decide_eq_true a, decide_eq_true b]
    rfl
theorem pk_char (x : Int32) : (x.toUInt32 % 65536).toInt32 = nI (x.toBitVec.toNat % 65536) := by
  apply Int32.toBitVec_inj.mp
  apply BitVec.eq_of_toNat_eq
  rw [pk_tn (by omega)]
  show (x.toUInt32 % 65536).toNat = _
  rw [UInt32.toNat_mod]
  rfl
theorem pk_nc (x : Int32) : narrow .char (.int (x.toUInt32 % 65536).toInt32) = .int (x.toUInt32 % 65536).toInt32 := by
  rw [pk_char]
  exact (pk_charN (Nat.mod_lt _ (by decide))).1
theorem pk_fc (x : Int32) : fits .char (.int (x.toUInt32 % 65536).toInt32) = true := by
  rw [pk_char]
  exact (pk_charN (Nat.mod_lt _ (by decide))).2
theorem pk_vb (z : Int32) : vp_nar .byte z.toInt8.toInt32 = z.toInt8.toInt32 := by rw [vp_nar_byte]; simp
theorem pk_vs (z : Int32) : vp_nar .short z.toInt16.toInt32 = z.toInt16.toInt32 := by rw [vp_nar_short]; simp
theorem pk_vc (z : Int32) : vp_nar .char (z.toUInt32 % 65536).toInt32 = (z.toUInt32 % 65536).toInt32 := Value.int.inj (pk_nc z)
/-! rows on bits, shifts and unsigned numbers, to paste: each family out of a closed proof of our own, whole with what it rests on; each by itself clean at Lean in its own claim (generation 39, form 5). Take a family whole -/
/-! ===== Int32 by its bits: bt x i ===== -/
def bt (x : Int32) (i : Nat) : Bool := x.toBitVec.getLsbD i
theorem b_ext {x y : Int32} (h : ∀ i, i < 32 → bt x i = bt y i) : x = y := Int32.toBitVec_inj.mp (BitVec.eq_of_getLsbD_eq (fun i hi => h i hi))
theorem b_or (x y : Int32) (i : Nat) : bt (x ||| y) i = (bt x i || bt y i) := by unfold bt; rw [Int32.toBitVec_or, BitVec.getLsbD_or]
theorem b_and (x y : Int32) (i : Nat) : bt (x &&& y) i = (bt x i && bt y i) := by unfold bt; rw [Int32.toBitVec_and, BitVec.getLsbD_and]
theorem b_xor (x y : Int32) (i : Nat) : bt (x ^^^ y) i = (bt x i ^^ bt y i) := by unfold bt; rw [Int32.toBitVec_xor, BitVec.getLsbD_xor]
theorem b_big {x : Int32} {i : Nat} (h : 32 ≤ i) : bt x i = false := BitVec.getLsbD_of_ge _ _ h
theorem b_255 (i : Nat) : bt 255 i = decide (i < 8) := by
  rcases Nat.lt_or_ge i 32 with h | h
  · exact (by decide +kernel : ∀ i, i < 32 → bt 255 i = decide (i < 8)) i h
  · rw [b_big h, decide_eq_false (by omega)]
theorem b_65535 (i : Nat) : bt 65535 i = decide (i < 16) := by
  rcases Nat.lt_or_ge i 32 with h | h
  · exact (by decide +kernel : ∀ i, i < 32 → bt 65535 i = decide (i < 16)) i h
  · rw [b_big h, decide_eq_false (by omega)]
theorem b_m1 : ∀ i, i < 32 → bt (-1) i = true := by decide +kernel
theorem b_0 (i : Nat) : bt 0 i = false := BitVec.getLsbD_zero
theorem s_l : ∀ n, n < 32 → ((nI n &&& 31).toBitVec.smod 32).toNat = n := by decide +kernel
theorem s_u : ∀ n, n < 32 → (((nI n).toUInt32 &&& Int32.toUInt32 31).toBitVec % 32).toNat = n := by decide +kernel
theorem b_shl (n : Nat) (hn : n < 32) (x : Int32) {i : Nat} (hi : i < 32) : bt (x <<< (nI n &&& 31)) i = (decide (n ≤ i) && bt x (i - n)) := by
  unfold bt
  rw [Int32.toBitVec_shiftLeft]
  show (x.toBitVec <<< ((nI n &&& 31).toBitVec.smod 32).toNat).getLsbD i = _
  rw [s_l n hn, BitVec.getLsbD_shiftLeft]
  rcases Nat.lt_or_ge i n with h | h
  · simp [h, Nat.not_le.mpr h]
  · simp [hi, h, Nat.not_lt.mpr h]
theorem b_ushr (n : Nat) (hn : n < 32) (x : Int32) (i : Nat) : bt ((x.toUInt32 >>> ((nI n).toUInt32 &&& Int32.toUInt32 31)).toInt32) i = bt x (n + i) := by
  show (x.toUInt32 >>> ((nI n).toUInt32 &&& Int32.toUInt32 31)).toBitVec.getLsbD i = x.toUInt32.toBitVec.getLsbD (n + i)
  rw [UInt32.toBitVec_shiftRight]
  show (x.toUInt32.toBitVec >>> (((nI n).toUInt32 &&& Int32.toUInt32 31).toBitVec % 32).toNat).getLsbD i = _
  rw [s_u n hn, BitVec.getLsbD_ushiftRight]
theorem b_sshr (n : Nat) (hn : n < 32) (x : Int32) {i : Nat} (hi : i < 32) : bt (x >>> (nI n &&& 31)) i = if n + i < 32 then bt x (n + i) else bt x 31 := by
  unfold bt
  rw [Int32.toBitVec_shiftRight]
  show (x.toBitVec.sshiftRight ((nI n &&& 31).toBitVec.smod 32).toNat).getLsbD i = _
  rw [s_l n hn, BitVec.getLsbD_sshiftRight, BitVec.msb_eq_getLsbD_last]
  simp [hi]
theorem b_shl8 (x : Int32) {i : Nat} (hi : i < 32) : bt (x <<< ((8 : Int32) &&& 31)) i = (decide (8 ≤ i) && bt x (i - 8)) := b_shl 8 (by omega) x hi
theorem b_shl16 (x : Int32) {i : Nat} (hi : i < 32) : bt (x <<< ((16 : Int32) &&& 31)) i = (decide (16 ≤ i) && bt x (i - 16)) := b_shl 16 (by omega) x hi
theorem b_shl24 (x : Int32) {i : Nat} (hi : i < 32) : bt (x <<< ((24 : Int32) &&& 31)) i = (decide (24 ≤ i) && bt x (i - 24)) := b_shl 24 (by omega) x hi
theorem b_sshr8 (x : Int32) {i : Nat} (hi : i < 32) : bt (x >>> ((8 : Int32) &&& 31)) i = if 8 + i < 32 then bt x (8 + i) else bt x 31 := b_sshr 8 (by omega) x hi
theorem nx_and (a b : Nat) : nI a &&& nI b = nI (a &&& b) := by
  apply Int32.toBitVec_inj.1
  show BitVec.ofNat 32 a &&& BitVec.ofNat 32 b = BitVec.ofNat 32 (a &&& b)
  apply BitVec.eq_of_getLsbD_eq
  intro i hi
  simp [hi]
end
section
/-! ===== counting ===== -/
def ac_cn (h : Nat → Bool) : Nat → Nat
  | 0 => 0
  | n + 1 => ac_cn h n + (if h n = true then 1 else 0)
theorem ac_cn_s (h : Nat → Bool) (n : Nat) : ac_cn h (n + 1) = ac_cn h n + (if h n = true then 1 else 0) := rfl
theorem ac_cn_le (h : Nat → Bool) : ∀ n, ac_cn h n ≤ n := by
  intro n
  induction n with
  | zero => exact Nat.le_refl _
  | succ n ih => rw [ac_cn_s]; split <;> omega
theorem ac_cn_mono {h h' : Nat → Bool} (m : ∀ i, h i = true → h' i = true) : ∀ n, ac_cn h n ≤ ac_cn h' n := by
  intro n
  induction n with
  | zero => exact Nat.le_refl _
  | succ n ih =>
    rw [ac_cn_s, ac_cn_s]
    by_cases a : h n = true
    · rw [if_pos a, if_pos (m n a)]; omega
    · rw [if_neg a]; omega
theorem ac_cn_lt {h h' : Nat → Bool} (m : ∀ i, h i = true → h' i = true) {i : Nat} (a : h i = false) (b : h' i = true) : ∀ n, i < n → ac_cn h n < ac_cn h' n := by
  intro n
  induction n with
  | zero => intro z; omega
  | succ n ih =>
    intro hi
    rw [ac_cn_s, ac_cn_s]
    by_cases e : i = n
    · subst e
      have := ac_cn_mono m i
      rw [if_neg (by rw [a]; decide), if_pos b]; omega
    · have := ih (by omega)
      by_cases c : h n = true
      · rw [if_pos c, if_pos (m n c)]; omega
      · rw [if_neg c]; omega
theorem ac_cn_eq {h h' : Nat → Bool} : ∀ n, (∀ i, i < n → h' i = h i) → ac_cn h' n = ac_cn h n := by
  intro n
  induction n with
  | zero => intro _; rfl
  | succ n ih =>
    intro m
    rw [ac_cn_s, ac_cn_s, ih (fun i hi => m i (by omega)), m n (by omega)]
theorem ac_cn_up {h h' : Nat → Bool} {q : Nat} : ∀ n, (∀ i, i < n → i ≠ q → h' i = h i) → ac_cn h' n ≤ ac_cn h n + 1 := by
  intro n
  induction n with
  | zero => intro _; exact Nat.zero_le _
  | succ n ih =>
    intro m
    rw [ac_cn_s, ac_cn_s]
    by_cases e : n = q
    · rw [ac_cn_eq n (fun i hi => m i (by omega) (by omega))]
      split <;> omega
    · rw [m n (by omega) e]
      have := ih (fun i hi => m i (by omega))
      omega
def ac_ct (F : Nat → Nat → Bool) : Nat := ac_cn (fun k => F (k / 41) (k % 41)) 574
theorem ac_ct_le (F : Nat → Nat → Bool) : ac_ct F ≤ 574 := ac_cn_le _ _
theorem ac_ct_lt {F F' : Nat → Nat → Bool} (m : ∀ p f, F p f = true → F' p f = true) {p f : Nat} (hp : p < 14) (hf : f < 41) (a : F p f = false) (b : F' p f = true) : ac_ct F < ac_ct F' := by
  have e1 : (p * 41 + f) / 41 = p := by omega
  have e2 : (p * 41 + f) % 41 = f := by omega
  refine ac_cn_lt (fun i => m _ _) (i := p * 41 + f) ?_ ?_ 574 (by omega)
  · show F ((p * 41 + f) / 41) ((p * 41 + f) % 41) = false
    rw [e1, e2]; exact a
  · show F' ((p * 41 + f) / 41) ((p * 41 + f) % 41) = true
    rw [e1, e2]; exact b
/-! ===== what an instruction makes of a set of pairs; r is its row: 0 op, 1 2 3 values, 4 5 6 places ===== -/
def ac_tr (r : Nat → Nat) (k : Bool) (G : Nat → Bool) (b : Nat) : Bool :=
  if r 0 = 0 ∨ r 0 = 1 then (if b / 4 = r 4 ∨ b % 4 = r 1 then (if b / 4 = r 4 ∧ b % 4 = r 1 then k else !k) else G b)
  else if r 0 = 2 then (if b / 4 = r 4 then G (4 * r 5 + b % 4) else G b)
  else if r 0 = 4 then (if b % 4 = r 1 then G (4 * (b / 4) + r 2) else G b)
  else G b
theorem ac_tr_not (r : Nat → Nat) (k : Bool) (G : Nat → Bool) (b : Nat) : ac_tr r k (fun b => !G b) b = !(ac_tr r (!k) G b) := by
  unfold ac_tr
  by_cases h0 : r 0 = 0 ∨ r 0 = 1
  · rw [if_pos h0, if_pos h0]
    by_cases h1 : b / 4 = r 4 ∨ b % 4 = r 1
    · rw [if_pos h1, if_pos h1]
      by_cases h2 : b / 4 = r 4 ∧ b % 4 = r 1
      · rw [if_pos h2, if_pos h2, Bool.not_not]
      · rw [if_neg h2, if_neg h2, Bool.not_not]
    · rw [if_neg h1, if_neg h1]
  · rw [if_neg h0, if_neg h0]
    by_cases h1 : r 0 = 2
    · rw [if_pos h1, if_pos h1]
      by_cases h2 : b / 4 = r 4
      · rw [if_pos h2, if_pos h2]
      · rw [if_neg h2, if_neg h2]
    · rw [if_neg h1, if_neg h1]
      by_cases h2 : r 0 = 4
      · rw [if_pos h2, if_pos h2]
        by_cases h3 : b % 4 = r 1
        · rw [if_pos h3, if_pos h3]
        · rw [if_neg h3, if_neg h3]
      · rw [if_neg h2, if_neg h2]
theorem ac_tr_mono {r : Nat → Nat} {k : Bool} {G G' : Nat → Bool} {b : Nat} (m : ∀ b, G b = true → G' b = true) (h : ac_tr r k G b = true) : ac_tr r k G' b = true := by
  unfold ac_tr at h ⊢
  by_cases h0 : r 0 = 0 ∨ r 0 = 1
  · rw [if_pos h0] at h ⊢
    by_cases h1 : b / 4 = r 4 ∨ b % 4 = r 1
    · rw [if_pos h1] at h ⊢; exact h
    · rw [if_neg h1] at h ⊢; exact m _ h
  · rw [if_neg h0] at h ⊢
    by_cases h1 : r 0 = 2
    · rw [if_pos h1] at h ⊢
      by_cases h2 : b / 4 = r 4
      · rw [if_pos h2] at h ⊢; exact m _ h
      · rw [if_neg h2] at h ⊢; exact m _ h
    · rw [if_neg h1] at h ⊢
      by_cases h2 : r 0 = 4
      · rw [if_pos h2] at h ⊢
        by_cases h3 : b % 4 = r 1
        · rw [if_pos h3] at h ⊢; exact m _ h
        · rw [if_neg h3] at h ⊢; exact m _ h
      · rw [if_neg h2] at h ⊢; exact m _ h
/-! ===== the 41 facts of a position: 0 reached, b + 1 some way with pair b, b + 21 some way without ===== -/
def ac_T (r : Nat → Nat) (G : Nat → Bool) (f : Nat) : Bool :=
  if f = 0 then true else if f < 21 then ac_tr r true (fun b => G (b + 1)) (f - 1) else ac_tr r false (fun b => G (b + 21)) (f - 21)
theorem ac_T0 (r : Nat → Nat) (G : Nat → Bool) : ac_T r G 0 = true := if_pos rfl
theorem ac_T1 (r : Nat → Nat) (G : Nat → Bool) {b : Nat} (hb : b < 20) : ac_T r G (b + 1) = ac_tr r true (fun b => G (b + 1)) b := by
  unfold ac_T
  rw [if_neg (by omega), if_pos (by omega), Nat.add_sub_cancel]
theorem ac_T2 (r : Nat → Nat) (G : Nat → Bool) (b : Nat) : ac_T r G (b + 21) = ac_tr r false (fun b => G (b + 21)) b := by
  unfold ac_T
  rw [if_neg (by omega), if_neg (by omega), Nat.add_sub_cancel]
theorem ac_T_mono {r : Nat → Nat} {G G' : Nat → Bool} {f : Nat} (m : ∀ f, G f = true → G' f = true) (h : ac_T r G f = true) : ac_T r G' f = true := by
  unfold ac_T at h ⊢
  by_cases h0 : f = 0
  · rw [if_pos h0]
  · rw [if_neg h0] at h ⊢
    by_cases h1 : f < 21
    · rw [if_pos h1] at h ⊢
      exact ac_tr_mono (fun b => m _) h
    · rw [if_neg h1] at h ⊢
      exact ac_tr_mono (fun b => m _) h
theorem ac_f41 {P : Nat → Prop} (h0 : P 0) (h1 : ∀ b, b < 20 → P (b + 1)) (h2 : ∀ b, b < 20 → P (b + 21)) : ∀ f, f < 41 → P f := by
  intro f hf
  by_cases a : f = 0
  · subst a; exact h0
  · by_cases b : f < 21
    · have e : f = (f - 1) + 1 := by omega
      rw [e]; exact h1 _ (by omega)
    · have e : f = (f - 21) + 21 := by omega
      rw [e]; exact h2 _ (by omega)
/-! ===== the least closed set of facts ===== -/
def ac_sc (g : Nat → Nat → Nat) (num : Nat → Int32) (i q : Nat) : Prop := (g i 0 ≠ 6 ∧ g i 0 ≠ 7 ∧ q = i + 1) ∨ ((g i 0 = 5 ∨ g i 0 = 6) ∧ num i = nI q)
def ac_cl (s : Nat) (g : Nat → Nat → Nat) (num : Nat → Int32) (F : Nat → Nat → Bool) (i : Nat) : Prop := F i 0 = true → ∀ q, q < s → ac_sc g num i q → ∀ f, f < 41 → ac_T (g i) (F i) f = true → F q f = true
def ac_in (f : Nat) : Bool := decide (f = 0 ∨ 21 ≤ f)
def ac_C (s : Nat) (g : Nat → Nat → Nat) (num : Nat → Int32) (F : Nat → Nat → Bool) : Prop := (∀ f, f < 41 → ac_in f = true → F 0 f = true) ∧ ∀ i, i < s → ac_cl s g num F i
def ac_L (s : Nat) (g : Nat → Nat → Nat) (num : Nat → Int32) (p f : Nat) : Prop := ∀ F : Nat → Nat → Bool, ac_C s g num F → F p f = true
noncomputable def ac_B (s : Nat) (g : Nat → Nat → Nat) (num : Nat → Int32) (p f : Nat) : Bool := @decide (p < s ∧ f < 41 ∧ ac_L s g num p f) (Classical.propDecidable _)
def ac_S (s : Nat) (g : Nat → Nat → Nat) (num : Nat → Int32) (F : Nat → Nat → Bool) : Prop := ∀ p f, F p f = true → p < s ∧ f < 41 ∧ ac_L s g num p f
section
variable {s : Nat} {g : Nat → Nat → Nat} {num : Nat → Int32} {F : Nat → Nat → Bool}
theorem ac_B_iff {p f : Nat} : ac_B s g num p f = true ↔ (p < s ∧ f < 41 ∧ ac_L s g num p f) := @decide_eq_true_iff _ (Classical.propDecidable _)
theorem ac_S_fix (hS : ac_S s g num F) (hC : ac_C s g num F) : F = ac_B s g num := by
  funext p f
  apply Bool.eq_iff_iff.mpr
  rw [ac_B_iff]
  exact ⟨hS p f, fun h => h.2.2 F hC⟩
theorem ac_B_C (hs : 0 < s) : ac_C s g num (ac_B s g num) := by
  constructor
  · intro f hf h
    rw [ac_B_iff]
    exact ⟨hs, hf, fun F hC => hC.1 f hf h⟩
  · intro i hi h0 q hq hsc f hf hT
    rw [ac_B_iff]
    refine ⟨hq, hf, fun F hC => ?_⟩
    have m : ∀ f, ac_B s g num i f = true → F i f = true := fun f h => (ac_B_iff.mp h).2.2 F hC
    exact hC.2 i hi (m 0 h0) q hq hsc f hf (ac_T_mono m hT)
theorem ac_L_T (hS : ac_S s g num F) {i q f : Nat} (h0 : F i 0 = true) (hq : q < s) (hsc : ac_sc g num i q) (hf : f < 41) (hT : ac_T (g i) (F i) f = true) : ac_L s g num q f :=
  fun F' hC => hC.2 i (hS i 0 h0).1 ((hS i 0 h0).2.2 F' hC) q hq hsc f hf (ac_T_mono (fun f h => (hS i f h).2.2 F' hC) hT)
end
/-! ===== joins ===== -/
def ac_jn (F : Nat → Nat → Bool) (q : Nat) (G : Nat → Bool) : Nat → Nat → Bool := fun p f => F p f || (decide (p = q) && (decide (f < 41) && G f))
section
variable {s : Nat} {g : Nat → Nat → Nat} {num : Nat → Int32} {F F' : Nat → Nat → Bool} {q : Nat} {G : Nat → Bool}
theorem ac_jn_up {p f : Nat} (h : F p f = true) : ac_jn F q G p f = true := by
  unfold ac_jn; rw [h]; rfl
theorem ac_jn_ne {p : Nat} (h : p ≠ q) : ac_jn F q G p = F p := by
  funext f
  unfold ac_jn
  rw [decide_eq_false h, Bool.false_and, Bool.or_false]
theorem ac_jn_at {f : Nat} (hf : f < 41) : ac_jn F q G q f = (F q f || G f) := by
  unfold ac_jn
  rw [decide_eq_true hf, decide_eq_true (rfl : q = q), Bool.true_and, Bool.true_and]
theorem ac_jn_S (hS : ac_S s g num F) (hq : q < s) (hG : ∀ f, f < 41 → G f = true → ac_L s g num q f) : ac_S s g num (ac_jn F q G) := by
  intro p f h
  by_cases a : F p f = true
  · exact hS p f a
  · have h2 : (F p f || (decide (p = q) && (decide (f < 41) && G f))) = true := h
    have a2 : F p f = false := by revert a; cases F p f <;> simp
    rw [a2, Bool.false_or, Bool.and_eq_true, Bool.and_eq_true, decide_eq_true_iff, decide_eq_true_iff] at h2
    obtain ⟨e, hf, hg⟩ := h2
    subst e
    exact ⟨hq, hf, hG f hf hg⟩
theorem ac_jn_id (h : ∀ f, f < 41 → G f = true → F q f = true) : ac_jn F q G = F := by
  funext p f
  by_cases e : p = q
  · subst e
    by_cases hf : f < 41
    · rw [ac_jn_at hf]
      cases hg : G f
      · exact Bool.or_false _
      · rw [h f hf hg]; rfl
    · unfold ac_jn
      rw [decide_eq_false hf, Bool.false_and, Bool.and_false, Bool.or_false]
  · rw [ac_jn_ne e]
theorem ac_jn_new (h : ¬ ∀ f, f < 41 → G f = true → F q f = true) : ∃ f, f < 41 ∧ F q f = false ∧ ac_jn F q G q f = true := by
  apply Classical.byContradiction
  intro n
  apply h
  intro f hf hg
  cases hF : F q f
  · exact absurd ⟨f, hf, hF, by rw [ac_jn_at hf, hg, Bool.or_true]⟩ n
  · rfl
def ac_Z : Nat → Nat → Bool := fun _ _ => false
theorem ac_Z_S : ac_S s g num ac_Z := fun _ _ h => absurd h (by unfold ac_Z; decide)
theorem ac_in_L {f : Nat} (hf : f < 41) (h : ac_in f = true) : ac_L s g num 0 f := fun _ hC => hC.1 f hf h
theorem ac_in0 : ac_in 0 = true := rfl
theorem ac_in1 {b : Nat} (hb : b < 20) : ac_in (b + 1) = false := decide_eq_false (by omega)
theorem ac_in2 (b : Nat) : ac_in (b + 21) = true := decide_eq_true (by omega)
theorem ac_F0_S (hs : 0 < s) : ac_S s g num (ac_jn ac_Z 0 ac_in) := ac_jn_S ac_Z_S hs (fun _ hf h => ac_in_L hf h)
end
end
section
/-! ===== the worklist: what one join does to the invariants ===== -/
def ac_XI (s : Nat) (g : Nat → Nat → Nat) (num : Nat → Int32) (F : Nat → Nat → Bool) (w : Int32) (c : Nat) : Prop :=
  ac_S s g num F ∧ (∀ b, bt w b = true → b < s ∧ F b 0 = true) ∧ c + ac_cn (bt w) 14 ≤ ac_ct F ∧ (∀ f, f < 41 → ac_in f = true → F 0 f = true)
def ac_OC (F : Nat → Nat → Bool) (w : Int32) (q : Nat) (G : Nat → Bool) (F' : Nat → Nat → Bool) (w' : Int32) : Prop :=
  F' = ac_jn F q G ∧ ((w' = w ∧ F' = F) ∨ ((∀ b, b < 32 → bt w' b = (bt w b || decide (b = q))) ∧ ∃ f, f < 41 ∧ F q f = false ∧ F' q f = true))
def ac_W (s : Nat) (g : Nat → Nat → Nat) (num : Nat → Int32) (F : Nat → Nat → Bool) (w : Int32) (p : Nat) : Prop := ∀ i, i < s → i ≠ p → bt w i = false → ac_cl s g num F i
def ac_A (s : Nat) (g : Nat → Nat → Nat) (num : Nat → Int32) (F : Nat → Nat → Bool) (w : Int32) : Prop := ∀ i, i < s → bt w i = false → ac_cl s g num F i
def ac_P (F : Nat → Nat → Bool) (F0 : Nat → Bool) (w : Int32) (p : Nat) : Prop := bt w p = true ∨ F p = F0
def ac_V (s : Nat) (g : Nat → Nat → Nat) (num : Nat → Int32) (F : Nat → Nat → Bool) (w : Int32) (c p : Nat) (F0 : Nat → Bool) : Prop := ac_XI s g num F w c ∧ ac_W s g num F w p ∧ ac_P F F0 w p
def ac_OD (s : Nat) (F : Nat → Nat → Bool) (w : Int32) (x : Int32) (G : Nat → Bool) (F' : Nat → Nat → Bool) (w' : Int32) : Prop :=
  (∃ q, q < s ∧ x = nI q ∧ ac_OC F w q G F' w') ∨ ((∀ q, q < s → ¬ x = nI q) ∧ F' = F ∧ w' = w)
section
variable {s : Nat} {g : Nat → Nat → Nat} {num : Nat → Int32} {F F' : Nat → Nat → Bool} {q c p : Nat} {G F0 : Nat → Bool} {w w' x : Int32}
theorem ac_OC_up (o : ac_OC F w q G F' w') : ∀ p f, F p f = true → F' p f = true := by
  obtain ⟨e, _⟩ := o
  subst e
  exact fun _ _ h => ac_jn_up h
theorem ac_OC_XI (hI : ac_XI s g num F w c) (hs : s ≤ 14) (hq : q < s) (hG0 : G 0 = true) (hG : ∀ f, f < 41 → G f = true → ac_L s g num q f) (o : ac_OC F w q G F' w') : ac_XI s g num F' w' c := by
  have up := ac_OC_up o
  obtain ⟨hS, hw, hc, h0⟩ := hI
  obtain ⟨e, o⟩ := o
  refine ⟨by rw [e]; exact ac_jn_S hS hq hG, ?_, ?_, fun f hf h => up 0 f (h0 f hf h)⟩
  · intro b hb
    rcases o with ⟨ew, _⟩ | ⟨ho, _⟩
    · rw [ew] at hb
      exact ⟨(hw b hb).1, up _ _ (hw b hb).2⟩
    · by_cases h32 : b < 32
      · have hb2 := ho b h32
        rw [hb] at hb2
        by_cases eq : b = q
        · subst eq
          exact ⟨hq, by rw [e, ac_jn_at (by omega), hG0, Bool.or_true]⟩
        · rw [decide_eq_false eq, Bool.or_false] at hb2
          exact ⟨(hw b hb2.symm).1, up _ _ (hw b hb2.symm).2⟩
      · rw [b_big (by omega)] at hb
        exact absurd hb (by decide)
  · rcases o with ⟨ew, eF⟩ | ⟨ho, f, hf, a, b⟩
    · rw [ew, eF]; exact hc
    · have h1 := ac_ct_lt up (by omega : q < 14) hf a b
      have h2 : ac_cn (bt w') 14 ≤ ac_cn (bt w) 14 + 1 := ac_cn_up (q := q) 14 (fun i hi hn => by rw [ho i (by omega), decide_eq_false hn, Bool.or_false])
      omega
theorem ac_OC_W (hW : ac_W s g num F w p) (hs : s ≤ 14) (o : ac_OC F w q G F' w') : ac_W s g num F' w' p := by
  intro i hi hp hb
  obtain ⟨e, ⟨ew, eF⟩ | ⟨ho, _⟩⟩ := o
  · rw [eF]; rw [ew] at hb; exact hW i hi hp hb
  · have hb2 := ho i (by omega)
    rw [hb] at hb2
    have hne : i ≠ q := by
      intro z
      rw [decide_eq_true z, Bool.or_true] at hb2
      exact absurd hb2 (by decide)
    rw [decide_eq_false hne, Bool.or_false] at hb2
    have cl := hW i hi hp hb2.symm
    subst e
    intro h0 q' hq' hsc f hf hT
    rw [ac_jn_ne hne] at h0 hT
    exact ac_jn_up (cl h0 q' hq' hsc f hf hT)
theorem ac_OC_P (hp : p < 32) (h : ac_P F F0 w p) (o : ac_OC F w q G F' w') : ac_P F' F0 w' p := by
  obtain ⟨e, ⟨ew, eF⟩ | ⟨ho, _⟩⟩ := o
  · rw [eF, ew]; exact h
  · by_cases z : p = q
    · left
      rw [ho p hp, decide_eq_true z, Bool.or_true]
    · rcases h with h | h
      · left
        rw [ho p hp, h, Bool.true_or]
      · right
        rw [e, ac_jn_ne z]; exact h
theorem ac_OD_up (o : ac_OD s F w x G F' w') : ∀ p f, F p f = true → F' p f = true := by
  rcases o with ⟨q, _, _, o⟩ | ⟨_, e, _⟩
  · exact ac_OC_up o
  · rw [e]; exact fun _ _ h => h
theorem ac_OD_V (hs : s ≤ 14) (hp : p < 14) (hG0 : G 0 = true) (hG : ∀ q, q < s → x = nI q → ∀ f, f < 41 → G f = true → ac_L s g num q f) (hV : ac_V s g num F w c p F0) (o : ac_OD s F w x G F' w') : ac_V s g num F' w' c p F0 := by
  rcases o with ⟨q, hq, ex, o⟩ | ⟨_, e, e2⟩
  · exact ⟨ac_OC_XI hV.1 hs hq hG0 (hG q hq ex) o, ac_OC_W hV.2.1 hs o, ac_OC_P (by omega) hV.2.2 o⟩
  · rw [e, e2]; exact hV
theorem ac_OD_ld (hs : s ≤ 14) (o : ac_OD s F w x G F' w') : ∀ q, q < s → x = nI q → ∀ f, f < 41 → G f = true → F' q f = true := by
  intro q hq ex f hf hg
  rcases o with ⟨q', hq', ex', e, _⟩ | ⟨n, _, _⟩
  · have : q = q' := (nI_eq (by omega) (by omega)).mp (ex.symm.trans ex')
    subst this
    rw [e, ac_jn_at hf, hg, Bool.or_true]
  · exact absurd ex (n q hq)
/-- the processed position is closed again, or waits again -/
theorem ac_V_end (hV : ac_V s g num F w c p (F0)) (hl : ∀ q, q < s → ac_sc g num p q → ∀ f, f < 41 → ac_T (g p) F0 f = true → F q f = true) : ac_A s g num F w := by
  intro i hi hb
  by_cases e : i = p
  · subst e
    rcases hV.2.2 with h | h
    · rw [h] at hb; exact absurd hb (by decide)
    · intro _ q hq hsc f hf hT
      rw [h] at hT
      exact hl q hq hsc f hf hT
  · exact hV.2.1 i hi e hb
theorem ac_clear (hI : ac_XI s g num F w c) (hA : ac_A s g num F w) (hb : bt w p = true) (hp : p < 14) (hw' : ∀ b, b < 32 → bt w' b = (bt w b && !decide (b = p))) : ac_V s g num F w' (c + 1) p (F p) := by
  obtain ⟨hS, hw, hc, h0⟩ := hI
  have dn : ∀ b, bt w' b = true → bt w b = true ∧ b ≠ p := by
    intro b h
    by_cases h32 : b < 32
    · rw [hw' b h32, Bool.and_eq_true] at h
      refine ⟨h.1, fun z => ?_⟩
      rw [decide_eq_true z] at h
      exact absurd h.2 (by decide)
    · rw [b_big (by omega)] at h
      exact absurd h (by decide)
  have hp' : bt w' p = false := by rw [hw' p (by omega), decide_eq_true (rfl : p = p), Bool.not_true, Bool.and_false]
  refine ⟨⟨hS, fun b h => hw b (dn b h).1, ?_, h0⟩, ?_, Or.inr rfl⟩
  · have := ac_cn_lt (h := bt w') (h' := bt w) (fun i h => (dn i h).1) hp' hb 14 hp
    omega
  · intro i hi hn hb'
    refine hA i hi ?_
    by_cases h32 : i < 32
    · rw [hw' i h32, decide_eq_false hn, Bool.not_false, Bool.and_true] at hb'
      exact hb'
    · exact b_big (by omega)
theorem ac_done (hI : ac_XI s g num F w c) (hA : ac_A s g num F w) (hw : w = 0) : F = ac_B s g num := by
  refine ac_S_fix hI.1 ⟨hI.2.2.2, fun i hi => hA i hi ?_⟩
  rw [hw]; exact b_0 i
theorem ac_XI_c (hI : ac_XI s g num F w c) : c ≤ 574 := by
  have h1 := hI.2.2.1
  have h2 := ac_ct_le F
  omega
theorem ac_start (hs : 0 < s) (hs2 : s ≤ 14) (o : ac_OC ac_Z 0 0 ac_in F w) : ac_XI s g num F w 0 ∧ ac_A s g num F w := by
  have hF : F = ac_jn ac_Z 0 ac_in := o.1
  have hw : ∀ b, b < 32 → bt w b = decide (b = 0) := by
    rcases o.2 with ⟨_, e⟩ | ⟨ho, _⟩
    · have h1 : F 0 0 = true := by rw [hF]; rfl
      rw [e] at h1
      exact absurd h1 (by unfold ac_Z; decide)
    · intro b hb
      rw [ho b hb, b_0, Bool.false_or]
  have hw2 : ∀ b, bt w b = true → b = 0 := by
    intro b h
    by_cases h32 : b < 32
    · rw [hw b h32] at h; exact of_decide_eq_true h
    · rw [b_big (by omega)] at h; exact absurd h (by decide)
  have h0 : ∀ f, f < 41 → ac_in f = true → F 0 f = true := by
    intro f hf h
    rw [hF, ac_jn_at hf, h, Bool.or_true]
  refine ⟨⟨by rw [hF]; exact ac_F0_S hs, ?_, ?_, h0⟩, ?_⟩
  · intro b h
    have e := hw2 b h
    subst e
    exact ⟨hs, h0 0 (by omega) ac_in0⟩
  · have h1 : ac_cn (bt w) 14 ≤ ac_cn (bt 0) 14 + 1 := ac_cn_up (q := 0) 14 (fun i hi hn => by rw [hw i (by omega), b_0, decide_eq_false hn])
    have h2 : ac_cn (bt 0) 14 = 0 := by decide +kernel
    have h3 := ac_ct_lt (F := ac_Z) (F' := F) (fun p f h => absurd h (by unfold ac_Z; decide)) (p := 0) (f := 0) (by omega) (by omega) rfl (h0 0 (by omega) ac_in0)
    omega
  · intro i hi hb hi0
    by_cases e : i = 0
    · subst e
      rw [hw 0 (by omega)] at hb
      exact absurd hb (by decide)
    · rw [hF, ac_jn_ne e] at hi0
      exact absurd hi0 (by unfold ac_Z; decide)
end
/-! ===== ints as sets of twenty pairs ===== -/
def ac_st (x : Int32) (h : Nat → Bool) : Prop := ∀ b, b < 32 → bt x b = (decide (b < 20) && h b)
def ac_bi (c : Bool) : Int32 := if c = true then 1 else 0
theorem ac_bi_t : ac_bi true = 1 := rfl
theorem ac_bi_f : ac_bi false = 0 := rfl
theorem ac_bi_0 {c : Bool} : ac_bi c = 0 ↔ c = false := by cases c <;> decide
theorem ac_bi_1 {c : Bool} : ac_bi c = 1 ↔ c = true := by cases c <;> decide
theorem ac_st_c {x : Int32} {h h' : Nat → Bool} (a : ac_st x h) (e : ∀ b, b < 20 → h b = h' b) : ac_st x h' := by
  intro b hb
  rw [a b hb]
  by_cases z : b < 20
  · rw [e b z]
  · rw [decide_eq_false z, Bool.false_and, Bool.false_and]
theorem ac_st_at {x : Int32} {h : Nat → Bool} (a : ac_st x h) {b : Nat} (hb : b < 20) : bt x b = h b := by
  rw [a b (by omega), decide_eq_true hb, Bool.true_and]
theorem ac_st_hi {x : Int32} {h : Nat → Bool} (a : ac_st x h) {b : Nat} (hb : 20 ≤ b) : bt x b = false := by
  by_cases z : b < 32
  · rw [a b z, decide_eq_false (by omega), Bool.false_and]
  · exact b_big (by omega)
theorem ac_st_eq {x y : Int32} {h h' : Nat → Bool} (a : ac_st x h) (a' : ac_st y h') : x = y ↔ ∀ b, b < 20 → h b = h' b := by
  constructor
  · intro e b hb
    subst e
    rw [← ac_st_at a hb, ac_st_at a' hb]
  · intro e
    apply b_ext
    intro i hi
    rw [a i hi, a' i hi]
    by_cases z : i < 20
    · rw [e i z]
    · rw [decide_eq_false z, Bool.false_and, Bool.false_and]
theorem ac_st_or {x y : Int32} {h h' : Nat → Bool} (a : ac_st x h) (a' : ac_st y h') : ac_st (x ||| y) (fun b => h b || h' b) := by
  intro b hb
  rw [b_or, a b hb, a' b hb]
  cases decide (b < 20) <;> simp
theorem ac_st_and {x y : Int32} {h h' : Nat → Bool} (a : ac_st x h) (a' : ac_st y h') : ac_st (x &&& y) (fun b => h b && h' b) := by
  intro b hb
  rw [b_and, a b hb, a' b hb]
  cases decide (b < 20) <;> simp
theorem ac_st_0 : ac_st 0 (fun _ => false) := by
  intro b _
  rw [b_0, Bool.and_false]
theorem ac_st_f : ac_st 1048575 (fun _ => true) := by
  intro b hb
  rw [Bool.and_true]
  exact (by decide +kernel : ∀ b, b < 32 → bt 1048575 b = decide (b < 20)) b hb
theorem ac_b1 : ∀ i, i < 32 → bt 1 i = decide (i = 0) := by decide +kernel
theorem ac_bit (x : Int32) {n : Nat} (hn : n < 32) : (x >>> (nI n &&& 31)) &&& 1 = ac_bi (bt x n) := by
  apply b_ext
  intro i hi
  rw [b_and, b_sshr n hn x hi, ac_b1 i hi]
  by_cases z : i = 0
  · subst z
    rw [if_pos (by omega), Nat.add_zero]
    cases bt x n <;> decide
  · rw [decide_eq_false z, Bool.and_false]
    cases bt x n
    · exact (b_0 i).symm
    · show false = bt 1 i
      rw [ac_b1 i hi, decide_eq_false z]
end
section
/-! ===== define, move, alias by bits ===== -/
theorem ac_k1 : ∀ v, v < 4 → ∀ b, b < 32 → bt ((69905 : Int32) <<< (nI v &&& 31)) b = (decide (b % 4 = v) && decide (b < 20)) := by decide +kernel
theorem ac_k2 : ∀ p, p < 5 → ∀ b, b < 32 → bt ((15 : Int32) <<< (nI (4 * p) &&& 31)) b = decide (b / 4 = p) := by decide +kernel
theorem ac_k3 : ∀ p, p < 5 → ∀ v, v < 4 → ∀ b, b < 32 → bt ((1 : Int32) <<< (nI (4 * p + v) &&& 31)) b = decide (b / 4 = p ∧ b % 4 = v) := by decide +kernel
theorem ac_k4 : ∀ b, b < 32 → bt 69905 b = (decide (b % 4 = 0) && decide (b < 20)) := by decide +kernel
theorem ac_k5 : ∀ b, b < 32 → bt 15 b = decide (b < 4) := by decide +kernel
theorem ac_4 (n : Nat) : (4 : Int32) * nI n = nI (4 * n) := pk_mul 4 n
theorem ac_8 (n : Nat) : (8 : Int32) * nI n = nI (8 * n) := pk_mul 8 n
theorem ac_def {x : Int32} {h : Nat → Bool} {v p : Nat} (hv : v < 4) (hp : p < 5) (a : ac_st x h) :
    ac_st (((x &&& (((69905 : Int32) <<< (nI v &&& 31)) ^^^ (-1))) &&& (((15 : Int32) <<< (nI (4 * p) &&& 31)) ^^^ (-1))) ||| ((1 : Int32) <<< (nI (4 * p + v) &&& 31))) (fun b => if b / 4 = p ∨ b % 4 = v then (if b / 4 = p ∧ b % 4 = v then true else !true) else h b) := by
  intro b hb
  rw [b_or, b_and, b_and, b_xor, b_xor, b_m1 b hb, ac_k1 v hv b hb, ac_k2 p hp b hb, ac_k3 p hp v hv b hb, a b hb]
  by_cases z : b < 20
  · by_cases e1 : b / 4 = p
    · by_cases e2 : b % 4 = v <;> simp [z, e1, e2]
    · by_cases e2 : b % 4 = v <;> simp [z, e1, e2]
  · have e1 : ¬ b / 4 = p := by omega
    simp [z, e1]
theorem ac_mov {x : Int32} {h : Nat → Bool} {q p : Nat} (hq : q < 5) (hp : p < 5) (a : ac_st x h) :
    ac_st ((x &&& (((15 : Int32) <<< (nI (4 * p) &&& 31)) ^^^ (-1))) ||| (((x >>> (nI (4 * q) &&& 31)) &&& 15) <<< (nI (4 * p) &&& 31))) (fun b => if b / 4 = p then h (4 * q + b % 4) else h b) := by
  intro b hb
  rw [b_or, b_and, b_xor, b_m1 b hb, ac_k2 p hp b hb, b_shl (4 * p) (by omega) _ hb, b_and, b_sshr (4 * q) (by omega) x (i := b - 4 * p) (by omega), ac_k5 (b - 4 * p) (by omega), a b hb]
  by_cases e1 : b / 4 = p
  · have h1 : 4 * p ≤ b := by omega
    have h2 : b - 4 * p = b % 4 := by omega
    have h3 : b < 20 := by omega
    have h4 : b % 4 < 4 := by omega
    rw [h2, if_pos (by omega), ac_st_at a (by omega), decide_eq_true e1, decide_eq_true h1, decide_eq_true h3, decide_eq_true h4]
    simp [e1]
  · by_cases h1 : 4 * p ≤ b
    · have h2 : ¬ b - 4 * p < 4 := by omega
      simp [e1, h2]
    · simp [e1, h1]
theorem ac_ali {x : Int32} {h : Nat → Bool} {v c : Nat} (hv : v < 4) (hc : c < 4) (a : ac_st x h) :
    ac_st ((x &&& (((69905 : Int32) <<< (nI v &&& 31)) ^^^ (-1))) ||| (((x >>> (nI c &&& 31)) &&& 69905) <<< (nI v &&& 31))) (fun b => if b % 4 = v then h (4 * (b / 4) + c) else h b) := by
  intro b hb
  rw [b_or, b_and, b_xor, b_m1 b hb, ac_k1 v hv b hb, b_shl v (by omega) _ hb, b_and, b_sshr c (by omega) x (i := b - v) (by omega), ac_k4 (b - v) (by omega), a b hb]
  by_cases z : b < 20
  · by_cases e1 : b % 4 = v
    · have h1 : v ≤ b := by omega
      have h2 : (b - v) % 4 = 0 := by omega
      have h3 : b - v < 20 := by omega
      have h4 : c + (b - v) = 4 * (b / 4) + c := by omega
      rw [h4, if_pos (by omega), ac_st_at a (by omega), decide_eq_true e1, decide_eq_true h1, decide_eq_true h2, decide_eq_true h3, decide_eq_true z]
      simp [e1]
    · by_cases h1 : v ≤ b
      · have h2 : ¬ (b - v) % 4 = 0 := by omega
        simp [e1, h2]
      · simp [e1, h1]
  · by_cases h2 : (b - v) % 4 = 0
    · by_cases h3 : b - v < 20
      · omega
      · simp [z, h3]
    · simp [z, h2]
/-! ===== the two pictures of the facts ===== -/
def ac_RX (F : Nat → Nat → Bool) (m a t : Nat → Int32) : Prop := ∀ p, p < 14 → m p = ac_bi (F p 0) ∧ ac_st (a p) (fun b => !F p (b + 21)) ∧ ac_st (t p) (fun b => F p (b + 1))
def ac_RY (F : Nat → Nat → Bool) (c w o : Nat → Int32) : Prop := ∀ p, p < 14 → c p = ac_bi (F p 0) ∧ ac_st (w p) (fun b => F p (b + 1)) ∧ ac_st (o p) (fun b => F p (b + 21))
section
variable {F : Nat → Nat → Bool} {G : Nat → Bool} {m a t c w o : Nat → Int32} {q : Nat} {x y : Int32}
theorem ac_RX_jn (R : ac_RX F m a t) (hq : q < 14) (G0 : G 0 = true) (hx : ac_st x (fun b => !G (b + 21))) (hy : ac_st y (fun b => G (b + 1))) : ac_RX (ac_jn F q G) (upd m q 1) (upd a q (a q &&& x)) (upd t q (t q ||| y)) := by
  intro p hp
  by_cases e : p = q
  · subst e
    rw [pk_us, pk_us, pk_us]
    refine ⟨by rw [ac_jn_at (by omega), G0, Bool.or_true]; rfl, ?_, ?_⟩
    · refine ac_st_c (ac_st_and (R p hp).2.1 hx) (fun b hb => ?_)
      rw [ac_jn_at (by omega), Bool.not_or]
    · refine ac_st_c (ac_st_or (R p hp).2.2 hy) (fun b hb => ?_)
      rw [ac_jn_at (by omega)]
  · rw [pk_un e, pk_un e, pk_un e, ac_jn_ne e]
    exact R p hp
theorem ac_RX_sat (R : ac_RX F m a t) (hq : q < 14) (G0 : G 0 = true) (hx : ac_st x (fun b => !G (b + 21))) (hy : ac_st y (fun b => G (b + 1))) : (¬ m q = 0 ∧ a q &&& x = a q ∧ t q ||| y = t q) ↔ ∀ f, f < 41 → G f = true → F q f = true := by
  obtain ⟨h0, h1, h2⟩ := R q hq
  rw [h0, ac_bi_0, ac_st_eq (ac_st_and h1 hx) h1, ac_st_eq (ac_st_or h2 hy) h2]
  constructor
  · intro ⟨a0, a1, a2⟩
    apply ac_f41
    · intro _
      revert a0
      cases F q 0 <;> simp
    · intro b hb hg
      have := a2 b hb
      rw [hg, Bool.or_true] at this
      exact this.symm
    · intro b hb hg
      have := a1 b hb
      rw [hg, Bool.not_true, Bool.and_false] at this
      revert this
      cases F q (b + 21) <;> simp
  · intro H
    refine ⟨?_, ?_, ?_⟩
    · rw [H 0 (by omega) G0]; decide
    · intro b hb
      have := H (b + 21) (by omega)
      revert this
      cases F q (b + 21) <;> cases G (b + 21) <;> simp
    · intro b hb
      have := H (b + 1) (by omega)
      revert this
      cases F q (b + 1) <;> cases G (b + 1) <;> simp
theorem ac_RY_jn (R : ac_RY F c w o) (hq : q < 14) (G0 : G 0 = true) (hx : ac_st x (fun b => G (b + 1))) (hy : ac_st y (fun b => G (b + 21))) : ac_RY (ac_jn F q G) (upd c q 1) (upd w q (w q ||| x)) (upd o q (o q ||| y)) := by
  intro p hp
  by_cases e : p = q
  · subst e
    rw [pk_us, pk_us, pk_us]
    refine ⟨by rw [ac_jn_at (by omega), G0, Bool.or_true]; rfl, ?_, ?_⟩
    · refine ac_st_c (ac_st_or (R p hp).2.1 hx) (fun b hb => ?_)
      rw [ac_jn_at (by omega)]
    · refine ac_st_c (ac_st_or (R p hp).2.2 hy) (fun b hb => ?_)
      rw [ac_jn_at (by omega)]
  · rw [pk_un e, pk_un e, pk_un e, ac_jn_ne e]
    exact R p hp
theorem ac_RY_sat (R : ac_RY F c w o) (hq : q < 14) (G0 : G 0 = true) (hx : ac_st x (fun b => G (b + 1))) (hy : ac_st y (fun b => G (b + 21))) : (¬ c q = 0 ∧ w q ||| x = w q ∧ o q ||| y = o q) ↔ ∀ f, f < 41 → G f = true → F q f = true := by
  obtain ⟨h0, h1, h2⟩ := R q hq
  rw [h0, ac_bi_0, ac_st_eq (ac_st_or h1 hx) h1, ac_st_eq (ac_st_or h2 hy) h2]
  constructor
  · intro ⟨a0, a1, a2⟩
    apply ac_f41
    · intro _
      revert a0
      cases F q 0 <;> simp
    · intro b hb hg
      have := a1 b hb
      rw [hg, Bool.or_true] at this
      exact this.symm
    · intro b hb hg
      have := a2 b hb
      rw [hg, Bool.or_true] at this
      exact this.symm
  · intro H
    refine ⟨?_, ?_, ?_⟩
    · rw [H 0 (by omega) G0]; decide
    · intro b hb
      have := H (b + 1) (by omega)
      revert this
      cases F q (b + 1) <;> cases G (b + 1) <;> simp
    · intro b hb
      have := H (b + 21) (by omega)
      revert this
      cases F q (b + 21) <;> cases G (b + 21) <;> simp
end
/-! ===== the ghost program ===== -/
def ac_GV (g : Nat → Nat → Nat) : Prop := ∀ i, g i 0 < 8 ∧ g i 1 < 4 ∧ g i 2 < 4 ∧ g i 3 < 4 ∧ g i 4 < 5 ∧ g i 5 < 5 ∧ g i 6 < 5
def ac_XP (g : Nat → Nat → Nat) (o v p : Nat → Int32) : Prop := ∀ i, o i = nI (g i 0) ∧ (v i) &&& 3 = nI (g i 1) ∧ ((v i) >>> ((2 : Int32) &&& 31)) &&& 3 = nI (g i 2) ∧ ((v i) >>> ((4 : Int32) &&& 31)) &&& 3 = nI (g i 3) ∧ (p i) &&& 7 = nI (g i 4) ∧ ((p i) >>> ((3 : Int32) &&& 31)) &&& 7 = nI (g i 5) ∧ ((p i) >>> ((6 : Int32) &&& 31)) &&& 7 = nI (g i 6)
def ac_YP (g : Nat → Nat → Nat) (o v0 v1 v2 p0 p1 p2 : Nat → Int32) : Prop := ∀ i, o i = nI (g i 0) ∧ v0 i = nI (g i 1) ∧ v1 i = nI (g i 2) ∧ v2 i = nI (g i 3) ∧ p0 i = nI (g i 4) ∧ p1 i = nI (g i 5) ∧ p2 i = nI (g i 6)
def ac_ins (s : Nat) (x : Int32) : Prop := ¬ x < 0 ∧ ¬ nI s ≤ x
theorem ac_ins_iff {s : Nat} {x : Int32} (hs : s ≤ 14) : ac_ins s x ↔ ∃ q, q < s ∧ x = nI q := by
  constructor
  · intro ⟨h1, h2⟩
    obtain ⟨j, hj, e⟩ := nI_of h1
    subst e
    rw [nI_leI (by omega) hj] at h2
    exact ⟨j, by omega, rfl⟩
  · intro ⟨q, hq, e⟩
    subst e
    exact ⟨nI_pos (by omega), nI_ge hq (by omega)⟩
end
section
/-! ===== X: come, after, spread ===== -/
theorem ac_k6 : ∀ q, q < 14 → ∀ b, b < 32 → bt ((1 : Int32) <<< (nI q &&& 31)) b = decide (b = q) := by decide +kernel
section
variable {f_size f_checked f_waiting f_state f_at f_choices f_forks f_outCount : Int32} {a_ops a_values a_places a_numbers a_met a_always a_sometimes a_noted a_held a_lately : Nat → Int32}
variable {s p : Nat} {g : Nat → Nat → Nat} {F : Nat → Nat → Bool} {G h : Nat → Bool} {x y z : Int32}
theorem xk_ins {post : Int32 → Prop} (h1 : ac_ins s x → post 1) (h0 : ¬ ac_ins s x → post 0) : wpX_inside post (nI s, f_checked, f_waiting, f_state, f_at, f_choices, f_forks, f_outCount, a_ops, a_values, a_places, a_numbers, a_met, a_always, a_sometimes, a_noted, a_held, a_lately) x := by
  unfold wpX_inside
  exact br_c (fun a => h0 (fun z => z.1 a)) (fun a => br_c (fun b => h0 (fun z => z.2 b)) (fun b => h1 ⟨a, b⟩))
theorem xk_come {post : SX → Prop} (hs : s ≤ 14) (R : ac_RX F a_met a_always a_sometimes) (G0 : G 0 = true) (hy : ac_st y (fun b => !G (b + 21))) (hz : ac_st z (fun b => G (b + 1)))
    (K : ∀ F' w m a t, ac_RX F' m a t → ac_OD s F f_waiting x G F' w → post (nI s, f_checked, w, f_state, f_at, f_choices, f_forks, f_outCount, a_ops, a_values, a_places, a_numbers, m, a, t, a_noted, a_held, a_lately)) : wpX_come post (nI s, f_checked, f_waiting, f_state, f_at, f_choices, f_forks, f_outCount, a_ops, a_values, a_places, a_numbers, a_met, a_always, a_sometimes, a_noted, a_held, a_lately) x y z := by
  unfold wpX_come
  refine xk_ins (fun hi => ?_) (fun hi => ?_)
  · obtain ⟨q, hq, e⟩ := (ac_ins_iff hs).mp hi
    subst e
    have hin : vp_in (nI q) 14 := vp_in_nI (by omega) (by omega)
    have hc : (nI q).toNatClampNeg = q := nI_clamp (by omega)
    have hq14 : q < 14 := by omega
    have S := ac_RX_sat R hq14 G0 hy hz
    have J := ac_RX_jn R hq14 G0 hy hz
    have C : (¬ ∀ f, f < 41 → G f = true → F q f = true) → wX_come_60 post (nI q) (a_always q &&& y) (a_sometimes q ||| z) (nI s) f_checked f_waiting f_state f_at f_choices f_forks f_outCount a_ops a_values a_places a_numbers a_met a_always a_sometimes a_noted a_held a_lately := by
      intro n
      unfold wX_come_60
      rw [hc]
      refine ⟨hin, nm_e ⟨hin, nm_e ⟨hin, nm_e (nm_e (K (ac_jn F q G) _ _ _ _ J (Or.inl ⟨q, hq, rfl, rfl, Or.inr ⟨?_, ac_jn_new n⟩⟩)))⟩⟩⟩
      intro b hb
      rw [b_or, ac_k6 q hq14 b hb]
    refine br_f (by decide) ⟨hin, ?_⟩
    rw [hc]
    exact nm_e ⟨hin, nm_e ⟨hin, br_c (fun a => C (fun z => (S.mpr z).1 a)) (fun a => ⟨hin, br_c (fun b => ⟨hin, br_c (fun c => K F _ _ _ _ R (Or.inl ⟨q, hq, rfl, (ac_jn_id (S.mp ⟨a, b, c⟩)).symm, Or.inl ⟨rfl, rfl⟩⟩)) (fun c => C (fun z => c (S.mpr z).2.2))⟩) (fun b => C (fun z => b (S.mpr z).2.1))⟩)⟩⟩
  · exact br_t rfl (K F _ _ _ _ R (Or.inr ⟨fun q hq e => hi ((ac_ins_iff hs).mpr ⟨q, hq, e⟩), rfl, rfl⟩))
theorem xk_after {post : Int32 → Prop} (hg : ac_GV g) (hP : ac_XP g a_ops a_values a_places) (hp : p < 14) (a : ac_st x h) (K : ∀ r, ac_st r (ac_tr (g p) true h) → post r) : wpX_after post (f_size, f_checked, f_waiting, f_state, f_at, f_choices, f_forks, f_outCount, a_ops, a_values, a_places, a_numbers, a_met, a_always, a_sometimes, a_noted, a_held, a_lately) (nI p) x := by
  have hin : vp_in (nI p) 14 := vp_in_nI (by omega) (by omega)
  have hc : (nI p).toNatClampNeg = p := nI_clamp (by omega)
  obtain ⟨e0, e1, e2, e3, e4, e5, e6⟩ := hP p
  obtain ⟨b0, b1, b2, b3, b4, b5, b6⟩ := hg p
  unfold wpX_after
  dsimp only
  rw [hc, e0, e1, e2, e4, e5]
  have D : (g p 0 = 0 ∨ g p 0 = 1) → wX_after_37 post x (nI (g p 1)) (nI (g p 4)) f_size f_checked f_waiting f_state f_at f_choices f_forks f_outCount a_ops a_values a_places a_numbers a_met a_always a_sometimes a_noted a_held a_lately := by
    intro ho
    unfold wX_after_37 wpX_define
    rw [ac_4, nI_add]
    refine nm_e (nm_e (K _ (ac_st_c (ac_def b1 b4 a) (fun b _ => ?_))))
    unfold ac_tr
    rw [if_pos ho]
  refine ⟨hin, nm_e ⟨hin, nm_e ⟨hin, nm_e ?_⟩⟩⟩
  refine pk_eq (g p 0) 0 (fun o => D (Or.inl o)) (fun o0 => ?_)
  refine pk_eq (g p 0) 1 (fun o => D (Or.inr o)) (fun o1 => ?_)
  have n01 : ¬ (g p 0 = 0 ∨ g p 0 = 1) := by omega
  refine pk_eq (g p 0) 2 (fun o => ⟨hin, ?_⟩) (fun o2 => ?_)
  · rw [ac_4, ac_4]
    refine nm_e (K _ (ac_st_c (ac_mov b5 b4 a) (fun b _ => ?_)))
    unfold ac_tr
    rw [if_neg n01, if_pos o]
  · refine pk_eq (g p 0) 4 (fun o => ⟨hin, ?_⟩) (fun o4 => ?_)
    · unfold wpX_alias
      refine nm_e (K _ (ac_st_c (ac_ali b1 b2 a) (fun b _ => ?_)))
      unfold ac_tr
      rw [if_neg n01, if_neg o2, if_pos o]
    · refine K _ (ac_st_c a (fun b _ => ?_))
      unfold ac_tr
      rw [if_neg n01, if_neg o2, if_neg o4]
theorem xk_sp57 {post : SX → Prop} {c : Nat} {F0 : Nat → Bool} (hs : s ≤ 14) (hg : ac_GV g) (hp : p < s) (R : ac_RX F a_met a_always a_sometimes)
    (hL : ∀ q, q < s → ac_sc g a_numbers p q → ∀ f, f < 41 → ac_T (g p) F0 f = true → ac_L s g a_numbers q f)
    (hV : ac_V s g a_numbers F f_waiting c p F0) (hd : (g p 0 = 5 ∨ g p 0 = 6) → ∀ q, q < s → a_numbers p = nI q → ∀ f, f < 41 → ac_T (g p) F0 f = true → F q f = true)
    (hy : ac_st y (fun b => !ac_T (g p) F0 (b + 21))) (hz : ac_st z (fun b => ac_T (g p) F0 (b + 1)))
    (K : ∀ F' w m a t, ac_RX F' m a t → ac_XI s g a_numbers F' w c → ac_A s g a_numbers F' w → post (nI s, f_checked, w, f_state, f_at, f_choices, f_forks, f_outCount, a_ops, a_values, a_places, a_numbers, m, a, t, a_noted, a_held, a_lately)) :
    wX_spread_57 post (nI p) y z (nI (g p 0)) (nI s) f_checked f_waiting f_state f_at f_choices f_forks f_outCount a_ops a_values a_places a_numbers a_met a_always a_sometimes a_noted a_held a_lately := by
  have b0 := (hg p).1
  unfold wX_spread_57
  refine pk_eq (g p 0) 6 (fun o => ?_) (fun o6 => ?_)
  · refine K F _ _ _ _ R hV.1 (ac_V_end hV (fun q hq hsc f hf hT => ?_))
    rcases hsc with ⟨n, _⟩ | ⟨o5, e⟩
    · exact absurd o n
    · exact hd o5 q hq e f hf hT
  · refine pk_eq (g p 0) 7 (fun o => ?_) (fun o7 => ?_)
    · refine K F _ _ _ _ R hV.1 (ac_V_end hV (fun q hq hsc f hf hT => ?_))
      rcases hsc with ⟨_, n, _⟩ | ⟨o5, e⟩
      · exact absurd o n
      · exact hd o5 q hq e f hf hT
    · rw [nI_1]
      refine xk_come hs R (ac_T0 _ _) hy hz (fun F' w m a t R' O => ?_)
      have hV' := ac_OD_V hs (by omega) (ac_T0 _ _) (fun q hq e => hL q hq (Or.inl ⟨o6, o7, ((nI_eq (by omega) (by omega)).mp e).symm⟩)) hV O
      refine K F' w m a t R' hV'.1 (ac_V_end hV' (fun q hq hsc f hf hT => ?_))
      rcases hsc with ⟨_, _, e⟩ | ⟨o5, e⟩
      · exact ac_OD_ld hs O q hq (by rw [e]) f hf hT
      · exact ac_OD_up O q f (hd o5 q hq e f hf hT)
theorem xk_sp45 {post : SX → Prop} {c : Nat} {F0 : Nat → Bool} (hs : s ≤ 14) (hg : ac_GV g) (hp : p < s) (R : ac_RX F a_met a_always a_sometimes)
    (hL : ∀ q, q < s → ac_sc g a_numbers p q → ∀ f, f < 41 → ac_T (g p) F0 f = true → ac_L s g a_numbers q f)
    (hV : ac_V s g a_numbers F f_waiting c p F0) (ho : g p 0 = 5 ∨ g p 0 = 6)
    (hy : ac_st y (fun b => !ac_T (g p) F0 (b + 21))) (hz : ac_st z (fun b => ac_T (g p) F0 (b + 1)))
    (K : ∀ F' w m a t, ac_RX F' m a t → ac_XI s g a_numbers F' w c → ac_A s g a_numbers F' w → post (nI s, f_checked, w, f_state, f_at, f_choices, f_forks, f_outCount, a_ops, a_values, a_places, a_numbers, m, a, t, a_noted, a_held, a_lately)) :
    wX_spread_45 post (nI p) y z (nI (g p 0)) (nI s) f_checked f_waiting f_state f_at f_choices f_forks f_outCount a_ops a_values a_places a_numbers a_met a_always a_sometimes a_noted a_held a_lately := by
  unfold wX_spread_45
  rw [nI_clamp (n := p) (by omega)]
  refine ⟨vp_in_nI (by omega) (by omega), xk_come hs R (ac_T0 _ _) hy hz (fun F' w m a t R' O => ?_)⟩
  have hV' := ac_OD_V hs (by omega) (ac_T0 _ _) (fun q hq e => hL q hq (Or.inr ⟨ho, e⟩)) hV O
  exact xk_sp57 hs hg hp R' hL hV' (fun _ q hq e f hf hT => ac_OD_ld hs O q hq e f hf hT) hy hz K
theorem xk_spread {post : SX → Prop} {c : Nat} (hs : s ≤ 14) (hg : ac_GV g) (hP : ac_XP g a_ops a_values a_places) (hp : p < s) (h0 : F p 0 = true) (R : ac_RX F a_met a_always a_sometimes)
    (hV : ac_V s g a_numbers F f_waiting c p (F p))
    (K : ∀ F' w m a t, ac_RX F' m a t → ac_XI s g a_numbers F' w c → ac_A s g a_numbers F' w → post (nI s, f_checked, w, f_state, f_at, f_choices, f_forks, f_outCount, a_ops, a_values, a_places, a_numbers, m, a, t, a_noted, a_held, a_lately)) :
    wpX_spread post (nI s, f_checked, f_waiting, f_state, f_at, f_choices, f_forks, f_outCount, a_ops, a_values, a_places, a_numbers, a_met, a_always, a_sometimes, a_noted, a_held, a_lately) (nI p) := by
  have hp14 : p < 14 := by omega
  have hin : vp_in (nI p) 14 := vp_in_nI (by omega) (by omega)
  have hc : (nI p).toNatClampNeg = p := nI_clamp (by omega)
  have b0 := (hg p).1
  unfold wpX_spread
  dsimp only
  rw [hc]
  refine ⟨hin, xk_after hg hP hp14 (R p hp14).2.1 (fun r1 s1 => ⟨hin, xk_after hg hP hp14 (R p hp14).2.2 (fun r2 s2 => ⟨hin, ?_⟩)⟩)⟩
  have S1 : ac_st r1 (fun b => !ac_T (g p) (F p) (b + 21)) := ac_st_c s1 (fun b hb => by rw [ac_T2]; exact ac_tr_not _ true _ b)
  have S2 : ac_st r2 (fun b => ac_T (g p) (F p) (b + 1)) := ac_st_c s2 (fun b hb => (ac_T1 _ _ hb).symm)
  have hL : ∀ q, q < s → ac_sc g a_numbers p q → ∀ f, f < 41 → ac_T (g p) (F p) f = true → ac_L s g a_numbers q f := fun q hq hsc f hf hT => ac_L_T hV.1.1 h0 hq hsc hf hT
  rw [(hP p).1]
  refine nm_e ?_
  refine pk_eq (g p 0) 5 (fun o => xk_sp45 hs hg hp R hL hV (Or.inl o) S1 S2 K) (fun o5 => ?_)
  refine pk_eq (g p 0) 6 (fun o => xk_sp45 hs hg hp R hL hV (Or.inr o) S1 S2 K) (fun o6 => ?_)
  exact xk_sp57 hs hg hp R hL hV (fun o => absurd o (by omega)) S1 S2 K
end
end
section
/-! ===== faults ===== -/
noncomputable def ac_b (c : Prop) (k : Nat) : Nat := @ite Nat c (Classical.propDecidable c) k 0
theorem ac_b_t {c : Prop} {k : Nat} (h : c) : ac_b c k = k := @if_pos c (Classical.propDecidable c) h _ _ _
theorem ac_b_f {c : Prop} {k : Nat} (h : ¬ c) : ac_b c k = 0 := @if_neg c (Classical.propDecidable c) h _ _ _
theorem ac_b_c {c d : Prop} {k : Nat} (h : c ↔ d) : ac_b c k = ac_b d k := by
  by_cases z : c
  · rw [ac_b_t z, ac_b_t (h.mp z)]
  · rw [ac_b_f z, ac_b_f (fun y => z (h.mpr y))]
theorem ac_b_le (c : Prop) (k : Nat) : ac_b c k ≤ k := by
  by_cases z : c
  · rw [ac_b_t z]; exact Nat.le_refl _
  · rw [ac_b_f z]; exact Nat.zero_le _
def ac_c1 (g : Nat → Nat → Nat) (F : Nat → Nat → Bool) (p : Nat) : Prop := (g p 0 = 1 ∨ g p 0 = 3) ∧ F p (4 * g p 5 + g p 2 + 21) = true
def ac_c2 (g : Nat → Nat → Nat) (F : Nat → Nat → Bool) (p : Nat) : Prop := g p 0 = 1 ∧ F p (4 * g p 6 + g p 3 + 21) = true
def ac_c3 (s : Nat) (g : Nat → Nat → Nat) (num : Nat → Int32) (p : Nat) : Prop := (g p 0 ≠ 6 ∧ g p 0 ≠ 7 ∧ ¬ p + 1 < s) ∨ ((g p 0 = 5 ∨ g p 0 = 6) ∧ ¬ ac_ins s (num p))
noncomputable def ac_fv (s : Nat) (g : Nat → Nat → Nat) (num : Nat → Int32) (F : Nat → Nat → Bool) (p : Nat) : Nat := ac_b (ac_c1 g F p) 1 + ac_b (ac_c2 g F p) 2 + ac_b (ac_c3 s g num p) 4
theorem ac_fv_le (s : Nat) (g : Nat → Nat → Nat) (num : Nat → Int32) (F : Nat → Nat → Bool) (p : Nat) : ac_fv s g num F p ≤ 7 := by
  have h1 := ac_b_le (ac_c1 g F p) 1
  have h2 := ac_b_le (ac_c2 g F p) 2
  have h3 := ac_b_le (ac_c3 s g num p) 4
  unfold ac_fv
  omega
theorem ac_insN {s q : Nat} (hs : s ≤ 14) (hq : q < 2 ^ 31) : ac_ins s (nI q) ↔ q < s := by
  unfold ac_ins
  rw [nI_leI (by omega) hq]
  have := nI_pos hq
  constructor
  · intro h; omega
  · intro h; exact ⟨this, by omega⟩
theorem ac_or4 : ∀ m, m < 4 → nI m ||| 4 = nI (m + 4) := by decide +kernel
theorem ac_or2 : ∀ m, m < 2 → nI m ||| 2 = nI (m + 2) := by decide +kernel
section
variable {f_size f_checked f_waiting f_state f_at f_choices f_forks f_outCount : Int32} {a_ops a_values a_places a_numbers a_met a_always a_sometimes a_noted a_held a_lately : Nat → Int32}
variable {s p m : Nat} {g : Nat → Nat → Nat} {F : Nat → Nat → Bool} {x y z : Int32} {post : Int32 → Prop}
theorem xf_159 {c : Prop} (hm : m < 4) (hz : (z = 0 ∧ ¬ c) ∨ (z = 1 ∧ c)) (K : post (nI (m + ac_b c 4))) : wX_faultsAt_159 post (nI m) z f_size f_checked f_waiting f_state f_at f_choices f_forks f_outCount a_ops a_values a_places a_numbers a_met a_always a_sometimes a_noted a_held a_lately := by
  unfold wX_faultsAt_159
  rcases hz with ⟨e, h⟩ | ⟨e, h⟩
  · rw [ac_b_f h] at K
    exact br_t e K
  · rw [ac_b_t h] at K
    rw [ac_or4 m hm]
    exact br_f (by rw [e]; decide) K
theorem xf_132 {c : Prop} (hs : s ≤ 14) (hg : ac_GV g) (hp : p < 14) (hm : m < 4) (hz : (z = 0 ∧ ¬ c) ∨ (z = 1 ∧ c)) (K : post (nI (m + ac_b ((g p 0 ≠ 6 ∧ g p 0 ≠ 7 ∧ ¬ p + 1 < s) ∨ c) 4))) : wX_faultsAt_132 post (nI p) (nI (g p 0)) (nI m) z (nI s) f_checked f_waiting f_state f_at f_choices f_forks f_outCount a_ops a_values a_places a_numbers a_met a_always a_sometimes a_noted a_held a_lately := by
  have b0 := (hg p).1
  unfold wX_faultsAt_132
  have N : (g p 0 = 6 ∨ g p 0 = 7 ∨ p + 1 < s) → wX_faultsAt_159 post (nI m) z (nI s) f_checked f_waiting f_state f_at f_choices f_forks f_outCount a_ops a_values a_places a_numbers a_met a_always a_sometimes a_noted a_held a_lately := by
    intro h
    refine xf_159 hm hz ?_
    rw [ac_b_c (d := (g p 0 ≠ 6 ∧ g p 0 ≠ 7 ∧ ¬ p + 1 < s) ∨ c)]
    · exact K
    · constructor
      · exact fun h => Or.inr h
      · rintro (⟨h1, h2, h3⟩ | h4)
        · omega
        · exact h4
  refine pk_eq (g p 0) 6 (fun o => N (Or.inl o)) (fun o6 => ?_)
  refine pk_eq (g p 0) 7 (fun o => N (Or.inr (Or.inl o))) (fun o7 => ?_)
  rw [nI_1]
  refine xk_ins (fun h => ?_) (fun h => ?_)
  · exact br_f (by decide) (N (Or.inr (Or.inr ((ac_insN hs (by omega)).mp h))))
  · rw [ac_insN hs (by omega)] at h
    exact br_t rfl (xf_159 (c := (g p 0 ≠ 6 ∧ g p 0 ≠ 7 ∧ ¬ p + 1 < s) ∨ c) hm (Or.inr ⟨rfl, Or.inl ⟨o6, o7, h⟩⟩) K)
theorem xf_103 (hs : s ≤ 14) (hg : ac_GV g) (hp : p < 14) (hm : m < 4) (K : post (nI (m + ac_b (ac_c3 s g a_numbers p) 4))) : wX_faultsAt_103 post (nI p) (nI (g p 0)) (nI m) (nI s) f_checked f_waiting f_state f_at f_choices f_forks f_outCount a_ops a_values a_places a_numbers a_met a_always a_sometimes a_noted a_held a_lately := by
  have b0 := (hg p).1
  have N : ¬ ((g p 0 = 5 ∨ g p 0 = 6) ∧ ¬ ac_ins s (a_numbers p)) → wX_faultsAt_131 post (nI p) (nI (g p 0)) (nI m) (nI s) f_checked f_waiting f_state f_at f_choices f_forks f_outCount a_ops a_values a_places a_numbers a_met a_always a_sometimes a_noted a_held a_lately := by
    intro h
    unfold wX_faultsAt_131
    exact xf_132 hs hg hp hm (Or.inl ⟨rfl, h⟩) K
  have J : (g p 0 = 5 ∨ g p 0 = 6) → wX_faultsAt_114 post (nI p) (nI (g p 0)) (nI m) (nI s) f_checked f_waiting f_state f_at f_choices f_forks f_outCount a_ops a_values a_places a_numbers a_met a_always a_sometimes a_noted a_held a_lately := by
    intro ho
    unfold wX_faultsAt_114
    rw [nI_clamp (n := p) (by omega)]
    refine ⟨vp_in_nI hp (by omega), xk_ins (fun h => ?_) (fun h => ?_)⟩
    · exact br_f (by decide) (N (fun z => z.2 h))
    · exact br_t rfl (xf_132 hs hg hp hm (Or.inr ⟨rfl, ho, h⟩) K)
  unfold wX_faultsAt_103
  refine pk_eq (g p 0) 5 (fun o => J (Or.inl o)) (fun o5 => ?_)
  refine pk_eq (g p 0) 6 (fun o => J (Or.inr o)) (fun o6 => N (fun z => by omega))
theorem xf_car {v c : Nat} (hp : p < 14) (R : ac_RX F a_met a_always a_sometimes) (hv : v < 5) (hc : c < 4) (h1 : F p (4 * v + c + 21) = false → post 1) (h0 : F p (4 * v + c + 21) = true → post 0) : wpX_carried post (f_size, f_checked, f_waiting, f_state, f_at, f_choices, f_forks, f_outCount, a_ops, a_values, a_places, a_numbers, a_met, a_always, a_sometimes, a_noted, a_held, a_lately) (nI p) (nI v) (nI c) := by
  unfold wpX_carried
  dsimp only
  rw [nI_clamp (n := p) (by omega), ac_4, nI_add, ac_bit _ (by omega), ac_st_at (R p hp).2.1 (by omega)]
  refine ⟨vp_in_nI hp (by omega), ?_⟩
  cases hF : F p (4 * v + c + 21)
  · exact br_f (by decide) (h1 hF)
  · exact br_t (by decide) (h0 hF)
theorem xf_64 (hs : s ≤ 14) (hg : ac_GV g) (hP : ac_XP g a_ops a_values a_places) (hp : p < 14) (R : ac_RX F a_met a_always a_sometimes) (hm : m < 2) (K : post (nI (m + ac_b (ac_c2 g F p) 2 + ac_b (ac_c3 s g a_numbers p) 4))) : wX_faultsAt_64 post (nI p) (nI (g p 0)) (nI m) (nI s) f_checked f_waiting f_state f_at f_choices f_forks f_outCount a_ops a_values a_places a_numbers a_met a_always a_sometimes a_noted a_held a_lately := by
  obtain ⟨e0, e1, e2, e3, e4, e5, e6⟩ := hP p
  obtain ⟨b0, b1, b2, b3, b4, b5, b6⟩ := hg p
  have N : ¬ ac_c2 g F p → wX_faultsAt_103 post (nI p) (nI (g p 0)) (nI m) (nI s) f_checked f_waiting f_state f_at f_choices f_forks f_outCount a_ops a_values a_places a_numbers a_met a_always a_sometimes a_noted a_held a_lately := by
    intro h
    rw [ac_b_f h] at K
    exact xf_103 hs hg hp (by omega) K
  unfold wX_faultsAt_64
  rw [nI_clamp (n := p) (by omega), e6, e3]
  refine pk_eq (g p 0) 1 (fun o => ⟨vp_in_nI hp (by omega), vp_in_nI hp (by omega), ?_⟩) (fun o => N (fun z => o z.1))
  refine xf_car hp R b6 b3 (fun h => ?_) (fun h => ?_)
  · exact br_f (by decide) (N (fun z => by rw [z.2] at h; exact absurd h (by decide)))
  · rw [ac_b_t ⟨o, h⟩] at K
    refine br_t rfl ?_
    rw [ac_or2 m hm]
    exact nm_e (xf_103 hs hg hp (by omega) K)
theorem xk_fa (hs : s ≤ 14) (hg : ac_GV g) (hP : ac_XP g a_ops a_values a_places) (hp : p < 14) (R : ac_RX F a_met a_always a_sometimes) (K : post (nI (ac_fv s g a_numbers F p))) : wpX_faultsAt post (nI s, f_checked, f_waiting, f_state, f_at, f_choices, f_forks, f_outCount, a_ops, a_values, a_places, a_numbers, a_met, a_always, a_sometimes, a_noted, a_held, a_lately) (nI p) := by
  obtain ⟨e0, e1, e2, e3, e4, e5, e6⟩ := hP p
  obtain ⟨b0, b1, b2, b3, b4, b5, b6⟩ := hg p
  unfold ac_fv at K
  have N : ¬ ac_c1 g F p → wX_faultsAt_64 post (nI p) (nI (g p 0)) (nI 0) (nI s) f_checked f_waiting f_state f_at f_choices f_forks f_outCount a_ops a_values a_places a_numbers a_met a_always a_sometimes a_noted a_held a_lately := by
    intro h
    rw [ac_b_f h] at K
    exact xf_64 hs hg hP hp R (by omega) K
  have A : (g p 0 = 1 ∨ g p 0 = 3) → wX_faultsAt_19 post (nI p) (nI (g p 0)) (nI 0) (nI s) f_checked f_waiting f_state f_at f_choices f_forks f_outCount a_ops a_values a_places a_numbers a_met a_always a_sometimes a_noted a_held a_lately := by
    intro ho
    unfold wX_faultsAt_19 wX_faultsAt_24
    rw [nI_clamp (n := p) (by omega), e5, e2]
    refine br_f (by decide) ⟨vp_in_nI hp (by omega), vp_in_nI hp (by omega), ?_⟩
    refine xf_car hp R b5 b2 (fun h => ?_) (fun h => ?_)
    · exact br_f (by decide) (N (fun z => by rw [z.2] at h; exact absurd h (by decide)))
    · rw [ac_b_t ⟨ho, h⟩] at K
      refine br_t rfl ?_
      exact nm_r (e' := nI 1) (by decide) (xf_64 hs hg hP hp R (by omega) K)
  unfold wpX_faultsAt
  dsimp only
  rw [nI_clamp (n := p) (by omega), e0]
  refine ⟨vp_in_nI hp (by omega), nm_e ?_⟩
  refine pk_eq (g p 0) 1 (fun o => A (Or.inl o)) (fun o1 => ?_)
  refine pk_eq (g p 0) 3 (fun o => A (Or.inr o)) (fun o3 => ?_)
  unfold wX_faultsAt_24
  exact br_t rfl (N (fun z => by have := z.1; omega))
end
end
section
/-! ===== X: check ===== -/
noncomputable def ac_nv (s : Nat) (g : Nat → Nat → Nat) (num : Nat → Int32) (F : Nat → Nat → Bool) (p : Nat) : Nat := if F p 0 = true then ac_fv s g num F p else 0
theorem ac_nv_le (s : Nat) (g : Nat → Nat → Nat) (num : Nat → Int32) (F : Nat → Nat → Bool) (p : Nat) : ac_nv s g num F p ≤ 7 := by
  unfold ac_nv
  split
  · exact ac_fv_le _ _ _ _ _
  · omega
theorem ac_byte : ∀ m, m < 128 → vp_nar .byte (nI m).toInt8.toInt32 = nI m := by
  intro m hm
  rw [pk_vb]
  exact (by decide +kernel : ∀ m, m < 128 → (nI m).toInt8.toInt32 = nI m) m hm
theorem ac_w0 {w : Int32} {s : Nat} {F : Nat → Nat → Bool} (hs : s ≤ 14) (hw : ∀ b, bt w b = true → b < s ∧ F b 0 = true) (h : ¬ w = 0) : ∃ i, i < 14 ∧ bt w i = true := by
  apply Classical.byContradiction
  intro n
  apply h
  apply b_ext
  intro i hi
  rw [b_0]
  cases hb : bt w i
  · rfl
  · exact absurd ⟨i, by have := (hw i hb).1; omega, hb⟩ n
section
variable {f_size f_checked f_waiting f_state f_at f_choices f_forks f_outCount : Int32} {a_ops a_values a_places a_numbers a_met a_always a_sometimes a_noted a_held a_lately : Nat → Int32}
variable {s p : Nat} {g : Nat → Nat → Nat} {F : Nat → Nat → Bool} {x y z : Int32}
theorem xk_lw {post : Int32 → Prop} (K : ∀ p, p < 14 → bt f_waiting p = true → post (nI p)) : ∀ d i, i + d = 14 → (∃ j, i ≤ j ∧ j < 14 ∧ bt f_waiting j = true) → wX_leastWaiting_2 post f_size f_checked f_waiting f_state f_at f_choices f_forks f_outCount a_ops a_values a_places a_numbers a_met a_always a_sometimes a_noted a_held a_lately (d + 1) (nI i) := by
  intro d
  induction d with
  | zero =>
    intro i hi ⟨j, h1, h2, _⟩
    omega
  | succ d ih =>
    intro i hi ⟨j, h1, h2, h3⟩
    refine br_f (nI_ge (b := 14) (by omega) (by decide)) ?_
    rw [ac_bit _ (by omega)]
    cases hb : bt f_waiting i
    · refine br_t rfl ?_
      rw [nI_1]
      refine nm_e (ih (i + 1) (by omega) ⟨j, ?_, h2, h3⟩)
      by_cases e : i = j
      · subst e; rw [hb] at h3; exact absurd h3 (by decide)
      · omega
    · exact br_f (by decide) (K i (by omega) hb)
theorem xk_least {post : Int32 → Prop} (hw : ∃ i, i < 14 ∧ bt f_waiting i = true) (K : ∀ p, p < 14 → bt f_waiting p = true → post (nI p)) : wpX_leastWaiting post (f_size, f_checked, f_waiting, f_state, f_at, f_choices, f_forks, f_outCount, a_ops, a_values, a_places, a_numbers, a_met, a_always, a_sometimes, a_noted, a_held, a_lately) := by
  unfold wpX_leastWaiting
  obtain ⟨j, h2, h3⟩ := hw
  exact ⟨15, xk_lw K 14 0 (by omega) ⟨j, by omega, h2, h3⟩⟩
theorem xk_116 {post : SX → Prop} (hs : s ≤ 14) (hg : ac_GV g) (hP : ac_XP g a_ops a_values a_places) (R : ac_RX F a_met a_always a_sometimes)
    (K : ∀ n, (∀ j, j < s → n j = nI (ac_nv s g a_numbers F j)) → post (nI s, f_checked, f_waiting, f_state, f_at, f_choices, f_forks, f_outCount, a_ops, a_values, a_places, a_numbers, a_met, a_always, a_sometimes, n, a_held, a_lately)) :
    ∀ d i a_noted, i + d = s → (∀ j, j < i → a_noted j = nI (ac_nv s g a_numbers F j)) → (∀ j, i ≤ j → j < 14 → a_noted j = 0) → wX_check_116 post (nI s) f_checked f_waiting f_state f_at f_choices f_forks f_outCount (d + 1) (nI i) a_ops a_values a_places a_numbers a_met a_always a_sometimes a_noted a_held a_lately := by
  intro d
  induction d with
  | zero =>
    intro i nt hi h1 h2
    have e : i = s := by omega
    subst e
    exact br_t (nI_le (Nat.le_refl _) (by omega)) (K nt h1)
  | succ d ih =>
    intro i nt hi h1 h2
    have hi14 : i < 14 := by omega
    refine br_f (nI_ge (by omega) (by omega)) ?_
    rw [nI_clamp (n := i) (by omega), (R i hi14).1, nI_1]
    refine ⟨vp_in_nI hi14 (by omega), ?_⟩
    cases hF : F i 0
    · refine br_t rfl (nm_e (ih (i + 1) nt (by omega) ?_ (fun j h3 h4 => h2 j (by omega) h4)))
      refine lt_s h1 ?_
      rw [h2 i (Nat.le_refl _) hi14]
      unfold ac_nv
      rw [hF]
      rfl
    · refine br_f (by decide) ?_
      refine xk_fa hs hg hP hi14 R ⟨vp_in_nI hi14 (by omega), ?_⟩
      have hle := ac_fv_le s g a_numbers F i
      rw [ac_byte _ (by omega)]
      refine nm_e (nm_e (ih (i + 1) _ (by omega) ?_ ?_))
      · refine lt_s (fun j hj => ?_) ?_
        · rw [pk_un (by omega)]; exact h1 j hj
        · rw [pk_us]
          unfold ac_nv
          rw [hF]
          rfl
      · intro j h3 h4
        rw [pk_un (by omega)]
        exact h2 j (by omega) h4
theorem xk_70 {post : SX → Prop} (hs : s ≤ 14) (hg : ac_GV g) (hP : ac_XP g a_ops a_values a_places)
    (K : ∀ w m a t, ac_RX (ac_B s g a_numbers) m a t → ∃ n116 : Nat, wX_check_116 post (nI s) f_checked w f_state f_at f_choices f_forks f_outCount n116 0 a_ops a_values a_places a_numbers m a t a_noted a_held a_lately) :
    ∀ n c F f_waiting a_met a_always a_sometimes, 600 ≤ n + c → ac_RX F a_met a_always a_sometimes → ac_XI s g a_numbers F f_waiting c → ac_A s g a_numbers F f_waiting → wX_check_70 post n (nI c) (nI s) f_checked f_waiting f_state f_at f_choices f_forks f_outCount a_ops a_values a_places a_numbers a_met a_always a_sometimes a_noted a_held a_lately := by
  intro n
  induction n with
  | zero =>
    intro c F w m a t hn R hI hA
    have := ac_XI_c hI
    omega
  | succ n ih =>
    intro c F w m a t hn R hI hA
    have hc := ac_XI_c hI
    refine br_f (nI_ge (b := 600) (by omega) (by decide)) ?_
    refine br_c (fun e => K w m a t (ac_done hI hA e ▸ R)) (fun e => ?_)
    refine xk_least (ac_w0 hs hI.2.1 e) (fun p hp hb => nm_e ?_)
    have hw' : ∀ b, b < 32 → bt (w &&& (((1 : Int32) <<< (nI p &&& 31)) ^^^ (-1))) b = (bt w b && !decide (b = p)) := by
      intro b hb
      rw [b_and, b_xor, b_m1 b hb, ac_k6 p hp b hb, Bool.xor_true]
    refine xk_spread hs hg hP (hI.2.1 p hb).1 (hI.2.1 p hb).2 R (ac_clear hI hA hb hp hw') (fun F' w' m' a' t' R' hI' hA' => ?_)
    rw [nI_1]
    exact nm_e (ih (c + 1) F' w' m' a' t' (by omega) R' hI' hA')
theorem xk_15 {post : SX → Prop} (hs : s ≤ 14) (hs0 : 0 < s) (hg : ac_GV g) (hP : ac_XP g a_ops a_values a_places)
    (K : ∀ w m a t n, ac_RX (ac_B s g a_numbers) m a t → (∀ j, j < s → n j = nI (ac_nv s g a_numbers (ac_B s g a_numbers) j)) → post (nI s, f_checked, w, f_state, f_at, f_choices, f_forks, f_outCount, a_ops, a_values, a_places, a_numbers, m, a, t, n, a_held, a_lately)) :
    ∀ d i a_met a_always a_sometimes a_noted, i + d = 14 → (∀ j, j < i → a_met j = 0 ∧ a_always j = 1048575 ∧ a_sometimes j = 0 ∧ a_noted j = 0) → wX_check_15 post (nI s) f_checked f_waiting f_state f_at f_choices f_forks f_outCount (d + 1) (nI i) a_ops a_values a_places a_numbers a_met a_always a_sometimes a_noted a_held a_lately := by
  intro d
  induction d with
  | zero =>
    intro i m a t n hi h1
    have e : i = 14 := by omega
    subst e
    refine br_t (by decide) ?_
    have R0 : ac_RX ac_Z m a t := by
      intro p hp
      obtain ⟨z1, z2, z3, _⟩ := h1 p hp
      rw [z1, z2, z3]
      exact ⟨rfl, ac_st_f, ac_st_0⟩
    refine xk_come (G := ac_in) (F := ac_Z) hs R0 rfl (ac_st_c ac_st_0 (fun b _ => by rw [ac_in2]; rfl)) (ac_st_c ac_st_0 (fun b hb => by rw [ac_in1 hb])) (fun F' w m' a' t' R' O => ?_)
    have O' : ac_OC ac_Z 0 0 ac_in F' w := by
      rcases O with ⟨q, hq, e, o⟩ | ⟨n, _⟩
      · have : q = 0 := ((nI_eq (a := 0) (b := q) (by omega) (by omega)).mp e).symm
        subst this
        exact o
      · exact absurd rfl (n 0 hs0)
    obtain ⟨hI, hA⟩ := ac_start (g := g) (num := a_numbers) hs0 hs O'
    refine ⟨600, xk_70 hs hg hP (fun w2 m2 a2 t2 R2 => ?_) 600 0 F' w m' a' t' (by omega) R' hI hA⟩
    exact ⟨s + 1, xk_116 hs hg hP R2 (fun n2 h2 => K w2 m2 a2 t2 n2 R2 h2) s 0 n (by omega) lt_0 (fun j _ hj => (h1 j hj).2.2.2)⟩
  | succ d ih =>
    intro i m a t n hi h1
    have hi14 : i < 14 := by omega
    have hin : vp_in (nI i) 14 := vp_in_nI hi14 (by omega)
    refine br_f (nI_ge (b := 14) (by omega) (by decide)) ?_
    rw [nI_clamp (n := i) (by omega), nI_1]
    refine ⟨hin, nm_e ⟨hin, nm_e ⟨hin, nm_e ⟨hin, nm_e (nm_e (ih (i + 1) _ _ _ _ (by omega) ?_))⟩⟩⟩⟩
    refine lt_s (fun j hj => ?_) ?_
    · rw [pk_un (by omega), pk_un (by omega), pk_un (by omega), pk_un (by omega)]
      exact h1 j hj
    · rw [pk_us, pk_us, pk_us, pk_us]
      exact ⟨rfl, rfl, rfl, rfl⟩
/-- what X keeps of a check -/
def ac_K (s : Nat) (g : Nat → Nat → Nat) (num : Nat → Int32) (m a t n : Nat → Int32) : Prop := ac_RX (ac_B s g num) m a t ∧ ∀ j, j < s → n j = nI (ac_nv s g num (ac_B s g num) j)
theorem xk_check {post : SX → Prop} (hs : s ≤ 14) (hs0 : 0 < s) (hg : ac_GV g) (hP : ac_XP g a_ops a_values a_places)
    (hk : f_checked = 0 ∨ (f_checked = 1 ∧ ac_K s g a_numbers a_met a_always a_sometimes a_noted))
    (K : ∀ w m a t n, ac_K s g a_numbers m a t n → post (nI s, 1, w, f_state, f_at, f_choices, f_forks, f_outCount, a_ops, a_values, a_places, a_numbers, m, a, t, n, a_held, a_lately)) : wpX_check post (nI s, f_checked, f_waiting, f_state, f_at, f_choices, f_forks, f_outCount, a_ops, a_values, a_places, a_numbers, a_met, a_always, a_sometimes, a_noted, a_held, a_lately) := by
  unfold wpX_check
  rcases hk with e | ⟨e, h⟩
  · subst e
    exact br_t rfl ⟨15, xk_15 hs hs0 hg hP (fun w m a t n h1 h2 => K w m a t n ⟨h1, h2⟩) 14 0 a_met a_always a_sometimes a_noted (by omega) lt_0⟩
  · subst e
    exact br_f (by decide) (K _ _ _ _ _ h)
end
end
section
/-! ===== Y: after, carry ===== -/
theorem ac_d4 : ∀ b, b < 20 → nI b / 4 = nI (b / 4) ∧ nI b - nI b / 4 * 4 = nI (b % 4) := by decide +kernel
theorem ac_k7 {b i : Nat} (hb : b < 32) (hi : i < 32) (c : Bool) : bt (ac_bi c <<< (nI b &&& 31)) i = (c && decide (i = b)) := by
  rw [b_shl b hb _ hi]
  cases c
  · rw [ac_bi_f, b_0, Bool.and_false, Bool.false_and]
  · rw [ac_bi_t, ac_b1 (i - b) (by omega), Bool.true_and]
    by_cases e : i = b
    · subst e
      simp
    · by_cases h : b ≤ i
      · have h2 : ¬ i - b = 0 := by omega
        simp only [e, h2, decide_false, Bool.and_false]
      · simp only [e, h, decide_false, Bool.false_and]
def ac_fr (fr : Int32) (k : Bool) : Prop := (fr >>> ((1 : Int32) &&& 31)) &&& 1 = ac_bi k ∧ (fr >>> ((0 : Int32) &&& 31)) &&& 1 = ac_bi (!k)
theorem ac_fr2 : ac_fr 2 true := by unfold ac_fr; decide
theorem ac_fr1 : ac_fr 1 false := by unfold ac_fr; decide
section
variable {h_size h_doing h_at h_forks h_bits h_said : Int32} {b_ops b_v0 b_v1 b_v2 b_p0 b_p1 b_p2 b_num b_come b_with b_without b_values b_last : Nat → Int32}
variable {s p b : Nat} {g : Nat → Nat → Nat} {F : Nat → Nat → Bool} {h : Nat → Bool} {k : Bool} {x fr x4 x5 : Int32} {post : Int32 → Prop} {J : Int32 → Int32 → Prop}
theorem yk_52 {c : Bool} (hg : ac_GV g) (hP : ac_YP g b_ops b_v0 b_v1 b_v2 b_p0 b_p1 b_p2) (hp : p < 14) (hb : b < 20) (hfr : ac_fr fr k)
    (hJ : J (x5 ||| (ac_bi (if b / 4 = g p 4 ∨ b % 4 = g p 1 then (if b / 4 = g p 4 ∧ b % 4 = g p 1 then k else !k) else c) <<< (nI b &&& 31))) (nI b + 1)) :
    wY_after_52 post J (nI p) x fr x4 x5 (nI b) (nI (b / 4)) (nI (b % 4)) (ac_bi c) h_size h_doing h_at h_forks h_bits h_said b_ops b_v0 b_v1 b_v2 b_p0 b_p1 b_p2 b_num b_come b_with b_without b_values b_last := by
  have hin : vp_in (nI p) 14 := vp_in_nI hp (by omega)
  have hc : (nI p).toNatClampNeg = p := nI_clamp (by omega)
  obtain ⟨e0, e1, e2, e3, e4, e5, e6⟩ := hP p
  obtain ⟨b0, b1, b2, b3, b4, b5, b6⟩ := hg p
  have A : (b / 4 = g p 4 ∨ b % 4 = g p 1) → wY_after_74 post J (nI p) x fr x4 x5 (nI b) (nI (b / 4)) (nI (b % 4)) h_size h_doing h_at h_forks h_bits h_said b_ops b_v0 b_v1 b_v2 b_p0 b_p1 b_p2 b_num b_come b_with b_without b_values b_last := by
    intro ho
    rw [if_pos ho] at hJ
    unfold wY_after_74
    rw [hc, e4, e1]
    refine ⟨hin, ?_⟩
    refine pk_eq (b / 4) (g p 4) (fun h1 => ⟨hin, ?_⟩) (fun h1 => ?_)
    · refine pk_eq (b % 4) (g p 1) (fun h2 => ?_) (fun h2 => ?_)
      · rw [if_pos ⟨h1, h2⟩] at hJ
        unfold wY_after_102 wY_after_110 wY_after_196
        rw [hfr.1]
        exact nm_e (nm_e hJ)
      · rw [if_neg (fun z => h2 z.2)] at hJ
        unfold wY_after_101 wY_after_102 wY_after_110 wY_after_196
        rw [hfr.2]
        exact nm_e (nm_e hJ)
    · rw [if_neg (fun z => h1 z.1)] at hJ
      unfold wY_after_101 wY_after_102 wY_after_110 wY_after_196
      rw [hfr.2]
      exact nm_e (nm_e hJ)
  unfold wY_after_52
  rw [hc, e4, e1]
  refine ⟨hin, ?_⟩
  refine pk_eq (b / 4) (g p 4) (fun h1 => A (Or.inl h1)) (fun h1 => ⟨hin, ?_⟩)
  refine pk_eq (b % 4) (g p 1) (fun h2 => A (Or.inr h2)) (fun h2 => ?_)
  rw [if_neg (by omega)] at hJ
  unfold wY_after_110 wY_after_196
  exact nm_e (nm_e hJ)
theorem yk_14 (hg : ac_GV g) (hP : ac_YP g b_ops b_v0 b_v1 b_v2 b_p0 b_p1 b_p2) (hp : p < 14) (a : ac_st x h) (hfr : ac_fr fr k) (K : ∀ r, ac_st r (ac_tr (g p) k h) → post r) :
    ∀ d b x5, b + d = 20 → (∀ i, i < 32 → bt x5 i = (decide (i < b) && ac_tr (g p) k h i)) → wY_after_14 post (nI p) x fr (nI (g p 0)) h_size h_doing h_at h_forks h_bits h_said b_ops b_v0 b_v1 b_v2 b_p0 b_p1 b_p2 b_num b_come b_with b_without b_values b_last (d + 1) x5 (nI b) := by
  intro d
  induction d with
  | zero =>
    intro b x5 hb hx
    have e : b = 20 := by omega
    subst e
    exact br_t (by decide) (K x5 hx)
  | succ d ih =>
    intro b x5 hb hx
    have hin : vp_in (nI p) 14 := vp_in_nI hp (by omega)
    have hc : (nI p).toNatClampNeg = p := nI_clamp (by omega)
    have hb20 : b < 20 := by omega
    obtain ⟨e0, e1, e2, e3, e4, e5, e6⟩ := hP p
    obtain ⟨b0, b1, b2, b3, b4, b5, b6⟩ := hg p
    have hJ : wY_after_14 post (nI p) x fr (nI (g p 0)) h_size h_doing h_at h_forks h_bits h_said b_ops b_v0 b_v1 b_v2 b_p0 b_p1 b_p2 b_num b_come b_with b_without b_values b_last (d + 1) (x5 ||| (ac_bi (ac_tr (g p) k h b) <<< (nI b &&& 31))) (nI b + 1) := by
      rw [nI_1]
      refine ih (b + 1) _ (by omega) (fun i hi => ?_)
      rw [b_or, hx i hi, ac_k7 (by omega) hi]
      by_cases e : i = b
      · subst e
        have h1 : ¬ i < i := by omega
        have h2 : i < i + 1 := by omega
        simp only [h1, h2, decide_true, decide_false, Bool.false_and, Bool.false_or, Bool.and_true, Bool.true_and]
      · have h1 : decide (i < b) = decide (i < b + 1) := by
          by_cases z : i < b
          · rw [decide_eq_true z, decide_eq_true (by omega)]
          · rw [decide_eq_false z, decide_eq_false (by omega)]
        rw [h1, decide_eq_false e, Bool.and_false, Bool.or_false]
    refine br_f (nI_ge (b := 20) (by omega) (by decide)) ?_
    rw [(ac_d4 b hb20).2, (ac_d4 b hb20).1, ac_bit x (by omega : b < 32), ac_st_at a hb20, hc, e1, e2, e4, e5]
    refine ⟨by decide, nm_e ⟨by decide, nm_e (nm_e ?_)⟩⟩
    have D : (g p 0 = 0 ∨ g p 0 = 1) → wY_after_52 post (wY_after_14 post (nI p) x fr (nI (g p 0)) h_size h_doing h_at h_forks h_bits h_said b_ops b_v0 b_v1 b_v2 b_p0 b_p1 b_p2 b_num b_come b_with b_without b_values b_last (d + 1)) (nI p) x fr (nI (g p 0)) x5 (nI b) (nI (b / 4)) (nI (b % 4)) (ac_bi (h b)) h_size h_doing h_at h_forks h_bits h_said b_ops b_v0 b_v1 b_v2 b_p0 b_p1 b_p2 b_num b_come b_with b_without b_values b_last := by
      intro ho
      refine yk_52 hg hP hp hb20 hfr ?_
      unfold ac_tr at hJ
      rw [if_pos ho] at hJ
      exact hJ
    refine pk_eq (g p 0) 0 (fun o => D (Or.inl o)) (fun o0 => ?_)
    refine pk_eq (g p 0) 1 (fun o => D (Or.inr o)) (fun o1 => ?_)
    have n01 : ¬ (g p 0 = 0 ∨ g p 0 = 1) := by omega
    unfold ac_tr at hJ
    rw [if_neg n01] at hJ
    refine pk_eq (g p 0) 2 (fun o => ⟨hin, ?_⟩) (fun o2 => ?_)
    · rw [if_pos o] at hJ
      refine pk_eq (b / 4) (g p 4) (fun h1 => ⟨hin, ?_⟩) (fun h1 => ?_)
      · rw [if_pos h1] at hJ
        rw [ac_4, nI_add, ac_bit x (by omega : 4 * g p 5 + b % 4 < 32), ac_st_at a (by omega)]
        unfold wY_after_152 wY_after_196
        exact nm_e (nm_e hJ)
      · rw [if_neg h1] at hJ
        unfold wY_after_152 wY_after_196
        exact nm_e (nm_e hJ)
    · rw [if_neg o2] at hJ
      refine pk_eq (g p 0) 4 (fun o => ⟨hin, ?_⟩) (fun o4 => ?_)
      · rw [if_pos o] at hJ
        refine pk_eq (b % 4) (g p 1) (fun h1 => ⟨hin, ?_⟩) (fun h1 => ?_)
        · rw [if_pos h1] at hJ
          rw [ac_4, nI_add, ac_bit x (by omega : 4 * (b / 4) + g p 2 < 32), ac_st_at a (by omega)]
          unfold wY_after_194 wY_after_196
          exact nm_e (nm_e hJ)
        · rw [if_neg h1] at hJ
          unfold wY_after_194 wY_after_196
          exact nm_e (nm_e hJ)
      · rw [if_neg o4] at hJ
        unfold wY_after_196
        exact nm_e (nm_e hJ)
theorem yk_after (hg : ac_GV g) (hP : ac_YP g b_ops b_v0 b_v1 b_v2 b_p0 b_p1 b_p2) (hp : p < 14) (a : ac_st x h) (hfr : ac_fr fr k) (K : ∀ r, ac_st r (ac_tr (g p) k h) → post r) : wpY_after post (h_size, h_doing, h_at, h_forks, h_bits, h_said, b_ops, b_v0, b_v1, b_v2, b_p0, b_p1, b_p2, b_num, b_come, b_with, b_without, b_values, b_last) (nI p) x fr := by
  unfold wpY_after
  dsimp only
  rw [nI_clamp (n := p) (by omega), (hP p).1]
  refine ⟨vp_in_nI hp (by omega), nm_e ⟨21, yk_14 hg hP hp a hfr K 20 0 0 (by omega) (fun i _ => ?_)⟩⟩
  rw [b_0, decide_eq_false (by omega), Bool.false_and]
end
def ac_OE (s : Nat) (F : Nat → Nat → Bool) (x : Int32) (G : Nat → Bool) (F' : Nat → Nat → Bool) (r : Int32) : Prop :=
  (∃ q, q < s ∧ x = nI q ∧ F' = ac_jn F q G ∧ ((r = 0 ∧ F' = F) ∨ (r = 1 ∧ ∃ f, f < 41 ∧ F q f = false ∧ F' q f = true))) ∨ ((∀ q, q < s → ¬ x = nI q) ∧ F' = F ∧ r = 0)
section
variable {h_size h_doing h_at h_forks h_bits h_said : Int32} {b_ops b_v0 b_v1 b_v2 b_p0 b_p1 b_p2 b_num b_come b_with b_without b_values b_last : Nat → Int32}
variable {s p : Nat} {g : Nat → Nat → Nat} {F : Nat → Nat → Bool} {x : Int32}
theorem yk_carry {post : Int32 → SY → Prop} (hs : s ≤ 14) (hg : ac_GV g) (hP : ac_YP g b_ops b_v0 b_v1 b_v2 b_p0 b_p1 b_p2) (hp : p < 14) (R : ac_RY F b_come b_with b_without)
    (K : ∀ r F' c w o, ac_RY F' c w o → ac_OE s F x (ac_T (g p) (F p)) F' r → post r (nI s, h_doing, h_at, h_forks, h_bits, h_said, b_ops, b_v0, b_v1, b_v2, b_p0, b_p1, b_p2, b_num, c, w, o, b_values, b_last)) : wpY_carry post (nI s, h_doing, h_at, h_forks, h_bits, h_said, b_ops, b_v0, b_v1, b_v2, b_p0, b_p1, b_p2, b_num, b_come, b_with, b_without, b_values, b_last) (nI p) x := by
  have hin : vp_in (nI p) 14 := vp_in_nI hp (by omega)
  have hcp : (nI p).toNatClampNeg = p := nI_clamp (by omega)
  unfold wpY_carry
  refine br_c (fun h => ?_) (fun h => ?_)
  · exact K 0 F _ _ _ R (Or.inr ⟨fun q hq e => nI_pos (n := q) (by omega) (e ▸ h), rfl, rfl⟩)
  · obtain ⟨q, hq, e⟩ := nI_of h
    subst e
    refine pk_lt q s (fun hqs => ?_) (fun hqs => ?_)
    · have hinq : vp_in (nI q) 14 := vp_in_nI (by omega) (by omega)
      have hcq : (nI q).toNatClampNeg = q := nI_clamp (by omega)
      have hq14 : q < 14 := by omega
      rw [hcp, hcq]
      refine ⟨hinq, hin, yk_after hg hP hp (R p hp).2.1 ac_fr2 (fun r1 s1 => nm_e ⟨hinq, hin, yk_after hg hP hp (R p hp).2.2 ac_fr1 (fun r2 s2 => nm_e ⟨hinq, ?_⟩)⟩)⟩
      have S1 : ac_st r1 (fun b => ac_T (g p) (F p) (b + 1)) := ac_st_c s1 (fun b hb => (ac_T1 _ _ hb).symm)
      have S2 : ac_st r2 (fun b => ac_T (g p) (F p) (b + 21)) := ac_st_c s2 (fun b hb => (ac_T2 _ _ b).symm)
      have S := ac_RY_sat R hq14 (ac_T0 _ _) S1 S2
      have J := ac_RY_jn R hq14 (ac_T0 _ _) S1 S2
      have C : (¬ ∀ f, f < 41 → ac_T (g p) (F p) f = true → F q f = true) → wY_carry_85 post (nI q) (b_with q ||| r1) (b_without q ||| r2) (nI s) h_doing h_at h_forks h_bits h_said b_ops b_v0 b_v1 b_v2 b_p0 b_p1 b_p2 b_num b_come b_with b_without b_values b_last := by
        intro n
        unfold wY_carry_85 wY_carry_90
        rw [hcq]
        exact ⟨hinq, nm_e ⟨hinq, nm_e ⟨hinq, nm_e ⟨rfl, K 1 _ _ _ _ J (Or.inl ⟨q, hqs, rfl, rfl, Or.inr ⟨rfl, ac_jn_new n⟩⟩)⟩⟩⟩⟩
      refine br_c (fun a => C (fun z => (S.mpr z).1 a)) (fun a => ⟨hinq, br_c (fun b => ⟨hinq, br_c (fun c => ?_) (fun c => C (fun z => c (S.mpr z).2.2))⟩) (fun b => C (fun z => b (S.mpr z).2.1))⟩)
      unfold wY_carry_90
      rw [hcq]
      exact ⟨hinq, nm_e ⟨hinq, nm_e ⟨hinq, nm_e ⟨rfl, K 0 _ _ _ _ J (Or.inl ⟨q, hqs, rfl, rfl, Or.inl ⟨rfl, ac_jn_id (S.mp ⟨a, b, c⟩)⟩⟩)⟩⟩⟩⟩
    · refine K 0 F _ _ _ R (Or.inr ⟨fun q' hq' e => ?_, rfl, rfl⟩)
      have := (nI_eq (by omega) (by omega)).mp e
      omega
end
end
section
/-! ===== Y: collect ===== -/
def ac_YB (s : Nat) (g : Nat → Nat → Nat) (num : Nat → Int32) (F : Nat → Nat → Bool) : Prop := ac_S s g num F ∧ ∀ f, f < 41 → ac_in f = true → F 0 f = true
def ac_YQ (s : Nat) (g : Nat → Nat → Nat) (num : Nat → Int32) (F : Nat → Nat → Bool) (c i : Nat) (x : Int32) : Prop :=
  ac_YB s g num F ∧ ((x = 0 ∧ c ≤ ac_ct F ∧ ∀ j, j < i → ac_cl s g num F j) ∨ (x = 1 ∧ c + 1 ≤ ac_ct F))
/-- between the two carries of position i -/
def ac_YM (s : Nat) (g : Nat → Nat → Nat) (num : Nat → Int32) (F : Nat → Nat → Bool) (c i : Nat) (x y : Int32) : Prop :=
  ac_YB s g num F ∧ F i 0 = true ∧ ((x = 0 ∧ y = 0 ∧ c ≤ ac_ct F ∧ (∀ j, j < i → ac_cl s g num F j) ∧ (g i 0 ≠ 6 → g i 0 ≠ 7 → i + 1 < s → ∀ f, f < 41 → ac_T (g i) (F i) f = true → F (i + 1) f = true)) ∨ (¬ (x = 0 ∧ y = 0) ∧ c + 1 ≤ ac_ct F))
section
variable {s c i : Nat} {g : Nat → Nat → Nat} {num : Nat → Int32} {F F' : Nat → Nat → Bool} {x y r t : Int32} {G : Nat → Bool}
theorem ac_OE_up (o : ac_OE s F t G F' r) : ∀ p f, F p f = true → F' p f = true := by
  rcases o with ⟨q, _, _, e, _⟩ | ⟨_, e, _⟩
  · rw [e]; exact fun _ _ h => ac_jn_up h
  · rw [e]; exact fun _ _ h => h
theorem ac_OE_ct (o : ac_OE s F t G F' r) : ac_ct F ≤ ac_ct F' := ac_cn_mono (fun k => ac_OE_up o _ _) 574
theorem ac_OE_r (hs : s ≤ 14) (o : ac_OE s F t G F' r) : (r = 0 ∧ F' = F) ∨ (r = 1 ∧ ac_ct F + 1 ≤ ac_ct F') := by
  have up := ac_OE_up o
  rcases o with ⟨q, hq, _, e, h | ⟨h, f, hf, a, b⟩⟩ | ⟨_, e, h⟩
  · exact Or.inl h
  · exact Or.inr ⟨h, ac_ct_lt up (by omega : q < 14) hf a b⟩
  · exact Or.inl ⟨h, e⟩
theorem ac_OE_ld (hs : s ≤ 14) (o : ac_OE s F t G F' r) : ∀ q, q < s → t = nI q → ∀ f, f < 41 → G f = true → F' q f = true := by
  intro q hq ex f hf hg
  rcases o with ⟨q', hq', ex', e, _⟩ | ⟨n, _, _⟩
  · have : q = q' := (nI_eq (by omega) (by omega)).mp (ex.symm.trans ex')
    subst this
    rw [e, ac_jn_at hf, hg, Bool.or_true]
  · exact absurd ex (n q hq)
theorem ac_OE_B (hB : ac_YB s g num F) (hG : ∀ q, q < s → t = nI q → ∀ f, f < 41 → G f = true → ac_L s g num q f) (o : ac_OE s F t G F' r) : ac_YB s g num F' := by
  have up := ac_OE_up o
  refine ⟨?_, fun f hf h => up 0 f (hB.2 f hf h)⟩
  rcases o with ⟨q, hq, ex, e, _⟩ | ⟨_, e, _⟩
  · rw [e]; exact ac_jn_S hB.1 hq (hG q hq ex)
  · rw [e]; exact hB.1
/-- the first carry, to i + 1 -/
theorem ac_YM_1 (hs : s ≤ 14) (hi : i < s) (hQ : ac_YQ s g num F c i x) (h0 : F i 0 = true) (n6 : g i 0 ≠ 6) (n7 : g i 0 ≠ 7) (o : ac_OE s F (nI (i + 1)) (ac_T (g i) (F i)) F' r) : ac_YM s g num F' c i x r := by
  have ct := ac_OE_ct o
  have ld := ac_OE_ld hs o
  have hB := ac_OE_B hQ.1 (fun q hq e f hf hT => ac_L_T hQ.1.1 h0 hq (Or.inl ⟨n6, n7, ((nI_eq (by omega) (by omega)).mp e).symm⟩) hf hT) o
  refine ⟨hB, ac_OE_up o _ _ h0, ?_⟩
  rcases ac_OE_r hs o with ⟨hr, e⟩ | ⟨hr, h⟩
  · rcases hQ.2 with ⟨hx, hc, hj⟩ | ⟨hx, hc⟩
    · left
      rw [e] at ld ⊢
      exact ⟨hx, hr, hc, hj, fun _ _ h1 f hf hT => ld (i + 1) h1 rfl f hf hT⟩
    · right
      exact ⟨fun z => by rw [hx] at z; exact absurd z.1 (by decide), by omega⟩
  · right
    refine ⟨fun z => by rw [hr] at z; exact absurd z.2 (by decide), ?_⟩
    rcases hQ.2 with ⟨hx, hc, hj⟩ | ⟨hx, hc⟩ <;> omega
/-- no first carry -/
theorem ac_YM_0 (hQ : ac_YQ s g num F c i x) (h0 : F i 0 = true) (n : g i 0 = 6 ∨ g i 0 = 7) : ac_YM s g num F c i x 0 := by
  refine ⟨hQ.1, h0, ?_⟩
  rcases hQ.2 with ⟨hx, hc, hj⟩ | ⟨hx, hc⟩
  · exact Or.inl ⟨hx, rfl, hc, hj, fun a b => by omega⟩
  · exact Or.inr ⟨fun z => by rw [hx] at z; exact absurd z.1 (by decide), hc⟩
/-- the second carry, to num i: all three flags -/
theorem ac_YM_2 (hs : s ≤ 14) (hM : ac_YM s g num F c i x y) (h5 : g i 0 = 5 ∨ g i 0 = 6) (o : ac_OE s F (num i) (ac_T (g i) (F i)) F' r) :
    (x = 0 ∧ y = 0 ∧ r = 0 ∧ ac_YQ s g num F' c (i + 1) 0) ∨ (¬ (x = 0 ∧ y = 0 ∧ r = 0) ∧ (r = 0 ∨ r = 1) ∧ ac_YQ s g num F' c (i + 1) 1) := by
  have ct := ac_OE_ct o
  have ld := ac_OE_ld hs o
  obtain ⟨hB0, h0, hM⟩ := hM
  have hB := ac_OE_B hB0 (fun q hq e f hf hT => ac_L_T hB0.1 h0 hq (Or.inr ⟨h5, e⟩) hf hT) o
  rcases ac_OE_r hs o with ⟨hr, e⟩ | ⟨hr, h⟩
  · rcases hM with ⟨hx, hy, hc, hj, hn⟩ | ⟨hx, hc⟩
    · left
      refine ⟨hx, hy, hr, hB, Or.inl ⟨rfl, by omega, ?_⟩⟩
      rw [e] at ld ⊢
      refine lt_s hj ?_
      intro _ q hq hsc f hf hT
      rcases hsc with ⟨a, b, eq⟩ | ⟨_, eq⟩
      · subst eq; exact hn a b hq f hf hT
      · exact ld q hq eq f hf hT
    · right
      exact ⟨fun z => hx ⟨z.1, z.2.1⟩, Or.inl hr, hB, Or.inr ⟨rfl, by omega⟩⟩
  · right
    refine ⟨fun z => by rw [hr] at z; exact absurd z.2.2 (by decide), Or.inr hr, hB, Or.inr ⟨rfl, ?_⟩⟩
    rcases hM with ⟨hx, hy, hc, hj, hn⟩ | ⟨hx, hc⟩ <;> omega
theorem ac_YM_3 (hM : ac_YM s g num F c i x y) (n5 : ¬ (g i 0 = 5 ∨ g i 0 = 6)) :
    (x = 0 ∧ y = 0 ∧ (0 : Int32) = 0 ∧ ac_YQ s g num F c (i + 1) 0) ∨ (¬ (x = 0 ∧ y = 0 ∧ (0 : Int32) = 0) ∧ ((0 : Int32) = 0 ∨ (0 : Int32) = 1) ∧ ac_YQ s g num F c (i + 1) 1) := by
  obtain ⟨hB, h0, hM⟩ := hM
  rcases hM with ⟨hx, hy, hc, hj, hn⟩ | ⟨hx, hc⟩
  · left
    refine ⟨hx, hy, rfl, hB, Or.inl ⟨rfl, hc, ?_⟩⟩
    refine lt_s hj ?_
    intro _ q hq hsc f hf hT
    rcases hsc with ⟨a, b, eq⟩ | ⟨z, _⟩
    · subst eq; exact hn a b hq f hf hT
    · exact absurd z n5
  · right
    exact ⟨fun z => hx ⟨z.1, z.2.1⟩, Or.inl rfl, hB, Or.inr ⟨rfl, hc⟩⟩
end
section
variable {h_size h_doing h_at h_forks h_bits h_said : Int32} {b_ops b_v0 b_v1 b_v2 b_p0 b_p1 b_p2 b_num b_come b_with b_without b_values b_last : Nat → Int32}
variable {s i c : Nat} {g : Nat → Nat → Nat} {F : Nat → Nat → Bool} {x1 x2 x4 z0 : Int32} {post : SY → Prop}
variable {J63 J78 : Int32 → Int32 → Int32 → Int32 → Int32 → Int32 → Int32 → Int32 → (Nat → Int32) → (Nat → Int32) → (Nat → Int32) → (Nat → Int32) → (Nat → Int32) → (Nat → Int32) → (Nat → Int32) → (Nat → Int32) → (Nat → Int32) → (Nat → Int32) → (Nat → Int32) → (Nat → Int32) → (Nat → Int32) → Prop}
theorem yk_175 (h : (x1 = 0 ∧ x4 = 0 ∧ z0 = 0 ∧ J78 0 (nI (i + 1)) h_size h_doing h_at h_forks h_bits h_said b_ops b_v0 b_v1 b_v2 b_p0 b_p1 b_p2 b_num b_come b_with b_without b_values b_last) ∨ (¬ (x1 = 0 ∧ x4 = 0 ∧ z0 = 0) ∧ J78 1 (nI (i + 1)) h_size h_doing h_at h_forks h_bits h_said b_ops b_v0 b_v1 b_v2 b_p0 b_p1 b_p2 b_num b_come b_with b_without b_values b_last)) : wY_collect_175 post J63 J78 x1 x2 (nI i) x4 z0 h_size h_doing h_at h_forks h_bits h_said b_ops b_v0 b_v1 b_v2 b_p0 b_p1 b_p2 b_num b_come b_with b_without b_values b_last := by
  unfold wY_collect_175
  rw [nI_1]
  rcases h with ⟨h1, h2, h3, K⟩ | ⟨n, K⟩
  · exact br_t h1 (br_t h2 (br_t h3 (nm_e K)))
  · exact br_c (fun a => br_c (fun b => br_c (fun c => absurd ⟨a, b, c⟩ n) (fun _ => nm_e K)) (fun _ => nm_e K)) (fun _ => nm_e K)
theorem yk_133 (hs : s ≤ 14) (hi : i < s) (hg : ac_GV g) (hP : ac_YP g b_ops b_v0 b_v1 b_v2 b_p0 b_p1 b_p2) (R : ac_RY F b_come b_with b_without) (hM : ac_YM s g b_num F c i x1 x4)
    (K : ∀ x F' cm w o, ac_RY F' cm w o → ac_YQ s g b_num F' c (i + 1) x → J78 x (nI (i + 1)) (nI s) h_doing h_at h_forks h_bits h_said b_ops b_v0 b_v1 b_v2 b_p0 b_p1 b_p2 b_num cm w o b_values b_last) : wY_collect_133 post J63 J78 x1 x2 (nI i) x4 (nI s) h_doing h_at h_forks h_bits h_said b_ops b_v0 b_v1 b_v2 b_p0 b_p1 b_p2 b_num b_come b_with b_without b_values b_last := by
  have hin : vp_in (nI i) 14 := vp_in_nI (by omega) (by omega)
  have hc : (nI i).toNatClampNeg = i := nI_clamp (by omega)
  have b0 := (hg i).1
  have A : (g i 0 = 5 ∨ g i 0 = 6) → wY_collect_156 post J63 J78 x1 x2 (nI i) x4 (nI s) h_doing h_at h_forks h_bits h_said b_ops b_v0 b_v1 b_v2 b_p0 b_p1 b_p2 b_num b_come b_with b_without b_values b_last := by
    intro h5
    unfold wY_collect_156
    rw [hc]
    refine ⟨hin, yk_carry hs hg hP (by omega) R (fun r F' cm w o R' O => ?_)⟩
    rcases ac_YM_2 hs hM h5 O with ⟨h1, h2, h3, h4⟩ | ⟨n, hr, h4⟩
    · refine br_t h3 ?_
      unfold wY_collect_174
      exact yk_175 (Or.inl ⟨h1, h2, rfl, K 0 F' cm w o R' h4⟩)
    · rcases hr with hr | hr
      · refine br_t hr ?_
        unfold wY_collect_174
        exact yk_175 (Or.inr ⟨fun z => n ⟨z.1, z.2.1, hr⟩, K 1 F' cm w o R' h4⟩)
      · refine br_f (by rw [hr]; decide) ?_
        exact yk_175 (Or.inr ⟨fun z => absurd z.2.2 (by decide), K 1 F' cm w o R' h4⟩)
  unfold wY_collect_133
  rw [hc, (hP i).1]
  refine ⟨hin, ?_⟩
  refine pk_eq (g i 0) 5 (fun o => A (Or.inl o)) (fun o5 => ⟨hin, ?_⟩)
  refine pk_eq (g i 0) 6 (fun o => A (Or.inr o)) (fun o6 => ?_)
  unfold wY_collect_174
  rcases ac_YM_3 hM (by omega) with ⟨h1, h2, h3, h4⟩ | ⟨n, _, h4⟩
  · exact yk_175 (Or.inl ⟨h1, h2, h3, K 0 F _ _ _ R h4⟩)
  · exact yk_175 (Or.inr ⟨n, K 1 F _ _ _ R h4⟩)
theorem yk_78 (hs : s ≤ 14) (hg : ac_GV g) (hP : ac_YP g b_ops b_v0 b_v1 b_v2 b_p0 b_p1 b_p2)
    (K : ∀ x F' cm w o, ac_RY F' cm w o → ac_YQ s g b_num F' c s x → J63 x (x2 + 1) (nI s) h_doing h_at h_forks h_bits h_said b_ops b_v0 b_v1 b_v2 b_p0 b_p1 b_p2 b_num cm w o b_values b_last) :
    ∀ d i x1 F b_come b_with b_without, i + d = s → ac_RY F b_come b_with b_without → ac_YQ s g b_num F c i x1 → wY_collect_78 post J63 x2 (d + 1) x1 (nI i) (nI s) h_doing h_at h_forks h_bits h_said b_ops b_v0 b_v1 b_v2 b_p0 b_p1 b_p2 b_num b_come b_with b_without b_values b_last := by
  intro d
  induction d with
  | zero =>
    intro i x1 F cm w o hi R hQ
    have e : i = s := by omega
    subst e
    exact br_t (nI_le (Nat.le_refl _) (by omega)) (nm_e (K x1 F cm w o R hQ))
  | succ d ih =>
    intro i x1 F cm w o hi R hQ
    have hi14 : i < 14 := by omega
    have his : i < s := by omega
    have hin : vp_in (nI i) 14 := vp_in_nI hi14 (by omega)
    have hc : (nI i).toNatClampNeg = i := nI_clamp (by omega)
    have b0 := (hg i).1
    refine br_f (nI_ge (by omega) (by omega)) ?_
    rw [hc, (R i hi14).1, (hP i).1, nI_1]
    refine ⟨hin, ?_⟩
    cases hF : F i 0
    · refine br_t rfl (nm_e (ih (i + 1) x1 F cm w o (by omega) R ⟨hQ.1, ?_⟩))
      rcases hQ.2 with ⟨hx, hc, hj⟩ | h
      · exact Or.inl ⟨hx, hc, lt_s hj (fun z => by rw [hF] at z; exact absurd z (by decide))⟩
      · exact Or.inr h
    · refine br_f (by decide) ⟨hin, ?_⟩
      have N : (g i 0 = 6 ∨ g i 0 = 7) → wY_collect_132 post J63 (wY_collect_78 post J63 x2 (d + 1)) x1 x2 (nI i) (nI s) h_doing h_at h_forks h_bits h_said b_ops b_v0 b_v1 b_v2 b_p0 b_p1 b_p2 b_num cm w o b_values b_last := by
        intro h
        unfold wY_collect_132
        exact yk_133 hs his hg hP R (ac_YM_0 hQ hF h) (fun x F' cm' w' o' R' Q' => ih (i + 1) x F' cm' w' o' (by omega) R' Q')
      refine pk_eq (g i 0) 6 (fun o => N (Or.inl o)) (fun o6 => ⟨hin, ?_⟩)
      refine pk_eq (g i 0) 7 (fun o => N (Or.inr o)) (fun o7 => ?_)
      refine yk_carry hs hg hP hi14 R (fun r F' cm' w' o' R' O => ?_)
      have hM := ac_YM_1 hs his hQ hF o6 o7 O
      rcases ac_OE_r hs O with ⟨hr, _⟩ | ⟨hr, _⟩
      · refine br_t hr ?_
        subst hr
        unfold wY_collect_132
        exact yk_133 hs his hg hP R' hM (fun x F' cm' w' o' R' Q' => ih (i + 1) x F' cm' w' o' (by omega) R' Q')
      · refine br_f (by rw [hr]; decide) ?_
        subst hr
        exact yk_133 hs his hg hP R' hM (fun x F' cm' w' o' R' Q' => ih (i + 1) x F' cm' w' o' (by omega) R' Q')
theorem yk_63 (hs : s ≤ 14) (hs0 : 0 < s) (hg : ac_GV g) (hP : ac_YP g b_ops b_v0 b_v1 b_v2 b_p0 b_p1 b_p2)
    (K : ∀ cm w o, ac_RY (ac_B s g b_num) cm w o → post (nI s, h_doing, h_at, h_forks, h_bits, h_said, b_ops, b_v0, b_v1, b_v2, b_p0, b_p1, b_p2, b_num, cm, w, o, b_values, b_last)) :
    ∀ n c x1 F b_come b_with b_without, 600 ≤ n + c → ac_RY F b_come b_with b_without → ((x1 = 1 ∧ c ≤ ac_ct F ∧ ac_YB s g b_num F) ∨ (x1 = 0 ∧ c ≤ 575 ∧ F = ac_B s g b_num)) → wY_collect_63 post n x1 (nI c) (nI s) h_doing h_at h_forks h_bits h_said b_ops b_v0 b_v1 b_v2 b_p0 b_p1 b_p2 b_num b_come b_with b_without b_values b_last := by
  intro n
  induction n with
  | zero =>
    intro c x1 F cm w o hn R h
    have := ac_ct_le F
    rcases h with ⟨_, h, _⟩ | ⟨_, h, _⟩ <;> omega
  | succ n ih =>
    intro c x1 F cm w o hn R h
    have ht := ac_ct_le F
    have hc : c ≤ 575 := by rcases h with ⟨_, h, _⟩ | ⟨_, h, _⟩ <;> omega
    refine br_f (nI_ge (b := 600) (by omega) (by decide)) ?_
    rcases h with ⟨hx, h, hB⟩ | ⟨hx, _, e⟩
    · refine br_f (by rw [hx]; decide) ⟨s + 1, yk_78 (c := c) hs hg hP (fun x F' cm' w' o' R' Q' => ?_) s 0 0 F cm w o (by omega) R ⟨hB, Or.inl ⟨rfl, h, fun j hj => by omega⟩⟩⟩
      rw [nI_1]
      refine ih (c + 1) x F' cm' w' o' (by omega) R' ?_
      rcases Q'.2 with ⟨hx, _, hj⟩ | ⟨hx, hc'⟩
      · exact Or.inr ⟨hx, by omega, ac_S_fix Q'.1.1 ⟨Q'.1.2, hj⟩⟩
      · exact Or.inl ⟨hx, hc', Q'.1⟩
    · subst e
      exact br_t hx (K cm w o R)
theorem yk_2 (hs : s ≤ 14) (hg : ac_GV g) (hP : ac_YP g b_ops b_v0 b_v1 b_v2 b_p0 b_p1 b_p2)
    (K : ∀ cm w o, (0 < s → ac_RY (ac_B s g b_num) cm w o) → post (nI s, h_doing, h_at, h_forks, h_bits, h_said, b_ops, b_v0, b_v1, b_v2, b_p0, b_p1, b_p2, b_num, cm, w, o, b_values, b_last)) :
    ∀ d i b_come b_with b_without, i + d = 14 → (∀ j, j < i → b_come j = (if j = 0 ∧ 0 < s then 1 else 0) ∧ b_with j = 0 ∧ b_without j = (if j = 0 then 1048575 else 0)) → wY_collect_2 post (nI s) h_doing h_at h_forks h_bits h_said (d + 1) (nI i) b_ops b_v0 b_v1 b_v2 b_p0 b_p1 b_p2 b_num b_come b_with b_without b_values b_last := by
  intro d
  induction d with
  | zero =>
    intro i cm w o hi h1
    have e : i = 14 := by omega
    subst e
    refine br_t (by decide) ?_
    by_cases hs0 : 0 < s
    · have R0 : ac_RY (ac_jn ac_Z 0 ac_in) cm w o := by
        intro p hp
        obtain ⟨z1, z2, z3⟩ := h1 p hp
        rw [z1, z2, z3]
        by_cases e : p = 0
        · subst e
          rw [if_pos ⟨rfl, hs0⟩, if_pos rfl]
          refine ⟨rfl, ac_st_c ac_st_0 (fun b hb => ?_), ac_st_c ac_st_f (fun b hb => ?_)⟩
          · skip
            rw [ac_jn_at (by omega), ac_in1 hb]
            rfl
          · skip
            rw [ac_jn_at (by omega), ac_in2, Bool.or_true]
        · rw [if_neg (fun z => e z.1), if_neg e, ac_jn_ne e]
          exact ⟨rfl, ac_st_0, ac_st_0⟩
      refine ⟨600, yk_63 hs hs0 hg hP (fun cm' w' o' R' => K cm' w' o' (fun _ => R')) 600 0 1 _ cm w o (by omega) R0 (Or.inl ⟨rfl, Nat.zero_le _, ac_F0_S hs0, fun f hf h => ?_⟩)⟩
      rw [ac_jn_at hf, h, Bool.or_true]
    · have e : s = 0 := by omega
      subst e
      refine ⟨2, br_f (by decide) (br_f (by decide) ⟨1, br_t (by decide) (nm_e ?_)⟩)⟩
      exact br_f (by decide) (br_t rfl (K cm w o (fun z => absurd z hs0)))
  | succ d ih =>
    intro i cm w o hi h1
    have hi14 : i < 14 := by omega
    have hin : vp_in (nI i) 14 := vp_in_nI hi14 (by omega)
    have hc : (nI i).toNatClampNeg = i := nI_clamp (by omega)
    refine br_f (nI_ge (b := 14) (by omega) (by decide)) ?_
    have A : ∀ z : Int32, z = (if i = 0 ∧ 0 < s then 1 else 0) → wY_collect_29 post (wY_collect_2 post (nI s) h_doing h_at h_forks h_bits h_said (d + 1)) (nI i) z (nI i) (nI s) h_doing h_at h_forks h_bits h_said b_ops b_v0 b_v1 b_v2 b_p0 b_p1 b_p2 b_num cm w o b_values b_last := by
      intro z hz
      have hn : vp_nar .boolean z = z := by
        rw [hz]
        split <;> rfl
      unfold wY_collect_29
      rw [hc, hn, nI_1]
      refine ⟨hin, nm_e ⟨hin, nm_e ?_⟩⟩
      refine pk_eq i 0 (fun e => ⟨hin, nm_e (nm_e (ih (i + 1) _ _ _ (by omega) ?_))⟩) (fun e => ⟨hin, nm_e (nm_e (ih (i + 1) _ _ _ (by omega) ?_))⟩)
      · refine lt_s (fun j hj => ?_) ?_
        · rw [pk_un (by omega), pk_un (by omega), pk_un (by omega)]
          exact h1 j hj
        · rw [pk_us, pk_us, pk_us, if_pos e]
          exact ⟨hz, rfl, rfl⟩
      · refine lt_s (fun j hj => ?_) ?_
        · rw [pk_un (by omega), pk_un (by omega), pk_un (by omega)]
          exact h1 j hj
        · rw [pk_us, pk_us, pk_us, if_neg e]
          exact ⟨hz, rfl, rfl⟩
    refine pk_eq i 0 (fun e => ?_) (fun e => ?_)
    · refine pk_le s 0 (fun h => ?_) (fun h => ?_)
      · unfold wY_collect_28
        exact A 0 (by rw [if_neg (by omega)])
      · exact A 1 (by rw [if_pos ⟨e, h⟩])
    · unfold wY_collect_28
      exact A 0 (by rw [if_neg (by omega)])
theorem yk_collect (hs : s ≤ 14) (hg : ac_GV g) (hP : ac_YP g b_ops b_v0 b_v1 b_v2 b_p0 b_p1 b_p2)
    (K : ∀ cm w o, (0 < s → ac_RY (ac_B s g b_num) cm w o) → post (nI s, h_doing, h_at, h_forks, h_bits, h_said, b_ops, b_v0, b_v1, b_v2, b_p0, b_p1, b_p2, b_num, cm, w, o, b_values, b_last)) : wpY_collect post (nI s, h_doing, h_at, h_forks, h_bits, h_said, b_ops, b_v0, b_v1, b_v2, b_p0, b_p1, b_p2, b_num, b_come, b_with, b_without, b_values, b_last) := by
  unfold wpY_collect
  exact ⟨15, yk_2 hs hg hP K 14 0 b_come b_with b_without (by omega) lt_0⟩
end
end
section
/-! ===== Y: faults, sound ===== -/
def ac_fl (x : Int32) (c : Prop) : Prop := (x = 0 ∧ ¬ c) ∨ (x = 1 ∧ c)
theorem ac_or0 {x y : Int32} : x ||| y = 0 ↔ (x = 0 ∧ y = 0) := by
  constructor
  · intro h
    have hb : ∀ i, (bt x i || bt y i) = false := fun i => by rw [← b_or, h, b_0]
    constructor
    · apply b_ext
      intro i _
      have := hb i
      rw [Bool.or_eq_false_iff] at this
      rw [this.1, b_0]
    · apply b_ext
      intro i _
      have := hb i
      rw [Bool.or_eq_false_iff] at this
      rw [this.2, b_0]
  · intro ⟨h1, h2⟩
    rw [h1, h2]
    rfl
section
variable {h_size h_doing h_at h_forks h_bits h_said : Int32} {b_ops b_v0 b_v1 b_v2 b_p0 b_p1 b_p2 b_num b_come b_with b_without b_values b_last : Nat → Int32}
variable {s p n3 n4 : Nat} {g : Nat → Nat → Nat} {F : Nat → Nat → Bool} {x x3 x4 z : Int32} {post : Int32 → SY → Prop} {c1 c2 c3 : Prop}
theorem yk_ins {post : Int32 → Prop} (h1 : ac_ins s x → post 1) (h0 : ¬ ac_ins s x → post 0) : wpY_inside post (nI s, h_doing, h_at, h_forks, h_bits, h_said, b_ops, b_v0, b_v1, b_v2, b_p0, b_p1, b_p2, b_num, b_come, b_with, b_without, b_values, b_last) x := by
  unfold wpY_inside
  exact br_c (fun a => h0 (fun z => z.1 a)) (fun a => br_c (fun b => h0 (fun z => z.2 b)) (fun b => h1 ⟨a, b⟩))
theorem yf_186 (hx : ac_fl x c3) (K : post (nI (n3 + n4 + ac_b c3 4)) (h_size, h_doing, h_at, h_forks, h_bits, h_said, b_ops, b_v0, b_v1, b_v2, b_p0, b_p1, b_p2, b_num, b_come, b_with, b_without, b_values, b_last)) : wY_faults_186 post x (nI n4) (nI n3) h_size h_doing h_at h_forks h_bits h_said b_ops b_v0 b_v1 b_v2 b_p0 b_p1 b_p2 b_num b_come b_with b_without b_values b_last := by
  unfold wY_faults_186
  rcases hx with ⟨e, h⟩ | ⟨e, h⟩
  · rw [ac_b_f h] at K
    refine br_t e ?_
    rw [nI_add, Int32.add_zero]
    exact K
  · rw [ac_b_t h] at K
    refine br_f (by rw [e]; decide) ?_
    have e2 : nI n3 + nI n4 + 4 = nI (n3 + n4 + 4) := by rw [nI_add]; exact nI_add _ 4
    rw [e2]
    exact K
theorem yf_165 (h3 : ac_fl x3 c1) (h4 : ac_fl x4 c2) (hz : ac_fl z c3) (K : post (nI (ac_b c1 1 + ac_b c2 2 + ac_b c3 4)) (h_size, h_doing, h_at, h_forks, h_bits, h_said, b_ops, b_v0, b_v1, b_v2, b_p0, b_p1, b_p2, b_num, b_come, b_with, b_without, b_values, b_last)) : wY_faults_165 post x3 x4 z h_size h_doing h_at h_forks h_bits h_said b_ops b_v0 b_v1 b_v2 b_p0 b_p1 b_p2 b_num b_come b_with b_without b_values b_last := by
  unfold wY_faults_165 wY_faults_176
  rcases h3 with ⟨e3, h3⟩ | ⟨e3, h3⟩
  · rw [ac_b_f h3] at K
    refine br_t e3 ?_
    rcases h4 with ⟨e4, h4⟩ | ⟨e4, h4⟩
    · rw [ac_b_f h4] at K
      exact br_t e4 (yf_186 (n3 := 0) (n4 := 0) hz K)
    · rw [ac_b_t h4] at K
      exact br_f (by rw [e4]; decide) (yf_186 (n3 := 0) (n4 := 2) hz K)
  · rw [ac_b_t h3] at K
    refine br_f (by rw [e3]; decide) ?_
    rcases h4 with ⟨e4, h4⟩ | ⟨e4, h4⟩
    · rw [ac_b_f h4] at K
      exact br_t e4 (yf_186 (n3 := 1) (n4 := 0) hz K)
    · rw [ac_b_t h4] at K
      exact br_f (by rw [e4]; decide) (yf_186 (n3 := 1) (n4 := 2) hz K)
theorem yf_112 (hs : s ≤ 14) (hg : ac_GV g) (hp : p < 14) (h3 : ac_fl x3 c1) (h4 : ac_fl x4 c2) (K : post (nI (ac_b c1 1 + ac_b c2 2 + ac_b (ac_c3 s g b_num p) 4)) (nI s, h_doing, h_at, h_forks, h_bits, h_said, b_ops, b_v0, b_v1, b_v2, b_p0, b_p1, b_p2, b_num, b_come, b_with, b_without, b_values, b_last)) : wY_faults_112 post (nI p) (nI (g p 0)) x3 x4 (nI s) h_doing h_at h_forks h_bits h_said b_ops b_v0 b_v1 b_v2 b_p0 b_p1 b_p2 b_num b_come b_with b_without b_values b_last := by
  have b0 := (hg p).1
  have T : ac_c3 s g b_num p → wY_faults_160 post x3 x4 (nI s) h_doing h_at h_forks h_bits h_said b_ops b_v0 b_v1 b_v2 b_p0 b_p1 b_p2 b_num b_come b_with b_without b_values b_last := by
    intro h
    unfold wY_faults_160
    exact yf_165 h3 h4 (Or.inr ⟨rfl, h⟩) K
  have N : ¬ ac_c3 s g b_num p → wY_faults_164 post x3 x4 (nI s) h_doing h_at h_forks h_bits h_said b_ops b_v0 b_v1 b_v2 b_p0 b_p1 b_p2 b_num b_come b_with b_without b_values b_last := by
    intro h
    unfold wY_faults_164
    exact yf_165 h3 h4 (Or.inl ⟨rfl, h⟩) K
  have A : ¬ (g p 0 ≠ 6 ∧ g p 0 ≠ 7 ∧ ¬ p + 1 < s) → wY_faults_136 post (nI p) (nI (g p 0)) x3 x4 (nI s) h_doing h_at h_forks h_bits h_said b_ops b_v0 b_v1 b_v2 b_p0 b_p1 b_p2 b_num b_come b_with b_without b_values b_last := by
    intro hn
    have B : (g p 0 = 5 ∨ g p 0 = 6) → wY_faults_147 post (nI p) x3 x4 (nI s) h_doing h_at h_forks h_bits h_said b_ops b_v0 b_v1 b_v2 b_p0 b_p1 b_p2 b_num b_come b_with b_without b_values b_last := by
      intro ho
      unfold wY_faults_147
      rw [nI_clamp (n := p) (by omega)]
      refine ⟨vp_in_nI hp (by omega), yk_ins (fun h => ?_) (fun h => ?_)⟩
      · refine br_f (by decide) (N ?_)
        rintro (z | z)
        · exact hn z
        · exact z.2 h
      · exact br_t rfl (T (Or.inr ⟨ho, h⟩))
    unfold wY_faults_136
    refine pk_eq (g p 0) 5 (fun o => B (Or.inl o)) (fun o5 => ?_)
    refine pk_eq (g p 0) 6 (fun o => B (Or.inr o)) (fun o6 => N ?_)
    rintro (z | z)
    · exact hn z
    · have := z.1
      omega
  unfold wY_faults_112
  refine pk_eq (g p 0) 6 (fun o => A (fun z => z.1 o)) (fun o6 => ?_)
  refine pk_eq (g p 0) 7 (fun o => A (fun z => z.2.1 o)) (fun o7 => ?_)
  rw [nI_1]
  refine yk_ins (fun h => ?_) (fun h => ?_)
  · rw [ac_insN hs (by omega)] at h
    exact br_f (by decide) (A (fun z => z.2.2 h))
  · rw [ac_insN hs (by omega)] at h
    exact br_t rfl (T (Or.inl ⟨o6, o7, h⟩))
theorem yf_73 (hs : s ≤ 14) (hg : ac_GV g) (hP : ac_YP g b_ops b_v0 b_v1 b_v2 b_p0 b_p1 b_p2) (hp : p < 14) (R : ac_RY F b_come b_with b_without) (h3 : ac_fl x3 c1) (K : post (nI (ac_b c1 1 + ac_b (ac_c2 g F p) 2 + ac_b (ac_c3 s g b_num p) 4)) (nI s, h_doing, h_at, h_forks, h_bits, h_said, b_ops, b_v0, b_v1, b_v2, b_p0, b_p1, b_p2, b_num, b_come, b_with, b_without, b_values, b_last)) : wY_faults_73 post (nI p) (nI (g p 0)) x3 (nI s) h_doing h_at h_forks h_bits h_said b_ops b_v0 b_v1 b_v2 b_p0 b_p1 b_p2 b_num b_come b_with b_without b_values b_last := by
  have hin : vp_in (nI p) 14 := vp_in_nI hp (by omega)
  obtain ⟨e0, e1, e2, e3, e4, e5, e6⟩ := hP p
  obtain ⟨b0, b1, b2, b3, b4, b5, b6⟩ := hg p
  have N : ¬ ac_c2 g F p → wY_faults_111 post (nI p) (nI (g p 0)) x3 (nI s) h_doing h_at h_forks h_bits h_said b_ops b_v0 b_v1 b_v2 b_p0 b_p1 b_p2 b_num b_come b_with b_without b_values b_last := by
    intro h
    unfold wY_faults_111
    exact yf_112 hs hg hp h3 (Or.inl ⟨rfl, h⟩) K
  unfold wY_faults_73
  rw [nI_clamp (n := p) (by omega), e6, e3, ac_4, nI_add, ac_bit _ (by omega), ac_st_at (R p hp).2.2 (by omega)]
  refine pk_eq (g p 0) 1 (fun o => ⟨hin, hin, hin, ?_⟩) (fun o => N (fun z => o z.1))
  cases hF : F p (4 * g p 6 + g p 3 + 21)
  · exact br_f (by decide) (N (fun z => by rw [z.2] at hF; exact absurd hF (by decide)))
  · exact br_t rfl (yf_112 hs hg hp h3 (Or.inr ⟨rfl, o, hF⟩) K)
theorem yf_72 (hs : s ≤ 14) (hg : ac_GV g) (hP : ac_YP g b_ops b_v0 b_v1 b_v2 b_p0 b_p1 b_p2) (hp : p < 14) (R : ac_RY F b_come b_with b_without) (n : ¬ ac_c1 g F p) (K : post (nI (ac_fv s g b_num F p)) (nI s, h_doing, h_at, h_forks, h_bits, h_said, b_ops, b_v0, b_v1, b_v2, b_p0, b_p1, b_p2, b_num, b_come, b_with, b_without, b_values, b_last)) : wY_faults_72 post (nI p) (nI (g p 0)) (nI s) h_doing h_at h_forks h_bits h_said b_ops b_v0 b_v1 b_v2 b_p0 b_p1 b_p2 b_num b_come b_with b_without b_values b_last := by
  unfold wY_faults_72
  exact yf_73 hs hg hP hp R (Or.inl ⟨rfl, n⟩) K
theorem yf_40 (hs : s ≤ 14) (hg : ac_GV g) (hP : ac_YP g b_ops b_v0 b_v1 b_v2 b_p0 b_p1 b_p2) (hp : p < 14) (R : ac_RY F b_come b_with b_without) (ho : g p 0 = 1 ∨ g p 0 = 3) (K : post (nI (ac_fv s g b_num F p)) (nI s, h_doing, h_at, h_forks, h_bits, h_said, b_ops, b_v0, b_v1, b_v2, b_p0, b_p1, b_p2, b_num, b_come, b_with, b_without, b_values, b_last)) : wY_faults_40 post (nI p) (nI (g p 0)) (nI s) h_doing h_at h_forks h_bits h_said b_ops b_v0 b_v1 b_v2 b_p0 b_p1 b_p2 b_num b_come b_with b_without b_values b_last := by
  have hin : vp_in (nI p) 14 := vp_in_nI hp (by omega)
  obtain ⟨e0, e1, e2, e3, e4, e5, e6⟩ := hP p
  obtain ⟨b0, b1, b2, b3, b4, b5, b6⟩ := hg p
  unfold wY_faults_40
  rw [nI_clamp (n := p) (by omega), e5, e2, ac_4, nI_add, ac_bit _ (by omega), ac_st_at (R p hp).2.2 (by omega)]
  refine ⟨hin, hin, hin, ?_⟩
  cases hF : F p (4 * g p 5 + g p 2 + 21)
  · exact br_f (by decide) (yf_72 hs hg hP hp R (fun z => by rw [z.2] at hF; exact absurd hF (by decide)) K)
  · exact br_t rfl (yf_73 hs hg hP hp R (Or.inr ⟨rfl, ho, hF⟩) K)
theorem yk_faults (hs : s ≤ 14) (hg : ac_GV g) (hP : ac_YP g b_ops b_v0 b_v1 b_v2 b_p0 b_p1 b_p2) (hp : p < s)
    (K : ∀ cm w o, post (nI (ac_nv s g b_num (ac_B s g b_num) p)) (nI s, h_doing, h_at, h_forks, h_bits, h_said, b_ops, b_v0, b_v1, b_v2, b_p0, b_p1, b_p2, b_num, cm, w, o, b_values, b_last)) : wpY_faults post (nI s, h_doing, h_at, h_forks, h_bits, h_said, b_ops, b_v0, b_v1, b_v2, b_p0, b_p1, b_p2, b_num, b_come, b_with, b_without, b_values, b_last) (nI p) := by
  have hp14 : p < 14 := by omega
  have hin : vp_in (nI p) 14 := vp_in_nI hp14 (by omega)
  have b0 := (hg p).1
  unfold wpY_faults
  refine yk_collect hs hg hP (fun cm w o H => ?_)
  have R := H (by omega)
  have K' := K cm w o
  refine yk_ins (fun _ => ?_) (fun h => absurd ((ac_insN hs (by omega)).mpr hp) h)
  refine br_f (by decide) ⟨hin, ?_⟩
  rw [nI_clamp (n := p) (by omega), (R p hp14).1, (hP p).1]
  unfold ac_nv at K'
  cases hF : ac_B s g b_num p 0
  · rw [hF] at K'
    exact br_t rfl K'
  · rw [hF, if_pos rfl] at K'
    refine br_f (by decide) ⟨hin, nm_e ?_⟩
    refine pk_eq (g p 0) 1 (fun o => yf_40 hs hg hP hp14 R (Or.inl o) K') (fun o1 => ?_)
    refine pk_eq (g p 0) 3 (fun o => yf_40 hs hg hP hp14 R (Or.inr o) K') (fun o3 => ?_)
    exact yf_72 hs hg hP hp14 R (fun z => by have := z.1; omega) K'
theorem yk_faults0 (hs : s ≤ 14) (hg : ac_GV g) (hP : ac_YP g b_ops b_v0 b_v1 b_v2 b_p0 b_p1 b_p2) (hp : ¬ ac_ins s x)
    (K : ∀ cm w o, post 0 (nI s, h_doing, h_at, h_forks, h_bits, h_said, b_ops, b_v0, b_v1, b_v2, b_p0, b_p1, b_p2, b_num, cm, w, o, b_values, b_last)) : wpY_faults post (nI s, h_doing, h_at, h_forks, h_bits, h_said, b_ops, b_v0, b_v1, b_v2, b_p0, b_p1, b_p2, b_num, b_come, b_with, b_without, b_values, b_last) x := by
  unfold wpY_faults
  refine yk_collect hs hg hP (fun cm w o _ => ?_)
  exact yk_ins (fun h => absurd h hp) (fun _ => br_t rfl (K cm w o))
def ac_sd (s : Nat) (g : Nat → Nat → Nat) (num : Nat → Int32) : Prop := ∀ j, j < s → ac_nv s g num (ac_B s g num) j = 0
theorem yk_snd4 (hs : s ≤ 14) (hg : ac_GV g) (hP : ac_YP g b_ops b_v0 b_v1 b_v2 b_p0 b_p1 b_p2)
    (K1 : 0 < s → ac_sd s g b_num → ∀ cm w o, post 1 (nI s, h_doing, h_at, h_forks, h_bits, h_said, b_ops, b_v0, b_v1, b_v2, b_p0, b_p1, b_p2, b_num, cm, w, o, b_values, b_last))
    (K0 : ¬ (0 < s ∧ ac_sd s g b_num) → ∀ cm w o, post 0 (nI s, h_doing, h_at, h_forks, h_bits, h_said, b_ops, b_v0, b_v1, b_v2, b_p0, b_p1, b_p2, b_num, cm, w, o, b_values, b_last)) :
    ∀ d i x1 b_come b_with b_without, i + d = s → (x1 = 0 ↔ ∀ j, j < i → ac_nv s g b_num (ac_B s g b_num) j = 0) → wY_sound_4 post (d + 1) x1 (nI i) (nI s) h_doing h_at h_forks h_bits h_said b_ops b_v0 b_v1 b_v2 b_p0 b_p1 b_p2 b_num b_come b_with b_without b_values b_last := by
  intro d
  induction d with
  | zero =>
    intro i x1 cm w o hi hx
    have e : i = s := by omega
    subst e
    refine br_t (nI_le (Nat.le_refl _) (by omega)) ?_
    refine pk_le i 0 (fun h => K0 (fun z => by omega) cm w o) (fun h => ?_)
    exact br_c (fun e => K1 h (hx.mp e) cm w o) (fun e => K0 (fun z => e (hx.mpr z.2)) cm w o)
  | succ d ih =>
    intro i x1 cm w o hi hx
    refine br_f (nI_ge (by omega) (by omega)) ?_
    refine yk_faults hs hg hP (by omega) (fun cm' w' o' => ?_)
    rw [nI_1]
    refine nm_e (nm_e (ih (i + 1) _ cm' w' o' (by omega) ?_))
    have hl := ac_nv_le s g b_num (ac_B s g b_num) i
    rw [ac_or0, hx, ← nI_0, nI_eq (by omega) (by omega)]
    constructor
    · intro ⟨h1, h2⟩
      exact lt_s h1 h2
    · intro h
      exact ⟨fun j hj => h j (by omega), h i (by omega)⟩
theorem yk_sound (hs : s ≤ 14) (hg : ac_GV g) (hP : ac_YP g b_ops b_v0 b_v1 b_v2 b_p0 b_p1 b_p2)
    (K1 : 0 < s → ac_sd s g b_num → ∀ cm w o, post 1 (nI s, h_doing, h_at, h_forks, h_bits, h_said, b_ops, b_v0, b_v1, b_v2, b_p0, b_p1, b_p2, b_num, cm, w, o, b_values, b_last))
    (K0 : ¬ (0 < s ∧ ac_sd s g b_num) → ∀ cm w o, post 0 (nI s, h_doing, h_at, h_forks, h_bits, h_said, b_ops, b_v0, b_v1, b_v2, b_p0, b_p1, b_p2, b_num, cm, w, o, b_values, b_last)) : wpY_sound post (nI s, h_doing, h_at, h_forks, h_bits, h_said, b_ops, b_v0, b_v1, b_v2, b_p0, b_p1, b_p2, b_num, b_come, b_with, b_without, b_values, b_last) := by
  unfold wpY_sound
  exact ⟨s + 1, yk_snd4 hs hg hP K1 K0 s 0 0 b_come b_with b_without (by omega) ⟨fun _ j hj => by omega, fun _ => rfl⟩⟩
end
/-! ===== X: sound ===== -/
def ac_CK (s : Nat) (g : Nat → Nat → Nat) (num : Nat → Int32) (ck : Int32) (m a t n : Nat → Int32) : Prop := ck = 0 ∨ (ck = 1 ∧ ac_K s g num m a t n)
section
variable {f_size f_checked f_waiting f_state f_at f_choices f_forks f_outCount : Int32} {a_ops a_values a_places a_numbers a_met a_always a_sometimes a_noted a_held a_lately : Nat → Int32}
variable {s p : Nat} {g : Nat → Nat → Nat} {x : Int32} {post : Int32 → SX → Prop}
theorem xk_snd15 (hs : s ≤ 14) (hn : ∀ j, j < s → a_noted j = nI (ac_nv s g a_numbers (ac_B s g a_numbers) j))
    (K1 : ac_sd s g a_numbers → post 1 (nI s, f_checked, f_waiting, f_state, f_at, f_choices, f_forks, f_outCount, a_ops, a_values, a_places, a_numbers, a_met, a_always, a_sometimes, a_noted, a_held, a_lately)) (K0 : ¬ ac_sd s g a_numbers → post 0 (nI s, f_checked, f_waiting, f_state, f_at, f_choices, f_forks, f_outCount, a_ops, a_values, a_places, a_numbers, a_met, a_always, a_sometimes, a_noted, a_held, a_lately)) :
    ∀ d i, i + d = s → (∀ j, j < i → ac_nv s g a_numbers (ac_B s g a_numbers) j = 0) → wX_sound_15 post (nI s) f_checked f_waiting f_state f_at f_choices f_forks f_outCount a_ops a_values a_places a_numbers a_met a_always a_sometimes a_noted a_held a_lately (d + 1) (nI i) := by
  intro d
  induction d with
  | zero =>
    intro i hi h
    have e : i = s := by omega
    subst e
    exact br_t (nI_le (Nat.le_refl _) (by omega)) (K1 h)
  | succ d ih =>
    intro i hi h
    have hl := ac_nv_le s g a_numbers (ac_B s g a_numbers) i
    refine br_f (nI_ge (by omega) (by omega)) ?_
    rw [nI_clamp (n := i) (by omega), hn i (by omega), nI_1]
    refine ⟨vp_in_nI (by omega) (by omega), ?_⟩
    refine pk_eq (ac_nv s g a_numbers (ac_B s g a_numbers) i) 0 (fun e => nm_e (ih (i + 1) (by omega) (lt_s h e))) (fun e => K0 (fun z => e (z i (by omega))))
theorem xk_sound (hs : s ≤ 14) (hg : ac_GV g) (hP : ac_XP g a_ops a_values a_places) (hk : ac_CK s g a_numbers f_checked a_met a_always a_sometimes a_noted)
    (K1 : 0 < s → ac_sd s g a_numbers → ∀ w m a t n, ac_K s g a_numbers m a t n → post 1 (nI s, 1, w, f_state, f_at, f_choices, f_forks, f_outCount, a_ops, a_values, a_places, a_numbers, m, a, t, n, a_held, a_lately))
    (K0 : ¬ (0 < s ∧ ac_sd s g a_numbers) → ∀ ck w m a t n, ac_CK s g a_numbers ck m a t n → post 0 (nI s, ck, w, f_state, f_at, f_choices, f_forks, f_outCount, a_ops, a_values, a_places, a_numbers, m, a, t, n, a_held, a_lately)) : wpX_sound post (nI s, f_checked, f_waiting, f_state, f_at, f_choices, f_forks, f_outCount, a_ops, a_values, a_places, a_numbers, a_met, a_always, a_sometimes, a_noted, a_held, a_lately) := by
  unfold wpX_sound
  refine pk_eq s 0 (fun e => K0 (fun z => by omega) _ _ _ _ _ _ hk) (fun e => ?_)
  refine xk_check hs (by omega) hg hP hk (fun w m a t n h => ?_)
  exact ⟨s + 1, xk_snd15 hs h.2 (fun z => K1 (by omega) z w m a t n h) (fun z => K0 (fun y => z y.2) _ w m a t n (Or.inr ⟨rfl, h⟩)) s 0 (by omega) lt_0⟩
end
end
section
/-! ===== the relation ===== -/
def ac_Q (s : Nat) (g : Nat → Nat → Nat) (num : Nat → Int32) (st oc sa at1 at2 ch bi f1 f2 : Int32) (held vals : Nat → Int32) : Prop :=
  (st = 0 ∧ oc = 0) ∨ (st = 2 ∧ oc = sa) ∨ (st = 1 ∧ oc = sa ∧ at2 = at1 ∧ bi = ch ∧ f2 = f1 ∧ ac_sd s g num ∧ ∃ a, at1 = nI a ∧ a < s ∧ ac_B s g num a 0 = true ∧ ∀ q v, q < 5 → v < 4 → ac_B s g num a (4 * q + v + 21) = false → held q = vals v)
/-- the relation at the head of a turn: one program on both sides, X's kept check is the least set, the two runs agree on what is carried -/
def i_Rel (_ : Nat) (u : SX) (v : SY) : Prop := match u, v with
  | (f_size, f_checked, f_waiting, f_state, f_at, f_choices, f_forks, f_outCount, a_ops, a_values, a_places, a_numbers, a_met, a_always, a_sometimes, a_noted, a_held, a_lately), (h_size, h_doing, h_at, h_forks, h_bits, h_said, b_ops, b_v0, b_v1, b_v2, b_p0, b_p1, b_p2, b_num, b_come, b_with, b_without, b_values, b_last) => ∃ (s : Nat) (g : Nat → Nat → Nat), f_size = nI s ∧ h_size = nI s ∧ b_num = a_numbers ∧ b_last = a_lately ∧ h_doing = f_state ∧ s ≤ 14 ∧ ac_GV g ∧ ac_XP g a_ops a_values a_places ∧ ac_YP g b_ops b_v0 b_v1 b_v2 b_p0 b_p1 b_p2 ∧ ac_CK s g a_numbers f_checked a_met a_always a_sometimes a_noted ∧ ac_Q s g a_numbers f_state f_outCount h_said f_at h_at f_choices h_bits f_forks h_forks a_held b_values
theorem zz_el {k : Nat} {u : SX} {v : SY} {P : SX → SY → Prop} (h : ∀ (s : Nat) (g : Nat → Nat → Nat) (f_size f_checked f_waiting f_state f_at f_choices f_forks f_outCount : Int32) (a_ops a_values a_places a_numbers a_met a_always a_sometimes a_noted a_held a_lately : Nat → Int32) (h_size h_doing h_at h_forks h_bits h_said : Int32) (b_ops b_v0 b_v1 b_v2 b_p0 b_p1 b_p2 b_num b_come b_with b_without b_values b_last : Nat → Int32), s ≤ 14 → ac_GV g → ac_XP g a_ops a_values a_places → ac_YP g b_ops b_v0 b_v1 b_v2 b_p0 b_p1 b_p2 → ac_CK s g a_numbers f_checked a_met a_always a_sometimes a_noted → ac_Q s g a_numbers f_state f_outCount h_said f_at h_at f_choices h_bits f_forks h_forks a_held b_values → P (nI s, f_checked, f_waiting, f_state, f_at, f_choices, f_forks, f_outCount, a_ops, a_values, a_places, a_numbers, a_met, a_always, a_sometimes, a_noted, a_held, a_lately) (nI s, f_state, h_at, h_forks, h_bits, h_said, b_ops, b_v0, b_v1, b_v2, b_p0, b_p1, b_p2, a_numbers, b_come, b_with, b_without, b_values, a_lately)) (I : i_Rel k u v) : P u v := by
  obtain ⟨f_size, f_checked, f_waiting, f_state, f_at, f_choices, f_forks, f_outCount, a_ops, a_values, a_places, a_numbers, a_met, a_always, a_sometimes, a_noted, a_held, a_lately⟩ := u
  obtain ⟨h_size, h_doing, h_at, h_forks, h_bits, h_said, b_ops, b_v0, b_v1, b_v2, b_p0, b_p1, b_p2, b_num, b_come, b_with, b_without, b_values, b_last⟩ := v
  obtain ⟨s, g, e1, e2, e3, e4, e5, hs, hg, hX, hY, hK, hQ⟩ := I
  subst e1 e2 e3 e4 e5
  exact h s g (nI s) f_checked f_waiting h_doing f_at f_choices f_forks f_outCount a_ops a_values a_places b_num a_met a_always a_sometimes a_noted a_held b_last (nI s) h_doing h_at h_forks h_bits h_said b_ops b_v0 b_v1 b_v2 b_p0 b_p1 b_p2 b_num b_come b_with b_without b_values b_last hs hg hX hY hK hQ
def ac_lt (m : Nat) (x : Int32) : Prop := ∃ n, n < m ∧ x = nI n
def ac_row (o V P : Nat) : Nat → Nat := fun j => if j = 0 then o else if j = 1 then V % 4 else if j = 2 then V / 4 % 4 else if j = 3 then V / 16 % 4 else if j = 4 then P % 8 else if j = 5 then P / 8 % 8 else P / 64 % 8
def ac_ext (g : Nat → Nat → Nat) (s : Nat) (r : Nat → Nat) : Nat → Nat → Nat := fun i => if i = s then r else g i
theorem ac_short : ∀ m, m < 512 → vp_nar .short (nI m).toInt16.toInt32 = nI m := by
  intro m hm
  rw [pk_vs]
  exact (by decide +kernel : ∀ m, m < 512 → (nI m).toInt16.toInt32 = nI m) m hm
theorem ac_v1 {V : Nat} (h : V < 512) : nI V &&& 3 = nI (V % 4) := pk_andN (by omega) 2 (by decide)
theorem ac_v2 {V : Nat} (h : V < 512) : (nI V >>> ((2 : Int32) &&& 31)) &&& 3 = nI (V / 4 % 4) := by
  rw [pk_shrN (by omega) ((2 : Int32) &&& 31) 2 (by decide)]
  exact pk_andN (by omega) 2 (by decide)
theorem ac_v3 {V : Nat} (h : V < 512) : (nI V >>> ((4 : Int32) &&& 31)) &&& 3 = nI (V / 16 % 4) := by
  rw [pk_shrN (by omega) ((4 : Int32) &&& 31) 4 (by decide)]
  exact pk_andN (by omega) 2 (by decide)
theorem ac_p1 {V : Nat} (h : V < 512) : nI V &&& 7 = nI (V % 8) := pk_andN (by omega) 3 (by decide)
theorem ac_p2 {V : Nat} (h : V < 512) : (nI V >>> ((3 : Int32) &&& 31)) &&& 7 = nI (V / 8 % 8) := by
  rw [pk_shrN (by omega) ((3 : Int32) &&& 31) 3 (by decide)]
  exact pk_andN (by omega) 3 (by decide)
theorem ac_p3 {V : Nat} (h : V < 512) : (nI V >>> ((6 : Int32) &&& 31)) &&& 7 = nI (V / 64 % 8) := by
  rw [pk_shrN (by omega) ((6 : Int32) &&& 31) 6 (by decide)]
  exact pk_andN (by omega) 3 (by decide)
section
variable {f_size f_checked f_waiting f_state f_at f_choices f_forks f_outCount : Int32} {a_ops a_values a_places a_numbers a_met a_always a_sometimes a_noted a_held a_lately : Nat → Int32}
variable {h_size h_doing h_at h_forks h_bits h_said : Int32} {b_ops b_v0 b_v1 b_v2 b_p0 b_p1 b_p2 b_num b_come b_with b_without b_values b_last : Nat → Int32}
variable {s k o V P a b : Nat} {g : Nat → Nat → Nat} {x y n : Int32}
theorem zz_in (hs : s ≤ 14) (hg : ac_GV g) (hX : ac_XP g a_ops a_values a_places) (hY : ac_YP g b_ops b_v0 b_v1 b_v2 b_p0 b_p1 b_p2) (hK : ac_CK s g a_numbers f_checked a_met a_always a_sometimes a_noted) (hQ : ac_Q s g a_numbers f_state f_outCount h_said f_at h_at f_choices h_bits f_forks h_forks a_held b_values) : i_Rel k (nI s, f_checked, f_waiting, f_state, f_at, f_choices, f_forks, f_outCount, a_ops, a_values, a_places, a_numbers, a_met, a_always, a_sometimes, a_noted, a_held, a_lately) (nI s, f_state, h_at, h_forks, h_bits, h_said, b_ops, b_v0, b_v1, b_v2, b_p0, b_p1, b_p2, a_numbers, b_come, b_with, b_without, b_values, a_lately) := ⟨s, g, rfl, rfl, rfl, rfl, rfl, hs, hg, hX, hY, hK, hQ⟩
theorem ac_GV_e (hg : ac_GV g) (ho : o < 8) (h1 : P % 8 < 5) (h2 : P / 8 % 8 < 5) (h3 : P / 64 < 5) : ac_GV (ac_ext g s (ac_row o V P)) := by
  intro i
  unfold ac_ext
  by_cases e : i = s
  · rw [if_pos e]
    exact ⟨ho, Nat.mod_lt _ (by decide), Nat.mod_lt _ (by decide), Nat.mod_lt _ (by decide), h1, h2, Nat.lt_of_le_of_lt (Nat.mod_le _ _) h3⟩
  · rw [if_neg e]
    exact hg i
theorem ac_XP_e (hX : ac_XP g a_ops a_values a_places) (hV : V < 512) (hP : P < 512) : ac_XP (ac_ext g s (ac_row o V P)) (upd a_ops s (nI o)) (upd a_values s (nI V)) (upd a_places s (nI P)) := by
  intro i
  unfold ac_ext
  by_cases e : i = s
  · subst e
    rw [if_pos rfl, pk_us, pk_us, pk_us]
    exact ⟨rfl, ac_v1 hV, ac_v2 hV, ac_v3 hV, ac_p1 hP, ac_p2 hP, ac_p3 hP⟩
  · rw [if_neg e, pk_un e, pk_un e, pk_un e]
    exact hX i
theorem ac_YP_e (hY : ac_YP g b_ops b_v0 b_v1 b_v2 b_p0 b_p1 b_p2) (hV : V < 512) (hP : P < 512) : ac_YP (ac_ext g s (ac_row o V P)) (upd b_ops s (nI o)) (upd b_v0 s (nI V &&& 3)) (upd b_v1 s ((nI V >>> ((2 : Int32) &&& 31)) &&& 3)) (upd b_v2 s ((nI V >>> ((4 : Int32) &&& 31)) &&& 3)) (upd b_p0 s (nI P &&& 7)) (upd b_p1 s ((nI P >>> ((3 : Int32) &&& 31)) &&& 7)) (upd b_p2 s ((nI P >>> ((6 : Int32) &&& 31)) &&& 7)) := by
  intro i
  unfold ac_ext
  by_cases e : i = s
  · subst e
    rw [if_pos rfl, pk_us, pk_us, pk_us, pk_us, pk_us, pk_us, pk_us]
    exact ⟨rfl, ac_v1 hV, ac_v2 hV, ac_v3 hV, ac_p1 hP, ac_p2 hP, ac_p3 hP⟩
  · rw [if_neg e, pk_un e, pk_un e, pk_un e, pk_un e, pk_un e, pk_un e, pk_un e]
    exact hY i

theorem zz_app (hs : s < 14) (hg : ac_GV g) (hX : ac_XP g a_ops a_values a_places) (hY : ac_YP g b_ops b_v0 b_v1 b_v2 b_p0 b_p1 b_p2) (ho : o < 8) (hV : V < 64) (h1 : P % 8 < 5) (h2 : P / 8 % 8 < 5) (h3 : P / 64 < 5) : i_Rel k (nI (s + 1), 0, f_waiting, 0, f_at, f_choices, f_forks, 0, upd a_ops s (nI o), upd a_values s (nI V), upd a_places s (nI P), upd a_numbers s n, a_met, a_always, a_sometimes, a_noted, a_held, a_lately) (nI (s + 1), 0, h_at, h_forks, h_bits, h_said, upd b_ops s (nI o), upd b_v0 s (nI V &&& 3), upd b_v1 s ((nI V >>> ((2 : Int32) &&& 31)) &&& 3), upd b_v2 s ((nI V >>> ((4 : Int32) &&& 31)) &&& 3), upd b_p0 s (nI P &&& 7), upd b_p1 s ((nI P >>> ((3 : Int32) &&& 31)) &&& 7), upd b_p2 s ((nI P >>> ((6 : Int32) &&& 31)) &&& 7), upd a_numbers s n, b_come, b_with, b_without, b_values, a_lately) :=
  zz_in (s := s + 1) (g := ac_ext g s (ac_row o V P)) (by omega) (ac_GV_e hg ho h1 h2 h3) (ac_XP_e hX (by omega) (by omega)) (ac_YP_e hY (by omega) (by omega)) (Or.inl rfl) (Or.inl ⟨rfl, rfl⟩)
theorem xk_app {post : Int32 → SX → Prop} (ho : o < 8) (hV : V < 64) (hP : P < 512) (h1 : s < 14 → post (nI s) (nI (s + 1), 0, f_waiting, 0, f_at, f_choices, f_forks, 0, upd a_ops s (nI o), upd a_values s (nI V), upd a_places s (nI P), upd a_numbers s n, a_met, a_always, a_sometimes, a_noted, a_held, a_lately)) (h2 : ¬ s < 14 → post (-2) (nI s, f_checked, f_waiting, f_state, f_at, f_choices, f_forks, f_outCount, a_ops, a_values, a_places, a_numbers, a_met, a_always, a_sometimes, a_noted, a_held, a_lately)) (hs : s ≤ 14) : wpX_append post (nI s, f_checked, f_waiting, f_state, f_at, f_choices, f_forks, f_outCount, a_ops, a_values, a_places, a_numbers, a_met, a_always, a_sometimes, a_noted, a_held, a_lately) (nI o) (nI V) (nI P) n := by
  unfold wpX_append
  dsimp only
  rw [nI_clamp (n := s) (by omega), ac_byte o (by omega), ac_byte V (by omega), ac_short P hP, nI_1]
  refine pk_lt s 14 (fun h => ?_) (fun h => h2 (by omega))
  have hin : vp_in (nI s) 14 := vp_in_nI h (by omega)
  refine ⟨hin, nm_e ⟨hin, nm_e ⟨hin, nm_e ⟨hin, nm_e (nm_e ?_)⟩⟩⟩⟩
  unfold wpX_changed
  dsimp only
  rw [nI_pred]
  exact h1 h
theorem yk_app {post : Int32 → SY → Prop} (h1 : s < 14 → post (nI s) (nI (s + 1), 0, h_at, h_forks, h_bits, h_said, upd b_ops s (nI o), upd b_v0 s (nI V &&& 3), upd b_v1 s ((nI V >>> ((2 : Int32) &&& 31)) &&& 3), upd b_v2 s ((nI V >>> ((4 : Int32) &&& 31)) &&& 3), upd b_p0 s (nI P &&& 7), upd b_p1 s ((nI P >>> ((3 : Int32) &&& 31)) &&& 7), upd b_p2 s ((nI P >>> ((6 : Int32) &&& 31)) &&& 7), upd b_num s n, b_come, b_with, b_without, b_values, b_last)) (h2 : ¬ s < 14 → post (-2) (nI s, h_doing, h_at, h_forks, h_bits, h_said, b_ops, b_v0, b_v1, b_v2, b_p0, b_p1, b_p2, b_num, b_come, b_with, b_without, b_values, b_last)) (hs : s ≤ 14) : wpY_append post (nI s, h_doing, h_at, h_forks, h_bits, h_said, b_ops, b_v0, b_v1, b_v2, b_p0, b_p1, b_p2, b_num, b_come, b_with, b_without, b_values, b_last) (nI o) (nI V) (nI P) n := by
  unfold wpY_append
  dsimp only
  rw [nI_clamp (n := s) (by omega), nI_1]
  refine pk_lt s 14 (fun h => ?_) (fun h => h2 (by omega))
  have hin : vp_in (nI s) 14 := vp_in_nI h (by omega)
  refine ⟨hin, nm_e ⟨hin, nm_e ⟨hin, nm_e ⟨hin, nm_e ⟨hin, nm_e ⟨hin, nm_e ⟨hin, nm_e ⟨hin, nm_e (nm_e ?_)⟩⟩⟩⟩⟩⟩⟩⟩
  rw [nI_pred]
  exact h1 h
theorem xk_val1 {post : Int32 → Prop} (ha : a < 4) (K : post 1) : wpX_isValue post (nI a) := by
  unfold wpX_isValue
  exact br_f (nI_pos (by omega)) (br_f (nI_ge (b := 4) ha (by decide)) K)
theorem xk_val0 {post : Int32 → Prop} (h : ¬ ac_lt 4 x) (K : post 0) : wpX_isValue post x := by
  unfold wpX_isValue
  refine br_c (fun _ => K) (fun z => ?_)
  obtain ⟨j, hj, e⟩ := nI_of z
  subst e
  exact pk_le 4 j (fun _ => K) (fun z => absurd ⟨j, z, rfl⟩ h)
theorem xk_pl1 {post : Int32 → Prop} (ha : a < 5) (K : post 1) : wpX_isPlace post (nI a) := by
  unfold wpX_isPlace
  exact br_f (nI_pos (by omega)) (br_f (nI_ge (b := 5) ha (by decide)) K)
theorem xk_pl0 {post : Int32 → Prop} (h : ¬ ac_lt 5 x) (K : post 0) : wpX_isPlace post x := by
  unfold wpX_isPlace
  refine br_c (fun _ => K) (fun z => ?_)
  obtain ⟨j, hj, e⟩ := nI_of z
  subst e
  exact pk_le 5 j (fun _ => K) (fun z => absurd ⟨j, z, rfl⟩ h)
theorem yk_val1 {post : Int32 → Prop} (ha : a < 4) (K : post 1) : wpY_value post (h_size, h_doing, h_at, h_forks, h_bits, h_said, b_ops, b_v0, b_v1, b_v2, b_p0, b_p1, b_p2, b_num, b_come, b_with, b_without, b_values, b_last) (nI a) := by
  unfold wpY_value
  exact br_f (nI_pos (by omega)) (br_f (nI_nlt (b := a) (a := 3) (by omega) (by decide)) K)
theorem yk_val0 {post : Int32 → Prop} (h : ¬ ac_lt 4 x) (K : post 0) : wpY_value post (h_size, h_doing, h_at, h_forks, h_bits, h_said, b_ops, b_v0, b_v1, b_v2, b_p0, b_p1, b_p2, b_num, b_come, b_with, b_without, b_values, b_last) x := by
  unfold wpY_value
  refine br_c (fun _ => K) (fun z => ?_)
  obtain ⟨j, hj, e⟩ := nI_of z
  subst e
  exact pk_lt 3 j (fun _ => K) (fun z => absurd ⟨j, by omega, rfl⟩ h)
theorem yk_pl1 {post : Int32 → Prop} (ha : a < 5) (K : post 1) : wpY_place post (h_size, h_doing, h_at, h_forks, h_bits, h_said, b_ops, b_v0, b_v1, b_v2, b_p0, b_p1, b_p2, b_num, b_come, b_with, b_without, b_values, b_last) (nI a) := by
  unfold wpY_place
  exact br_f (nI_pos (by omega)) (br_f (nI_nlt (b := a) (a := 4) (by omega) (by decide)) K)
theorem yk_pl0 {post : Int32 → Prop} (h : ¬ ac_lt 5 x) (K : post 0) : wpY_place post (h_size, h_doing, h_at, h_forks, h_bits, h_said, b_ops, b_v0, b_v1, b_v2, b_p0, b_p1, b_p2, b_num, b_come, b_with, b_without, b_values, b_last) x := by
  unfold wpY_place
  refine br_c (fun _ => K) (fun z => ?_)
  obtain ⟨j, hj, e⟩ := nI_of z
  subst e
  exact pk_lt 4 j (fun _ => K) (fun z => absurd ⟨j, by omega, rfl⟩ h)
theorem xk_set1 {post : Int32 → SX → Prop} (hs : s ≤ 14) (ha : a < 4) (hb : b < 5) (h1 : s < 14 → post (nI s) (nI (s + 1), 0, f_waiting, 0, f_at, f_choices, f_forks, 0, upd a_ops s (nI 0), upd a_values s (nI a), upd a_places s (nI b), upd a_numbers s n, a_met, a_always, a_sometimes, a_noted, a_held, a_lately)) (h2 : ¬ s < 14 → post (-2) (nI s, f_checked, f_waiting, f_state, f_at, f_choices, f_forks, f_outCount, a_ops, a_values, a_places, a_numbers, a_met, a_always, a_sometimes, a_noted, a_held, a_lately)) : wpX_set post (nI s, f_checked, f_waiting, f_state, f_at, f_choices, f_forks, f_outCount, a_ops, a_values, a_places, a_numbers, a_met, a_always, a_sometimes, a_noted, a_held, a_lately) (nI a) (nI b) n := by
  unfold wpX_set
  refine xk_val1 ha (br_f (by decide) (xk_pl1 hb (br_f (by decide) ?_)))
  exact xk_app (o := 0) (V := a) (P := b) (by omega) (by omega) (by omega) h1 h2 hs
theorem xk_set0 {post : Int32 → SX → Prop} (h : ¬ (ac_lt 4 x ∧ ac_lt 5 y)) (K : post (-1) (f_size, f_checked, f_waiting, f_state, f_at, f_choices, f_forks, f_outCount, a_ops, a_values, a_places, a_numbers, a_met, a_always, a_sometimes, a_noted, a_held, a_lately)) : wpX_set post (f_size, f_checked, f_waiting, f_state, f_at, f_choices, f_forks, f_outCount, a_ops, a_values, a_places, a_numbers, a_met, a_always, a_sometimes, a_noted, a_held, a_lately) x y n := by
  unfold wpX_set
  by_cases hx : ac_lt 4 x
  · obtain ⟨a, ha, e⟩ := hx
    subst e
    exact xk_val1 ha (br_f (by decide) (xk_pl0 (fun z => h ⟨⟨a, ha, rfl⟩, z⟩) (br_t rfl K)))
  · exact xk_val0 hx (br_t rfl K)
theorem yk_set1 {post : Int32 → SY → Prop} (hs : s ≤ 14) (ha : a < 4) (hb : b < 5) (h1 : s < 14 → post (nI s) (nI (s + 1), 0, h_at, h_forks, h_bits, h_said, upd b_ops s (nI 0), upd b_v0 s (nI a &&& 3), upd b_v1 s ((nI a >>> ((2 : Int32) &&& 31)) &&& 3), upd b_v2 s ((nI a >>> ((4 : Int32) &&& 31)) &&& 3), upd b_p0 s (nI b &&& 7), upd b_p1 s ((nI b >>> ((3 : Int32) &&& 31)) &&& 7), upd b_p2 s ((nI b >>> ((6 : Int32) &&& 31)) &&& 7), upd b_num s n, b_come, b_with, b_without, b_values, b_last)) (h2 : ¬ s < 14 → post (-2) (nI s, h_doing, h_at, h_forks, h_bits, h_said, b_ops, b_v0, b_v1, b_v2, b_p0, b_p1, b_p2, b_num, b_come, b_with, b_without, b_values, b_last)) : wpY_set post (nI s, h_doing, h_at, h_forks, h_bits, h_said, b_ops, b_v0, b_v1, b_v2, b_p0, b_p1, b_p2, b_num, b_come, b_with, b_without, b_values, b_last) (nI a) (nI b) n := by
  unfold wpY_set
  refine yk_val1 ha (br_f (by decide) (yk_pl1 hb (br_f (by decide) ?_)))
  exact yk_app (o := 0) (V := a) (P := b) h1 h2 hs
theorem yk_set0 {post : Int32 → SY → Prop} (h : ¬ (ac_lt 4 x ∧ ac_lt 5 y)) (K : post (-1) (h_size, h_doing, h_at, h_forks, h_bits, h_said, b_ops, b_v0, b_v1, b_v2, b_p0, b_p1, b_p2, b_num, b_come, b_with, b_without, b_values, b_last)) : wpY_set post (h_size, h_doing, h_at, h_forks, h_bits, h_said, b_ops, b_v0, b_v1, b_v2, b_p0, b_p1, b_p2, b_num, b_come, b_with, b_without, b_values, b_last) x y n := by
  unfold wpY_set
  by_cases hx : ac_lt 4 x
  · obtain ⟨a, ha, e⟩ := hx
    subst e
    exact yk_val1 ha (br_f (by decide) (yk_pl0 (fun z => h ⟨⟨a, ha, rfl⟩, z⟩) (br_t rfl K)))
  · exact yk_val0 hx (br_t rfl K)
theorem ac_mv : ∀ a, a < 5 → ∀ b, b < 5 → nI a ||| (nI b <<< ((3 : Int32) &&& 31)) = nI (a + 8 * b) := by decide +kernel
theorem xk_move1 {post : Int32 → SX → Prop} (hs : s ≤ 14) (ha : a < 5) (hb : b < 5) (h1 : s < 14 → post (nI s) (nI (s + 1), 0, f_waiting, 0, f_at, f_choices, f_forks, 0, upd a_ops s (nI 2), upd a_values s (nI 0), upd a_places s (nI (a + 8 * b)), upd a_numbers s 0, a_met, a_always, a_sometimes, a_noted, a_held, a_lately)) (h2 : ¬ s < 14 → post (-2) (nI s, f_checked, f_waiting, f_state, f_at, f_choices, f_forks, f_outCount, a_ops, a_values, a_places, a_numbers, a_met, a_always, a_sometimes, a_noted, a_held, a_lately)) : wpX_move post (nI s, f_checked, f_waiting, f_state, f_at, f_choices, f_forks, f_outCount, a_ops, a_values, a_places, a_numbers, a_met, a_always, a_sometimes, a_noted, a_held, a_lately) (nI a) (nI b) := by
  unfold wpX_move
  refine xk_pl1 ha (br_f (by decide) (xk_pl1 hb (br_f (by decide) ?_)))
  rw [ac_8, nI_add]
  exact xk_app (o := 2) (V := 0) (P := (a + 8 * b)) (by omega) (by omega) (by omega) h1 h2 hs
theorem xk_move0 {post : Int32 → SX → Prop} (h : ¬ (ac_lt 5 x ∧ ac_lt 5 y)) (K : post (-1) (f_size, f_checked, f_waiting, f_state, f_at, f_choices, f_forks, f_outCount, a_ops, a_values, a_places, a_numbers, a_met, a_always, a_sometimes, a_noted, a_held, a_lately)) : wpX_move post (f_size, f_checked, f_waiting, f_state, f_at, f_choices, f_forks, f_outCount, a_ops, a_values, a_places, a_numbers, a_met, a_always, a_sometimes, a_noted, a_held, a_lately) x y := by
  unfold wpX_move
  by_cases hx : ac_lt 5 x
  · obtain ⟨a, ha, e⟩ := hx
    subst e
    exact xk_pl1 ha (br_f (by decide) (xk_pl0 (fun z => h ⟨⟨a, ha, rfl⟩, z⟩) (br_t rfl K)))
  · exact xk_pl0 hx (br_t rfl K)
theorem yk_move1 {post : Int32 → SY → Prop} (hs : s ≤ 14) (ha : a < 5) (hb : b < 5) (h1 : s < 14 → post (nI s) (nI (s + 1), 0, h_at, h_forks, h_bits, h_said, upd b_ops s (nI 2), upd b_v0 s (nI 0 &&& 3), upd b_v1 s ((nI 0 >>> ((2 : Int32) &&& 31)) &&& 3), upd b_v2 s ((nI 0 >>> ((4 : Int32) &&& 31)) &&& 3), upd b_p0 s (nI (a + 8 * b) &&& 7), upd b_p1 s ((nI (a + 8 * b) >>> ((3 : Int32) &&& 31)) &&& 7), upd b_p2 s ((nI (a + 8 * b) >>> ((6 : Int32) &&& 31)) &&& 7), upd b_num s 0, b_come, b_with, b_without, b_values, b_last)) (h2 : ¬ s < 14 → post (-2) (nI s, h_doing, h_at, h_forks, h_bits, h_said, b_ops, b_v0, b_v1, b_v2, b_p0, b_p1, b_p2, b_num, b_come, b_with, b_without, b_values, b_last)) : wpY_move post (nI s, h_doing, h_at, h_forks, h_bits, h_said, b_ops, b_v0, b_v1, b_v2, b_p0, b_p1, b_p2, b_num, b_come, b_with, b_without, b_values, b_last) (nI a) (nI b) := by
  unfold wpY_move
  refine yk_pl1 ha (br_f (by decide) (yk_pl1 hb (br_f (by decide) ?_)))
  rw [ac_mv a ha b hb]
  exact yk_app (o := 2) (V := 0) (P := (a + 8 * b)) h1 h2 hs
theorem yk_move0 {post : Int32 → SY → Prop} (h : ¬ (ac_lt 5 x ∧ ac_lt 5 y)) (K : post (-1) (h_size, h_doing, h_at, h_forks, h_bits, h_said, b_ops, b_v0, b_v1, b_v2, b_p0, b_p1, b_p2, b_num, b_come, b_with, b_without, b_values, b_last)) : wpY_move post (h_size, h_doing, h_at, h_forks, h_bits, h_said, b_ops, b_v0, b_v1, b_v2, b_p0, b_p1, b_p2, b_num, b_come, b_with, b_without, b_values, b_last) x y := by
  unfold wpY_move
  by_cases hx : ac_lt 5 x
  · obtain ⟨a, ha, e⟩ := hx
    subst e
    exact yk_pl1 ha (br_f (by decide) (yk_pl0 (fun z => h ⟨⟨a, ha, rfl⟩, z⟩) (br_t rfl K)))
  · exact yk_pl0 hx (br_t rfl K)
theorem ac_ou4 : ∀ a, a < 4 → nI a <<< ((2 : Int32) &&& 31) = nI (4 * a) := by decide +kernel
theorem ac_ou8 : ∀ b, b < 5 → nI b <<< ((3 : Int32) &&& 31) = nI (8 * b) := by decide +kernel
theorem xk_out1 {post : Int32 → SX → Prop} (hs : s ≤ 14) (ha : a < 4) (hb : b < 5) (h1 : s < 14 → post (nI s) (nI (s + 1), 0, f_waiting, 0, f_at, f_choices, f_forks, 0, upd a_ops s (nI 3), upd a_values s (nI (4 * a)), upd a_places s (nI (8 * b)), upd a_numbers s 0, a_met, a_always, a_sometimes, a_noted, a_held, a_lately)) (h2 : ¬ s < 14 → post (-2) (nI s, f_checked, f_waiting, f_state, f_at, f_choices, f_forks, f_outCount, a_ops, a_values, a_places, a_numbers, a_met, a_always, a_sometimes, a_noted, a_held, a_lately)) : wpX_out post (nI s, f_checked, f_waiting, f_state, f_at, f_choices, f_forks, f_outCount, a_ops, a_values, a_places, a_numbers, a_met, a_always, a_sometimes, a_noted, a_held, a_lately) (nI a) (nI b) := by
  unfold wpX_out
  refine xk_val1 ha (br_f (by decide) (xk_pl1 hb (br_f (by decide) ?_)))
  rw [ac_4, ac_8]
  exact xk_app (o := 3) (V := (4 * a)) (P := (8 * b)) (by omega) (by omega) (by omega) h1 h2 hs
theorem xk_out0 {post : Int32 → SX → Prop} (h : ¬ (ac_lt 4 x ∧ ac_lt 5 y)) (K : post (-1) (f_size, f_checked, f_waiting, f_state, f_at, f_choices, f_forks, f_outCount, a_ops, a_values, a_places, a_numbers, a_met, a_always, a_sometimes, a_noted, a_held, a_lately)) : wpX_out post (f_size, f_checked, f_waiting, f_state, f_at, f_choices, f_forks, f_outCount, a_ops, a_values, a_places, a_numbers, a_met, a_always, a_sometimes, a_noted, a_held, a_lately) x y := by
  unfold wpX_out
  by_cases hx : ac_lt 4 x
  · obtain ⟨a, ha, e⟩ := hx
    subst e
    exact xk_val1 ha (br_f (by decide) (xk_pl0 (fun z => h ⟨⟨a, ha, rfl⟩, z⟩) (br_t rfl K)))
  · exact xk_val0 hx (br_t rfl K)
theorem yk_out1 {post : Int32 → SY → Prop} (hs : s ≤ 14) (ha : a < 4) (hb : b < 5) (h1 : s < 14 → post (nI s) (nI (s + 1), 0, h_at, h_forks, h_bits, h_said, upd b_ops s (nI 3), upd b_v0 s (nI (4 * a) &&& 3), upd b_v1 s ((nI (4 * a) >>> ((2 : Int32) &&& 31)) &&& 3), upd b_v2 s ((nI (4 * a) >>> ((4 : Int32) &&& 31)) &&& 3), upd b_p0 s (nI (8 * b) &&& 7), upd b_p1 s ((nI (8 * b) >>> ((3 : Int32) &&& 31)) &&& 7), upd b_p2 s ((nI (8 * b) >>> ((6 : Int32) &&& 31)) &&& 7), upd b_num s 0, b_come, b_with, b_without, b_values, b_last)) (h2 : ¬ s < 14 → post (-2) (nI s, h_doing, h_at, h_forks, h_bits, h_said, b_ops, b_v0, b_v1, b_v2, b_p0, b_p1, b_p2, b_num, b_come, b_with, b_without, b_values, b_last)) : wpY_out post (nI s, h_doing, h_at, h_forks, h_bits, h_said, b_ops, b_v0, b_v1, b_v2, b_p0, b_p1, b_p2, b_num, b_come, b_with, b_without, b_values, b_last) (nI a) (nI b) := by
  unfold wpY_out
  refine yk_val1 ha (br_f (by decide) (yk_pl1 hb (br_f (by decide) ?_)))
  rw [ac_ou4 a ha, ac_ou8 b hb]
  exact yk_app (o := 3) (V := (4 * a)) (P := (8 * b)) h1 h2 hs
theorem yk_out0 {post : Int32 → SY → Prop} (h : ¬ (ac_lt 4 x ∧ ac_lt 5 y)) (K : post (-1) (h_size, h_doing, h_at, h_forks, h_bits, h_said, b_ops, b_v0, b_v1, b_v2, b_p0, b_p1, b_p2, b_num, b_come, b_with, b_without, b_values, b_last)) : wpY_out post (h_size, h_doing, h_at, h_forks, h_bits, h_said, b_ops, b_v0, b_v1, b_v2, b_p0, b_p1, b_p2, b_num, b_come, b_with, b_without, b_values, b_last) x y := by
  unfold wpY_out
  by_cases hx : ac_lt 4 x
  · obtain ⟨a, ha, e⟩ := hx
    subst e
    exact yk_val1 ha (br_f (by decide) (yk_pl0 (fun z => h ⟨⟨a, ha, rfl⟩, z⟩) (br_t rfl K)))
  · exact yk_val0 hx (br_t rfl K)
theorem ac_sm : ∀ a, a < 4 → ∀ b, b < 4 → nI a ||| (nI b <<< ((2 : Int32) &&& 31)) = nI (a + 4 * b) := by decide +kernel
theorem xk_same1 {post : Int32 → SX → Prop} (hs : s ≤ 14) (ha : a < 4) (hb : b < 4) (h1 : s < 14 → post (nI s) (nI (s + 1), 0, f_waiting, 0, f_at, f_choices, f_forks, 0, upd a_ops s (nI 4), upd a_values s (nI (a + 4 * b)), upd a_places s (nI 0), upd a_numbers s 0, a_met, a_always, a_sometimes, a_noted, a_held, a_lately)) (h2 : ¬ s < 14 → post (-2) (nI s, f_checked, f_waiting, f_state, f_at, f_choices, f_forks, f_outCount, a_ops, a_values, a_places, a_numbers, a_met, a_always, a_sometimes, a_noted, a_held, a_lately)) : wpX_same post (nI s, f_checked, f_waiting, f_state, f_at, f_choices, f_forks, f_outCount, a_ops, a_values, a_places, a_numbers, a_met, a_always, a_sometimes, a_noted, a_held, a_lately) (nI a) (nI b) := by
  unfold wpX_same
  refine xk_val1 ha (br_f (by decide) (xk_val1 hb (br_f (by decide) ?_)))
  rw [ac_4, nI_add]
  exact xk_app (o := 4) (V := (a + 4 * b)) (P := 0) (by omega) (by omega) (by omega) h1 h2 hs
theorem xk_same0 {post : Int32 → SX → Prop} (h : ¬ (ac_lt 4 x ∧ ac_lt 4 y)) (K : post (-1) (f_size, f_checked, f_waiting, f_state, f_at, f_choices, f_forks, f_outCount, a_ops, a_values, a_places, a_numbers, a_met, a_always, a_sometimes, a_noted, a_held, a_lately)) : wpX_same post (f_size, f_checked, f_waiting, f_state, f_at, f_choices, f_forks, f_outCount, a_ops, a_values, a_places, a_numbers, a_met, a_always, a_sometimes, a_noted, a_held, a_lately) x y := by
  unfold wpX_same
  by_cases hx : ac_lt 4 x
  · obtain ⟨a, ha, e⟩ := hx
    subst e
    exact xk_val1 ha (br_f (by decide) (xk_val0 (fun z => h ⟨⟨a, ha, rfl⟩, z⟩) (br_t rfl K)))
  · exact xk_val0 hx (br_t rfl K)
theorem yk_same1 {post : Int32 → SY → Prop} (hs : s ≤ 14) (ha : a < 4) (hb : b < 4) (h1 : s < 14 → post (nI s) (nI (s + 1), 0, h_at, h_forks, h_bits, h_said, upd b_ops s (nI 4), upd b_v0 s (nI (a + 4 * b) &&& 3), upd b_v1 s ((nI (a + 4 * b) >>> ((2 : Int32) &&& 31)) &&& 3), upd b_v2 s ((nI (a + 4 * b) >>> ((4 : Int32) &&& 31)) &&& 3), upd b_p0 s (nI 0 &&& 7), upd b_p1 s ((nI 0 >>> ((3 : Int32) &&& 31)) &&& 7), upd b_p2 s ((nI 0 >>> ((6 : Int32) &&& 31)) &&& 7), upd b_num s 0, b_come, b_with, b_without, b_values, b_last)) (h2 : ¬ s < 14 → post (-2) (nI s, h_doing, h_at, h_forks, h_bits, h_said, b_ops, b_v0, b_v1, b_v2, b_p0, b_p1, b_p2, b_num, b_come, b_with, b_without, b_values, b_last)) : wpY_same post (nI s, h_doing, h_at, h_forks, h_bits, h_said, b_ops, b_v0, b_v1, b_v2, b_p0, b_p1, b_p2, b_num, b_come, b_with, b_without, b_values, b_last) (nI a) (nI b) := by
  unfold wpY_same
  refine yk_val1 ha (br_f (by decide) (yk_val1 hb (br_f (by decide) ?_)))
  rw [ac_sm a ha b hb]
  exact yk_app (o := 4) (V := (a + 4 * b)) (P := 0) h1 h2 hs
theorem yk_same0 {post : Int32 → SY → Prop} (h : ¬ (ac_lt 4 x ∧ ac_lt 4 y)) (K : post (-1) (h_size, h_doing, h_at, h_forks, h_bits, h_said, b_ops, b_v0, b_v1, b_v2, b_p0, b_p1, b_p2, b_num, b_come, b_with, b_without, b_values, b_last)) : wpY_same post (h_size, h_doing, h_at, h_forks, h_bits, h_said, b_ops, b_v0, b_v1, b_v2, b_p0, b_p1, b_p2, b_num, b_come, b_with, b_without, b_values, b_last) x y := by
  unfold wpY_same
  by_cases hx : ac_lt 4 x
  · obtain ⟨a, ha, e⟩ := hx
    subst e
    exact yk_val1 ha (br_f (by decide) (yk_val0 (fun z => h ⟨⟨a, ha, rfl⟩, z⟩) (br_t rfl K)))
  · exact yk_val0 hx (br_t rfl K)
def ac_ga (x y : Int32) : Prop := ∃ V P, V < 64 ∧ P % 8 < 5 ∧ P / 8 % 8 < 5 ∧ P / 64 < 5 ∧ x = nI V ∧ y = nI P
theorem ac_a1 {P : Nat} (h : P < 2 ^ 31) : nI P &&& 7 = nI (P % 8) := pk_andN (by omega) 3 (by decide)
theorem ac_a2 {P : Nat} (h : P < 2 ^ 31) : (nI P >>> ((3 : Int32) &&& 31)) &&& 7 = nI (P / 8 % 8) := by
  rw [pk_shrN h ((3 : Int32) &&& 31) 3 (by decide)]
  exact pk_andN (by omega) 3 (by decide)
theorem ac_a3 {P : Nat} (h : P < 2 ^ 31) : nI P >>> ((6 : Int32) &&& 31) = nI (P / 64) := pk_shrN h ((6 : Int32) &&& 31) 6 (by decide)
theorem ac_ltN {m q : Nat} (hq : q < 2 ^ 31) (hm : m < 2 ^ 31) : ac_lt m (nI q) ↔ q < m := by
  constructor
  · intro ⟨n, hn, e⟩
    have := (nI_eq hq (by omega)).mp e
    omega
  · intro h
    exact ⟨q, h, rfl⟩
theorem xk_add1 {post : Int32 → SX → Prop} (hs : s ≤ 14) (hV : V < 64) (p1 : P % 8 < 5) (p2 : P / 8 % 8 < 5) (p3 : P / 64 < 5) (h1 : s < 14 → post (nI s) (nI (s + 1), 0, f_waiting, 0, f_at, f_choices, f_forks, 0, upd a_ops s (nI 1), upd a_values s (nI V), upd a_places s (nI P), upd a_numbers s 0, a_met, a_always, a_sometimes, a_noted, a_held, a_lately)) (h2 : ¬ s < 14 → post (-2) (nI s, f_checked, f_waiting, f_state, f_at, f_choices, f_forks, f_outCount, a_ops, a_values, a_places, a_numbers, a_met, a_always, a_sometimes, a_noted, a_held, a_lately)) : wpX_add post (nI s, f_checked, f_waiting, f_state, f_at, f_choices, f_forks, f_outCount, a_ops, a_values, a_places, a_numbers, a_met, a_always, a_sometimes, a_noted, a_held, a_lately) (nI V) (nI P) := by
  unfold wpX_add
  refine br_f (nI_pos (by omega)) (br_f (nI_nlt (a := 63) (by omega) (by decide)) (br_f (nI_pos (by omega)) ?_))
  unfold wX_add_19
  rw [ac_a1 (by omega), ac_a2 (by omega), ac_a3 (by omega)]
  refine br_f (by decide) (xk_pl1 p1 (br_f (by decide) (xk_pl1 p2 (br_f (by decide) (xk_pl1 p3 (br_f (by decide) ?_))))))
  exact xk_app (o := 1) (by omega) hV (by omega) h1 h2 hs
theorem xk_add0 {post : Int32 → SX → Prop} (h : ¬ ac_ga x y) (K : post (-1) (f_size, f_checked, f_waiting, f_state, f_at, f_choices, f_forks, f_outCount, a_ops, a_values, a_places, a_numbers, a_met, a_always, a_sometimes, a_noted, a_held, a_lately)) : wpX_add post (f_size, f_checked, f_waiting, f_state, f_at, f_choices, f_forks, f_outCount, a_ops, a_values, a_places, a_numbers, a_met, a_always, a_sometimes, a_noted, a_held, a_lately) x y := by
  have B : wX_add_18 post x y f_size f_checked f_waiting f_state f_at f_choices f_forks f_outCount a_ops a_values a_places a_numbers a_met a_always a_sometimes a_noted a_held a_lately := by
    unfold wX_add_18 wX_add_19
    exact br_t rfl K
  unfold wpX_add
  refine br_c (fun _ => B) (fun z1 => br_c (fun _ => B) (fun z2 => br_c (fun _ => B) (fun z3 => ?_)))
  obtain ⟨V, hV, e⟩ := nI_of z1
  subst e
  obtain ⟨P, hP, e⟩ := nI_of z3
  subst e
  have hV2 : V < 64 := by
    have := nI_ltI (a := 63) (b := V) (by decide) hV
    by_cases z : 63 < V
    · exact absurd (this.mpr z) z2
    · omega
  unfold wX_add_19
  rw [ac_a1 hP, ac_a2 hP, ac_a3 hP]
  refine br_f (by decide) ?_
  by_cases p1 : P % 8 < 5
  · refine xk_pl1 p1 (br_f (by decide) ?_)
    by_cases p2 : P / 8 % 8 < 5
    · refine xk_pl1 p2 (br_f (by decide) ?_)
      by_cases p3 : P / 64 < 5
      · exact absurd ⟨V, P, hV2, p1, p2, p3, rfl, rfl⟩ h
      · exact xk_pl0 (fun z => p3 ((ac_ltN (by omega) (by decide)).mp z)) (br_t rfl K)
    · exact xk_pl0 (fun z => p2 ((ac_ltN (by omega) (by decide)).mp z)) (br_t rfl K)
  · exact xk_pl0 (fun z => p1 ((ac_ltN (by omega) (by decide)).mp z)) (br_t rfl K)
theorem yk_add1 {post : Int32 → SY → Prop} (hs : s ≤ 14) (hV : V < 64) (p1 : P % 8 < 5) (p2 : P / 8 % 8 < 5) (p3 : P / 64 < 5) (h1 : s < 14 → post (nI s) (nI (s + 1), 0, h_at, h_forks, h_bits, h_said, upd b_ops s (nI 1), upd b_v0 s (nI V &&& 3), upd b_v1 s ((nI V >>> ((2 : Int32) &&& 31)) &&& 3), upd b_v2 s ((nI V >>> ((4 : Int32) &&& 31)) &&& 3), upd b_p0 s (nI P &&& 7), upd b_p1 s ((nI P >>> ((3 : Int32) &&& 31)) &&& 7), upd b_p2 s ((nI P >>> ((6 : Int32) &&& 31)) &&& 7), upd b_num s 0, b_come, b_with, b_without, b_values, b_last)) (h2 : ¬ s < 14 → post (-2) (nI s, h_doing, h_at, h_forks, h_bits, h_said, b_ops, b_v0, b_v1, b_v2, b_p0, b_p1, b_p2, b_num, b_come, b_with, b_without, b_values, b_last)) : wpY_add post (nI s, h_doing, h_at, h_forks, h_bits, h_said, b_ops, b_v0, b_v1, b_v2, b_p0, b_p1, b_p2, b_num, b_come, b_with, b_without, b_values, b_last) (nI V) (nI P) := by
  unfold wpY_add
  refine br_f (nI_pos (by omega)) (br_f (nI_nlt (a := 63) (by omega) (by decide)) (br_f (nI_pos (by omega)) (br_f (nI_ge (b := 512) (by omega) (by decide)) ?_)))
  unfold wY_add_26
  rw [ac_a1 (by omega), ac_a2 (by omega), ac_a3 (by omega)]
  refine br_f (by decide) (yk_pl1 p1 (br_f (by decide) (yk_pl1 p2 (br_f (by decide) (yk_pl1 p3 (br_f (by decide) ?_))))))
  unfold wY_add_71
  exact br_f (by decide) (yk_app (o := 1) h1 h2 hs)
theorem yk_add0 {post : Int32 → SY → Prop} (h : ¬ ac_ga x y) (K : post (-1) (h_size, h_doing, h_at, h_forks, h_bits, h_said, b_ops, b_v0, b_v1, b_v2, b_p0, b_p1, b_p2, b_num, b_come, b_with, b_without, b_values, b_last)) : wpY_add post (h_size, h_doing, h_at, h_forks, h_bits, h_said, b_ops, b_v0, b_v1, b_v2, b_p0, b_p1, b_p2, b_num, b_come, b_with, b_without, b_values, b_last) x y := by
  have B7 : wY_add_70 post x y h_size h_doing h_at h_forks h_bits h_said b_ops b_v0 b_v1 b_v2 b_p0 b_p1 b_p2 b_num b_come b_with b_without b_values b_last := by
    unfold wY_add_70 wY_add_71
    exact br_t rfl K
  have B : wY_add_25 post x y h_size h_doing h_at h_forks h_bits h_said b_ops b_v0 b_v1 b_v2 b_p0 b_p1 b_p2 b_num b_come b_with b_without b_values b_last := by
    unfold wY_add_25 wY_add_26
    exact br_t rfl B7
  unfold wpY_add
  refine br_c (fun _ => B) (fun z1 => br_c (fun _ => B) (fun z2 => br_c (fun _ => B) (fun z3 => br_c (fun _ => B) (fun z4 => ?_))))
  obtain ⟨V, hV, e⟩ := nI_of z1
  subst e
  obtain ⟨P, hP, e⟩ := nI_of z3
  subst e
  have hV2 : V < 64 := by
    have := nI_ltI (a := 63) (b := V) (by decide) hV
    by_cases z : 63 < V
    · exact absurd (this.mpr z) z2
    · omega
  unfold wY_add_26
  rw [ac_a1 hP, ac_a2 hP, ac_a3 hP]
  refine br_f (by decide) ?_
  by_cases p1 : P % 8 < 5
  · refine yk_pl1 p1 (br_f (by decide) ?_)
    by_cases p2 : P / 8 % 8 < 5
    · refine yk_pl1 p2 (br_f (by decide) ?_)
      by_cases p3 : P / 64 < 5
      · exact absurd ⟨V, P, hV2, p1, p2, p3, rfl, rfl⟩ h
      · exact yk_pl0 (fun z => p3 ((ac_ltN (by omega) (by decide)).mp z)) (br_t rfl B7)
    · exact yk_pl0 (fun z => p2 ((ac_ltN (by omega) (by decide)).mp z)) (br_t rfl B7)
  · exact yk_pl0 (fun z => p1 ((ac_ltN (by omega) (by decide)).mp z)) (br_t rfl B7)
theorem xk_flow1 {post : Int32 → SX → Prop} (hs : s ≤ 14) (ha : a < 3) (h1 : s < 14 → post (nI s) (nI (s + 1), 0, f_waiting, 0, f_at, f_choices, f_forks, 0, upd a_ops s (nI (5 + a)), upd a_values s (nI 0), upd a_places s (nI 0), upd a_numbers s n, a_met, a_always, a_sometimes, a_noted, a_held, a_lately)) (h2 : ¬ s < 14 → post (-2) (nI s, f_checked, f_waiting, f_state, f_at, f_choices, f_forks, f_outCount, a_ops, a_values, a_places, a_numbers, a_met, a_always, a_sometimes, a_noted, a_held, a_lately)) : wpX_flow post (nI s, f_checked, f_waiting, f_state, f_at, f_choices, f_forks, f_outCount, a_ops, a_values, a_places, a_numbers, a_met, a_always, a_sometimes, a_noted, a_held, a_lately) (nI a) n := by
  unfold wpX_flow
  refine br_f (nI_pos (by omega)) (br_f (nI_nlt (a := 2) (by omega) (by decide)) ?_)
  rw [show (5 : Int32) + nI a = nI (5 + a) from nI_add 5 a]
  exact xk_app (V := 0) (P := 0) (by omega) (by omega) (by omega) h1 h2 hs
theorem yk_flow1 {post : Int32 → SY → Prop} (hs : s ≤ 14) (ha : a < 3) (h1 : s < 14 → post (nI s) (nI (s + 1), 0, h_at, h_forks, h_bits, h_said, upd b_ops s (nI (5 + a)), upd b_v0 s (nI 0 &&& 3), upd b_v1 s ((nI 0 >>> ((2 : Int32) &&& 31)) &&& 3), upd b_v2 s ((nI 0 >>> ((4 : Int32) &&& 31)) &&& 3), upd b_p0 s (nI 0 &&& 7), upd b_p1 s ((nI 0 >>> ((3 : Int32) &&& 31)) &&& 7), upd b_p2 s ((nI 0 >>> ((6 : Int32) &&& 31)) &&& 7), upd b_num s n, b_come, b_with, b_without, b_values, b_last)) (h2 : ¬ s < 14 → post (-2) (nI s, h_doing, h_at, h_forks, h_bits, h_said, b_ops, b_v0, b_v1, b_v2, b_p0, b_p1, b_p2, b_num, b_come, b_with, b_without, b_values, b_last)) : wpY_flow post (nI s, h_doing, h_at, h_forks, h_bits, h_said, b_ops, b_v0, b_v1, b_v2, b_p0, b_p1, b_p2, b_num, b_come, b_with, b_without, b_values, b_last) (nI a) n := by
  unfold wpY_flow
  refine br_f (nI_pos (by omega)) (br_f (nI_nlt (a := 2) (by omega) (by decide)) ?_)
  rw [show (5 : Int32) + nI a = nI (5 + a) from nI_add 5 a]
  exact yk_app (V := 0) (P := 0) h1 h2 hs
theorem xk_flow0 {post : Int32 → SX → Prop} (h : ¬ ac_lt 3 x) (K : post (-1) (f_size, f_checked, f_waiting, f_state, f_at, f_choices, f_forks, f_outCount, a_ops, a_values, a_places, a_numbers, a_met, a_always, a_sometimes, a_noted, a_held, a_lately)) : wpX_flow post (f_size, f_checked, f_waiting, f_state, f_at, f_choices, f_forks, f_outCount, a_ops, a_values, a_places, a_numbers, a_met, a_always, a_sometimes, a_noted, a_held, a_lately) x n := by
  unfold wpX_flow
  refine br_c (fun _ => K) (fun z => ?_)
  obtain ⟨j, hj, e⟩ := nI_of z
  subst e
  exact pk_lt 2 j (fun _ => K) (fun z => absurd ⟨j, by omega, rfl⟩ h)
theorem yk_flow0 {post : Int32 → SY → Prop} (h : ¬ ac_lt 3 x) (K : post (-1) (h_size, h_doing, h_at, h_forks, h_bits, h_said, b_ops, b_v0, b_v1, b_v2, b_p0, b_p1, b_p2, b_num, b_come, b_with, b_without, b_values, b_last)) : wpY_flow post (h_size, h_doing, h_at, h_forks, h_bits, h_said, b_ops, b_v0, b_v1, b_v2, b_p0, b_p1, b_p2, b_num, b_come, b_with, b_without, b_values, b_last) x n := by
  unfold wpY_flow
  refine br_c (fun _ => K) (fun z => ?_)
  obtain ⟨j, hj, e⟩ := nI_of z
  subst e
  exact pk_lt 2 j (fun _ => K) (fun z => absurd ⟨j, by omega, rfl⟩ h)
end
theorem i_up {k : Nat} {u : SX} {v : SY} (h : i_Rel k u v) : i_Rel (k + 4) u v := h
theorem i_vc0 : wpX_init (fun u => wpY_init (fun v => i_Rel 0 u v)) :=
  ⟨0, fun _ _ => 0, rfl, rfl, rfl, rfl, rfl, by decide, fun _ => by dsimp only; decide, fun _ => by dsimp only; decide, fun _ => by dsimp only; decide, Or.inl rfl, Or.inl ⟨rfl, rfl⟩⟩
theorem i_vc_set {k : Nat} {u : SX} {v : SY} (I : i_Rel k u v) (hk : k + 4 ≤ 2048) (v1 : Int32) (v2 : Int32) (v3 : Int32) : wpX_set (fun r u' => wpY_set (fun r' v' => r' = r ∧ i_Rel (k + 4) u' v') v v1 v2 v3) u v1 v2 v3 := by
  refine zz_el (P := fun u v => wpX_set (fun r u' => wpY_set (fun r' v' => r' = r ∧ i_Rel (k + 4) u' v') v v1 v2 v3) u v1 v2 v3) ?_ I
  intro s g f_size f_checked f_waiting f_state f_at f_choices f_forks f_outCount a_ops a_values a_places a_numbers a_met a_always a_sometimes a_noted a_held a_lately h_size h_doing h_at h_forks h_bits h_said b_ops b_v0 b_v1 b_v2 b_p0 b_p1 b_p2 b_num b_come b_with b_without b_values b_last hs hg hX hY hK hQ
  by_cases h : ac_lt 4 v1 ∧ ac_lt 5 v2
  · obtain ⟨⟨a, ha, e1⟩, ⟨b, hb, e2⟩⟩ := h
    subst e1 e2
    exact xk_set1 hs ha hb (fun h => yk_set1 hs ha hb (fun _ => ⟨rfl, zz_app h hg hX hY (by omega) (by omega) (by omega) (by omega) (by omega)⟩) (fun z => absurd h z)) (fun h => yk_set1 hs ha hb (fun z => absurd z h) (fun _ => ⟨rfl, zz_in hs hg hX hY hK hQ⟩))
  · exact xk_set0 h (yk_set0 h ⟨rfl, zz_in hs hg hX hY hK hQ⟩)
theorem i_vc_move {k : Nat} {u : SX} {v : SY} (I : i_Rel k u v) (hk : k + 4 ≤ 2048) (v1 : Int32) (v2 : Int32) : wpX_move (fun r u' => wpY_move (fun r' v' => r' = r ∧ i_Rel (k + 4) u' v') v v1 v2) u v1 v2 := by
  refine zz_el (P := fun u v => wpX_move (fun r u' => wpY_move (fun r' v' => r' = r ∧ i_Rel (k + 4) u' v') v v1 v2) u v1 v2) ?_ I
  intro s g f_size f_checked f_waiting f_state f_at f_choices f_forks f_outCount a_ops a_values a_places a_numbers a_met a_always a_sometimes a_noted a_held a_lately h_size h_doing h_at h_forks h_bits h_said b_ops b_v0 b_v1 b_v2 b_p0 b_p1 b_p2 b_num b_come b_with b_without b_values b_last hs hg hX hY hK hQ
  by_cases h : ac_lt 5 v1 ∧ ac_lt 5 v2
  · obtain ⟨⟨a, ha, e1⟩, ⟨b, hb, e2⟩⟩ := h
    subst e1 e2
    exact xk_move1 hs ha hb (fun h => yk_move1 hs ha hb (fun _ => ⟨rfl, zz_app h hg hX hY (by omega) (by omega) (by omega) (by omega) (by omega)⟩) (fun z => absurd h z)) (fun h => yk_move1 hs ha hb (fun z => absurd z h) (fun _ => ⟨rfl, zz_in hs hg hX hY hK hQ⟩))
  · exact xk_move0 h (yk_move0 h ⟨rfl, zz_in hs hg hX hY hK hQ⟩)
theorem i_vc_out {k : Nat} {u : SX} {v : SY} (I : i_Rel k u v) (hk : k + 4 ≤ 2048) (v1 : Int32) (v2 : Int32) : wpX_out (fun r u' => wpY_out (fun r' v' => r' = r ∧ i_Rel (k + 4) u' v') v v1 v2) u v1 v2 := by
  refine zz_el (P := fun u v => wpX_out (fun r u' => wpY_out (fun r' v' => r' = r ∧ i_Rel (k + 4) u' v') v v1 v2) u v1 v2) ?_ I
  intro s g f_size f_checked f_waiting f_state f_at f_choices f_forks f_outCount a_ops a_values a_places a_numbers a_met a_always a_sometimes a_noted a_held a_lately h_size h_doing h_at h_forks h_bits h_said b_ops b_v0 b_v1 b_v2 b_p0 b_p1 b_p2 b_num b_come b_with b_without b_values b_last hs hg hX hY hK hQ
  by_cases h : ac_lt 4 v1 ∧ ac_lt 5 v2
  · obtain ⟨⟨a, ha, e1⟩, ⟨b, hb, e2⟩⟩ := h
    subst e1 e2
    exact xk_out1 hs ha hb (fun h => yk_out1 hs ha hb (fun _ => ⟨rfl, zz_app h hg hX hY (by omega) (by omega) (by omega) (by omega) (by omega)⟩) (fun z => absurd h z)) (fun h => yk_out1 hs ha hb (fun z => absurd z h) (fun _ => ⟨rfl, zz_in hs hg hX hY hK hQ⟩))
  · exact xk_out0 h (yk_out0 h ⟨rfl, zz_in hs hg hX hY hK hQ⟩)
theorem i_vc_same {k : Nat} {u : SX} {v : SY} (I : i_Rel k u v) (hk : k + 4 ≤ 2048) (v1 : Int32) (v2 : Int32) : wpX_same (fun r u' => wpY_same (fun r' v' => r' = r ∧ i_Rel (k + 4) u' v') v v1 v2) u v1 v2 := by
  refine zz_el (P := fun u v => wpX_same (fun r u' => wpY_same (fun r' v' => r' = r ∧ i_Rel (k + 4) u' v') v v1 v2) u v1 v2) ?_ I
  intro s g f_size f_checked f_waiting f_state f_at f_choices f_forks f_outCount a_ops a_values a_places a_numbers a_met a_always a_sometimes a_noted a_held a_lately h_size h_doing h_at h_forks h_bits h_said b_ops b_v0 b_v1 b_v2 b_p0 b_p1 b_p2 b_num b_come b_with b_without b_values b_last hs hg hX hY hK hQ
  by_cases h : ac_lt 4 v1 ∧ ac_lt 4 v2
  · obtain ⟨⟨a, ha, e1⟩, ⟨b, hb, e2⟩⟩ := h
    subst e1 e2
    exact xk_same1 hs ha hb (fun h => yk_same1 hs ha hb (fun _ => ⟨rfl, zz_app h hg hX hY (by omega) (by omega) (by omega) (by omega) (by omega)⟩) (fun z => absurd h z)) (fun h => yk_same1 hs ha hb (fun z => absurd z h) (fun _ => ⟨rfl, zz_in hs hg hX hY hK hQ⟩))
  · exact xk_same0 h (yk_same0 h ⟨rfl, zz_in hs hg hX hY hK hQ⟩)
theorem i_vc_add {k : Nat} {u : SX} {v : SY} (I : i_Rel k u v) (hk : k + 4 ≤ 2048) (v1 : Int32) (v2 : Int32) : wpX_add (fun r u' => wpY_add (fun r' v' => r' = r ∧ i_Rel (k + 4) u' v') v v1 v2) u v1 v2 := by
  refine zz_el (P := fun u v => wpX_add (fun r u' => wpY_add (fun r' v' => r' = r ∧ i_Rel (k + 4) u' v') v v1 v2) u v1 v2) ?_ I
  intro s g f_size f_checked f_waiting f_state f_at f_choices f_forks f_outCount a_ops a_values a_places a_numbers a_met a_always a_sometimes a_noted a_held a_lately h_size h_doing h_at h_forks h_bits h_said b_ops b_v0 b_v1 b_v2 b_p0 b_p1 b_p2 b_num b_come b_with b_without b_values b_last hs hg hX hY hK hQ
  by_cases h : ac_ga v1 v2
  · obtain ⟨V, P, hV, p1, p2, p3, e1, e2⟩ := h
    subst e1 e2
    exact xk_add1 hs hV p1 p2 p3 (fun h => yk_add1 hs hV p1 p2 p3 (fun _ => ⟨rfl, zz_app h hg hX hY (by omega) hV p1 p2 p3⟩) (fun z => absurd h z)) (fun h => yk_add1 hs hV p1 p2 p3 (fun z => absurd z h) (fun _ => ⟨rfl, zz_in hs hg hX hY hK hQ⟩))
  · exact xk_add0 h (yk_add0 h ⟨rfl, zz_in hs hg hX hY hK hQ⟩)
theorem i_vc_flow {k : Nat} {u : SX} {v : SY} (I : i_Rel k u v) (hk : k + 4 ≤ 2048) (v1 : Int32) (v2 : Int32) : wpX_flow (fun r u' => wpY_flow (fun r' v' => r' = r ∧ i_Rel (k + 4) u' v') v v1 v2) u v1 v2 := by
  refine zz_el (P := fun u v => wpX_flow (fun r u' => wpY_flow (fun r' v' => r' = r ∧ i_Rel (k + 4) u' v') v v1 v2) u v1 v2) ?_ I
  intro s g f_size f_checked f_waiting f_state f_at f_choices f_forks f_outCount a_ops a_values a_places a_numbers a_met a_always a_sometimes a_noted a_held a_lately h_size h_doing h_at h_forks h_bits h_said b_ops b_v0 b_v1 b_v2 b_p0 b_p1 b_p2 b_num b_come b_with b_without b_values b_last hs hg hX hY hK hQ
  by_cases h : ac_lt 3 v1
  · obtain ⟨a, ha, e1⟩ := h
    subst e1
    exact xk_flow1 hs ha (fun h => yk_flow1 hs ha (fun _ => ⟨rfl, zz_app h hg hX hY (by omega) (by omega) (by omega) (by omega) (by omega)⟩) (fun z => absurd h z)) (fun h => yk_flow1 hs ha (fun z => absurd z h) (fun _ => ⟨rfl, zz_in hs hg hX hY hK hQ⟩))
  · exact xk_flow0 h (yk_flow0 h ⟨rfl, zz_in hs hg hX hY hK hQ⟩)
end
section
/-! ===== drop, length, and the questions ===== -/
section
variable {f_size f_checked f_waiting f_state f_at f_choices f_forks f_outCount : Int32} {a_ops a_values a_places a_numbers a_met a_always a_sometimes a_noted a_held a_lately : Nat → Int32}
variable {h_size h_doing h_at h_forks h_bits h_said : Int32} {b_ops b_v0 b_v1 b_v2 b_p0 b_p1 b_p2 b_num b_come b_with b_without b_values b_last : Nat → Int32}
variable {s p q k t : Nat} {g : Nat → Nat → Nat} {x y : Int32}
theorem xk_drop1 {post : Int32 → SX → Prop} (ht : t < 14) (K : post (nI t) (nI t, 0, f_waiting, 0, f_at, f_choices, f_forks, 0, a_ops, a_values, a_places, a_numbers, a_met, a_always, a_sometimes, a_noted, a_held, a_lately)) : wpX_drop post (nI (t + 1), f_checked, f_waiting, f_state, f_at, f_choices, f_forks, f_outCount, a_ops, a_values, a_places, a_numbers, a_met, a_always, a_sometimes, a_noted, a_held, a_lately) := by
  unfold wpX_drop
  refine br_f (nI_ne0 (by omega) (by omega)) (nm_r (nI_pred t) ?_)
  unfold wpX_changed
  exact K
theorem yk_drop1 {post : Int32 → SY → Prop} (ht : t < 14) (K : post (nI t) (nI t, 0, h_at, h_forks, h_bits, h_said, b_ops, b_v0, b_v1, b_v2, b_p0, b_p1, b_p2, b_num, b_come, b_with, b_without, b_values, b_last)) : wpY_drop post (nI (t + 1), h_doing, h_at, h_forks, h_bits, h_said, b_ops, b_v0, b_v1, b_v2, b_p0, b_p1, b_p2, b_num, b_come, b_with, b_without, b_values, b_last) := by
  unfold wpY_drop
  exact br_f (nI_ne0 (by omega) (by omega)) (nm_r (nI_pred t) K)
theorem xk_drop0 {post : Int32 → SX → Prop} (K : post (-1) (nI 0, f_checked, f_waiting, f_state, f_at, f_choices, f_forks, f_outCount, a_ops, a_values, a_places, a_numbers, a_met, a_always, a_sometimes, a_noted, a_held, a_lately)) : wpX_drop post (nI 0, f_checked, f_waiting, f_state, f_at, f_choices, f_forks, f_outCount, a_ops, a_values, a_places, a_numbers, a_met, a_always, a_sometimes, a_noted, a_held, a_lately) := by
  unfold wpX_drop
  exact br_t rfl K
theorem yk_drop0 {post : Int32 → SY → Prop} (K : post (-1) (nI 0, h_doing, h_at, h_forks, h_bits, h_said, b_ops, b_v0, b_v1, b_v2, b_p0, b_p1, b_p2, b_num, b_come, b_with, b_without, b_values, b_last)) : wpY_drop post (nI 0, h_doing, h_at, h_forks, h_bits, h_said, b_ops, b_v0, b_v1, b_v2, b_p0, b_p1, b_p2, b_num, b_come, b_with, b_without, b_values, b_last) := by
  unfold wpY_drop
  exact br_t rfl K
theorem xk_faults1 {post : Int32 → SX → Prop} (hs : s ≤ 14) (hg : ac_GV g) (hP : ac_XP g a_ops a_values a_places) (hk : ac_CK s g a_numbers f_checked a_met a_always a_sometimes a_noted) (hp : p < s)
    (K : ∀ w m a t n, ac_K s g a_numbers m a t n → post (nI (ac_nv s g a_numbers (ac_B s g a_numbers) p)) (nI s, 1, w, f_state, f_at, f_choices, f_forks, f_outCount, a_ops, a_values, a_places, a_numbers, m, a, t, n, a_held, a_lately)) : wpX_faults post (nI s, f_checked, f_waiting, f_state, f_at, f_choices, f_forks, f_outCount, a_ops, a_values, a_places, a_numbers, a_met, a_always, a_sometimes, a_noted, a_held, a_lately) (nI p) := by
  unfold wpX_faults
  refine xk_ins (fun _ => ?_) (fun h => absurd ((ac_insN hs (by omega)).mpr hp) h)
  refine br_f (by decide) (xk_check hs (by omega) hg hP hk (fun w m a t n h => ?_))
  rw [nI_clamp (n := p) (by omega)]
  refine ⟨vp_in_nI (by omega) (by omega), ?_⟩
  rw [h.2 p hp]
  exact K w m a t n h
theorem xk_faults0 {post : Int32 → SX → Prop} (h : ¬ ac_ins s x) (K : post 0 (nI s, f_checked, f_waiting, f_state, f_at, f_choices, f_forks, f_outCount, a_ops, a_values, a_places, a_numbers, a_met, a_always, a_sometimes, a_noted, a_held, a_lately)) : wpX_faults post (nI s, f_checked, f_waiting, f_state, f_at, f_choices, f_forks, f_outCount, a_ops, a_values, a_places, a_numbers, a_met, a_always, a_sometimes, a_noted, a_held, a_lately) x := by
  unfold wpX_faults
  exact xk_ins (fun z => absurd z h) (fun _ => br_t rfl K)
theorem xk_reached1 {post : Int32 → SX → Prop} (hs : s ≤ 14) (hg : ac_GV g) (hP : ac_XP g a_ops a_values a_places) (hk : ac_CK s g a_numbers f_checked a_met a_always a_sometimes a_noted) (hp : p < s)
    (K : ∀ w m a t n, ac_K s g a_numbers m a t n → post (ac_bi (ac_B s g a_numbers p 0)) (nI s, 1, w, f_state, f_at, f_choices, f_forks, f_outCount, a_ops, a_values, a_places, a_numbers, m, a, t, n, a_held, a_lately)) : wpX_reached post (nI s, f_checked, f_waiting, f_state, f_at, f_choices, f_forks, f_outCount, a_ops, a_values, a_places, a_numbers, a_met, a_always, a_sometimes, a_noted, a_held, a_lately) (nI p) := by
  unfold wpX_reached
  refine xk_ins (fun _ => ?_) (fun h => absurd ((ac_insN hs (by omega)).mpr hp) h)
  refine br_f (by decide) (xk_check hs (by omega) hg hP hk (fun w m a t n h => ?_))
  rw [nI_clamp (n := p) (by omega)]
  refine ⟨vp_in_nI (by omega) (by omega), ?_⟩
  rw [(h.1 p (by omega)).1]
  refine ⟨?_, K w m a t n h⟩
  cases ac_B s g a_numbers p 0 <;> rfl
theorem xk_reached0 {post : Int32 → SX → Prop} (h : ¬ ac_ins s x) (K : post 0 (nI s, f_checked, f_waiting, f_state, f_at, f_choices, f_forks, f_outCount, a_ops, a_values, a_places, a_numbers, a_met, a_always, a_sometimes, a_noted, a_held, a_lately)) : wpX_reached post (nI s, f_checked, f_waiting, f_state, f_at, f_choices, f_forks, f_outCount, a_ops, a_values, a_places, a_numbers, a_met, a_always, a_sometimes, a_noted, a_held, a_lately) x := by
  unfold wpX_reached
  exact xk_ins (fun z => absurd z h) (fun _ => br_t rfl K)
theorem yk_reached1 {post : Int32 → SY → Prop} (hs : s ≤ 14) (hg : ac_GV g) (hP : ac_YP g b_ops b_v0 b_v1 b_v2 b_p0 b_p1 b_p2) (hp : p < s)
    (K : ∀ cm w o, post (ac_bi (ac_B s g b_num p 0)) (nI s, h_doing, h_at, h_forks, h_bits, h_said, b_ops, b_v0, b_v1, b_v2, b_p0, b_p1, b_p2, b_num, cm, w, o, b_values, b_last)) : wpY_reached post (nI s, h_doing, h_at, h_forks, h_bits, h_said, b_ops, b_v0, b_v1, b_v2, b_p0, b_p1, b_p2, b_num, b_come, b_with, b_without, b_values, b_last) (nI p) := by
  unfold wpY_reached
  refine yk_collect hs hg hP (fun cm w o H => ?_)
  have R := H (by omega)
  have K' := K cm w o
  refine yk_ins (fun _ => ?_) (fun h => absurd ((ac_insN hs (by omega)).mpr hp) h)
  refine br_f (by decide) ⟨vp_in_nI (by omega) (by omega), ?_⟩
  rw [nI_clamp (n := p) (by omega), (R p (by omega)).1]
  cases hF : ac_B s g b_num p 0
  · rw [hF] at K'
    exact br_t rfl K'
  · rw [hF] at K'
    exact br_f (by decide) K'
theorem yk_reached0 {post : Int32 → SY → Prop} (hs : s ≤ 14) (hg : ac_GV g) (hP : ac_YP g b_ops b_v0 b_v1 b_v2 b_p0 b_p1 b_p2) (h : ¬ ac_ins s x)
    (K : ∀ cm w o, post 0 (nI s, h_doing, h_at, h_forks, h_bits, h_said, b_ops, b_v0, b_v1, b_v2, b_p0, b_p1, b_p2, b_num, cm, w, o, b_values, b_last)) : wpY_reached post (nI s, h_doing, h_at, h_forks, h_bits, h_said, b_ops, b_v0, b_v1, b_v2, b_p0, b_p1, b_p2, b_num, b_come, b_with, b_without, b_values, b_last) x := by
  unfold wpY_reached
  exact yk_collect hs hg hP (fun cm w o _ => yk_ins (fun z => absurd z h) (fun _ => br_t rfl (K cm w o)))
/-! carries -/
noncomputable def ac_cv (F : Nat → Nat → Bool) (p q : Nat) : Nat → Bool := fun i => if i < 4 then !F p (4 * q + i + 21) else if i < 8 then F p (4 * q + (i - 4) + 1) else false
theorem ac_low {z : Int32} {h : Nat → Bool} (a : ac_st z h) (hq : q < 5) : ∀ i, i < 32 → bt ((z >>> (nI (4 * q) &&& 31)) &&& 15) i = (decide (i < 4) && h (4 * q + i)) := by
  intro i hi
  rw [b_and, b_sshr (4 * q) (by omega) z hi, ac_k5 i hi]
  by_cases e : i < 4
  · rw [if_pos (by omega), ac_st_at a (by omega), decide_eq_true e, Bool.and_true, Bool.true_and]
  · rw [decide_eq_false e, Bool.and_false, Bool.false_and]
theorem ac_hi4 {z : Int32} {h : Nat → Bool} (a : ∀ i, i < 32 → bt z i = (decide (i < 4) && h i)) : ∀ i, i < 32 → bt (z <<< ((4 : Int32) &&& 31)) i = (decide (4 ≤ i ∧ i < 8) && h (i - 4)) := by
  intro i hi
  have e := b_shl 4 (by omega) z hi
  rw [show nI 4 = 4 from rfl] at e
  rw [e, a (i - 4) (by omega)]
  by_cases e1 : 4 ≤ i
  · by_cases e2 : i < 8
    · rw [decide_eq_true e1, decide_eq_true (by omega : i - 4 < 4), decide_eq_true (⟨e1, e2⟩ : 4 ≤ i ∧ i < 8)]; rfl
    · rw [decide_eq_true e1, decide_eq_false (by omega : ¬ i - 4 < 4), decide_eq_false (by omega : ¬ (4 ≤ i ∧ i < 8))]; rfl
  · rw [decide_eq_false e1, decide_eq_false (by omega : ¬ (4 ≤ i ∧ i < 8))]; rfl
/-- X's and Y's answer are one int -/
theorem ac_car {F : Nat → Nat → Bool} {m a t c w o : Nat → Int32} (RX : ac_RX F m a t) (RY : ac_RY F c w o) (hp : p < 14) (hq : q < 5) :
    (15 &&& (((o p >>> (nI (4 * q) &&& 31)) &&& 15) ^^^ (-1))) ||| (((w p >>> (nI (4 * q) &&& 31)) &&& 15) <<< ((4 : Int32) &&& 31)) = ((a p >>> (nI (4 * q) &&& 31)) &&& 15) ||| (((t p >>> (nI (4 * q) &&& 31)) &&& 15) <<< ((4 : Int32) &&& 31)) := by
  have e : w p = t p := (ac_st_eq (RY p hp).2.1 (RX p hp).2.2).mpr (fun _ _ => rfl)
  rw [e]
  congr 1
  apply b_ext
  intro i hi
  rw [b_and, b_xor, b_m1 i hi, ac_low (RY p hp).2.2 hq i hi, ac_low (RX p hp).2.1 hq i hi, ac_k5 i hi]
  by_cases z : i < 4
  · rw [decide_eq_true z, Bool.true_and, Bool.true_and, Bool.true_and, Bool.xor_true]
  · rw [decide_eq_false z, Bool.false_and, Bool.false_and]
theorem xk_carries1 {post : Int32 → SX → Prop} (hs : s ≤ 14) (hg : ac_GV g) (hP : ac_XP g a_ops a_values a_places) (hk : ac_CK s g a_numbers f_checked a_met a_always a_sometimes a_noted) (hp : p < s) (hq : q < 5)
    (K1 : ∀ w m a t n, ac_K s g a_numbers m a t n → ac_B s g a_numbers p 0 = true → post (((a p >>> (nI (4 * q) &&& 31)) &&& 15) ||| (((t p >>> (nI (4 * q) &&& 31)) &&& 15) <<< ((4 : Int32) &&& 31))) (nI s, 1, w, f_state, f_at, f_choices, f_forks, f_outCount, a_ops, a_values, a_places, a_numbers, m, a, t, n, a_held, a_lately))
    (K0 : ∀ w m a t n, ac_K s g a_numbers m a t n → ac_B s g a_numbers p 0 = false → post 0 (nI s, 1, w, f_state, f_at, f_choices, f_forks, f_outCount, a_ops, a_values, a_places, a_numbers, m, a, t, n, a_held, a_lately)) : wpX_carries post (nI s, f_checked, f_waiting, f_state, f_at, f_choices, f_forks, f_outCount, a_ops, a_values, a_places, a_numbers, a_met, a_always, a_sometimes, a_noted, a_held, a_lately) (nI p) (nI q) := by
  have hin : vp_in (nI p) 14 := vp_in_nI (by omega) (by omega)
  unfold wpX_carries
  refine xk_pl1 hq (br_f (by decide) (xk_reached1 hs hg hP hk hp (fun w m a t n h => ?_)))
  cases hF : ac_B s g a_numbers p 0
  · exact br_t rfl (K0 w m a t n h hF)
  · refine br_f (by decide) ⟨hin, ?_⟩
    rw [nI_clamp (n := p) (by omega), ac_4]
    exact nm_e ⟨hin, nm_e (K1 w m a t n h hF)⟩
theorem xk_carries0 {post : Int32 → SX → Prop} (h : ¬ (ac_lt 5 y ∧ ac_ins s x)) (K : post 0 (nI s, f_checked, f_waiting, f_state, f_at, f_choices, f_forks, f_outCount, a_ops, a_values, a_places, a_numbers, a_met, a_always, a_sometimes, a_noted, a_held, a_lately)) : wpX_carries post (nI s, f_checked, f_waiting, f_state, f_at, f_choices, f_forks, f_outCount, a_ops, a_values, a_places, a_numbers, a_met, a_always, a_sometimes, a_noted, a_held, a_lately) x y := by
  unfold wpX_carries
  by_cases hy : ac_lt 5 y
  · obtain ⟨q, hq, e⟩ := hy
    subst e
    exact xk_pl1 hq (br_f (by decide) (xk_reached0 (fun z => h ⟨⟨q, hq, rfl⟩, z⟩) (br_t rfl K)))
  · exact xk_pl0 hy (br_t rfl K)
theorem yk_carries1 {post : Int32 → SY → Prop} (hs : s ≤ 14) (hg : ac_GV g) (hP : ac_YP g b_ops b_v0 b_v1 b_v2 b_p0 b_p1 b_p2) (hp : p < s) (hq : q < 5)
    (K1 : ∀ cm w o, ac_RY (ac_B s g b_num) cm w o → ac_B s g b_num p 0 = true → post ((15 &&& (((o p >>> (nI (4 * q) &&& 31)) &&& 15) ^^^ (-1))) ||| (((w p >>> (nI (4 * q) &&& 31)) &&& 15) <<< ((4 : Int32) &&& 31))) (nI s, h_doing, h_at, h_forks, h_bits, h_said, b_ops, b_v0, b_v1, b_v2, b_p0, b_p1, b_p2, b_num, cm, w, o, b_values, b_last))
    (K0 : ∀ cm w o, ac_B s g b_num p 0 = false → post 0 (nI s, h_doing, h_at, h_forks, h_bits, h_said, b_ops, b_v0, b_v1, b_v2, b_p0, b_p1, b_p2, b_num, cm, w, o, b_values, b_last)) : wpY_carries post (nI s, h_doing, h_at, h_forks, h_bits, h_said, b_ops, b_v0, b_v1, b_v2, b_p0, b_p1, b_p2, b_num, b_come, b_with, b_without, b_values, b_last) (nI p) (nI q) := by
  have hin : vp_in (nI p) 14 := vp_in_nI (by omega) (by omega)
  unfold wpY_carries
  refine yk_collect hs hg hP (fun cm w o H => ?_)
  have R := H (by omega)
  refine yk_ins (fun _ => ?_) (fun h => absurd ((ac_insN hs (by omega)).mpr hp) h)
  refine br_f (by decide) ⟨hin, ?_⟩
  rw [nI_clamp (n := p) (by omega), (R p (by omega)).1]
  cases hF : ac_B s g b_num p 0
  · exact br_t rfl (K0 cm w o hF)
  · refine br_f (by decide) (yk_pl1 hq (br_f (by decide) ⟨hin, ?_⟩))
    rw [ac_4]
    exact nm_e ⟨hin, nm_e (K1 cm w o R hF)⟩
theorem yk_carries0 {post : Int32 → SY → Prop} (hs : s ≤ 14) (hg : ac_GV g) (hP : ac_YP g b_ops b_v0 b_v1 b_v2 b_p0 b_p1 b_p2) (h : ¬ (ac_lt 5 y ∧ ac_ins s x))
    (K : ∀ cm w o, post 0 (nI s, h_doing, h_at, h_forks, h_bits, h_said, b_ops, b_v0, b_v1, b_v2, b_p0, b_p1, b_p2, b_num, cm, w, o, b_values, b_last)) : wpY_carries post (nI s, h_doing, h_at, h_forks, h_bits, h_said, b_ops, b_v0, b_v1, b_v2, b_p0, b_p1, b_p2, b_num, b_come, b_with, b_without, b_values, b_last) x y := by
  unfold wpY_carries
  refine yk_collect hs hg hP (fun cm w o H => yk_ins (fun z => ?_) (fun _ => br_t rfl (K cm w o)))
  obtain ⟨p, hp, e⟩ := (ac_ins_iff hs).mp z
  subst e
  refine br_f (by decide) ⟨vp_in_nI (by omega) (by omega), ?_⟩
  exact br_c (fun _ => K cm w o) (fun _ => yk_pl0 (fun y => h ⟨y, z⟩) (br_t rfl (K cm w o)))
end
theorem i_vc_drop {k : Nat} {u : SX} {v : SY} (I : i_Rel k u v) (hk : k + 4 ≤ 2048) : wpX_drop (fun r u' => wpY_drop (fun r' v' => r' = r ∧ i_Rel (k + 4) u' v') v) u := by
  refine zz_el (P := fun u v => wpX_drop (fun r u' => wpY_drop (fun r' v' => r' = r ∧ i_Rel (k + 4) u' v') v) u) ?_ I
  intro s g f_size f_checked f_waiting f_state f_at f_choices f_forks f_outCount a_ops a_values a_places a_numbers a_met a_always a_sometimes a_noted a_held a_lately h_size h_doing h_at h_forks h_bits h_said b_ops b_v0 b_v1 b_v2 b_p0 b_p1 b_p2 b_num b_come b_with b_without b_values b_last hs hg hX hY hK hQ
  by_cases e : s = 0
  · subst e
    exact xk_drop0 (yk_drop0 ⟨rfl, zz_in hs hg hX hY hK hQ⟩)
  · obtain ⟨t, e⟩ : ∃ t, s = t + 1 := ⟨s - 1, by omega⟩
    subst e
    exact xk_drop1 (by omega) (yk_drop1 (by omega) ⟨rfl, zz_in (by omega) hg hX hY (Or.inl rfl) (Or.inl ⟨rfl, rfl⟩)⟩)
theorem i_vc_length {k : Nat} {u : SX} {v : SY} (I : i_Rel k u v) (hk : k + 4 ≤ 2048) : wpX_length (fun r => wpY_length (fun r' => r' = r ∧ i_Rel (k + 4) u v) v) u := by
  refine zz_el (P := fun u v => wpX_length (fun r => wpY_length (fun r' => r' = r ∧ i_Rel (k + 4) u v) v) u) ?_ I
  intro s g f_size f_checked f_waiting f_state f_at f_choices f_forks f_outCount a_ops a_values a_places a_numbers a_met a_always a_sometimes a_noted a_held a_lately h_size h_doing h_at h_forks h_bits h_said b_ops b_v0 b_v1 b_v2 b_p0 b_p1 b_p2 b_num b_come b_with b_without b_values b_last hs hg hX hY hK hQ
  exact ⟨rfl, zz_in hs hg hX hY hK hQ⟩
theorem i_vc_sound {k : Nat} {u : SX} {v : SY} (I : i_Rel k u v) (hk : k + 4 ≤ 2048) : wpX_sound (fun r u' => wpY_sound (fun r' v' => r' = r ∧ i_Rel (k + 4) u' v') v) u := by
  refine zz_el (P := fun u v => wpX_sound (fun r u' => wpY_sound (fun r' v' => r' = r ∧ i_Rel (k + 4) u' v') v) u) ?_ I
  intro s g f_size f_checked f_waiting f_state f_at f_choices f_forks f_outCount a_ops a_values a_places a_numbers a_met a_always a_sometimes a_noted a_held a_lately h_size h_doing h_at h_forks h_bits h_said b_ops b_v0 b_v1 b_v2 b_p0 b_p1 b_p2 b_num b_come b_with b_without b_values b_last hs hg hX hY hK hQ
  exact xk_sound hs hg hX hK (fun h0 hsd w m a t n hk' => yk_sound hs hg hY (fun _ _ cm w' o => ⟨rfl, zz_in hs hg hX hY (Or.inr ⟨rfl, hk'⟩) hQ⟩) (fun z => absurd ⟨h0, hsd⟩ z)) (fun hn ck w m a t n hk' => yk_sound hs hg hY (fun a b => absurd ⟨a, b⟩ hn) (fun _ cm w' o => ⟨rfl, zz_in hs hg hX hY hk' hQ⟩))
theorem i_vc_faults {k : Nat} {u : SX} {v : SY} (I : i_Rel k u v) (hk : k + 4 ≤ 2048) (v1 : Int32) : wpX_faults (fun r u' => wpY_faults (fun r' v' => r' = r ∧ i_Rel (k + 4) u' v') v v1) u v1 := by
  refine zz_el (P := fun u v => wpX_faults (fun r u' => wpY_faults (fun r' v' => r' = r ∧ i_Rel (k + 4) u' v') v v1) u v1) ?_ I
  intro s g f_size f_checked f_waiting f_state f_at f_choices f_forks f_outCount a_ops a_values a_places a_numbers a_met a_always a_sometimes a_noted a_held a_lately h_size h_doing h_at h_forks h_bits h_said b_ops b_v0 b_v1 b_v2 b_p0 b_p1 b_p2 b_num b_come b_with b_without b_values b_last hs hg hX hY hK hQ
  by_cases h : ac_ins s v1
  · obtain ⟨p, hp, e⟩ := (ac_ins_iff hs).mp h
    subst e
    exact xk_faults1 hs hg hX hK hp (fun w m a t n hk' => yk_faults hs hg hY hp (fun cm w' o => ⟨rfl, zz_in hs hg hX hY (Or.inr ⟨rfl, hk'⟩) hQ⟩))
  · exact xk_faults0 h (yk_faults0 hs hg hY h (fun cm w' o => ⟨rfl, zz_in hs hg hX hY hK hQ⟩))
theorem i_vc_reached {k : Nat} {u : SX} {v : SY} (I : i_Rel k u v) (hk : k + 4 ≤ 2048) (v1 : Int32) : wpX_reached (fun r u' => wpY_reached (fun r' v' => r' = r ∧ i_Rel (k + 4) u' v') v v1) u v1 := by
  refine zz_el (P := fun u v => wpX_reached (fun r u' => wpY_reached (fun r' v' => r' = r ∧ i_Rel (k + 4) u' v') v v1) u v1) ?_ I
  intro s g f_size f_checked f_waiting f_state f_at f_choices f_forks f_outCount a_ops a_values a_places a_numbers a_met a_always a_sometimes a_noted a_held a_lately h_size h_doing h_at h_forks h_bits h_said b_ops b_v0 b_v1 b_v2 b_p0 b_p1 b_p2 b_num b_come b_with b_without b_values b_last hs hg hX hY hK hQ
  by_cases h : ac_ins s v1
  · obtain ⟨p, hp, e⟩ := (ac_ins_iff hs).mp h
    subst e
    exact xk_reached1 hs hg hX hK hp (fun w m a t n hk' => yk_reached1 hs hg hY hp (fun cm w' o => ⟨rfl, zz_in hs hg hX hY (Or.inr ⟨rfl, hk'⟩) hQ⟩))
  · exact xk_reached0 h (yk_reached0 hs hg hY h (fun cm w' o => ⟨rfl, zz_in hs hg hX hY hK hQ⟩))
theorem i_vc_carries {k : Nat} {u : SX} {v : SY} (I : i_Rel k u v) (hk : k + 4 ≤ 2048) (v1 : Int32) (v2 : Int32) : wpX_carries (fun r u' => wpY_carries (fun r' v' => r' = r ∧ i_Rel (k + 4) u' v') v v1 v2) u v1 v2 := by
  refine zz_el (P := fun u v => wpX_carries (fun r u' => wpY_carries (fun r' v' => r' = r ∧ i_Rel (k + 4) u' v') v v1 v2) u v1 v2) ?_ I
  intro s g f_size f_checked f_waiting f_state f_at f_choices f_forks f_outCount a_ops a_values a_places a_numbers a_met a_always a_sometimes a_noted a_held a_lately h_size h_doing h_at h_forks h_bits h_said b_ops b_v0 b_v1 b_v2 b_p0 b_p1 b_p2 b_num b_come b_with b_without b_values b_last hs hg hX hY hK hQ
  by_cases h : ac_lt 5 v2 ∧ ac_ins s v1
  · obtain ⟨⟨q, hq, e2⟩, h⟩ := h
    obtain ⟨p, hp, e⟩ := (ac_ins_iff hs).mp h
    subst e e2
    refine xk_carries1 hs hg hX hK hp hq (fun w m a t n hk' hB => ?_) (fun w m a t n hk' hB => ?_)
    · exact yk_carries1 hs hg hY hp hq (fun cm w' o R _ => ⟨ac_car hk'.1 R (by omega) hq, zz_in hs hg hX hY (Or.inr ⟨rfl, hk'⟩) hQ⟩) (fun cm w' o z => absurd (hB.symm.trans z) (by decide))
    · exact yk_carries1 hs hg hY hp hq (fun cm w' o R z => absurd (hB.symm.trans z) (by decide)) (fun cm w' o _ => ⟨rfl, zz_in hs hg hX hY (Or.inr ⟨rfl, hk'⟩) hQ⟩)
  · exact xk_carries0 h (yk_carries0 hs hg hY h (fun cm w' o => ⟨rfl, zz_in hs hg hX hY hK hQ⟩))
theorem i_vc_status {k : Nat} {u : SX} {v : SY} (I : i_Rel k u v) (hk : k + 4 ≤ 2048) : wpX_status (fun r => wpY_status (fun r' => r' = r ∧ i_Rel (k + 4) u v) v) u := by
  refine zz_el (P := fun u v => wpX_status (fun r => wpY_status (fun r' => r' = r ∧ i_Rel (k + 4) u v) v) u) ?_ I
  intro s g f_size f_checked f_waiting f_state f_at f_choices f_forks f_outCount a_ops a_values a_places a_numbers a_met a_always a_sometimes a_noted a_held a_lately h_size h_doing h_at h_forks h_bits h_said b_ops b_v0 b_v1 b_v2 b_p0 b_p1 b_p2 b_num b_come b_with b_without b_values b_last hs hg hX hY hK hQ
  exact ⟨rfl, zz_in hs hg hX hY hK hQ⟩
theorem ac_Q_oc {s : Nat} {g : Nat → Nat → Nat} {num held vals : Nat → Int32} {st oc sa a1 a2 ch bi f1 f2 : Int32} (h : ac_Q s g num st oc sa a1 a2 ch bi f1 f2 held vals) : (st = 0 ∧ oc = 0) ∨ (¬ st = 0 ∧ sa = oc) := by
  rcases h with ⟨h1, h2⟩ | ⟨h1, h2⟩ | ⟨h1, h2, _⟩
  · exact Or.inl ⟨h1, h2⟩
  · exact Or.inr ⟨by rw [h1]; decide, h2.symm⟩
  · exact Or.inr ⟨by rw [h1]; decide, h2.symm⟩
theorem i_vc_outs {k : Nat} {u : SX} {v : SY} (I : i_Rel k u v) (hk : k + 4 ≤ 2048) : wpX_outs (fun r => wpY_outs (fun r' => r' = r ∧ i_Rel (k + 4) u v) v) u := by
  refine zz_el (P := fun u v => wpX_outs (fun r => wpY_outs (fun r' => r' = r ∧ i_Rel (k + 4) u v) v) u) ?_ I
  intro s g f_size f_checked f_waiting f_state f_at f_choices f_forks f_outCount a_ops a_values a_places a_numbers a_met a_always a_sometimes a_noted a_held a_lately h_size h_doing h_at h_forks h_bits h_said b_ops b_v0 b_v1 b_v2 b_p0 b_p1 b_p2 b_num b_come b_with b_without b_values b_last hs hg hX hY hK hQ
  have Z : i_Rel (k + 4) (nI s, f_checked, f_waiting, f_state, f_at, f_choices, f_forks, f_outCount, a_ops, a_values, a_places, a_numbers, a_met, a_always, a_sometimes, a_noted, a_held, a_lately) (nI s, f_state, h_at, h_forks, h_bits, h_said, b_ops, b_v0, b_v1, b_v2, b_p0, b_p1, b_p2, a_numbers, b_come, b_with, b_without, b_values, a_lately) := zz_in hs hg hX hY hK hQ
  rcases ac_Q_oc hQ with ⟨h1, h2⟩ | ⟨h1, h2⟩
  · exact br_t h1 ⟨h2.symm, Z⟩
  · exact br_f h1 ⟨h2, Z⟩
theorem i_vc_lastOut {k : Nat} {u : SX} {v : SY} (I : i_Rel k u v) (hk : k + 4 ≤ 2048) (v1 : Int32) : wpX_lastOut (fun r => wpY_lastOut (fun r' => r' = r ∧ i_Rel (k + 4) u v) v v1) u v1 := by
  refine zz_el (P := fun u v => wpX_lastOut (fun r => wpY_lastOut (fun r' => r' = r ∧ i_Rel (k + 4) u v) v v1) u v1) ?_ I
  intro s g f_size f_checked f_waiting f_state f_at f_choices f_forks f_outCount a_ops a_values a_places a_numbers a_met a_always a_sometimes a_noted a_held a_lately h_size h_doing h_at h_forks h_bits h_said b_ops b_v0 b_v1 b_v2 b_p0 b_p1 b_p2 b_num b_come b_with b_without b_values b_last hs hg hX hY hK hQ
  have Z : i_Rel (k + 4) (nI s, f_checked, f_waiting, f_state, f_at, f_choices, f_forks, f_outCount, a_ops, a_values, a_places, a_numbers, a_met, a_always, a_sometimes, a_noted, a_held, a_lately) (nI s, f_state, h_at, h_forks, h_bits, h_said, b_ops, b_v0, b_v1, b_v2, b_p0, b_p1, b_p2, a_numbers, b_come, b_with, b_without, b_values, a_lately) := zz_in hs hg hX hY hK hQ
  rcases ac_Q_oc hQ with ⟨h1, h2⟩ | ⟨h1, h2⟩
  · have Y0 : wpY_lastOut (fun r' => r' = 0 ∧ i_Rel (k + 4) (nI s, f_checked, f_waiting, f_state, f_at, f_choices, f_forks, f_outCount, a_ops, a_values, a_places, a_numbers, a_met, a_always, a_sometimes, a_noted, a_held, a_lately) (nI s, f_state, h_at, h_forks, h_bits, h_said, b_ops, b_v0, b_v1, b_v2, b_p0, b_p1, b_p2, a_numbers, b_come, b_with, b_without, b_values, a_lately)) (nI s, f_state, h_at, h_forks, h_bits, h_said, b_ops, b_v0, b_v1, b_v2, b_p0, b_p1, b_p2, a_numbers, b_come, b_with, b_without, b_values, a_lately) v1 := br_t h1 ⟨rfl, Z⟩
    exact br_c (fun _ => Y0) (fun z1 => br_c (fun _ => Y0) (fun z2 => br_f (by rw [h2]; exact z1) Y0))
  · refine br_c (fun z1 => br_f h1 (br_t z1 ⟨rfl, Z⟩)) (fun z1 => br_c (fun z2 => br_f h1 (br_f z1 (br_t z2 ⟨rfl, Z⟩))) (fun z2 => br_c (fun z3 => ?_) (fun z3 => br_f h1 (br_f z1 (br_f z2 (br_f (by rw [h2]; exact z3) ⟨rfl, Z⟩))))))
    have hin : vp_in v1 8 := by
      obtain ⟨j, hj, e⟩ := nI_of z1
      subst e
      have := nI_ltI (a := 7) (b := j) (by decide) hj
      refine vp_in_nI ?_ (by decide)
      by_cases z : 7 < j
      · exact absurd (this.mpr z) z2
      · omega
    exact ⟨hin, br_f h1 (br_f z1 (br_f z2 (br_t (by rw [h2]; exact z3) ⟨hin, rfl, Z⟩)))⟩
end
section
/-! ===== the run ===== -/
def ac_shf : Nat → (Nat → Int32) → (Nat → Int32)
  | 0, l => l
  | i + 1, l => ac_shf i (upd l (i + 1) (l i))
theorem ac_ubit (x : Int32) {n : Nat} (hn : n < 32) : ((x.toUInt32 >>> ((nI n).toUInt32 &&& Int32.toUInt32 31)).toInt32) &&& 1 = ac_bi (bt x n) := by
  apply b_ext
  intro i hi
  rw [b_and, b_ushr n hn x i, ac_b1 i hi]
  by_cases z : i = 0
  · subst z
    rw [Nat.add_zero]
    cases bt x n <;> decide
  · rw [decide_eq_false z, Bool.and_false]
    cases bt x n
    · exact (b_0 i).symm
    · show false = bt 1 i
      rw [ac_b1 i hi, decide_eq_false z]
section
variable {f_size f_checked f_waiting f_state f_at f_choices f_forks f_outCount : Int32} {a_ops a_values a_places a_numbers a_met a_always a_sometimes a_noted a_held a_lately : Nat → Int32}
variable {h_size h_doing h_at h_forks h_bits h_said : Int32} {b_ops b_v0 b_v1 b_v2 b_p0 b_p1 b_p2 b_num b_come b_with b_without b_values b_last : Nat → Int32}
variable {s a n : Nat} {g : Nat → Nat → Nat} {x y : Int32}
theorem xk_po {post : SX → Prop} : ∀ i l, i < 8 → post (f_size, f_checked, f_waiting, f_state, f_at, f_choices, f_forks, f_outCount + 1, a_ops, a_values, a_places, a_numbers, a_met, a_always, a_sometimes, a_noted, a_held, upd (ac_shf i l) 0 x) → wX_putOut_3 post x f_size f_checked f_waiting f_state f_at f_choices f_forks f_outCount (i + 1) (nI i) a_ops a_values a_places a_numbers a_met a_always a_sometimes a_noted a_held l := by
  intro i
  induction i with
  | zero =>
    intro l _ K
    exact br_t (by decide) (nm_e (nm_e K))
  | succ i ih =>
    intro l hi K
    refine br_f (nI_nle (by omega) (by omega)) ?_
    rw [nI_pred, pk_m1, nI_clamp (n := i) (by omega), nI_clamp (n := i + 1) (by omega)]
    exact ⟨vp_in_nI (by omega) (by omega), vp_in_nI (by omega) (by omega), nm_e (nm_e (ih _ (by omega) K))⟩
theorem yk_po {post : SY → Prop} (ha : a < 14) (hY : ac_YP g b_ops b_v0 b_v1 b_v2 b_p0 b_p1 b_p2) (hg : ac_GV g) : ∀ i l, i < 8 → post (h_size, h_doing, h_at, h_forks, h_bits, h_said + 1, b_ops, b_v0, b_v1, b_v2, b_p0, b_p1, b_p2, b_num, b_come, b_with, b_without, b_values, upd (ac_shf i l) 0 (b_values (g a 2))) → wY_carryOut_88 post (nI a) h_size h_doing h_at h_forks h_bits h_said (i + 1) (nI i) b_ops b_v0 b_v1 b_v2 b_p0 b_p1 b_p2 b_num b_come b_with b_without b_values l := by
  intro i
  induction i with
  | zero =>
    intro l _ K
    have b2 := (hg a).2.2.1
    refine br_t (by decide) ?_
    rw [nI_clamp (n := a) (by omega), (hY a).2.2.1, nI_clamp (n := g a 2) (by omega)]
    exact ⟨vp_in_nI ha (by omega), vp_in_nI b2 (by omega), nm_e (nm_e K)⟩
  | succ i ih =>
    intro l hi K
    refine br_f (nI_nle (by omega) (by omega)) ?_
    rw [nI_pred, pk_m1, nI_clamp (n := i) (by omega), nI_clamp (n := i + 1) (by omega)]
    exact ⟨vp_in_nI (by omega) (by omega), vp_in_nI (by omega) (by omega), nm_e (nm_e (ih _ (by omega) K))⟩
theorem xk_put {post : SX → Prop} (ha : a < 14) (hg : ac_GV g) (hX : ac_XP g a_ops a_values a_places) (K : post (f_size, f_checked, f_waiting, f_state, nI a, f_choices, f_forks, f_outCount, a_ops, a_values, a_places, a_numbers, a_met, a_always, a_sometimes, a_noted, upd a_held (g a 4) x, a_lately)) : wpX_put post (f_size, f_checked, f_waiting, f_state, nI a, f_choices, f_forks, f_outCount, a_ops, a_values, a_places, a_numbers, a_met, a_always, a_sometimes, a_noted, a_held, a_lately) x := by
  have b4 := (hg a).2.2.2.2.1
  unfold wpX_put
  dsimp only
  rw [nI_clamp (n := a) (by omega), (hX a).2.2.2.2.1, nI_clamp (n := g a 4) (by omega)]
  exact ⟨vp_in_nI ha (by omega), vp_in_nI b4 (by omega), nm_e K⟩
theorem xk_dec {post : Int32 → SX → Prop} (hn : n < 32) (en : f_forks &&& 31 = nI n) (K : post (ac_bi (bt f_choices n)) (f_size, f_checked, f_waiting, f_state, f_at, f_choices, f_forks + 1, f_outCount, a_ops, a_values, a_places, a_numbers, a_met, a_always, a_sometimes, a_noted, a_held, a_lately)) : wpX_decide post (f_size, f_checked, f_waiting, f_state, f_at, f_choices, f_forks, f_outCount, a_ops, a_values, a_places, a_numbers, a_met, a_always, a_sometimes, a_noted, a_held, a_lately) := by
  unfold wpX_decide
  dsimp only
  rw [en, ac_ubit f_choices hn]
  unfold wX_decide_22
  cases hb : bt f_choices n
  · rw [hb] at K
    exact br_t rfl (nm_e ⟨rfl, K⟩)
  · rw [hb] at K
    exact br_f (by decide) (nm_e ⟨rfl, K⟩)
theorem xk_carry {post : SX → Prop} (ha : a < 14) (hg : ac_GV g) (hX : ac_XP g a_ops a_values a_places) (hn : n < 32) (en : f_forks &&& 31 = nI n)
    (h7 : g a 0 = 7 → post (f_size, f_checked, f_waiting, 2, nI a, f_choices, f_forks, f_outCount, a_ops, a_values, a_places, a_numbers, a_met, a_always, a_sometimes, a_noted, a_held, a_lately))
    (h0 : g a 0 = 0 → post (f_size, f_checked, f_waiting, f_state, nI (a + 1), f_choices, f_forks, f_outCount, a_ops, a_values, a_places, a_numbers, a_met, a_always, a_sometimes, a_noted, upd a_held (g a 4) (a_numbers a), a_lately))
    (h1 : g a 0 = 1 → post (f_size, f_checked, f_waiting, f_state, nI (a + 1), f_choices, f_forks, f_outCount, a_ops, a_values, a_places, a_numbers, a_met, a_always, a_sometimes, a_noted, upd a_held (g a 4) (a_held (g a 5) + a_held (g a 6)), a_lately))
    (h2 : g a 0 = 2 → post (f_size, f_checked, f_waiting, f_state, nI (a + 1), f_choices, f_forks, f_outCount, a_ops, a_values, a_places, a_numbers, a_met, a_always, a_sometimes, a_noted, upd a_held (g a 4) (a_held (g a 5)), a_lately))
    (h3 : g a 0 = 3 → post (f_size, f_checked, f_waiting, f_state, nI (a + 1), f_choices, f_forks, f_outCount + 1, a_ops, a_values, a_places, a_numbers, a_met, a_always, a_sometimes, a_noted, a_held, upd (ac_shf 7 a_lately) 0 (a_held (g a 5))))
    (h6 : g a 0 = 6 → post (f_size, f_checked, f_waiting, f_state, a_numbers a, f_choices, f_forks, f_outCount, a_ops, a_values, a_places, a_numbers, a_met, a_always, a_sometimes, a_noted, a_held, a_lately))
    (h5 : g a 0 = 5 → post (f_size, f_checked, f_waiting, f_state, if bt f_choices n = true then a_numbers a else nI (a + 1), f_choices, f_forks + 1, f_outCount, a_ops, a_values, a_places, a_numbers, a_met, a_always, a_sometimes, a_noted, a_held, a_lately))
    (h4 : g a 0 = 4 → post (f_size, f_checked, f_waiting, f_state, nI (a + 1), f_choices, f_forks, f_outCount, a_ops, a_values, a_places, a_numbers, a_met, a_always, a_sometimes, a_noted, a_held, a_lately)) : wpX_carry post (f_size, f_checked, f_waiting, f_state, nI a, f_choices, f_forks, f_outCount, a_ops, a_values, a_places, a_numbers, a_met, a_always, a_sometimes, a_noted, a_held, a_lately) := by
  have hin : vp_in (nI a) 14 := vp_in_nI ha (by omega)
  have hc : (nI a).toNatClampNeg = a := nI_clamp (by omega)
  obtain ⟨e0, e1, e2, e3, e4, e5, e6⟩ := hX a
  obtain ⟨b0, b1, b2, b3, b4, b5, b6⟩ := hg a
  unfold wpX_carry
  dsimp only
  rw [hc, e0, e5, e6, nI_1]
  refine ⟨hin, nm_e ⟨hin, nm_e (nm_e ?_)⟩⟩
  refine pk_eq (g a 0) 7 h7 (fun n7 => ?_)
  refine pk_eq (g a 0) 0 (fun o => ⟨hin, xk_put ha hg hX (h0 o)⟩) (fun n0 => ?_)
  refine pk_eq (g a 0) 1 (fun o => ⟨hin, nm_e ⟨vp_in_nI b5 (by omega), vp_in_nI b6 (by omega), ?_⟩⟩) (fun n1 => ?_)
  · rw [nI_clamp (n := g a 5) (by omega), nI_clamp (n := g a 6) (by omega)]
    exact xk_put ha hg hX (h1 o)
  refine pk_eq (g a 0) 2 (fun o => ⟨vp_in_nI b5 (by omega), ?_⟩) (fun n2 => ?_)
  · rw [nI_clamp (n := g a 5) (by omega)]
    exact xk_put ha hg hX (h2 o)
  refine pk_eq (g a 0) 3 (fun o => ⟨vp_in_nI b5 (by omega), ?_⟩) (fun n3 => ?_)
  · rw [nI_clamp (n := g a 5) (by omega)]
    unfold wpX_putOut
    exact ⟨8, xk_po 7 a_lately (by omega) (h3 o)⟩
  refine pk_eq (g a 0) 6 (fun o => ?_) (fun n6 => ?_)
  · unfold wX_carry_161
    rw [hc]
    exact ⟨hin, nm_e (h6 o)⟩
  refine pk_eq (g a 0) 5 (fun o => ?_) (fun n5 => h4 (by omega))
  refine xk_dec hn en ?_
  have K := h5 o
  cases hb : bt f_choices n
  · rw [hb, if_neg (by decide)] at K
    exact br_t rfl K
  · rw [hb, if_pos rfl] at K
    refine br_f (by decide) ?_
    unfold wX_carry_161
    rw [hc]
    exact ⟨hin, nm_e K⟩
theorem yk_carryOut {post : SY → Prop} (ha : a < 14) (hg : ac_GV g) (hY : ac_YP g b_ops b_v0 b_v1 b_v2 b_p0 b_p1 b_p2) (hn : n < 32) (en : h_forks &&& 31 = nI n)
    (h7 : g a 0 = 7 → post (h_size, 2, nI a, h_forks, h_bits, h_said, b_ops, b_v0, b_v1, b_v2, b_p0, b_p1, b_p2, b_num, b_come, b_with, b_without, b_values, b_last))
    (h0 : g a 0 = 0 → post (h_size, h_doing, nI (a + 1), h_forks, h_bits, h_said, b_ops, b_v0, b_v1, b_v2, b_p0, b_p1, b_p2, b_num, b_come, b_with, b_without, upd b_values (g a 1) (b_num a), b_last))
    (h1 : g a 0 = 1 → post (h_size, h_doing, nI (a + 1), h_forks, h_bits, h_said, b_ops, b_v0, b_v1, b_v2, b_p0, b_p1, b_p2, b_num, b_come, b_with, b_without, upd b_values (g a 1) (b_values (g a 2) + b_values (g a 3)), b_last))
    (h2 : g a 0 = 2 → post (h_size, h_doing, nI (a + 1), h_forks, h_bits, h_said, b_ops, b_v0, b_v1, b_v2, b_p0, b_p1, b_p2, b_num, b_come, b_with, b_without, b_values, b_last))
    (h3 : g a 0 = 3 → post (h_size, h_doing, nI (a + 1), h_forks, h_bits, h_said + 1, b_ops, b_v0, b_v1, b_v2, b_p0, b_p1, b_p2, b_num, b_come, b_with, b_without, b_values, upd (ac_shf 7 b_last) 0 (b_values (g a 2))))
    (h6 : g a 0 = 6 → post (h_size, h_doing, b_num a, h_forks, h_bits, h_said, b_ops, b_v0, b_v1, b_v2, b_p0, b_p1, b_p2, b_num, b_come, b_with, b_without, b_values, b_last))
    (h5 : g a 0 = 5 → post (h_size, h_doing, if bt h_bits n = true then b_num a else nI (a + 1), h_forks + 1, h_bits, h_said, b_ops, b_v0, b_v1, b_v2, b_p0, b_p1, b_p2, b_num, b_come, b_with, b_without, b_values, b_last))
    (h4 : g a 0 = 4 → post (h_size, h_doing, nI (a + 1), h_forks, h_bits, h_said, b_ops, b_v0, b_v1, b_v2, b_p0, b_p1, b_p2, b_num, b_come, b_with, b_without, upd b_values (g a 1) (b_values (g a 2)), b_last)) : wpY_carryOut post (h_size, h_doing, h_at, h_forks, h_bits, h_said, b_ops, b_v0, b_v1, b_v2, b_p0, b_p1, b_p2, b_num, b_come, b_with, b_without, b_values, b_last) (nI a) := by
  have hin : vp_in (nI a) 14 := vp_in_nI ha (by omega)
  have hc : (nI a).toNatClampNeg = a := nI_clamp (by omega)
  obtain ⟨e0, e1, e2, e3, e4, e5, e6⟩ := hY a
  obtain ⟨b0, b1, b2, b3, b4, b5, b6⟩ := hg a
  unfold wpY_carryOut
  dsimp only
  rw [hc, e0, e1, e2, e3, nI_1, nI_clamp (n := g a 1) (by omega), nI_clamp (n := g a 2) (by omega), nI_clamp (n := g a 3) (by omega), en, ac_bit h_bits hn]
  have i1 : vp_in (nI (g a 1)) 4 := vp_in_nI b1 (by omega)
  have i2 : vp_in (nI (g a 2)) 4 := vp_in_nI b2 (by omega)
  have i3 : vp_in (nI (g a 3)) 4 := vp_in_nI b3 (by omega)
  refine ⟨hin, nm_e (nm_e ?_)⟩
  refine pk_eq (g a 0) 0 (fun o => ⟨hin, hin, i1, nm_e (h0 o)⟩) (fun n0 => ?_)
  refine pk_eq (g a 0) 1 (fun o => ⟨hin, hin, i2, hin, i3, i1, nm_e (h1 o)⟩) (fun n1 => ?_)
  refine pk_eq (g a 0) 3 (fun o => ⟨8, yk_po ha hY hg 7 b_last (by omega) (h3 o)⟩) (fun n3 => ?_)
  refine pk_eq (g a 0) 4 (fun o => ⟨hin, hin, i2, i1, nm_e (h4 o)⟩) (fun n4 => ?_)
  refine pk_eq (g a 0) 5 (fun o => ?_) (fun n5 => ?_)
  · have K := h5 o
    unfold wY_carryOut_208
    cases hb : bt h_bits n
    · rw [hb, if_neg (by decide)] at K
      exact br_f (by decide) (nm_e K)
    · rw [hb, if_pos rfl] at K
      exact br_t rfl ⟨hin, nm_e K⟩
  refine pk_eq (g a 0) 6 (fun o => ⟨hin, nm_e (h6 o)⟩) (fun n6 => ?_)
  exact pk_eq (g a 0) 7 h7 (fun n7 => h2 (by omega))
end
/-! what the least set says of one step -/
section
variable {s a q : Nat} {g : Nat → Nat → Nat} {num held vals : Nat → Int32}
def ac_ok (s : Nat) (g : Nat → Nat → Nat) (num held vals : Nat → Int32) (x : Int32) : Prop := ∃ a, x = nI a ∧ a < s ∧ ac_B s g num a 0 = true ∧ ∀ q v, q < 5 → v < 4 → ac_B s g num a (4 * q + v + 21) = false → held q = vals v
theorem ac_nf (hsd : ac_sd s g num) (ha : a < s) (h0 : ac_B s g num a 0 = true) : ¬ ac_c1 g (ac_B s g num) a ∧ ¬ ac_c2 g (ac_B s g num) a ∧ ¬ ac_c3 s g num a := by
  have h := hsd a ha
  unfold ac_nv ac_fv at h
  rw [if_pos h0] at h
  refine ⟨fun z => ?_, fun z => ?_, fun z => ?_⟩
  · rw [ac_b_t z] at h; omega
  · rw [ac_b_t z] at h; omega
  · rw [ac_b_t z] at h; omega
theorem ac_go (hs : 0 < s) (ha : a < s) (h0 : ac_B s g num a 0 = true) (hq : q < s) (hsc : ac_sc g num a q)
    (hv : ∀ p v, p < 5 → v < 4 → ac_tr (g a) false (fun b => ac_B s g num a (b + 21)) (4 * p + v) = false → held p = vals v) : ac_ok s g num held vals (nI q) := by
  have C := (ac_B_C (g := g) (num := num) hs).2 a ha h0 q hq hsc
  refine ⟨q, rfl, hq, C 0 (by omega) (ac_T0 _ _), fun p v hp hv' h => hv p v hp hv' ?_⟩
  have C2 := C (4 * p + v + 21) (by omega)
  rw [ac_T2, h] at C2
  revert C2
  cases ac_tr (g a) false (fun b => ac_B s g num a (b + 21)) (4 * p + v) <;> simp
theorem ac_nx (hsd : ac_sd s g num) (ha : a < s) (h0 : ac_B s g num a 0 = true) (n6 : g a 0 ≠ 6) (n7 : g a 0 ≠ 7) : a + 1 < s := by
  apply Classical.byContradiction
  intro z
  exact (ac_nf hsd ha h0).2.2 (Or.inl ⟨n6, n7, z⟩)
theorem ac_nj (hs : s ≤ 14) (hsd : ac_sd s g num) (ha : a < s) (h0 : ac_B s g num a 0 = true) (h5 : g a 0 = 5 ∨ g a 0 = 6) : ∃ q, q < s ∧ num a = nI q := by
  rw [← ac_ins_iff hs]
  apply Classical.byContradiction
  intro z
  exact (ac_nf hsd ha h0).2.2 (Or.inr ⟨h5, z⟩)
/-- SET and ADD: one number into a place and a value -/
theorem ac_go01 {n : Int32} (hs : 0 < s) (ha : a < s) (h0 : ac_B s g num a 0 = true) (ho : g a 0 = 0 ∨ g a 0 = 1) (hq : a + 1 < s)
    (hv : ∀ q v, q < 5 → v < 4 → ac_B s g num a (4 * q + v + 21) = false → held q = vals v) : ac_ok s g num (upd held (g a 4) n) (upd vals (g a 1) n) (nI (a + 1)) := by
  refine ac_go hs ha h0 hq (Or.inl ⟨by omega, by omega, rfl⟩) (fun p v hp hv4 h => ?_)
  unfold ac_tr at h
  rw [if_pos ho] at h
  have d1 : (4 * p + v) / 4 = p := by omega
  have d2 : (4 * p + v) % 4 = v := by omega
  rw [d1, d2] at h
  by_cases e1 : p = g a 4
  · by_cases e2 : v = g a 1
    · rw [e1, e2, pk_us, pk_us]
    · rw [if_pos (Or.inl e1), if_neg (fun z => e2 z.2)] at h
      exact absurd h (by decide)
  · by_cases e2 : v = g a 1
    · rw [if_pos (Or.inr e2), if_neg (fun z => e1 z.1)] at h
      exact absurd h (by decide)
    · rw [if_neg (by omega)] at h
      rw [pk_un e1, pk_un e2]
      exact hv p v hp hv4 h
theorem ac_go2 (hg : ac_GV g) (hs : 0 < s) (ha : a < s) (h0 : ac_B s g num a 0 = true) (ho : g a 0 = 2) (hq : a + 1 < s)
    (hv : ∀ q v, q < 5 → v < 4 → ac_B s g num a (4 * q + v + 21) = false → held q = vals v) : ac_ok s g num (upd held (g a 4) (held (g a 5))) vals (nI (a + 1)) := by
  refine ac_go hs ha h0 hq (Or.inl ⟨by omega, by omega, rfl⟩) (fun p v hp hv4 h => ?_)
  unfold ac_tr at h
  rw [if_neg (by omega), if_pos ho] at h
  have d1 : (4 * p + v) / 4 = p := by omega
  have d2 : (4 * p + v) % 4 = v := by omega
  rw [d1, d2] at h
  by_cases e1 : p = g a 4
  · rw [if_pos e1] at h
    rw [e1, pk_us]
    exact hv (g a 5) v (hg a).2.2.2.2.2.1 hv4 h
  · rw [if_neg e1] at h
    rw [pk_un e1]
    exact hv p v hp hv4 h
theorem ac_go4 (hg : ac_GV g) (hs : 0 < s) (ha : a < s) (h0 : ac_B s g num a 0 = true) (ho : g a 0 = 4) (hq : a + 1 < s)
    (hv : ∀ q v, q < 5 → v < 4 → ac_B s g num a (4 * q + v + 21) = false → held q = vals v) : ac_ok s g num held (upd vals (g a 1) (vals (g a 2))) (nI (a + 1)) := by
  refine ac_go hs ha h0 hq (Or.inl ⟨by omega, by omega, rfl⟩) (fun p v hp hv4 h => ?_)
  unfold ac_tr at h
  rw [if_neg (by omega), if_neg (by omega), if_pos ho] at h
  have d1 : (4 * p + v) / 4 = p := by omega
  have d2 : (4 * p + v) % 4 = v := by omega
  rw [d1, d2] at h
  by_cases e1 : v = g a 1
  · rw [if_pos e1] at h
    rw [e1, pk_us]
    exact hv p (g a 2) hp (hg a).2.2.1 h
  · rw [if_neg e1] at h
    rw [pk_un e1]
    exact hv p v hp hv4 h
theorem ac_go3 (hs : 0 < s) (ha : a < s) (h0 : ac_B s g num a 0 = true) (ho : g a 0 = 3 ∨ g a 0 = 5 ∨ g a 0 = 6) (hq : q < s) (hsc : ac_sc g num a q)
    (hv : ∀ q v, q < 5 → v < 4 → ac_B s g num a (4 * q + v + 21) = false → held q = vals v) : ac_ok s g num held vals (nI q) := by
  refine ac_go hs ha h0 hq hsc (fun p v hp hv4 h => ?_)
  unfold ac_tr at h
  rw [if_neg (by omega), if_neg (by omega), if_neg (by omega)] at h
  exact hv p v hp hv4 h
end
section
variable {f_size f_checked f_waiting f_state f_at f_choices f_forks f_outCount : Int32} {a_ops a_values a_places a_numbers a_met a_always a_sometimes a_noted a_held a_lately : Nat → Int32}
variable {h_size h_doing h_at h_forks h_bits h_said : Int32} {b_ops b_v0 b_v1 b_v2 b_p0 b_p1 b_p2 b_num b_come b_with b_without b_values b_last : Nat → Int32}
variable {s a : Nat} {g : Nat → Nat → Nat}
theorem zz_carry (hs : s ≤ 14) (hg : ac_GV g) (hX : ac_XP g a_ops a_values a_places) (hY : ac_YP g b_ops b_v0 b_v1 b_v2 b_p0 b_p1 b_p2) (hsd : ac_sd s g a_numbers) (ha : a < s) (h0 : ac_B s g a_numbers a 0 = true)
    (hv : ∀ q v, q < 5 → v < 4 → ac_B s g a_numbers a (4 * q + v + 21) = false → a_held q = b_values v) :
    ∃ (st t fk oc : Int32) (hd lt vl : Nat → Int32), (∀ post : SX → Prop, post (nI s, f_checked, f_waiting, st, t, f_choices, fk, oc, a_ops, a_values, a_places, a_numbers, a_met, a_always, a_sometimes, a_noted, hd, lt) → wpX_carry post (nI s, f_checked, f_waiting, 1, nI a, f_choices, f_forks, f_outCount, a_ops, a_values, a_places, a_numbers, a_met, a_always, a_sometimes, a_noted, a_held, a_lately)) ∧ (∀ post : SY → Prop, post (nI s, st, t, fk, f_choices, oc, b_ops, b_v0, b_v1, b_v2, b_p0, b_p1, b_p2, a_numbers, b_come, b_with, b_without, vl, lt) → wpY_carryOut post (nI s, 1, nI a, f_forks, f_choices, f_outCount, b_ops, b_v0, b_v1, b_v2, b_p0, b_p1, b_p2, a_numbers, b_come, b_with, b_without, b_values, a_lately) (nI a)) ∧ ac_Q s g a_numbers st oc oc t t f_choices f_choices fk fk hd vl := by
  obtain ⟨n, hn, en⟩ := pk_andE f_forks (m := 31) 5 (by decide)
  have hn : n < 32 := hn
  have hs0 : 0 < s := by omega
  have ha14 : a < 14 := by omega
  obtain ⟨b0, b1, b2, b3, b4, b5, b6⟩ := hg a
  obtain ⟨c1, c2, c3⟩ := ac_nf hsd ha h0
  have F1 : (g a 0 = 1 ∨ g a 0 = 3) → a_held (g a 5) = b_values (g a 2) := by
    intro o
    refine hv _ _ b5 b2 ?_
    cases hF : ac_B s g a_numbers a (4 * g a 5 + g a 2 + 21)
    · rfl
    · exact absurd ⟨o, hF⟩ c1
  have F2 : g a 0 = 1 → a_held (g a 6) = b_values (g a 3) := by
    intro o
    refine hv _ _ b6 b3 ?_
    cases hF : ac_B s g a_numbers a (4 * g a 6 + g a 3 + 21)
    · rfl
    · exact absurd ⟨o, hF⟩ c2
  have Q : ∀ (oc t fk : Int32) (hd vl : Nat → Int32), ac_ok s g a_numbers hd vl t → ac_Q s g a_numbers 1 oc oc t t f_choices f_choices fk fk hd vl := fun oc t fk hd vl h => Or.inr (Or.inr ⟨rfl, rfl, rfl, rfl, rfl, hsd, h⟩)
  have hop : g a 0 = 0 ∨ g a 0 = 1 ∨ g a 0 = 2 ∨ g a 0 = 3 ∨ g a 0 = 4 ∨ g a 0 = 5 ∨ g a 0 = 6 ∨ g a 0 = 7 := by omega
  rcases hop with o | o | o | o | o | o | o | o
  · refine ⟨1, (nI (a + 1)), f_forks, f_outCount, (upd a_held (g a 4) (a_numbers a)), a_lately, (upd b_values (g a 1) (a_numbers a)), fun post hp => xk_carry ha14 hg hX hn en (fun e => absurd (o.symm.trans e) (by decide)) (fun _ => hp) (fun e => absurd (o.symm.trans e) (by decide)) (fun e => absurd (o.symm.trans e) (by decide)) (fun e => absurd (o.symm.trans e) (by decide)) (fun e => absurd (o.symm.trans e) (by decide)) (fun e => absurd (o.symm.trans e) (by decide)) (fun e => absurd (o.symm.trans e) (by decide)), fun post hp => ?_, ?_⟩
    · exact yk_carryOut ha14 hg hY hn en (fun e => absurd (o.symm.trans e) (by decide)) (fun _ => hp) (fun e => absurd (o.symm.trans e) (by decide)) (fun e => absurd (o.symm.trans e) (by decide)) (fun e => absurd (o.symm.trans e) (by decide)) (fun e => absurd (o.symm.trans e) (by decide)) (fun e => absurd (o.symm.trans e) (by decide)) (fun e => absurd (o.symm.trans e) (by decide))
    · exact Q _ _ _ _ _ (ac_go01 hs0 ha h0 (Or.inl o) (ac_nx hsd ha h0 (by omega) (by omega)) hv)
  · refine ⟨1, (nI (a + 1)), f_forks, f_outCount, (upd a_held (g a 4) (a_held (g a 5) + a_held (g a 6))), a_lately, (upd b_values (g a 1) (a_held (g a 5) + a_held (g a 6))), fun post hp => xk_carry ha14 hg hX hn en (fun e => absurd (o.symm.trans e) (by decide)) (fun e => absurd (o.symm.trans e) (by decide)) (fun _ => hp) (fun e => absurd (o.symm.trans e) (by decide)) (fun e => absurd (o.symm.trans e) (by decide)) (fun e => absurd (o.symm.trans e) (by decide)) (fun e => absurd (o.symm.trans e) (by decide)) (fun e => absurd (o.symm.trans e) (by decide)), fun post hp => ?_, ?_⟩
    · rw [F1 (Or.inl o), F2 o] at hp; exact yk_carryOut ha14 hg hY hn en (fun e => absurd (o.symm.trans e) (by decide)) (fun e => absurd (o.symm.trans e) (by decide)) (fun _ => hp) (fun e => absurd (o.symm.trans e) (by decide)) (fun e => absurd (o.symm.trans e) (by decide)) (fun e => absurd (o.symm.trans e) (by decide)) (fun e => absurd (o.symm.trans e) (by decide)) (fun e => absurd (o.symm.trans e) (by decide))
    · exact Q _ _ _ _ _ (ac_go01 hs0 ha h0 (Or.inr o) (ac_nx hsd ha h0 (by omega) (by omega)) hv)
  · refine ⟨1, (nI (a + 1)), f_forks, f_outCount, (upd a_held (g a 4) (a_held (g a 5))), a_lately, b_values, fun post hp => xk_carry ha14 hg hX hn en (fun e => absurd (o.symm.trans e) (by decide)) (fun e => absurd (o.symm.trans e) (by decide)) (fun e => absurd (o.symm.trans e) (by decide)) (fun _ => hp) (fun e => absurd (o.symm.trans e) (by decide)) (fun e => absurd (o.symm.trans e) (by decide)) (fun e => absurd (o.symm.trans e) (by decide)) (fun e => absurd (o.symm.trans e) (by decide)), fun post hp => ?_, ?_⟩
    · exact yk_carryOut ha14 hg hY hn en (fun e => absurd (o.symm.trans e) (by decide)) (fun e => absurd (o.symm.trans e) (by decide)) (fun e => absurd (o.symm.trans e) (by decide)) (fun _ => hp) (fun e => absurd (o.symm.trans e) (by decide)) (fun e => absurd (o.symm.trans e) (by decide)) (fun e => absurd (o.symm.trans e) (by decide)) (fun e => absurd (o.symm.trans e) (by decide))
    · exact Q _ _ _ _ _ (ac_go2 hg hs0 ha h0 o (ac_nx hsd ha h0 (by omega) (by omega)) hv)
  · refine ⟨1, (nI (a + 1)), f_forks, (f_outCount + 1), a_held, (upd (ac_shf 7 a_lately) 0 (a_held (g a 5))), b_values, fun post hp => xk_carry ha14 hg hX hn en (fun e => absurd (o.symm.trans e) (by decide)) (fun e => absurd (o.symm.trans e) (by decide)) (fun e => absurd (o.symm.trans e) (by decide)) (fun e => absurd (o.symm.trans e) (by decide)) (fun _ => hp) (fun e => absurd (o.symm.trans e) (by decide)) (fun e => absurd (o.symm.trans e) (by decide)) (fun e => absurd (o.symm.trans e) (by decide)), fun post hp => ?_, ?_⟩
    · rw [F1 (Or.inr o)] at hp; exact yk_carryOut ha14 hg hY hn en (fun e => absurd (o.symm.trans e) (by decide)) (fun e => absurd (o.symm.trans e) (by decide)) (fun e => absurd (o.symm.trans e) (by decide)) (fun e => absurd (o.symm.trans e) (by decide)) (fun _ => hp) (fun e => absurd (o.symm.trans e) (by decide)) (fun e => absurd (o.symm.trans e) (by decide)) (fun e => absurd (o.symm.trans e) (by decide))
    · exact Q _ _ _ _ _ (ac_go3 hs0 ha h0 (Or.inl o) (ac_nx hsd ha h0 (by omega) (by omega)) (Or.inl ⟨by omega, by omega, rfl⟩) hv)
  · refine ⟨1, (nI (a + 1)), f_forks, f_outCount, a_held, a_lately, (upd b_values (g a 1) (b_values (g a 2))), fun post hp => xk_carry ha14 hg hX hn en (fun e => absurd (o.symm.trans e) (by decide)) (fun e => absurd (o.symm.trans e) (by decide)) (fun e => absurd (o.symm.trans e) (by decide)) (fun e => absurd (o.symm.trans e) (by decide)) (fun e => absurd (o.symm.trans e) (by decide)) (fun e => absurd (o.symm.trans e) (by decide)) (fun e => absurd (o.symm.trans e) (by decide)) (fun _ => hp), fun post hp => ?_, ?_⟩
    · exact yk_carryOut ha14 hg hY hn en (fun e => absurd (o.symm.trans e) (by decide)) (fun e => absurd (o.symm.trans e) (by decide)) (fun e => absurd (o.symm.trans e) (by decide)) (fun e => absurd (o.symm.trans e) (by decide)) (fun e => absurd (o.symm.trans e) (by decide)) (fun e => absurd (o.symm.trans e) (by decide)) (fun e => absurd (o.symm.trans e) (by decide)) (fun _ => hp)
    · exact Q _ _ _ _ _ (ac_go4 hg hs0 ha h0 o (ac_nx hsd ha h0 (by omega) (by omega)) hv)
  · refine ⟨1, (if bt f_choices n = true then a_numbers a else nI (a + 1)), (f_forks + 1), f_outCount, a_held, a_lately, b_values, fun post hp => xk_carry ha14 hg hX hn en (fun e => absurd (o.symm.trans e) (by decide)) (fun e => absurd (o.symm.trans e) (by decide)) (fun e => absurd (o.symm.trans e) (by decide)) (fun e => absurd (o.symm.trans e) (by decide)) (fun e => absurd (o.symm.trans e) (by decide)) (fun e => absurd (o.symm.trans e) (by decide)) (fun _ => hp) (fun e => absurd (o.symm.trans e) (by decide)), fun post hp => ?_, ?_⟩
    · exact yk_carryOut ha14 hg hY hn en (fun e => absurd (o.symm.trans e) (by decide)) (fun e => absurd (o.symm.trans e) (by decide)) (fun e => absurd (o.symm.trans e) (by decide)) (fun e => absurd (o.symm.trans e) (by decide)) (fun e => absurd (o.symm.trans e) (by decide)) (fun e => absurd (o.symm.trans e) (by decide)) (fun _ => hp) (fun e => absurd (o.symm.trans e) (by decide))
    · refine Q _ _ _ _ _ ?_
      cases hb : bt f_choices n
      · rw [if_neg (by decide)]
        exact ac_go3 hs0 ha h0 (Or.inr (Or.inl o)) (ac_nx hsd ha h0 (by omega) (by omega)) (Or.inl ⟨by omega, by omega, rfl⟩) hv
      · rw [if_pos rfl]
        obtain ⟨q, hq, e⟩ := ac_nj hs hsd ha h0 (Or.inl o)
        rw [e]
        exact ac_go3 hs0 ha h0 (Or.inr (Or.inl o)) hq (Or.inr ⟨Or.inl o, e⟩) hv
  · refine ⟨1, (a_numbers a), f_forks, f_outCount, a_held, a_lately, b_values, fun post hp => xk_carry ha14 hg hX hn en (fun e => absurd (o.symm.trans e) (by decide)) (fun e => absurd (o.symm.trans e) (by decide)) (fun e => absurd (o.symm.trans e) (by decide)) (fun e => absurd (o.symm.trans e) (by decide)) (fun e => absurd (o.symm.trans e) (by decide)) (fun _ => hp) (fun e => absurd (o.symm.trans e) (by decide)) (fun e => absurd (o.symm.trans e) (by decide)), fun post hp => ?_, ?_⟩
    · exact yk_carryOut ha14 hg hY hn en (fun e => absurd (o.symm.trans e) (by decide)) (fun e => absurd (o.symm.trans e) (by decide)) (fun e => absurd (o.symm.trans e) (by decide)) (fun e => absurd (o.symm.trans e) (by decide)) (fun e => absurd (o.symm.trans e) (by decide)) (fun _ => hp) (fun e => absurd (o.symm.trans e) (by decide)) (fun e => absurd (o.symm.trans e) (by decide))
    · refine Q _ _ _ _ _ ?_
      obtain ⟨q, hq, e⟩ := ac_nj hs hsd ha h0 (Or.inr o)
      rw [e]
      exact ac_go3 hs0 ha h0 (Or.inr (Or.inr o)) hq (Or.inr ⟨Or.inr o, e⟩) hv
  · refine ⟨2, (nI a), f_forks, f_outCount, a_held, a_lately, b_values, fun post hp => xk_carry ha14 hg hX hn en (fun _ => hp) (fun e => absurd (o.symm.trans e) (by decide)) (fun e => absurd (o.symm.trans e) (by decide)) (fun e => absurd (o.symm.trans e) (by decide)) (fun e => absurd (o.symm.trans e) (by decide)) (fun e => absurd (o.symm.trans e) (by decide)) (fun e => absurd (o.symm.trans e) (by decide)) (fun e => absurd (o.symm.trans e) (by decide)), fun post hp => ?_, Or.inr (Or.inl ⟨rfl, rfl⟩)⟩
    · exact yk_carryOut ha14 hg hY hn en (fun _ => hp) (fun e => absurd (o.symm.trans e) (by decide)) (fun e => absurd (o.symm.trans e) (by decide)) (fun e => absurd (o.symm.trans e) (by decide)) (fun e => absurd (o.symm.trans e) (by decide)) (fun e => absurd (o.symm.trans e) (by decide)) (fun e => absurd (o.symm.trans e) (by decide)) (fun e => absurd (o.symm.trans e) (by decide))
end
end
section
/-! ===== start and step ===== -/
section
variable {f_size f_checked f_waiting f_state f_at f_choices f_forks f_outCount : Int32} {a_ops a_values a_places a_numbers a_met a_always a_sometimes a_noted a_held a_lately : Nat → Int32}
variable {h_size h_doing h_at h_forks h_bits h_said : Int32} {b_ops b_v0 b_v1 b_v2 b_p0 b_p1 b_p2 b_num b_come b_with b_without b_values b_last : Nat → Int32}
variable {s : Nat} {g : Nat → Nat → Nat} {x : Int32}
theorem xk_st36 {post : Int32 → SX → Prop} (K : ∀ hd, post 1 (f_size, f_checked, f_waiting, f_state, f_at, f_choices, f_forks, f_outCount, a_ops, a_values, a_places, a_numbers, a_met, a_always, a_sometimes, a_noted, hd, a_lately)) : ∀ d i hd, i + d = 5 → wX_start_36 post f_size f_checked f_waiting f_state f_at f_choices f_forks f_outCount (d + 1) (nI i) a_ops a_values a_places a_numbers a_met a_always a_sometimes a_noted hd a_lately := by
  intro d
  induction d with
  | zero =>
    intro i hd hi
    have e : i = 5 := by omega
    subst e
    exact br_t (by decide) (K hd)
  | succ d ih =>
    intro i hd hi
    refine br_f (nI_ge (b := 5) (by omega) (by decide)) ⟨vp_in_nI (by omega) (by omega), nm_e ?_⟩
    rw [nI_1]
    exact nm_e (ih (i + 1) _ (by omega))
theorem yk_st36 {post : Int32 → SY → Prop} (K : ∀ vl, post 1 (h_size, h_doing, h_at, h_forks, h_bits, h_said, b_ops, b_v0, b_v1, b_v2, b_p0, b_p1, b_p2, b_num, b_come, b_with, b_without, vl, b_last)) : ∀ d i vl, i + d = 4 → wY_start_36 post h_size h_doing h_at h_forks h_bits h_said (d + 1) (nI i) b_ops b_v0 b_v1 b_v2 b_p0 b_p1 b_p2 b_num b_come b_with b_without vl b_last := by
  intro d
  induction d with
  | zero =>
    intro i vl hi
    have e : i = 4 := by omega
    subst e
    exact br_t (by decide) (K vl)
  | succ d ih =>
    intro i vl hi
    refine br_f (nI_ge (b := 4) (by omega) (by decide)) ⟨vp_in_nI (by omega) (by omega), nm_e ?_⟩
    rw [nI_1]
    exact nm_e (ih (i + 1) _ (by omega))
theorem xk_start {post : Int32 → SX → Prop} (hs : s ≤ 14) (hg : ac_GV g) (hP : ac_XP g a_ops a_values a_places) (hk : ac_CK s g a_numbers f_checked a_met a_always a_sometimes a_noted)
    (K1 : 0 < s → ac_sd s g a_numbers → ∀ w m a t n hd, ac_K s g a_numbers m a t n → post 1 (nI s, 1, w, 1, 0, x, 0, 0, a_ops, a_values, a_places, a_numbers, m, a, t, n, hd, a_lately))
    (K0 : ¬ (0 < s ∧ ac_sd s g a_numbers) → ∀ ck w m a t n, ac_CK s g a_numbers ck m a t n → post 0 (nI s, ck, w, f_state, f_at, f_choices, f_forks, f_outCount, a_ops, a_values, a_places, a_numbers, m, a, t, n, a_held, a_lately)) : wpX_start post (nI s, f_checked, f_waiting, f_state, f_at, f_choices, f_forks, f_outCount, a_ops, a_values, a_places, a_numbers, a_met, a_always, a_sometimes, a_noted, a_held, a_lately) x := by
  unfold wpX_start
  refine xk_sound hs hg hP hk (fun h0 hsd w m a t n h => ?_) (fun hn ck w m a t n h => ?_)
  · exact br_f (by decide) ⟨6, xk_st36 (fun hd => K1 h0 hsd w m a t n hd h) 5 0 a_held (by omega)⟩
  · exact br_t rfl (K0 hn ck w m a t n h)
theorem yk_start {post : Int32 → SY → Prop} (hs : s ≤ 14) (hg : ac_GV g) (hP : ac_YP g b_ops b_v0 b_v1 b_v2 b_p0 b_p1 b_p2)
    (K1 : 0 < s → ac_sd s g b_num → ∀ cm w o vl, post 1 (nI s, 1, 0, 0, x, 0, b_ops, b_v0, b_v1, b_v2, b_p0, b_p1, b_p2, b_num, cm, w, o, vl, b_last))
    (K0 : ¬ (0 < s ∧ ac_sd s g b_num) → ∀ cm w o, post 0 (nI s, h_doing, h_at, h_forks, h_bits, h_said, b_ops, b_v0, b_v1, b_v2, b_p0, b_p1, b_p2, b_num, cm, w, o, b_values, b_last)) : wpY_start post (nI s, h_doing, h_at, h_forks, h_bits, h_said, b_ops, b_v0, b_v1, b_v2, b_p0, b_p1, b_p2, b_num, b_come, b_with, b_without, b_values, b_last) x := by
  unfold wpY_start
  refine yk_sound hs hg hP (fun h0 hsd cm w o => ?_) (fun hn cm w o => ?_)
  · exact br_f (by decide) ⟨5, yk_st36 (fun vl => K1 h0 hsd cm w o vl) 4 0 b_values (by omega)⟩
  · exact br_t rfl (K0 hn cm w o)
end
theorem ac_Q_0 {s : Nat} {g : Nat → Nat → Nat} {num hd vl : Nat → Int32} (x : Int32) (hs : 0 < s) (hsd : ac_sd s g num) : ac_Q s g num 1 0 0 0 0 x x 0 0 hd vl := by
  have C := (ac_B_C (g := g) (num := num) hs).1
  refine Or.inr (Or.inr ⟨rfl, rfl, rfl, rfl, rfl, hsd, 0, rfl, hs, C 0 (by omega) ac_in0, fun q v hq hv h => ?_⟩)
  rw [C (4 * q + v + 21) (by omega) (ac_in2 _)] at h
  exact absurd h (by decide)
theorem i_vc_start {k : Nat} {u : SX} {v : SY} (I : i_Rel k u v) (hk : k + 4 ≤ 2048) (v1 : Int32) : wpX_start (fun r u' => wpY_start (fun r' v' => r' = r ∧ i_Rel (k + 4) u' v') v v1) u v1 := by
  refine zz_el (P := fun u v => wpX_start (fun r u' => wpY_start (fun r' v' => r' = r ∧ i_Rel (k + 4) u' v') v v1) u v1) ?_ I
  intro s g f_size f_checked f_waiting f_state f_at f_choices f_forks f_outCount a_ops a_values a_places a_numbers a_met a_always a_sometimes a_noted a_held a_lately h_size h_doing h_at h_forks h_bits h_said b_ops b_v0 b_v1 b_v2 b_p0 b_p1 b_p2 b_num b_come b_with b_without b_values b_last hs hg hX hY hK hQ
  exact xk_start hs hg hX hK (fun h0 hsd w m a t n hd hk' => yk_start hs hg hY (fun _ _ cm w' o vl => ⟨rfl, zz_in hs hg hX hY (Or.inr ⟨rfl, hk'⟩) (ac_Q_0 v1 h0 hsd)⟩) (fun z => absurd ⟨h0, hsd⟩ z)) (fun hn ck w m a t n hk' => yk_start hs hg hY (fun a b => absurd ⟨a, b⟩ hn) (fun _ cm w' o => ⟨rfl, zz_in hs hg hX hY hk' hQ⟩))
/-- both loops from one point on: one answer, related ends -/
def ac_out (k : Nat) (v1 : Int32) (M d i : Nat) (f_size f_checked f_waiting f_state f_at f_choices f_forks f_outCount : Int32) (a_ops a_values a_places a_numbers a_met a_always a_sometimes a_noted a_held a_lately : Nat → Int32) (h_size h_doing h_at h_forks h_bits h_said : Int32) (b_ops b_v0 b_v1 b_v2 b_p0 b_p1 b_p2 b_num b_come b_with b_without b_values b_last : Nat → Int32) : Prop := ∃ (r : Int32) (u' : SX) (v' : SY), i_Rel k u' v' ∧ (∀ post : Int32 → SX → Prop, post r u' → wX_step_4 post v1 (d + 1) (nI i) (nI i) f_size f_checked f_waiting f_state f_at f_choices f_forks f_outCount a_ops a_values a_places a_numbers a_met a_always a_sometimes a_noted a_held a_lately) ∧ (∀ post : Int32 → SY → Prop, post r v' → wY_step_26 post (nI M) (d + 1) (nI i) (nI i) h_size h_doing h_at h_forks h_bits h_said b_ops b_v0 b_v1 b_v2 b_p0 b_p1 b_p2 b_num b_come b_with b_without b_values b_last)
section
variable {f_size f_checked f_waiting f_state f_at f_choices f_forks f_outCount : Int32} {a_ops a_values a_places a_numbers a_met a_always a_sometimes a_noted a_held a_lately : Nat → Int32}
variable {h_size h_doing h_at h_forks h_bits h_said : Int32} {b_ops b_v0 b_v1 b_v2 b_p0 b_p1 b_p2 b_num b_come b_with b_without b_values b_last : Nat → Int32}
variable {s M k : Nat} {g : Nat → Nat → Nat} {v1 : Int32}
theorem zz_step (hM : M ≤ 64) (hlo : ∀ i, i < M → ¬ v1 ≤ nI i) (hhi : M = 64 ∨ v1 ≤ nI M) (hs : s ≤ 14) (hg : ac_GV g) (hX : ac_XP g a_ops a_values a_places) (hY : ac_YP g b_ops b_v0 b_v1 b_v2 b_p0 b_p1 b_p2) (hK : ac_CK s g a_numbers f_checked a_met a_always a_sometimes a_noted) :
    ∀ d i f_state f_at f_forks f_outCount a_held a_lately h_at h_forks h_bits h_said b_values, i + d = M → ac_Q s g a_numbers f_state f_outCount h_said f_at h_at f_choices h_bits f_forks h_forks a_held b_values →
      ac_out k v1 M d i (nI s) f_checked f_waiting f_state f_at f_choices f_forks f_outCount a_ops a_values a_places a_numbers a_met a_always a_sometimes a_noted a_held a_lately (nI s) f_state h_at h_forks h_bits h_said b_ops b_v0 b_v1 b_v2 b_p0 b_p1 b_p2 a_numbers b_come b_with b_without b_values a_lately := by
  intro d
  induction d with
  | zero =>
    intro i st t fk oc hd lt t2 fk2 bi sa vl hi hQ
    have e : i = M := by omega
    subst e
    refine ⟨nI i, (nI s, f_checked, f_waiting, st, t, f_choices, fk, oc, a_ops, a_values, a_places, a_numbers, a_met, a_always, a_sometimes, a_noted, hd, lt), (nI s, st, t2, fk2, bi, sa, b_ops, b_v0, b_v1, b_v2, b_p0, b_p1, b_p2, a_numbers, b_come, b_with, b_without, vl, lt), zz_in hs hg hX hY hK hQ, fun post hp => ?_, fun post hp => ?_⟩
    · rcases hhi with e | h
      · exact br_t (by rw [e]; decide) hp
      · exact br_c (fun _ => hp) (fun _ => br_t h hp)
    · exact br_t (nI_le (Nat.le_refl _) (by omega)) hp
  | succ d ih =>
    intro i st t fk oc hd lt t2 fk2 bi sa vl hi hQ
    have n64 : ¬ (64 : Int32) ≤ nI i := nI_ge (b := 64) (by omega) (by decide)
    have nv : ¬ v1 ≤ nI i := hlo i (by omega)
    have nM : ¬ nI M ≤ nI i := nI_ge (by omega) (by omega)
    have hQ0 := hQ
    have N : ¬ st = 1 → ac_out k v1 M (d + 1) i (nI s) f_checked f_waiting st t f_choices fk oc a_ops a_values a_places a_numbers a_met a_always a_sometimes a_noted hd lt (nI s) st t2 fk2 bi sa b_ops b_v0 b_v1 b_v2 b_p0 b_p1 b_p2 a_numbers b_come b_with b_without vl lt := by
      intro hn
      exact ⟨nI i, (nI s, f_checked, f_waiting, st, t, f_choices, fk, oc, a_ops, a_values, a_places, a_numbers, a_met, a_always, a_sometimes, a_noted, hd, lt), (nI s, st, t2, fk2, bi, sa, b_ops, b_v0, b_v1, b_v2, b_p0, b_p1, b_p2, a_numbers, b_come, b_with, b_without, vl, lt), zz_in hs hg hX hY hK hQ0, fun post hp => br_f n64 (br_f nv (br_f hn hp)), fun post hp => br_f nM (br_f hn hp)⟩
    rcases hQ with ⟨h1, _⟩ | ⟨h1, _⟩ | ⟨h1, h2, h3, h4, h5, hsd, a, ea, ha, hB, hv⟩
    · exact N (by rw [h1]; decide)
    · exact N (by rw [h1]; decide)
    · subst h1 h2 h3 h4 h5 ea
      obtain ⟨st', t', fk', oc', hd', lt', vl', cX, cY, Q'⟩ := zz_carry hs hg hX hY hsd ha hB hv
      obtain ⟨r, u', v', hR, sX, sY⟩ := ih (i + 1) st' t' fk' oc' hd' lt' t' fk' _ oc' vl' (by omega) Q'
      refine ⟨r, u', v', hR, fun post hp => ?_, fun post hp => ?_⟩
      · refine br_f n64 (br_f nv (br_t rfl (cX _ ?_)))
        exact nm_r (nI_1 i) (nm_r (nI_1 i) (sX post hp))
      · refine br_f nM (br_t rfl (yk_ins (fun _ => br_f (by decide) (cY _ ?_)) (fun h => absurd ((ac_insN hs (by omega)).mpr ha) h)))
        exact nm_r (nI_1 i) (nm_r (nI_1 i) (sY post hp))
end
theorem i_vc_step {k : Nat} {u : SX} {v : SY} (I : i_Rel k u v) (hk : k + 4 ≤ 2048) (v1 : Int32) : wpX_step (fun r u' => wpY_step (fun r' v' => r' = r ∧ i_Rel (k + 4) u' v') v v1) u v1 := by
  refine zz_el (P := fun u v => wpX_step (fun r u' => wpY_step (fun r' v' => r' = r ∧ i_Rel (k + 4) u' v') v v1) u v1) ?_ I
  intro s g f_size f_checked f_waiting f_state f_at f_choices f_forks f_outCount a_ops a_values a_places a_numbers a_met a_always a_sometimes a_noted a_held a_lately h_size h_doing h_at h_forks h_bits h_said b_ops b_v0 b_v1 b_v2 b_p0 b_p1 b_p2 b_num b_come b_with b_without b_values b_last hs hg hX hY hK hQ
  by_cases h0 : 0 ≤ v1
  · obtain ⟨m, hm, e⟩ := nI_of (x := v1) (Int32.not_lt.mpr h0)
    subst e
    by_cases h64 : m ≤ 64
    · have h64' : nI m ≤ 64 := nI_le (b := 64) h64 (by decide)
      obtain ⟨r, u', v', hR, sX, sY⟩ := zz_step (k := k + 4) (M := m) (v1 := nI m) h64 (fun i hi => nI_ge hi hm) (Or.inr (nI_le (Nat.le_refl _) hm)) hs hg hX hY hK m 0 f_state f_at f_forks f_outCount a_held a_lately h_at h_forks h_bits h_said b_values (by omega) hQ
      exact ⟨m + 1, sX _ (br_t h0 (br_t h64' ⟨m + 1, sY _ ⟨rfl, hR⟩⟩))⟩
    · have h64' : ¬ nI m ≤ 64 := nI_ge (a := 64) (by omega) hm
      obtain ⟨r, u', v', hR, sX, sY⟩ := zz_step (k := k + 4) (M := 64) (v1 := nI m) (by omega) (fun i hi => nI_ge (by omega) hm) (Or.inl rfl) hs hg hX hY hK 64 0 f_state f_at f_forks f_outCount a_held a_lately h_at h_forks h_bits h_said b_values (by omega) hQ
      exact ⟨65, sX _ (br_t h0 (br_f h64' ⟨65, sY _ ⟨rfl, hR⟩⟩))⟩
  · have hle : v1 ≤ nI 0 := Int32.le_of_lt (Int32.not_le.mp h0)
    obtain ⟨r, u', v', hR, sX, sY⟩ := zz_step (k := k + 4) (M := 0) (v1 := v1) (by omega) (fun i hi => by omega) (Or.inr hle) hs hg hX hY hK 0 0 f_state f_at f_forks f_outCount a_held a_lately h_at h_forks h_bits h_said b_values (by omega) hQ
    exact ⟨1, sX _ (br_f h0 ⟨1, sY _ ⟨rfl, hR⟩⟩)⟩
end

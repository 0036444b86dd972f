section
/-! rows of the kit's files of rows to paste: stores, numbers, narrowing, branches, bits -/
theorem pk_us {f : Nat → Int32} {k : Nat} {x : Int32} : upd f k x k = x := if_pos rfl
theorem pk_un {f : Nat → Int32} {k j : Nat} {x : Int32} (h : j ≠ k) : upd f k x j = f j := if_neg h
theorem pk_sub {a b : Nat} (h : b ≤ a) : nI a - nI b = nI (a - b) := by
  obtain ⟨c, rfl⟩ : ∃ c, a = c + b := ⟨a - b, by omega⟩
  rw [← nI_add, Int32.add_sub_cancel, Nat.add_sub_cancel]
theorem pk_m1 (n : Nat) : nI (n + 1) + (-1) = nI n := by
  rw [← nI_1, Int32.add_assoc, show (1 : Int32) + (-1) = 0 from rfl, Int32.add_zero]
theorem pk_mul (a b : Nat) : nI a * nI b = nI (a * b) := (Int32.ofNat_mul a b).symm
theorem pk_div {a d : Nat} (ha : a < 2 ^ 31) (h0 : 0 < d) (hd : d < 2 ^ 31) : nI a / nI d = nI (a / d) := by
  apply Int32.toInt_inj.mp
  rw [lg_idiv_nonneg (by rw [nI_toInt ha]; omega) (by rw [nI_toInt hd]; omega), nI_toInt ha, nI_toInt hd, nI_toInt (Nat.lt_of_le_of_lt (Nat.div_le_self a d) ha)]
  first | rfl | exact (Int.natCast_ediv _ _).symm
theorem pk_rem {a d : Nat} (ha : a < 2 ^ 31) (h0 : 0 < d) (hd : d < 2 ^ 31) : nI a - nI a / nI d * nI d = nI (a % d) := by
  rw [pk_div ha h0 hd, pk_mul, pk_sub (Nat.div_mul_le_self a d)]
  exact congrArg nI (by have := Nat.div_add_mod' a d; omega)
theorem pk_sub_toInt {a b : Nat} (ha : a < 2 ^ 30) (hb : b < 2 ^ 30) : (nI a - nI b).toInt = (a : Int) - b := by
  rw [Int32.toInt_sub, nI_toInt (by omega), nI_toInt (by omega)]
  exact Int.bmod_eq_of_le (by omega) (by omega)
theorem pk_sneg {a b : Nat} (hb : b < 2 ^ 30) (h : a < b) : nI a - nI b < 0 := by
  rw [Int32.lt_iff_toInt_lt, pk_sub_toInt (by omega) hb, show (0 : Int32).toInt = 0 from by decide]
  omega
theorem pk_ix (x : Int32) {n : Nat} (hn : n < 2 ^ 31) : x < 0 ∨ nI n ≤ x ∨ ∃ j : Nat, j < n ∧ x = nI j := by
  by_cases h : x < 0
  · exact Or.inl h
  · obtain ⟨j, hj, rfl⟩ := nI_of h
    by_cases h2 : j < n
    · exact Or.inr (Or.inr ⟨j, h2, rfl⟩)
    · exact Or.inr (Or.inl (nI_le (by omega) hj))
theorem pk_le {x y : Int32} {A B : Prop} (a b : Nat) (f : a ≤ b → A) (g : b < a → B) (hx : x = nI a := by rfl) (hy : y = nI b := by rfl) (ha : a < 2 ^ 31 := by omega) (hb : b < 2 ^ 31 := by omega) : (x ≤ y → A) ∧ (¬ x ≤ y → B) := by
  subst hx hy
  rw [nI_leI ha hb]
  exact ⟨f, fun z => g (by omega)⟩
theorem pk_lt {x y : Int32} {A B : Prop} (a b : Nat) (f : a < b → A) (g : b ≤ a → B) (hx : x = nI a := by rfl) (hy : y = nI b := by rfl) (ha : a < 2 ^ 31 := by omega) (hb : b < 2 ^ 31 := by omega) : (x < y → A) ∧ (¬ x < y → B) := by
  subst hx hy
  rw [nI_ltI ha hb]
  exact ⟨f, fun z => g (by omega)⟩
theorem pk_eq {x y : Int32} {A B : Prop} (a b : Nat) (f : a = b → A) (g : a ≠ b → B) (hx : x = nI a := by rfl) (hy : y = nI b := by rfl) (ha : a < 2 ^ 31 := by omega) (hb : b < 2 ^ 31 := by omega) : (x = y → A) ∧ (¬ x = y → B) := by
  subst hx hy
  rw [nI_eq ha hb]
  exact ⟨f, g⟩
theorem pk_in {x : Int32} (n N : Nat) (h : n < N) (hx : x = nI n := by rfl) (hN : N < 2 ^ 31 := by omega) : vp_in x N := by
  subst hx
  exact vp_in_nI h hN
theorem pk_cl {x : Int32} (n : Nat) (hx : x = nI n := by rfl) (h : n < 2 ^ 31 := by omega) : x.toNatClampNeg = n := by
  subst hx
  exact nI_clamp h
theorem pk_tn {n : Nat} (h : n < 2 ^ 32) : (nI n).toBitVec.toNat = n := Nat.mod_eq_of_lt h
theorem pk_and (x : Int32) {m : Int32} (k : Nat) (hm : m.toBitVec.toNat = 2 ^ k - 1) : x &&& m = nI (x.toBitVec.toNat % 2 ^ k) := by
  apply Int32.toBitVec_inj.mp
  apply BitVec.eq_of_toNat_eq
  rw [Int32.toBitVec_and, BitVec.toNat_and, hm, Nat.and_two_pow_sub_one_eq_mod]
  show _ = (BitVec.ofNat 32 _).toNat
  rw [BitVec.toNat_ofNat]
  exact (Nat.mod_eq_of_lt (Nat.lt_of_le_of_lt (Nat.mod_le _ _) x.toBitVec.isLt)).symm
theorem pk_andN {n : Nat} (h : n < 2 ^ 32) {m : Int32} (k : Nat) (hm : m.toBitVec.toNat = 2 ^ k - 1) : nI n &&& m = nI (n % 2 ^ k) := by
  rw [pk_and _ k hm, pk_tn h]
theorem pk_andE (x : Int32) {m : Int32} (k : Nat) (hm : m.toBitVec.toNat = 2 ^ k - 1) : ∃ j : Nat, j < 2 ^ k ∧ x &&& m = nI j := ⟨_, Nat.mod_lt _ (Nat.two_pow_pos k), pk_and x k hm⟩
theorem pk_andIn (x : Int32) {m : Int32} (k : Nat) (hm : m.toBitVec.toNat = 2 ^ k - 1) (hk : k ≤ 30) : vp_in (x &&& m) (2 ^ k) := by
  obtain ⟨j, hj, e⟩ := pk_andE x k hm
  rw [e]
  exact vp_in_nI hj (Nat.lt_of_le_of_lt (Nat.pow_le_pow_right (by decide) hk) (by decide))
theorem pk_shl (a s : Int32) (k : Nat) (hs : (s.toBitVec.smod 32).toNat = k) : (a <<< s).toBitVec.toNat = a.toBitVec.toNat * 2 ^ k % 2 ^ 32 := by
  show (a.toBitVec <<< (s.toBitVec.smod 32).toNat).toNat = _
  rw [hs, BitVec.toNat_shiftLeft, Nat.shiftLeft_eq]
theorem pk_shlN {n : Nat} (s : Int32) (k : Nat) (hs : (s.toBitVec.smod 32).toNat = k) (h : n * 2 ^ k < 2 ^ 32) : nI n <<< s = nI (n * 2 ^ k) := by
  apply Int32.toBitVec_inj.mp
  apply BitVec.eq_of_toNat_eq
  have hn : n < 2 ^ 32 := Nat.lt_of_le_of_lt (Nat.le_mul_of_pos_right n (Nat.two_pow_pos k)) h
  rw [pk_shl _ _ k hs, pk_tn hn, pk_tn h, Nat.mod_eq_of_lt h]
theorem pk_shr (a s : Int32) (k : Nat) (hs : (s.toBitVec.smod 32).toNat = k) : (a >>> s).toInt = a.toInt >>> k := by
  show (a.toBitVec.sshiftRight (s.toBitVec.smod 32).toNat).toInt = _
  rw [hs, BitVec.toInt_sshiftRight]
  rfl
theorem pk_shrN {n : Nat} (h : n < 2 ^ 31) (s : Int32) (k : Nat) (hs : (s.toBitVec.smod 32).toNat = k) : nI n >>> s = nI (n / 2 ^ k) := by
  apply Int32.toInt_inj.mp
  have h2 : n / 2 ^ k ≤ n := Nat.div_le_self _ _
  rw [pk_shr _ _ k hs, nI_toInt h, nI_toInt (by omega), Int.shiftRight_eq_div_pow]
  rfl
theorem pk_ushr (x s : Int32) (k : Nat) (hs : ((s.toUInt32 &&& Int32.toUInt32 31).toBitVec % 32).toNat = k) : (x.toUInt32 >>> (s.toUInt32 &&& Int32.toUInt32 31)).toInt32.toBitVec.toNat = x.toBitVec.toNat / 2 ^ k := by
  have e : (x.toUInt32 >>> (s.toUInt32 &&& Int32.toUInt32 31)).toInt32.toBitVec = x.toBitVec >>> k := by
    rw [← hs]
    exact UInt32.toBitVec_shiftRight _ _
  rw [e, BitVec.toNat_ushiftRight, Nat.shiftRight_eq_div_pow]
theorem pk_ushrN {n : Nat} (hn : n < 2 ^ 32) (s : Int32) (k : Nat) (hs : ((s.toUInt32 &&& Int32.toUInt32 31).toBitVec % 32).toNat = k) : ((nI n).toUInt32 >>> (s.toUInt32 &&& Int32.toUInt32 31)).toInt32 = nI (n / 2 ^ k) := by
  apply Int32.toBitVec_inj.mp
  apply BitVec.eq_of_toNat_eq
  rw [pk_ushr _ s k hs, pk_tn hn, pk_tn (Nat.lt_of_le_of_lt (Nat.div_le_self _ _) hn)]
theorem pk_nb (z : Int32) : narrow .byte (.int z.toInt8.toInt32) = .int z.toInt8.toInt32 := congrArg Value.int (by simp)
theorem pk_ns (z : Int32) : narrow .short (.int z.toInt16.toInt32) = .int z.toInt16.toInt32 := congrArg Value.int (by simp)
theorem pk_fb (r : Int32) : fits .byte (.int r.toInt8.toInt32) = true := by
  have ⟨a, b⟩ := lg_i2b_range r
  have h1 : (-128 : Int32).toInt = -128 := by decide
  have h2 : (127 : Int32).toInt = 127 := by decide
  simp only [fits, Bool.and_eq_true, decide_eq_true_eq, Int32.le_iff_toInt_le, h1, h2]
  omega
theorem pk_fs (r : Int32) : fits .short (.int r.toInt16.toInt32) = true := by
  have ⟨a, b⟩ := lg_i2s_range r
  have h1 : (-32768 : Int32).toInt = -32768 := by decide
  have h2 : (32767 : Int32).toInt = 32767 := by decide
  simp only [fits, Bool.and_eq_true, decide_eq_true_eq, Int32.le_iff_toInt_le, h1, h2]
  omega
theorem pk_charN {q : Nat} (hq : q < 65536) : narrow .char (.int (nI q)) = .int (nI q) ∧ fits .char (.int (nI q)) = true := by
  constructor
  · have e : (nI q).toUInt32.toUInt16.toUInt32.toInt32 = nI q := by
      apply Int32.toBitVec_inj.mp
      apply BitVec.eq_of_toNat_eq
      show (nI q).toUInt32.toUInt16.toUInt32.toNat = q % 2 ^ 32
      rw [UInt16.toNat_toUInt32, UInt32.toNat_toUInt16, show (nI q).toUInt32.toNat = q % 2 ^ 32 from rfl]
      omega
    exact congrArg Value.int e
  · have a : (0 : Int32) ≤ nI q := nI_pos' (by omega)
    have b : nI q ≤ 65535 := nI_le (b := 65535) (by omega) (by decide)
    show (decide ((0 : Int32) ≤ nI q) && decide (nI q ≤ 65535)) = true
    rw [decide_eq_true a, decide_eq_true b]
    rfl
theorem pk_char (x : Int32) : (x.toUInt32 % 65536).toInt32 = nI (x.toBitVec.toNat % 65536) := by
  apply Int32.toBitVec_inj.mp
  apply BitVec.eq_of_toNat_eq
  rw [pk_tn (by omega)]
  show (x.toUInt32 % 65536).toNat = _
  rw [UInt32.toNat_mod]
  rfl
theorem pk_nc (x : Int32) : narrow .char (.int (x.toUInt32 % 65536).toInt32) = .int (x.toUInt32 % 65536).toInt32 := by
  rw [pk_char]
  exact (pk_charN (Nat.mod_lt _ (by decide))).1
theorem pk_fc (x : Int32) : fits .char (.int (x.toUInt32 % 65536).toInt32) = true := by
  rw [pk_char]
  exact (pk_charN (Nat.mod_lt _ (by decide))).2
theorem pk_vb (z : Int32) : vp_nar .byte z.toInt8.toInt32 = z.toInt8.toInt32 := by rw [vp_nar_byte]; simp
theorem pk_vs (z : Int32) : vp_nar .short z.toInt16.toInt32 = z.toInt16.toInt32 := by rw [vp_nar_short]; simp
theorem pk_vc (z : Int32) : vp_nar .char (z.toUInt32 % 65536).toInt32 = (z.toUInt32 % 65536).toInt32 := Value.int.inj (pk_nc z)
def bt (x : Int32) (i : Nat) : Bool := x.toBitVec.getLsbD i
theorem b_ext {x y : Int32} (h : ∀ i, i < 32 → bt x i = bt y i) : x = y := Int32.toBitVec_inj.mp (BitVec.eq_of_getLsbD_eq (fun i hi => h i hi))
theorem b_or (x y : Int32) (i : Nat) : bt (x ||| y) i = (bt x i || bt y i) := by unfold bt; rw [Int32.toBitVec_or, BitVec.getLsbD_or]
theorem b_and (x y : Int32) (i : Nat) : bt (x &&& y) i = (bt x i && bt y i) := by unfold bt; rw [Int32.toBitVec_and, BitVec.getLsbD_and]
theorem b_xor (x y : Int32) (i : Nat) : bt (x ^^^ y) i = (bt x i ^^ bt y i) := by unfold bt; rw [Int32.toBitVec_xor, BitVec.getLsbD_xor]
theorem b_big {x : Int32} {i : Nat} (h : 32 ≤ i) : bt x i = false := BitVec.getLsbD_of_ge _ _ h
theorem b_255 (i : Nat) : bt 255 i = decide (i < 8) := by
  rcases Nat.lt_or_ge i 32 with h | h
  · exact (by decide +kernel : ∀ i, i < 32 → bt 255 i = decide (i < 8)) i h
  · rw [b_big h, decide_eq_false (by omega)]
theorem b_65535 (i : Nat) : bt 65535 i = decide (i < 16) := by
  rcases Nat.lt_or_ge i 32 with h | h
  · exact (by decide +kernel : ∀ i, i < 32 → bt 65535 i = decide (i < 16)) i h
  · rw [b_big h, decide_eq_false (by omega)]
theorem b_m1 : ∀ i, i < 32 → bt (-1) i = true := by decide +kernel
theorem b_0 (i : Nat) : bt 0 i = false := BitVec.getLsbD_zero
theorem s_l : ∀ n, n < 32 → ((nI n &&& 31).toBitVec.smod 32).toNat = n := by decide +kernel
theorem s_u : ∀ n, n < 32 → (((nI n).toUInt32 &&& Int32.toUInt32 31).toBitVec % 32).toNat = n := by decide +kernel
theorem b_shl (n : Nat) (hn : n < 32) (x : Int32) {i : Nat} (hi : i < 32) : bt (x <<< (nI n &&& 31)) i = (decide (n ≤ i) && bt x (i - n)) := by
  unfold bt
  rw [Int32.toBitVec_shiftLeft]
  show (x.toBitVec <<< ((nI n &&& 31).toBitVec.smod 32).toNat).getLsbD i = _
  rw [s_l n hn, BitVec.getLsbD_shiftLeft]
  rcases Nat.lt_or_ge i n with h | h
  · simp [h, Nat.not_le.mpr h]
  · simp [hi, h, Nat.not_lt.mpr h]
theorem b_ushr (n : Nat) (hn : n < 32) (x : Int32) (i : Nat) : bt ((x.toUInt32 >>> ((nI n).toUInt32 &&& Int32.toUInt32 31)).toInt32) i = bt x (n + i) := by
  show (x.toUInt32 >>> ((nI n).toUInt32 &&& Int32.toUInt32 31)).toBitVec.getLsbD i = x.toUInt32.toBitVec.getLsbD (n + i)
  rw [UInt32.toBitVec_shiftRight]
  show (x.toUInt32.toBitVec >>> (((nI n).toUInt32 &&& Int32.toUInt32 31).toBitVec % 32).toNat).getLsbD i = _
  rw [s_u n hn, BitVec.getLsbD_ushiftRight]
theorem b_sshr (n : Nat) (hn : n < 32) (x : Int32) {i : Nat} (hi : i < 32) : bt (x >>> (nI n &&& 31)) i = if n + i < 32 then bt x (n + i) else bt x 31 := by
  unfold bt
  rw [Int32.toBitVec_shiftRight]
  show (x.toBitVec.sshiftRight ((nI n &&& 31).toBitVec.smod 32).toNat).getLsbD i = _
  rw [s_l n hn, BitVec.getLsbD_sshiftRight, BitVec.msb_eq_getLsbD_last]
  simp [hi]
theorem b_shl8 (x : Int32) {i : Nat} (hi : i < 32) : bt (x <<< ((8 : Int32) &&& 31)) i = (decide (8 ≤ i) && bt x (i - 8)) := b_shl 8 (by omega) x hi
theorem b_shl16 (x : Int32) {i : Nat} (hi : i < 32) : bt (x <<< ((16 : Int32) &&& 31)) i = (decide (16 ≤ i) && bt x (i - 16)) := b_shl 16 (by omega) x hi
theorem b_shl24 (x : Int32) {i : Nat} (hi : i < 32) : bt (x <<< ((24 : Int32) &&& 31)) i = (decide (24 ≤ i) && bt x (i - 24)) := b_shl 24 (by omega) x hi
theorem b_sshr8 (x : Int32) {i : Nat} (hi : i < 32) : bt (x >>> ((8 : Int32) &&& 31)) i = if 8 + i < 32 then bt x (8 + i) else bt x 31 := b_sshr 8 (by omega) x hi
end
section
/-! bounded search, booleans as ints, bits: plain -/
def ly_b (c : Bool) : Int32 := match c with
  | true => 1
  | false => 0
theorem ly_b0 {c : Bool} : ly_b c = 0 ↔ c = false := by cases c <;> decide
theorem ly_bor (x y : Bool) : ly_b x ||| ly_b y = ly_b (x || y) := by cases x <;> cases y <;> decide
theorem ly_bn (c : Bool) : narrow .boolean (.int (ly_b c)) = .int (ly_b c) := by cases c <;> rfl
theorem ly_bv (c : Bool) : vp_nar .boolean (ly_b c) = ly_b c := by cases c <;> rfl
theorem ly_br {c : Bool} {A B : Prop} (f : c = false → A) (g : c = true → B) : (ly_b c = 0 → A) ∧ (¬ ly_b c = 0 → B) := by
  cases c
  · exact br_t rfl (f rfl)
  · exact br_f (by decide) (g rfl)
def ly_oi : Option Nat → Int32
  | none => -1
  | some k => nI k
def ly_ff (p : Nat → Bool) : Nat → Nat → Option Nat
  | _, 0 => none
  | a, n + 1 => if p a = true then some a else ly_ff p (a + 1) n
theorem ly_ff_s {p : Nat → Bool} {a n : Nat} (h : p a = true) : ly_ff p a (n + 1) = some a := if_pos h
theorem ly_ff_n {p : Nat → Bool} {a n : Nat} (h : p a = false) : ly_ff p a (n + 1) = ly_ff p (a + 1) n := if_neg (by rw [h]; decide)
theorem ly_ff_some {p : Nat → Bool} : ∀ {n a k : Nat}, ly_ff p a n = some k → a ≤ k ∧ k < a + n ∧ p k = true ∧ ∀ j, a ≤ j → j < k → p j = false
  | 0, a, k, h => by cases h
  | n + 1, a, k, h => by
    cases e : p a with
    | true =>
      rw [ly_ff_s e] at h
      cases h
      exact ⟨Nat.le_refl _, by omega, e, fun j h1 h2 => absurd h1 (by omega)⟩
    | false =>
      rw [ly_ff_n e] at h
      obtain ⟨h1, h2, h3, h4⟩ := ly_ff_some h
      refine ⟨by omega, by omega, h3, fun j g1 g2 => ?_⟩
      by_cases z : j = a
      · rw [z]; exact e
      · exact h4 j (by omega) g2
theorem ly_ff_none {p : Nat → Bool} : ∀ {n a : Nat}, ly_ff p a n = none → ∀ j, a ≤ j → j < a + n → p j = false
  | 0, a, _ => fun j h1 h2 => absurd h1 (by omega)
  | n + 1, a, h => by
    cases e : p a with
    | true => rw [ly_ff_s e] at h; cases h
    | false =>
      rw [ly_ff_n e] at h
      intro j h1 h2
      by_cases z : j = a
      · rw [z]; exact e
      · exact ly_ff_none h j (by omega) (by omega)
theorem ly_ff_is {p : Nat → Bool} {a n k : Nat} (h1 : a ≤ k) (h2 : k < a + n) (h3 : p k = true) (h4 : ∀ j, a ≤ j → j < k → p j = false) : ly_ff p a n = some k := by
  cases e : ly_ff p a n with
  | none => rw [ly_ff_none e k h1 h2] at h3; cases h3
  | some q =>
    obtain ⟨g1, g2, g3, g4⟩ := ly_ff_some e
    have : q = k := by
      rcases Nat.lt_trichotomy q k with z | z | z
      · rw [h4 q g1 z] at g3; cases g3
      · exact z
      · rw [g4 k h1 z] at h3; cases h3
    rw [this]
theorem ly_ff_no {p : Nat → Bool} {a n : Nat} (h : ∀ j, a ≤ j → j < a + n → p j = false) : ly_ff p a n = none := by
  cases e : ly_ff p a n with
  | none => rfl
  | some q =>
    obtain ⟨g1, g2, g3, g4⟩ := ly_ff_some e
    rw [h q g1 g2] at g3; cases g3
theorem ly_ff_congr {p q : Nat → Bool} : ∀ {n a : Nat}, (∀ j, a ≤ j → j < a + n → p j = q j) → ly_ff p a n = ly_ff q a n
  | 0, _, _ => rfl
  | n + 1, a, h => by
    have e := h a (Nat.le_refl _) (by omega)
    have ih := ly_ff_congr (p := p) (q := q) (n := n) (a := a + 1) (fun j h1 h2 => h j (by omega) (by omega))
    unfold ly_ff
    rw [e, ih]
theorem ly_ff_snoc {p : Nat → Bool} {a n : Nat} : ly_ff p a (n + 1) = match ly_ff p a n with
    | some k => some k
    | none => if p (a + n) = true then some (a + n) else none := by
  cases e : ly_ff p a n with
  | some k =>
    obtain ⟨g1, g2, g3, g4⟩ := ly_ff_some e
    exact ly_ff_is g1 (by omega) g3 g4
  | none =>
    have g := ly_ff_none e
    cases z : p (a + n) with
    | true => exact ly_ff_is (by omega) (by omega) z (fun j h1 h2 => g j h1 h2)
    | false =>
      refine ly_ff_no (fun j h1 h2 => ?_)
      by_cases y : j = a + n
      · rw [y]; exact z
      · exact g j h1 (by omega)
def ly_ex (p : Nat → Bool) : Nat → Nat → Bool
  | _, 0 => false
  | a, n + 1 => p a || ly_ex p (a + 1) n
theorem ly_ex_iff {p : Nat → Bool} : ∀ {n a : Nat}, ly_ex p a n = true ↔ ∃ j, a ≤ j ∧ j < a + n ∧ p j = true
  | 0, a => ⟨(fun h => nomatch h), (fun ⟨j, h1, h2, _⟩ => absurd h1 (by omega))⟩
  | n + 1, a => by
    show (p a || ly_ex p (a + 1) n) = true ↔ _
    rw [Bool.or_eq_true, ly_ex_iff]
    constructor
    · rintro (h | ⟨j, h1, h2, h3⟩)
      · exact ⟨a, Nat.le_refl _, by omega, h⟩
      · exact ⟨j, by omega, by omega, h3⟩
    · rintro ⟨j, h1, h2, h3⟩
      by_cases z : j = a
      · rw [← z]; exact Or.inl h3
      · exact Or.inr ⟨j, by omega, by omega, h3⟩
theorem ly_ex_f {p : Nat → Bool} {n a : Nat} (h : ∀ j, a ≤ j → j < a + n → p j = false) : ly_ex p a n = false := by
  cases e : ly_ex p a n with
  | false => rfl
  | true =>
    obtain ⟨j, h1, h2, h3⟩ := ly_ex_iff.mp e
    rw [h j h1 h2] at h3; cases h3
theorem ly_ex_fi {p : Nat → Bool} {n a : Nat} (h : ly_ex p a n = false) : ∀ j, a ≤ j → j < a + n → p j = false := fun j h1 h2 => by
  cases e : p j with
  | false => rfl
  | true => rw [ly_ex_iff.mpr ⟨j, h1, h2, e⟩] at h; cases h
theorem ly_ex_congr {p q : Nat → Bool} : ∀ {n a : Nat}, (∀ j, a ≤ j → j < a + n → p j = q j) → ly_ex p a n = ly_ex q a n
  | 0, _, _ => rfl
  | n + 1, a, h => by
    have e := h a (Nat.le_refl _) (by omega)
    have ih := ly_ex_congr (p := p) (q := q) (n := n) (a := a + 1) (fun j h1 h2 => h j (by omega) (by omega))
    show (p a || ly_ex p (a + 1) n) = (q a || ly_ex q (a + 1) n)
    rw [e, ih]
theorem ly_ex_snoc {p : Nat → Bool} : ∀ {n a : Nat}, ly_ex p a (n + 1) = (ly_ex p a n || p (a + n))
  | 0, a => by show (p a || false) = (false || p a); rw [Bool.or_false, Bool.false_or]
  | n + 1, a => by
    have ih := ly_ex_snoc (p := p) (n := n) (a := a + 1)
    show (p a || ly_ex p (a + 1) (n + 1)) = ((p a || ly_ex p (a + 1) n) || p (a + (n + 1)))
    rw [ih, Bool.or_assoc, show a + 1 + n = a + (n + 1) by omega]
theorem ly_beq {x y : Bool} (h : x = true ↔ y = true) : x = y := by
  cases x <;> cases y <;> simp_all
theorem ly_pig {l : List Nat} {n : Nat} (h : l.Nodup) (hl : ∀ x, x ∈ l → x < n) : l.length ≤ n := by
  have := List.Nodup.length_le_of_subset (l₂ := List.range n) h (fun x hx => List.mem_range.mpr (hl x hx))
  rwa [List.length_range] at this
/-! bits -/
theorem ly_1 : ∀ i, i < 32 → bt 1 i = decide (i = 0) := by decide +kernel
theorem ly_and1 (x : Int32) : (x &&& 1) = 0 ↔ bt x 0 = false := by
  constructor
  · intro h
    have e := b_and x 1 0
    rw [h, b_0, ly_1 0 (by omega)] at e
    simpa using e.symm
  · intro h
    refine b_ext (fun i hi => ?_)
    rw [b_and, ly_1 i hi, b_0]
    by_cases z : i = 0
    · rw [z, h]; rfl
    · simp [z]
theorem ly_bit (x : Int32) {s : Nat} (hs : s < 32) : ((x >>> (nI s &&& 31)) &&& 1) = 0 ↔ bt x s = false := by
  rw [ly_and1, b_sshr s hs x (by omega), Nat.add_zero, if_pos hs]
theorem ly_one {s i : Nat} (hs : s < 32) (hi : i < 32) : bt ((1 : Int32) <<< (nI s &&& 31)) i = decide (i = s) := by
  rw [b_shl s hs 1 hi, ly_1 _ (by omega)]
  apply ly_beq
  simp
  omega
theorem ly_not (x : Int32) {i : Nat} (hi : i < 32) : bt (x ^^^ (-1)) i = !bt x i := by
  rw [b_xor, b_m1 i hi, Bool.xor_true]
theorem ly_zero {x : Int32} : x = 0 ↔ ∀ i, i < 32 → bt x i = false :=
  ⟨fun h i _ => by rw [h, b_0], fun h => b_ext (fun i hi => by rw [h i hi, b_0])⟩
theorem ly_nz {x : Int32} (h : ¬ x = 0) : ∃ t, t < 32 ∧ bt x t = true ∧ ∀ j, j < t → bt x j = false := by
  have : ∃ i, i < 32 ∧ bt x i = true := by
    refine Classical.byContradiction (fun hn => h (ly_zero.mpr (fun i hi => ?_)))
    cases e : bt x i with
    | false => rfl
    | true => exact absurd ⟨i, hi, e⟩ hn
  obtain ⟨i, hi, hb⟩ := this
  cases e : ly_ff (bt x) 0 32 with
  | none => rw [ly_ff_none e i (by omega) (by omega)] at hb; cases hb
  | some t =>
    obtain ⟨h1, h2, h3, h4⟩ := ly_ff_some e
    exact ⟨t, by omega, h3, fun j hj => h4 j (by omega) hj⟩
theorem ly_neg (x : Int32) {i : Nat} (hi : i < 32) : bt (-x) i = (bt x i ^^ decide (∃ j, j < i ∧ bt x j = true)) := by
  unfold bt
  rw [Int32.toBitVec_neg, BitVec.getLsbD_neg]
  simp [hi]
theorem ly_pred (x : Int32) {i : Nat} (hi : i < 32) : bt (x - 1) i = !bt (-x) i := by
  unfold bt
  rw [Int32.toBitVec_sub, Int32.toBitVec_neg]
  show (x.toBitVec - 1#32).getLsbD i = _
  rw [← BitVec.not_neg, BitVec.getLsbD_not]
  simp [hi]
theorem ly_low {x : Int32} {t : Nat} (h : bt x t = true) (hl : ∀ j, j < t → bt x j = false) :
    (∀ i, i < 32 → bt (x &&& (-x)) i = decide (i = t)) ∧ (∀ i, i < 32 → bt (x &&& (x - 1)) i = (bt x i && decide (i ≠ t))) := by
  have key : ∀ i, i < 32 → (bt x i = true → (decide (∃ j, j < i ∧ bt x j = true) = decide (i ≠ t))) := by
    intro i hi hb
    apply ly_beq
    rw [decide_eq_true_eq, decide_eq_true_eq]
    constructor
    · rintro ⟨j, hj, hjb⟩ rfl
      rw [hl j hj] at hjb; cases hjb
    · intro hne
      refine ⟨t, ?_, h⟩
      rcases Nat.lt_trichotomy i t with z | z | z
      · rw [hl i z] at hb; cases hb
      · exact absurd z hne
      · exact z
  constructor
  · intro i hi
    rw [b_and, ly_neg x hi]
    cases e : bt x i with
    | false =>
      have : i ≠ t := fun z => by rw [z, h] at e; cases e
      simp [this]
    | true =>
      rw [key i hi e]
      by_cases z : i = t <;> simp [z]
  · intro i hi
    rw [b_and, ly_pred x hi, ly_neg x hi]
    cases e : bt x i with
    | false => rfl
    | true =>
      rw [key i hi e]
      by_cases z : i = t <;> simp [z]
theorem ly_hit {x y : Int32} {t : Nat} (ht : t < 32) (h : ∀ i, i < 32 → bt x i = decide (i = t)) : (y &&& x) = 0 ↔ bt y t = false := by
  rw [ly_zero]
  constructor
  · intro g
    have e := g t ht
    rw [b_and, h t ht] at e
    simpa using e
  · intro g i hi
    rw [b_and, h i hi]
    by_cases z : i = t
    · rw [z, g]; rfl
    · simp [z]
theorem ly_tri : ∀ m, m < 6 → ∀ i, i < 32 → bt ((3 : Int32) <<< (nI (2 * m) &&& 31)) i = decide (i / 2 = m) := by decide +kernel
/-! numbers -/
theorem ly_nb : ∀ n, n < 128 → vp_nar .byte (nI n).toInt8.toInt32 = nI n := by
  have h : ∀ n, n < 128 → (nI n).toInt8.toInt32 = nI n := by decide +kernel
  intro n hn
  rw [pk_vb]; exact h n hn
theorem ly_nb' : ∀ n, n < 128 → vp_nar .byte (nI n) = nI n := by
  have h : ∀ n, n < 128 → (nI n).toInt8.toInt32 = nI n := by decide +kernel
  intro n hn
  rw [vp_nar_byte]; exact h n hn
theorem ly_ns : ∀ n, n < 4096 → vp_nar .short (nI n).toInt16.toInt32 = nI n := by
  have h : ∀ n, n < 4096 → (nI n).toInt16.toInt32 = nI n := by decide +kernel
  intro n hn
  rw [pk_vs]; exact h n hn
theorem ly_ns1 : vp_nar .short ((-1 : Int32).toInt16.toInt32) = -1 := by rw [pk_vs]; decide
theorem ly_nlt {x y : Int32} : ¬ x < y ↔ y ≤ x := Int32.not_lt
theorem ly_m1 : nI 0 + (-1) = -1 := by decide
theorem ly_mm (n : Nat) (h : n < 2 ^ 31) : ¬ nI n = -1 := fun e => by
  have e2 := congrArg Int32.toInt e
  rw [nI_toInt h, show (-1 : Int32).toInt = -1 by decide] at e2
  omega
theorem ly_m2 (n : Nat) (h : n < 2 ^ 31) : ¬ nI n = -2 := fun e => by
  have e2 := congrArg Int32.toInt e
  rw [nI_toInt h, show (-2 : Int32).toInt = -2 by decide] at e2
  omega
theorem ly_24 (m i : Nat) : 24 * nI m + nI i = nI (24 * m + i) := by
  rw [show (24 : Int32) = nI 24 from rfl, pk_mul, nI_add]
theorem ly_24' (m : Nat) : 24 * nI m = nI (24 * m) := by
  rw [show (24 : Int32) = nI 24 from rfl, pk_mul]
theorem ly_16 (m i : Nat) : 16 * nI m + nI i = nI (16 * m + i) := by
  rw [show (16 : Int32) = nI 16 from rfl, pk_mul, nI_add]
theorem ly_2 (m i : Nat) : 2 * nI m + nI i = nI (2 * m + i) := by
  rw [show (2 : Int32) = nI 2 from rfl, pk_mul, nI_add]
theorem ly_2' (m : Nat) : 2 * nI m = nI (2 * m) := by
  rw [show (2 : Int32) = nI 2 from rfl, pk_mul]
theorem ly_d24 {k : Nat} (h : k < 2 ^ 31) : nI k / 24 = nI (k / 24) := pk_div (d := 24) h (by omega) (by omega)
theorem ly_d2 {k : Nat} (h : k < 2 ^ 31) : nI k / 2 = nI (k / 2) := pk_div (d := 2) h (by omega) (by omega)
theorem ly_r24 {k : Nat} (h : k < 2 ^ 31) : nI k - nI k / 24 * 24 = nI (k % 24) := pk_rem (d := 24) h (by omega) (by omega)
theorem ly_upe {f : Nat → Int32} {k j : Nat} {x : Int32} : upd f k x j = if j = k then x else f j := rfl
/-! the test of a range -/
def ly_in (v l h : Int32) : Bool := decide (l ≤ v) && decide (v ≤ h)
theorem ly_xin {post : Int32 → Prop} {v l h : Int32} (hp : post (ly_b (ly_in v l h))) : wpX_in post v l h := by
  unfold wpX_in
  by_cases z : v < l
  · refine br_t z ?_
    have : ly_in v l h = false := by unfold ly_in; rw [decide_eq_false (fun q => (Int32.not_le.mpr z) q)]; rfl
    rw [this] at hp; exact hp
  · refine br_f z ?_
    by_cases y : h < v
    · refine br_t y ?_
      have : ly_in v l h = false := by unfold ly_in; rw [decide_eq_false (p := v ≤ h) (fun q => (Int32.not_le.mpr y) q), Bool.and_false]
      rw [this] at hp; exact hp
    · refine br_f y ?_
      have : ly_in v l h = true := by unfold ly_in; rw [decide_eq_true (Int32.not_lt.mp y), decide_eq_true (Int32.not_lt.mp z)]; rfl
      rw [this] at hp; exact hp
theorem ly_yin {post : Int32 → Prop} {v l h : Int32} (hp : post (ly_b (ly_in v l h))) : wpY_in post v l h := ly_xin (post := post) hp
theorem ly_in_t {v l h : Int32} (e : ly_in v l h = true) : l ≤ v ∧ v ≤ h := by
  unfold ly_in at e
  rw [Bool.and_eq_true, decide_eq_true_eq, decide_eq_true_eq] at e
  exact e
theorem ly_in_n {v : Int32} {n : Nat} (hn : n < 2 ^ 31) (e : ly_in v 0 (nI n) = true) : ∃ j, j < n + 1 ∧ v = nI j := by
  obtain ⟨h1, h2⟩ := ly_in_t e
  obtain ⟨j, hj, rfl⟩ := nI_of (x := v) (Int32.not_lt.mpr h1)
  rw [nI_leI hj hn] at h2
  exact ⟨j, by omega, rfl⟩
theorem ly_in_f {v : Int32} {n : Nat} (hn : n < 2 ^ 31) {j : Nat} (h : j ≤ n) (e : v = nI j) : ly_in v 0 (nI n) = true := by
  unfold ly_in
  rw [e, decide_eq_true (nI_pos' (by omega)), decide_eq_true (nI_le h hn)]; rfl
end
section
/-! what the items of a module say: plain -/
def ly_us (x : Int32) : Bool := ly_in x 8 10 || (decide (x = 12) || decide (x = 16))
def ly_rg (x : Int32) : Bool := ly_in x 1 7 || (decide (x = 9) || (decide (x = 12) || decide (x = 13)))
def ly_sy (o a b : Nat → Int32) (k : Nat) : Int32 := if o k = 16 then a k else b k
def ly_lb (o a : Nat → Int32) (m n : Nat) (s : Int32) : Option Nat := ly_ff (fun k => decide (o k = 0) && decide (a k = s)) (24 * m) n
def ly_sl (o a b : Nat → Int32) (c : Int32) (m n : Nat) (s : Int32) : Bool := ly_ex (fun k => (decide (o k = 0) && decide (a k = s)) && decide (b k = c)) (24 * m) n
def ly_df (o a b : Nat → Int32) (m n : Nat) (s : Int32) : Bool := ly_ex (fun k => (decide (o k = 0) && decide (a k = s)) && !decide (b k ≤ 0)) (24 * m) n
def ly_ud (o a b : Nat → Int32) (m n : Nat) (s : Int32) : Bool := ly_ex (fun k => ly_us (o k) && decide (ly_sy o a b k = s)) (24 * m) n
def ly_fl (o a : Nat → Int32) (m n : Nat) : Bool := ly_ex (fun k => decide (o k = 0) && !decide (ly_lb o a m n (a k) = some k)) (24 * m) n
def ly_lo (b : Nat → Int32) (x : Option Nat) : Bool := match x with
  | none => false
  | some k => decide (b k = 0)
def ly_ak (o a b : Nat → Int32) (m n : Nat) (s : Int32) : Bool := !ly_lo b (ly_lb o a m n s) && ly_ud o a b m n s
def ly_sv (x : Int32) : Nat := if x = 0 then 0 else 1
def ly_sc (o a : Nat → Int32) (m : Nat) : Nat → Nat
  | 0 => if o (24 * m) = 19 then ly_sv (a (24 * m)) else 0
  | i + 1 => if o (24 * m + (i + 1)) = 19 then ly_sv (a (24 * m + (i + 1))) else ly_sc o a m i
def ly_la (m : Nat) (x : Option Nat) : Int32 := match x with
  | none => 0
  | some k => nI (k - 24 * m + 1)
def ly_ok (o a b : Int32) : Prop :=
  (∃ j, j < 20 ∧ o = nI j) ∧ (o = 0 → (∃ s, s < 16 ∧ a = nI s) ∧ (b = 0 ∨ b = 1 ∨ b = 2)) ∧
  (ly_us o = true → ∃ s, s < 16 ∧ (if o = 16 then a else b) = nI s) ∧ (o = 17 → ∃ n, n < 17 ∧ a = nI n) ∧
  (o = 18 → ∃ n, 2 ≤ n ∧ n < 9 ∧ a = nI n) ∧ (o = 19 → a = 0 ∨ a = 1) ∧ (ly_rg o = true → ∃ n, n < 8 ∧ a = nI n)
def ly_Mo (o a b : Nat → Int32) (m n : Nat) (sec lab : Nat → Int32) (us lo gl we fa : Int32) : Prop :=
  n ≤ 24 ∧ (∀ k, 24 * m ≤ k → k < 24 * m + n → ly_ok (o k) (a k) (b k)) ∧
  (∀ i, i < n → sec (24 * m + i) = nI (ly_sc o a m i)) ∧
  (∀ s, s < 16 → lab (16 * m + s) = ly_la m (ly_lb o a m n (nI s))) ∧
  (∀ s, s < 32 → bt us s = ly_ud o a b m n (nI s)) ∧ (∀ s, s < 32 → bt lo s = ly_sl o a b 0 m n (nI s)) ∧
  (∀ s, s < 32 → bt gl s = ly_sl o a b 1 m n (nI s)) ∧ (∀ s, s < 32 → bt we s = ly_sl o a b 2 m n (nI s)) ∧ fa = ly_b (ly_fl o a m n)
/-! agreement on the module's own items -/
section cg
variable {o a b o' a' b' : Nat → Int32} {m n : Nat}
theorem ly_lb_c (ho : ∀ k, 24 * m ≤ k → k < 24 * m + n → o' k = o k) (ha : ∀ k, 24 * m ≤ k → k < 24 * m + n → a' k = a k) (s : Int32) : ly_lb o' a' m n s = ly_lb o a m n s :=
  ly_ff_congr (fun k h1 h2 => by rw [ho k h1 h2, ha k h1 h2])
theorem ly_sl_c (ho : ∀ k, 24 * m ≤ k → k < 24 * m + n → o' k = o k) (ha : ∀ k, 24 * m ≤ k → k < 24 * m + n → a' k = a k) (hb : ∀ k, 24 * m ≤ k → k < 24 * m + n → b' k = b k) (c s : Int32) : ly_sl o' a' b' c m n s = ly_sl o a b c m n s :=
  ly_ex_congr (fun k h1 h2 => by rw [ho k h1 h2, ha k h1 h2, hb k h1 h2])
theorem ly_ud_c (ho : ∀ k, 24 * m ≤ k → k < 24 * m + n → o' k = o k) (ha : ∀ k, 24 * m ≤ k → k < 24 * m + n → a' k = a k) (hb : ∀ k, 24 * m ≤ k → k < 24 * m + n → b' k = b k) (s : Int32) : ly_ud o' a' b' m n s = ly_ud o a b m n s :=
  ly_ex_congr (fun k h1 h2 => by unfold ly_sy; rw [ho k h1 h2, ha k h1 h2, hb k h1 h2])
theorem ly_fl_c (ho : ∀ k, 24 * m ≤ k → k < 24 * m + n → o' k = o k) (ha : ∀ k, 24 * m ≤ k → k < 24 * m + n → a' k = a k) : ly_fl o' a' m n = ly_fl o a m n :=
  ly_ex_congr (fun k h1 h2 => by rw [ho k h1 h2, ha k h1 h2, ly_lb_c ho ha])
theorem ly_sc_c : ∀ {i : Nat}, i < n → (∀ k, 24 * m ≤ k → k < 24 * m + n → o' k = o k) → (∀ k, 24 * m ≤ k → k < 24 * m + n → a' k = a k) → ly_sc o' a' m i = ly_sc o a m i
  | 0, hi, ho, ha => by unfold ly_sc; rw [ho _ (by omega) (by omega), ha _ (by omega) (by omega)]
  | i + 1, hi, ho, ha => by
    have ih := ly_sc_c (i := i) (by omega) ho ha
    unfold ly_sc; rw [ho _ (by omega) (by omega), ha _ (by omega) (by omega), ih]
theorem ly_Mo_c {sec lab sec' lab' : Nat → Int32} {us lo gl we fa : Int32} (h : ly_Mo o a b m n sec lab us lo gl we fa)
    (ho : ∀ k, 24 * m ≤ k → k < 24 * m + 24 → o' k = o k) (ha : ∀ k, 24 * m ≤ k → k < 24 * m + 24 → a' k = a k) (hb : ∀ k, 24 * m ≤ k → k < 24 * m + 24 → b' k = b k)
    (hs : ∀ k, 24 * m ≤ k → k < 24 * m + 24 → sec' k = sec k) (hl : ∀ s, s < 16 → lab' (16 * m + s) = lab (16 * m + s)) : ly_Mo o' a' b' m n sec' lab' us lo gl we fa := by
  obtain ⟨h1, h2, h3, h4, h5, h6, h7, h8, h9⟩ := h
  have ho' : ∀ k, 24 * m ≤ k → k < 24 * m + n → o' k = o k := fun k g1 g2 => ho k g1 (by omega)
  have ha' : ∀ k, 24 * m ≤ k → k < 24 * m + n → a' k = a k := fun k g1 g2 => ha k g1 (by omega)
  have hb' : ∀ k, 24 * m ≤ k → k < 24 * m + n → b' k = b k := fun k g1 g2 => hb k g1 (by omega)
  refine ⟨h1, fun k g1 g2 => ?_, fun i hi => ?_, fun s h => ?_, fun s h => ?_, fun s h => ?_, fun s h => ?_, fun s h => ?_, ?_⟩
  · rw [ho' k g1 g2, ha' k g1 g2, hb' k g1 g2]; exact h2 k g1 g2
  · rw [hs _ (by omega) (by omega), ly_sc_c hi ho' ha']; exact h3 i hi
  · rw [hl s h, ly_lb_c ho' ha']; exact h4 s h
  · rw [ly_ud_c ho' ha' hb']; exact h5 s h
  · rw [ly_sl_c ho' ha' hb']; exact h6 s h
  · rw [ly_sl_c ho' ha' hb']; exact h7 s h
  · rw [ly_sl_c ho' ha' hb']; exact h8 s h
  · rw [ly_fl_c ho' ha']; exact h9
end cg
/-! one item more -/
section sn
variable {o a b : Nat → Int32} {m n : Nat}
theorem ly_lb_s (s : Int32) : ly_lb o a m (n + 1) s = match ly_lb o a m n s with
    | some k => some k
    | none => if (decide (o (24 * m + n) = 0) && decide (a (24 * m + n) = s)) = true then some (24 * m + n) else none := ly_ff_snoc
theorem ly_sl_s (c s : Int32) : ly_sl o a b c m (n + 1) s = (ly_sl o a b c m n s || ((decide (o (24 * m + n) = 0) && decide (a (24 * m + n) = s)) && decide (b (24 * m + n) = c))) := ly_ex_snoc
theorem ly_ud_s (s : Int32) : ly_ud o a b m (n + 1) s = (ly_ud o a b m n s || (ly_us (o (24 * m + n)) && decide (ly_sy o a b (24 * m + n) = s))) := ly_ex_snoc
theorem ly_lb_some {s : Int32} {k : Nat} (h : ly_lb o a m n s = some k) : 24 * m ≤ k ∧ k < 24 * m + n ∧ o k = 0 ∧ a k = s ∧ ∀ j, 24 * m ≤ j → j < k → ¬ (o j = 0 ∧ a j = s) := by
  obtain ⟨h1, h2, h3, h4⟩ := ly_ff_some h
  rw [Bool.and_eq_true, decide_eq_true_eq, decide_eq_true_eq] at h3
  refine ⟨h1, h2, h3.1, h3.2, fun j g1 g2 g3 => ?_⟩
  have := h4 j g1 g2
  rw [decide_eq_true g3.1, decide_eq_true g3.2] at this
  cases this
theorem ly_lb_none {s : Int32} (h : ly_lb o a m n s = none) : ∀ j, 24 * m ≤ j → j < 24 * m + n → ¬ (o j = 0 ∧ a j = s) := fun j h1 h2 g => by
  have := ly_ff_none h j h1 h2
  rw [decide_eq_true g.1, decide_eq_true g.2] at this
  cases this
theorem ly_fl_iff : ly_fl o a m n = true ↔ ∃ j k, 24 * m ≤ j ∧ j < k ∧ k < 24 * m + n ∧ o j = 0 ∧ o k = 0 ∧ a j = a k := by
  unfold ly_fl
  rw [ly_ex_iff]
  constructor
  · rintro ⟨k, h1, h2, h3⟩
    rw [Bool.and_eq_true, decide_eq_true_eq, Bool.not_eq_true', decide_eq_false_iff_not] at h3
    cases e : ly_lb o a m n (a k) with
    | none => exact absurd ⟨h3.1, rfl⟩ (ly_lb_none e k h1 h2)
    | some j =>
      obtain ⟨g1, g2, g3, g4, g5⟩ := ly_lb_some e
      have hne : j ≠ k := fun z => h3.2 (by rw [e, z])
      refine ⟨j, k, g1, ?_, h2, g3, h3.1, g4⟩
      rcases Nat.lt_trichotomy j k with z | z | z
      · exact z
      · exact absurd z hne
      · exact absurd ⟨h3.1, rfl⟩ (g5 k h1 z)
  · rintro ⟨j, k, h1, h2, h3, h4, h5, h6⟩
    refine ⟨k, by omega, h3, ?_⟩
    rw [Bool.and_eq_true, decide_eq_true_eq, Bool.not_eq_true', decide_eq_false_iff_not]
    refine ⟨h5, fun e => ?_⟩
    exact (ly_lb_some e).2.2.2.2 j h1 h2 ⟨h4, h6⟩
theorem ly_fl_s : ly_fl o a m (n + 1) = (ly_fl o a m n || (decide (o (24 * m + n) = 0) && (ly_lb o a m n (a (24 * m + n))).isSome)) := by
  apply ly_beq
  rw [Bool.or_eq_true, ly_fl_iff, ly_fl_iff, Bool.and_eq_true, decide_eq_true_eq]
  constructor
  · rintro ⟨j, k, h1, h2, h3, h4, h5, h6⟩
    by_cases z : k = 24 * m + n
    · subst z
      refine Or.inr ⟨h5, ?_⟩
      cases e : ly_lb o a m n (a (24 * m + n)) with
      | none => exact absurd ⟨h4, h6⟩ (ly_lb_none e j h1 h2)
      | some q => rfl
    · exact Or.inl ⟨j, k, h1, h2, by omega, h4, h5, h6⟩
  · rintro (⟨j, k, h1, h2, h3, h4, h5, h6⟩ | ⟨h1, h2⟩)
    · exact ⟨j, k, h1, h2, by omega, h4, h5, h6⟩
    · cases e : ly_lb o a m n (a (24 * m + n)) with
      | none => rw [e] at h2; cases h2
      | some q =>
        obtain ⟨g1, g2, g3, g4, g5⟩ := ly_lb_some e
        exact ⟨q, 24 * m + n, g1, g2, by omega, g3, h1, g4⟩
/-- in a module that isn't faulty a label is the one of its symbol -/
theorem ly_nf (h : ly_fl o a m n = false) {k : Nat} (h1 : 24 * m ≤ k) (h2 : k < 24 * m + n) (h3 : o k = 0) : ly_lb o a m n (a k) = some k := by
  have := ly_ex_fi h k h1 h2
  rw [decide_eq_true h3, Bool.true_and, Bool.not_eq_false', decide_eq_true_eq] at this
  exact this
theorem ly_sl_nf (h : ly_fl o a m n = false) (c s : Int32) : ly_sl o a b c m n s = match ly_lb o a m n s with
    | none => false
    | some k => decide (b k = c) := by
  apply ly_beq
  unfold ly_sl
  rw [ly_ex_iff]
  constructor
  · rintro ⟨k, h1, h2, h3⟩
    rw [Bool.and_eq_true, Bool.and_eq_true, decide_eq_true_eq, decide_eq_true_eq, decide_eq_true_eq] at h3
    have e := ly_nf h h1 h2 h3.1.1
    rw [h3.1.2] at e
    rw [e]
    exact decide_eq_true h3.2
  · intro g
    cases e : ly_lb o a m n s with
    | none => rw [e] at g; cases g
    | some k =>
      rw [e] at g
      obtain ⟨g1, g2, g3, g4, g5⟩ := ly_lb_some e
      refine ⟨k, g1, g2, ?_⟩
      rw [decide_eq_true g3, decide_eq_true g4]
      exact g
theorem ly_ak_nf (h : ly_fl o a m n = false) (s : Int32) : ly_ak o a b m n s = (ly_ud o a b m n s && !ly_sl o a b 0 m n s) := by
  unfold ly_ak
  rw [ly_sl_nf h, Bool.and_comm]
  cases ly_lb o a m n s <;> rfl
theorem ly_df_sl (h : ∀ k, 24 * m ≤ k → k < 24 * m + n → ly_ok (o k) (a k) (b k)) (s : Int32) : ly_df o a b m n s = (ly_sl o a b 1 m n s || ly_sl o a b 2 m n s) := by
  apply ly_beq
  unfold ly_df ly_sl
  rw [Bool.or_eq_true, ly_ex_iff, ly_ex_iff, ly_ex_iff]
  constructor
  · rintro ⟨k, h1, h2, h3⟩
    rw [Bool.and_eq_true, Bool.and_eq_true, decide_eq_true_eq, decide_eq_true_eq] at h3
    have hk := ((h k h1 h2).2.1 h3.1.1).2
    rcases hk with e | e | e
    · rw [e] at h3; exact absurd h3.2 (by decide)
    · exact Or.inl ⟨k, h1, h2, by rw [decide_eq_true h3.1.1, decide_eq_true h3.1.2, e]; rfl⟩
    · exact Or.inr ⟨k, h1, h2, by rw [decide_eq_true h3.1.1, decide_eq_true h3.1.2, e]; rfl⟩
  · rintro (⟨k, h1, h2, h3⟩ | ⟨k, h1, h2, h3⟩)
    · rw [Bool.and_eq_true, Bool.and_eq_true, decide_eq_true_eq, decide_eq_true_eq, decide_eq_true_eq] at h3
      exact ⟨k, h1, h2, by rw [decide_eq_true h3.1.1, decide_eq_true h3.1.2, h3.2]; rfl⟩
    · rw [Bool.and_eq_true, Bool.and_eq_true, decide_eq_true_eq, decide_eq_true_eq, decide_eq_true_eq] at h3
      exact ⟨k, h1, h2, by rw [decide_eq_true h3.1.1, decide_eq_true h3.1.2, h3.2]; rfl⟩
/-- symbols are below 16 -/
theorem ly_ud_16 (h : ∀ k, 24 * m ≤ k → k < 24 * m + n → ly_ok (o k) (a k) (b k)) {s : Nat} (hs : 16 ≤ s) (h2 : s < 32) : ly_ud o a b m n (nI s) = false := by
  refine ly_ex_f (fun k g1 g2 => ?_)
  cases e : ly_us (o k) with
  | false => rfl
  | true =>
    obtain ⟨t, ht, e2⟩ := (h k g1 g2).2.2.1 e
    have : ly_sy o a b k = nI t := e2
    rw [this, Bool.true_and, decide_eq_false_iff_not, nI_eq (by omega) (by omega)]
    omega
theorem ly_sl_16 (h : ∀ k, 24 * m ≤ k → k < 24 * m + n → ly_ok (o k) (a k) (b k)) (c : Int32) {s : Nat} (hs : 16 ≤ s) (h2 : s < 32) : ly_sl o a b c m n (nI s) = false := by
  refine ly_ex_f (fun k g1 g2 => ?_)
  by_cases e : o k = 0
  · obtain ⟨⟨t, ht, e2⟩, -⟩ := (h k g1 g2).2.1 e
    have : ¬ a k = nI s := by rw [e2, nI_eq (by omega) (by omega)]; omega
    rw [decide_eq_false this, Bool.and_false, Bool.false_and]
  · rw [decide_eq_false e, Bool.false_and, Bool.false_and]
theorem ly_sc_le : ∀ i, ly_sc o a m i < 2
  | 0 => by unfold ly_sc ly_sv; split <;> (try split) <;> omega
  | i + 1 => by
    have := ly_sc_le i
    unfold ly_sc ly_sv; split <;> (try split) <;> omega
end sn
theorem ly_svv {x : Int32} (h : x = 0 ∨ x = 1) : x = nI (ly_sv x) := by
  rcases h with rfl | rfl <;> decide
/-! the empty module -/
theorem ly_Mo_0 {o a b sec lab : Nat → Int32} {m : Nat} (hl : ∀ s, s < 16 → lab (16 * m + s) = 0) : ly_Mo o a b m 0 sec lab 0 0 0 0 0 :=
  ⟨by omega, fun k h1 h2 => absurd h1 (by omega), fun i hi => absurd hi (by omega), fun s hs => hl s hs, fun s _ => b_0 s, fun s _ => b_0 s, fun s _ => b_0 s, fun s _ => b_0 s, rfl⟩
/-! an item more: what X has after it -/
def ly_q1 (x : Int32) (c : Prop) [Decidable c] (y : Int32) : Int32 := if c then y else x
theorem ly_setbit {x : Int32} {f : Int32 → Bool} (hx : ∀ s, s < 32 → bt x s = f (nI s)) {t : Nat} (ht : t < 16) : ∀ s, s < 32 → bt (x ||| ((1 : Int32) <<< (nI t &&& 31))) s = (f (nI s) || decide (nI t = nI s)) := by
  intro s hs
  rw [b_or, hx s hs, ly_one (by omega) hs]
  congr 1
  apply ly_beq
  rw [decide_eq_true_eq, decide_eq_true_eq, nI_eq (by omega) (by omega)]
  exact ⟨fun h => h.symm, fun h => h.symm⟩
theorem ly_Mo_s {o a b sec lab sec' lab' : Nat → Int32} {m n : Nat} {us lo gl we fa us' lo' gl' we' fa' : Int32}
    (h : ly_Mo o a b m n sec lab us lo gl we fa) (hn : n < 24) (hk : ly_ok (o (24 * m + n)) (a (24 * m + n)) (b (24 * m + n)))
    (hs : ∀ k, 24 * m ≤ k → k < 24 * m + n → sec' k = sec k)
    (hs2 : sec' (24 * m + n) = if o (24 * m + n) = 19 then a (24 * m + n) else if n = 0 then 0 else sec (24 * m + n - 1))
    (hl0 : ¬ o (24 * m + n) = 0 → (∀ s, s < 16 → lab' (16 * m + s) = lab (16 * m + s)) ∧ lo' = lo ∧ gl' = gl ∧ we' = we ∧ fa' = fa)
    (hl1 : ∀ t, t < 16 → o (24 * m + n) = 0 → a (24 * m + n) = nI t → (∀ s, s < 16 → s ≠ t → lab' (16 * m + s) = lab (16 * m + s)) ∧
      lab' (16 * m + t) = (if lab (16 * m + t) = 0 then nI (n + 1) else lab (16 * m + t)) ∧ fa' = (if lab (16 * m + t) = 0 then fa else 1) ∧
      lo' = (if b (24 * m + n) = 0 then lo ||| ((1 : Int32) <<< (nI t &&& 31)) else lo) ∧ gl' = (if b (24 * m + n) = 1 then gl ||| ((1 : Int32) <<< (nI t &&& 31)) else gl) ∧
      we' = (if b (24 * m + n) = 2 then we ||| ((1 : Int32) <<< (nI t &&& 31)) else we))
    (hu0 : ly_us (o (24 * m + n)) = false → us' = us)
    (hu1 : ∀ t, t < 16 → ly_us (o (24 * m + n)) = true → ly_sy o a b (24 * m + n) = nI t → us' = us ||| ((1 : Int32) <<< (nI t &&& 31))) :
    ly_Mo o a b m (n + 1) sec' lab' us' lo' gl' we' fa' := by
  obtain ⟨h1, h2, h3, h4, h5, h6, h7, h8, h9⟩ := h
  have labz : ∀ t, t < 16 → (lab (16 * m + t) = 0 ↔ ly_lb o a m n (nI t) = none) := by
    intro t ht
    rw [h4 t ht]
    cases e : ly_lb o a m n (nI t) with
    | none => exact ⟨fun _ => rfl, fun _ => rfl⟩
    | some k =>
      obtain ⟨g1, g2, -⟩ := ly_lb_some e
      refine ⟨fun z => absurd z ?_, fun z => nomatch z⟩
      exact nI_ne0 (by omega) (by omega)
  refine ⟨by omega, fun k g1 g2 => ?_, fun i hi => ?_, ?_, ?_, ?_, ?_, ?_, ?_⟩
  · by_cases z : k = 24 * m + n
    · rw [z]; exact hk
    · exact h2 k g1 (by omega)
  · by_cases z : i = n
    · rw [z, hs2]
      have hk6 := hk.2.2.2.2.2.1
      by_cases y : o (24 * m + n) = 19
      · rw [if_pos y]
        have e1 : ly_sc o a m n = ly_sv (a (24 * m + n)) := by
          cases n with
          | zero => unfold ly_sc; exact if_pos y
          | succ n => unfold ly_sc; exact if_pos y
        rw [e1]
        exact ly_svv (hk6 y)
      · rw [if_neg y]
        cases n with
        | zero =>
          have y' : ¬ o (24 * m) = 19 := y
          rw [if_pos rfl]; unfold ly_sc; rw [if_neg y']; rfl
        | succ n =>
          rw [if_neg (by omega)]
          unfold ly_sc
          rw [if_neg y]
          exact h3 n (by omega)
    · rw [hs _ (by omega) (by omega)]; exact h3 i (by omega)
  · intro s hs3
    rw [ly_lb_s]
    by_cases y : o (24 * m + n) = 0
    · obtain ⟨⟨t, ht, et⟩, -⟩ := hk.2.1 y
      obtain ⟨q1, q2, -⟩ := hl1 t ht y et
      by_cases z : s = t
      · subst z
        rw [q2]
        cases e : ly_lb o a m n (nI s) with
        | none =>
          rw [if_pos ((labz s ht).mpr e)]
          simp only [y, et, decide_true, Bool.and_self, if_true]
          unfold ly_la
          exact congrArg nI (by omega)
        | some k =>
          rw [if_neg (fun z => by rw [(labz s ht).mp z] at e; cases e), h4 s hs3, e]
      · rw [q1 s hs3 z, h4 s hs3]
        cases e : ly_lb o a m n (nI s) with
        | none =>
          have : ¬ nI t = nI s := by rw [nI_eq (by omega) (by omega)]; omega
          simp only [et, this, decide_false, Bool.and_false]
          rfl
        | some k => rfl
    · rw [(hl0 y).1 s hs3, h4 s hs3]
      cases e : ly_lb o a m n (nI s) with
      | none =>
        simp only [y, decide_false, Bool.false_and]
        rfl
      | some k => rfl
  · intro s hs3
    rw [ly_ud_s]
    cases y : ly_us (o (24 * m + n)) with
    | false => rw [hu0 y, Bool.false_and, Bool.or_false]; exact h5 s hs3
    | true =>
      obtain ⟨t, ht, et⟩ := hk.2.2.1 y
      have et' : ly_sy o a b (24 * m + n) = nI t := et
      rw [hu1 t ht y et', Bool.true_and, et']
      exact ly_setbit h5 ht s hs3
  · intro s hs3
    rw [ly_sl_s]
    by_cases y : o (24 * m + n) = 0
    · obtain ⟨⟨t, ht, et⟩, -⟩ := hk.2.1 y
      obtain ⟨-, -, -, q1, q2, q3⟩ := hl1 t ht y et
      rw [q1, decide_eq_true y, Bool.true_and, et]
      by_cases z : b (24 * m + n) = 0
      · rw [if_pos z, decide_eq_true z, Bool.and_true]; exact ly_setbit h6 ht s hs3
      · rw [if_neg z, decide_eq_false z, Bool.and_false, Bool.or_false]; exact h6 s hs3
    · rw [(hl0 y).2.1, decide_eq_false y, Bool.false_and, Bool.false_and, Bool.or_false]; exact h6 s hs3
  · intro s hs3
    rw [ly_sl_s]
    by_cases y : o (24 * m + n) = 0
    · obtain ⟨⟨t, ht, et⟩, -⟩ := hk.2.1 y
      obtain ⟨-, -, -, q1, q2, q3⟩ := hl1 t ht y et
      rw [q2, decide_eq_true y, Bool.true_and, et]
      by_cases z : b (24 * m + n) = 1
      · rw [if_pos z, decide_eq_true z, Bool.and_true]; exact ly_setbit h7 ht s hs3
      · rw [if_neg z, decide_eq_false z, Bool.and_false, Bool.or_false]; exact h7 s hs3
    · rw [(hl0 y).2.2.1, decide_eq_false y, Bool.false_and, Bool.false_and, Bool.or_false]; exact h7 s hs3
  · intro s hs3
    rw [ly_sl_s]
    by_cases y : o (24 * m + n) = 0
    · obtain ⟨⟨t, ht, et⟩, -⟩ := hk.2.1 y
      obtain ⟨-, -, -, q1, q2, q3⟩ := hl1 t ht y et
      rw [q3, decide_eq_true y, Bool.true_and, et]
      by_cases z : b (24 * m + n) = 2
      · rw [if_pos z, decide_eq_true z, Bool.and_true]; exact ly_setbit h8 ht s hs3
      · rw [if_neg z, decide_eq_false z, Bool.and_false, Bool.or_false]; exact h8 s hs3
    · rw [(hl0 y).2.2.2.1, decide_eq_false y, Bool.false_and, Bool.false_and, Bool.or_false]; exact h8 s hs3
  · rw [ly_fl_s]
    by_cases y : o (24 * m + n) = 0
    · obtain ⟨⟨t, ht, et⟩, -⟩ := hk.2.1 y
      obtain ⟨-, -, q1, -⟩ := hl1 t ht y et
      rw [q1, decide_eq_true y, Bool.true_and, et]
      cases e : ly_lb o a m n (nI t) with
      | none => rw [if_pos ((labz t ht).mpr e)]; simp only [Option.isSome_none, Bool.or_false]; exact h9
      | some k =>
        rw [if_neg (fun z => by rw [(labz t ht).mp z] at e; cases e)]
        simp only [Option.isSome_some, Bool.or_true]; rfl
    · rw [(hl0 y).2.2.2.2, decide_eq_false y, Bool.false_and, Bool.or_false]; exact h9
end
section
/-! the relation -/
def ly_J (o a b len sec lab us lo gl we fa : Nat → Int32) : Prop :=
  ∃ L : Nat → Nat, ∀ m, m < 6 → len m = nI (L m) ∧ ly_Mo o a b m (L m) sec lab (us m) (lo m) (gl m) (we m) (fa m)
def ly_K (li kl ma te en md ro : Int32) (kls lis ksy sys kat pla siz : Nat → Int32) : Prop :=
  li = 0 ∨ ((∃ n, n ≤ 6 ∧ kl = nI n ∧ ma = nI n ∧ ∀ j, j < n → kls j = lis j) ∧ (∀ s, s < 16 → ksy s = sys s) ∧ (∀ k, k < 144 → kat k = pla k) ∧
    siz 0 = te ∧ siz 1 = en ∧ siz 2 = md ∧ siz 3 = ro)
def ly_O (x : Int32) : Prop := ∃ n, n ≤ 100 ∧ x = nI n
def i_Rel (k : Nat) (u : SX) (v : SY) : Prop := match u, v with
  | (f_origin, f_culprit, f_strip, f_listed, f_units, f_ordered, f_textEnd, f_end, f_longs, f_rounds, f_keptListed, f_entry, f_linked, f_pc, f_steps, f_outs, f_ran, a_op, a_opA, a_opB, a_section, a_length, a_role, a_labelAt, a_used, a_local, a_global, a_weak, a_faulty, a_list, a_chosen, a_order, a_lengthened, a_at, a_keptAt, a_keptSymbol, a_keptList, a_image, a_sizes, a_words, a_apart, a_partA, a_partN, a_wide, a_r, a_output), (g_origin, g_strip, g_many, g_culprit, g_textEnd, g_end, g_made, g_rounds, g_entry, g_linked, g_ran, g_pc, g_steps, g_outs, b_ops, b_opA, b_opB, b_counts, b_roles, b_list, b_places, b_symbols, b_image, b_stays, b_wide, b_memory, b_reg, b_out) => g_origin = f_origin ∧ g_strip = f_strip ∧ g_culprit = f_culprit ∧ g_entry = f_entry ∧ g_linked = f_linked ∧ g_ran = f_ran ∧ g_pc = f_pc ∧ g_steps = f_steps ∧ g_outs = f_outs ∧
    b_ops = a_op ∧ b_opA = a_opA ∧ b_opB = a_opB ∧ b_counts = a_length ∧ b_roles = a_role ∧ b_image = a_image ∧ b_memory = a_words ∧ b_reg = a_r ∧ b_out = a_output ∧
    ly_O f_origin ∧ ly_J a_op a_opA a_opB a_length a_section a_labelAt a_used a_local a_global a_weak a_faulty ∧
    ly_K f_linked f_keptListed g_many g_textEnd g_end g_made g_rounds a_keptList b_list a_keptSymbol b_symbols a_keptAt b_places a_sizes
theorem ly_mk {k : Nat} {f_origin f_culprit f_strip f_listed f_units f_ordered f_textEnd f_end f_longs f_rounds f_keptListed f_entry f_linked f_pc f_steps f_outs f_ran : Int32} {a_op a_opA a_opB a_section a_length a_role a_labelAt a_used a_local a_global a_weak a_faulty a_list a_chosen a_order a_lengthened a_at a_keptAt a_keptSymbol a_keptList a_image a_sizes a_words a_apart a_partA a_partN a_wide a_r a_output : Nat → Int32} {g_many g_textEnd g_end g_made g_rounds : Int32} {b_list b_places b_symbols b_stays b_wide : Nat → Int32} (hO : ly_O f_origin) (hJ : ly_J a_op a_opA a_opB a_length a_section a_labelAt a_used a_local a_global a_weak a_faulty)
    (hK : ly_K f_linked f_keptListed g_many g_textEnd g_end g_made g_rounds a_keptList b_list a_keptSymbol b_symbols a_keptAt b_places a_sizes) : i_Rel k (f_origin, f_culprit, f_strip, f_listed, f_units, f_ordered, f_textEnd, f_end, f_longs, f_rounds, f_keptListed, f_entry, f_linked, f_pc, f_steps, f_outs, f_ran, a_op, a_opA, a_opB, a_section, a_length, a_role, a_labelAt, a_used, a_local, a_global, a_weak, a_faulty, a_list, a_chosen, a_order, a_lengthened, a_at, a_keptAt, a_keptSymbol, a_keptList, a_image, a_sizes, a_words, a_apart, a_partA, a_partN, a_wide, a_r, a_output) (f_origin, f_strip, g_many, f_culprit, g_textEnd, g_end, g_made, g_rounds, f_entry, f_linked, f_ran, f_pc, f_steps, f_outs, a_op, a_opA, a_opB, a_length, a_role, b_list, b_places, b_symbols, a_image, b_stays, b_wide, a_words, a_r, a_output) := by
  unfold i_Rel
  exact ⟨rfl, rfl, rfl, rfl, rfl, rfl, rfl, rfl, rfl, rfl, rfl, rfl, rfl, rfl, rfl, rfl, rfl, rfl, hO, hJ, hK⟩
theorem ly_el {P : SX → SY → Prop} {k : Nat} {u : SX} {v : SY} (I : i_Rel k u v)
    (h : ∀ (f_origin f_culprit f_strip f_listed f_units f_ordered f_textEnd f_end f_longs f_rounds f_keptListed f_entry f_linked f_pc f_steps f_outs f_ran : Int32) (a_op a_opA a_opB a_section a_length a_role a_labelAt a_used a_local a_global a_weak a_faulty a_list a_chosen a_order a_lengthened a_at a_keptAt a_keptSymbol a_keptList a_image a_sizes a_words a_apart a_partA a_partN a_wide a_r a_output : Nat → Int32) (g_many g_textEnd g_end g_made g_rounds : Int32) (b_list b_places b_symbols b_stays b_wide : Nat → Int32), ly_O f_origin → ly_J a_op a_opA a_opB a_length a_section a_labelAt a_used a_local a_global a_weak a_faulty →
      ly_K f_linked f_keptListed g_many g_textEnd g_end g_made g_rounds a_keptList b_list a_keptSymbol b_symbols a_keptAt b_places a_sizes → P (f_origin, f_culprit, f_strip, f_listed, f_units, f_ordered, f_textEnd, f_end, f_longs, f_rounds, f_keptListed, f_entry, f_linked, f_pc, f_steps, f_outs, f_ran, a_op, a_opA, a_opB, a_section, a_length, a_role, a_labelAt, a_used, a_local, a_global, a_weak, a_faulty, a_list, a_chosen, a_order, a_lengthened, a_at, a_keptAt, a_keptSymbol, a_keptList, a_image, a_sizes, a_words, a_apart, a_partA, a_partN, a_wide, a_r, a_output) (f_origin, f_strip, g_many, f_culprit, g_textEnd, g_end, g_made, g_rounds, f_entry, f_linked, f_ran, f_pc, f_steps, f_outs, a_op, a_opA, a_opB, a_length, a_role, b_list, b_places, b_symbols, a_image, b_stays, b_wide, a_words, a_r, a_output)) : P u v := by
  obtain ⟨f_origin, f_culprit, f_strip, f_listed, f_units, f_ordered, f_textEnd, f_end, f_longs, f_rounds, f_keptListed, f_entry, f_linked, f_pc, f_steps, f_outs, f_ran, a_op, a_opA, a_opB, a_section, a_length, a_role, a_labelAt, a_used, a_local, a_global, a_weak, a_faulty, a_list, a_chosen, a_order, a_lengthened, a_at, a_keptAt, a_keptSymbol, a_keptList, a_image, a_sizes, a_words, a_apart, a_partA, a_partN, a_wide, a_r, a_output⟩ := u
  obtain ⟨g_origin, g_strip, g_many, g_culprit, g_textEnd, g_end, g_made, g_rounds, g_entry, g_linked, g_ran, g_pc, g_steps, g_outs, b_ops, b_opA, b_opB, b_counts, b_roles, b_list, b_places, b_symbols, b_image, b_stays, b_wide, b_memory, b_reg, b_out⟩ := v
  unfold i_Rel at I
  obtain ⟨e1, e2, e3, e4, e5, e6, e7, e8, e9, e10, e11, e12, e13, e14, e15, e16, e17, e18, hO, hJ, hK⟩ := I
  subst e1 e2 e3 e4 e5 e6 e7 e8 e9 e10 e11 e12 e13 e14 e15 e16 e17 e18
  exact h _ _ _ _ _ _ _ _ _ _ _ _ _ _ _ _ _ _ _ _ _ _ _ _ _ _ _ _ _ _ _ _ _ _ _ _ _ _ _ _ _ _ _ _ _ _ _ _ _ _ _ _ _ _ _ _ hO hJ hK
theorem i_up {k : Nat} {u : SX} {v : SY} (h : i_Rel k u v) : i_Rel (k + 5) u v :=
  ly_el (P := fun u v => i_Rel (k + 5) u v) h (fun f_origin f_culprit f_strip f_listed f_units f_ordered f_textEnd f_end f_longs f_rounds f_keptListed f_entry f_linked f_pc f_steps f_outs f_ran a_op a_opA a_opB a_section a_length a_role a_labelAt a_used a_local a_global a_weak a_faulty a_list a_chosen a_order a_lengthened a_at a_keptAt a_keptSymbol a_keptList a_image a_sizes a_words a_apart a_partA a_partN a_wide a_r a_output g_many g_textEnd g_end g_made g_rounds b_list b_places b_symbols b_stays b_wide hO hJ hK => ly_mk hO hJ hK)
theorem i_vc0 : wpX_init (fun u => wpY_init (fun v => i_Rel 0 u v)) := by
  unfold wpX_init wpY_init
  refine ly_mk ⟨0, by omega, rfl⟩ ⟨fun _ => 0, fun m hm => ⟨rfl, ly_Mo_0 (fun s _ => rfl)⟩⟩ (Or.inl rfl)
/-! the methods that only tell -/
theorem i_vc_culprit {k : Nat} {u : SX} {v : SY} (I : i_Rel k u v) (hk : k + 5 ≤ 2560) : wpX_culprit (fun r => wpY_culprit (fun r' => r' = r ∧ i_Rel (k + 5) u v) v) u := by
  refine ly_el (P := fun u v => wpX_culprit (fun r => wpY_culprit (fun r' => r' = r ∧ i_Rel (k + 5) u v) v) u) I ?_
  intro f_origin f_culprit f_strip f_listed f_units f_ordered f_textEnd f_end f_longs f_rounds f_keptListed f_entry f_linked f_pc f_steps f_outs f_ran a_op a_opA a_opB a_section a_length a_role a_labelAt a_used a_local a_global a_weak a_faulty a_list a_chosen a_order a_lengthened a_at a_keptAt a_keptSymbol a_keptList a_image a_sizes a_words a_apart a_partA a_partN a_wide a_r a_output g_many g_textEnd g_end g_made g_rounds b_list b_places b_symbols b_stays b_wide hO hJ hK
  exact And.intro rfl (ly_mk hO hJ hK)
theorem i_vc_listed {k : Nat} {u : SX} {v : SY} (I : i_Rel k u v) (hk : k + 5 ≤ 2560) (v1 : Int32) : wpX_listed (fun r => wpY_listed (fun r' => r' = r ∧ i_Rel (k + 5) u v) v v1) u v1 := by
  refine ly_el (P := fun u v => wpX_listed (fun r => wpY_listed (fun r' => r' = r ∧ i_Rel (k + 5) u v) v v1) u v1) I ?_
  intro f_origin f_culprit f_strip f_listed f_units f_ordered f_textEnd f_end f_longs f_rounds f_keptListed f_entry f_linked f_pc f_steps f_outs f_ran a_op a_opA a_opB a_section a_length a_role a_labelAt a_used a_local a_global a_weak a_faulty a_list a_chosen a_order a_lengthened a_at a_keptAt a_keptSymbol a_keptList a_image a_sizes a_words a_apart a_partA a_partN a_wide a_r a_output g_many g_textEnd g_end g_made g_rounds b_list b_places b_symbols b_stays b_wide hO hJ hK
  have J : i_Rel (k + 5) (f_origin, f_culprit, f_strip, f_listed, f_units, f_ordered, f_textEnd, f_end, f_longs, f_rounds, f_keptListed, f_entry, f_linked, f_pc, f_steps, f_outs, f_ran, a_op, a_opA, a_opB, a_section, a_length, a_role, a_labelAt, a_used, a_local, a_global, a_weak, a_faulty, a_list, a_chosen, a_order, a_lengthened, a_at, a_keptAt, a_keptSymbol, a_keptList, a_image, a_sizes, a_words, a_apart, a_partA, a_partN, a_wide, a_r, a_output) (f_origin, f_strip, g_many, f_culprit, g_textEnd, g_end, g_made, g_rounds, f_entry, f_linked, f_ran, f_pc, f_steps, f_outs, a_op, a_opA, a_opB, a_length, a_role, b_list, b_places, b_symbols, a_image, b_stays, b_wide, a_words, a_r, a_output) := ly_mk hO hJ hK
  rcases hK with z | ⟨⟨n, hn, rfl, rfl, hl⟩, -⟩
  · exact br_t z (br_t z ⟨rfl, J⟩)
  by_cases z : f_linked = 0
  · exact br_t z (br_t z ⟨rfl, J⟩)
  rcases pk_ix v1 (n := n) (by omega) with h | h | ⟨j, hj, rfl⟩
  · exact br_f z (br_t h (br_f z (br_t h ⟨rfl, J⟩)))
  · by_cases h0 : v1 < 0
    · exact br_f z (br_t h0 (br_f z (br_t h0 ⟨rfl, J⟩)))
    · exact br_f z (br_f h0 (br_t h (br_f z (br_f h0 (br_t h ⟨rfl, J⟩)))))
  · have h0 : ¬ nI j < 0 := nI_pos (by omega)
    have h1 : ¬ nI n ≤ nI j := nI_ge hj (by omega)
    have h2 : vp_in (nI j) 6 := vp_in_nI (by omega) (by omega)
    refine br_f z (br_f h0 (br_f h1 ⟨h2, br_f z (br_f h0 (br_f h1 ⟨h2, ?_, J⟩))⟩))
    rw [nI_clamp (by omega)]; exact (hl j hj).symm
theorem i_vc_address {k : Nat} {u : SX} {v : SY} (I : i_Rel k u v) (hk : k + 5 ≤ 2560) (v1 : Int32) : wpX_address (fun r => wpY_address (fun r' => r' = r ∧ i_Rel (k + 5) u v) v v1) u v1 := by
  refine ly_el (P := fun u v => wpX_address (fun r => wpY_address (fun r' => r' = r ∧ i_Rel (k + 5) u v) v v1) u v1) I ?_
  intro f_origin f_culprit f_strip f_listed f_units f_ordered f_textEnd f_end f_longs f_rounds f_keptListed f_entry f_linked f_pc f_steps f_outs f_ran a_op a_opA a_opB a_section a_length a_role a_labelAt a_used a_local a_global a_weak a_faulty a_list a_chosen a_order a_lengthened a_at a_keptAt a_keptSymbol a_keptList a_image a_sizes a_words a_apart a_partA a_partN a_wide a_r a_output g_many g_textEnd g_end g_made g_rounds b_list b_places b_symbols b_stays b_wide hO hJ hK
  have J : i_Rel (k + 5) (f_origin, f_culprit, f_strip, f_listed, f_units, f_ordered, f_textEnd, f_end, f_longs, f_rounds, f_keptListed, f_entry, f_linked, f_pc, f_steps, f_outs, f_ran, a_op, a_opA, a_opB, a_section, a_length, a_role, a_labelAt, a_used, a_local, a_global, a_weak, a_faulty, a_list, a_chosen, a_order, a_lengthened, a_at, a_keptAt, a_keptSymbol, a_keptList, a_image, a_sizes, a_words, a_apart, a_partA, a_partN, a_wide, a_r, a_output) (f_origin, f_strip, g_many, f_culprit, g_textEnd, g_end, g_made, g_rounds, f_entry, f_linked, f_ran, f_pc, f_steps, f_outs, a_op, a_opA, a_opB, a_length, a_role, b_list, b_places, b_symbols, a_image, b_stays, b_wide, a_words, a_r, a_output) := ly_mk hO hJ hK
  rcases hK with z | ⟨-, hs, -⟩
  · exact br_t z (br_t z ⟨rfl, J⟩)
  by_cases z : f_linked = 0
  · exact br_t z (br_t z ⟨rfl, J⟩)
  refine br_f z (ly_xin (ly_br (fun e => br_f z (ly_yin ?_)) (fun e => ?_)))
  · exact ly_br (fun _ => ⟨rfl, J⟩) (fun e' => by rw [e] at e'; cases e')
  · obtain ⟨j, hj, rfl⟩ := ly_in_n (n := 15) (by omega) e
    have h2 : vp_in (nI j) 16 := vp_in_nI (by omega) (by omega)
    refine ⟨h2, br_f z (ly_yin (ly_br (fun e' => by rw [e] at e'; cases e') (fun _ => ⟨h2, ?_, J⟩)))⟩
    rw [nI_clamp (by omega)]; exact (hs j hj).symm
theorem i_vc_word {k : Nat} {u : SX} {v : SY} (I : i_Rel k u v) (hk : k + 5 ≤ 2560) (v1 : Int32) : wpX_word (fun r => wpY_word (fun r' => r' = r ∧ i_Rel (k + 5) u v) v v1) u v1 := by
  refine ly_el (P := fun u v => wpX_word (fun r => wpY_word (fun r' => r' = r ∧ i_Rel (k + 5) u v) v v1) u v1) I ?_
  intro f_origin f_culprit f_strip f_listed f_units f_ordered f_textEnd f_end f_longs f_rounds f_keptListed f_entry f_linked f_pc f_steps f_outs f_ran a_op a_opA a_opB a_section a_length a_role a_labelAt a_used a_local a_global a_weak a_faulty a_list a_chosen a_order a_lengthened a_at a_keptAt a_keptSymbol a_keptList a_image a_sizes a_words a_apart a_partA a_partN a_wide a_r a_output g_many g_textEnd g_end g_made g_rounds b_list b_places b_symbols b_stays b_wide hO hJ hK
  have J : i_Rel (k + 5) (f_origin, f_culprit, f_strip, f_listed, f_units, f_ordered, f_textEnd, f_end, f_longs, f_rounds, f_keptListed, f_entry, f_linked, f_pc, f_steps, f_outs, f_ran, a_op, a_opA, a_opB, a_section, a_length, a_role, a_labelAt, a_used, a_local, a_global, a_weak, a_faulty, a_list, a_chosen, a_order, a_lengthened, a_at, a_keptAt, a_keptSymbol, a_keptList, a_image, a_sizes, a_words, a_apart, a_partA, a_partN, a_wide, a_r, a_output) (f_origin, f_strip, g_many, f_culprit, g_textEnd, g_end, g_made, g_rounds, f_entry, f_linked, f_ran, f_pc, f_steps, f_outs, a_op, a_opA, a_opB, a_length, a_role, b_list, b_places, b_symbols, a_image, b_stays, b_wide, a_words, a_r, a_output) := ly_mk hO hJ hK
  by_cases z : f_linked = 0
  · exact br_t z (br_t z ⟨rfl, J⟩)
  refine br_f z (ly_xin (ly_br (fun e => br_f z (ly_yin ?_)) (fun e => ?_)))
  · exact ly_br (fun _ => ⟨rfl, J⟩) (fun e' => by rw [e] at e'; cases e')
  · obtain ⟨j, hj, rfl⟩ := ly_in_n (n := 255) (by omega) e
    have h2 : vp_in (nI j) 256 := vp_in_nI (by omega) (by omega)
    exact ⟨h2, br_f z (ly_yin (ly_br (fun e' => by rw [e] at e'; cases e') (fun _ => ⟨h2, rfl, J⟩)))⟩
theorem i_vc_where {k : Nat} {u : SX} {v : SY} (I : i_Rel k u v) (hk : k + 5 ≤ 2560) (v1 : Int32) (v2 : Int32) : wpX_where (fun r => wpY_where (fun r' => r' = r ∧ i_Rel (k + 5) u v) v v1 v2) u v1 v2 := by
  refine ly_el (P := fun u v => wpX_where (fun r => wpY_where (fun r' => r' = r ∧ i_Rel (k + 5) u v) v v1 v2) u v1 v2) I ?_
  intro f_origin f_culprit f_strip f_listed f_units f_ordered f_textEnd f_end f_longs f_rounds f_keptListed f_entry f_linked f_pc f_steps f_outs f_ran a_op a_opA a_opB a_section a_length a_role a_labelAt a_used a_local a_global a_weak a_faulty a_list a_chosen a_order a_lengthened a_at a_keptAt a_keptSymbol a_keptList a_image a_sizes a_words a_apart a_partA a_partN a_wide a_r a_output g_many g_textEnd g_end g_made g_rounds b_list b_places b_symbols b_stays b_wide hO hJ hK
  have J : i_Rel (k + 5) (f_origin, f_culprit, f_strip, f_listed, f_units, f_ordered, f_textEnd, f_end, f_longs, f_rounds, f_keptListed, f_entry, f_linked, f_pc, f_steps, f_outs, f_ran, a_op, a_opA, a_opB, a_section, a_length, a_role, a_labelAt, a_used, a_local, a_global, a_weak, a_faulty, a_list, a_chosen, a_order, a_lengthened, a_at, a_keptAt, a_keptSymbol, a_keptList, a_image, a_sizes, a_words, a_apart, a_partA, a_partN, a_wide, a_r, a_output) (f_origin, f_strip, g_many, f_culprit, g_textEnd, g_end, g_made, g_rounds, f_entry, f_linked, f_ran, f_pc, f_steps, f_outs, a_op, a_opA, a_opB, a_length, a_role, b_list, b_places, b_symbols, a_image, b_stays, b_wide, a_words, a_r, a_output) := ly_mk hO hJ hK
  rcases hK with z | ⟨-, -, hs, -⟩
  · exact br_t z (br_t z ⟨rfl, J⟩)
  by_cases z : f_linked = 0
  · exact br_t z (br_t z ⟨rfl, J⟩)
  refine br_f z (ly_xin (ly_br (fun e => br_f z (ly_yin ?_)) (fun e => ly_xin (ly_br (fun d => br_f z (ly_yin ?_)) (fun d => ?_)))))
  · exact ly_br (fun _ => ⟨rfl, J⟩) (fun e' => by rw [e] at e'; cases e')
  · exact ly_br (fun e' => by rw [e] at e'; cases e') (fun _ => ly_yin (ly_br (fun _ => ⟨rfl, J⟩) (fun d' => by rw [d] at d'; cases d')))
  · obtain ⟨m, hm, rfl⟩ := ly_in_n (n := 5) (by omega) e
    obtain ⟨j, hj, rfl⟩ := ly_in_n (n := 23) (by omega) d
    rw [ly_24]
    have h2 : vp_in (nI (24 * m + j)) 144 := vp_in_nI (by omega) (by omega)
    refine ⟨h2, br_f z (ly_yin (ly_br (fun e' => by rw [e] at e'; cases e') (fun _ => ly_yin (ly_br (fun d' => by rw [d] at d'; cases d') (fun _ => ?_)))))⟩
    rw [ly_24]
    refine ⟨h2, ?_, J⟩
    rw [nI_clamp (by omega)]; exact (hs _ (by omega)).symm
theorem i_vc_size {k : Nat} {u : SX} {v : SY} (I : i_Rel k u v) (hk : k + 5 ≤ 2560) (v1 : Int32) : wpX_size (fun r => wpY_size (fun r' => r' = r ∧ i_Rel (k + 5) u v) v v1) u v1 := by
  refine ly_el (P := fun u v => wpX_size (fun r => wpY_size (fun r' => r' = r ∧ i_Rel (k + 5) u v) v v1) u v1) I ?_
  intro f_origin f_culprit f_strip f_listed f_units f_ordered f_textEnd f_end f_longs f_rounds f_keptListed f_entry f_linked f_pc f_steps f_outs f_ran a_op a_opA a_opB a_section a_length a_role a_labelAt a_used a_local a_global a_weak a_faulty a_list a_chosen a_order a_lengthened a_at a_keptAt a_keptSymbol a_keptList a_image a_sizes a_words a_apart a_partA a_partN a_wide a_r a_output g_many g_textEnd g_end g_made g_rounds b_list b_places b_symbols b_stays b_wide hO hJ hK
  have J : i_Rel (k + 5) (f_origin, f_culprit, f_strip, f_listed, f_units, f_ordered, f_textEnd, f_end, f_longs, f_rounds, f_keptListed, f_entry, f_linked, f_pc, f_steps, f_outs, f_ran, a_op, a_opA, a_opB, a_section, a_length, a_role, a_labelAt, a_used, a_local, a_global, a_weak, a_faulty, a_list, a_chosen, a_order, a_lengthened, a_at, a_keptAt, a_keptSymbol, a_keptList, a_image, a_sizes, a_words, a_apart, a_partA, a_partN, a_wide, a_r, a_output) (f_origin, f_strip, g_many, f_culprit, g_textEnd, g_end, g_made, g_rounds, f_entry, f_linked, f_ran, f_pc, f_steps, f_outs, a_op, a_opA, a_opB, a_length, a_role, b_list, b_places, b_symbols, a_image, b_stays, b_wide, a_words, a_r, a_output) := ly_mk hO hJ hK
  rcases hK with z | ⟨-, -, -, s0, s1, s2, s3⟩
  · exact br_t z (br_t z ⟨rfl, J⟩)
  by_cases z : f_linked = 0
  · exact br_t z (br_t z ⟨rfl, J⟩)
  refine br_f z (ly_xin (ly_br (fun e => br_f z (ly_yin ?_)) (fun e => ?_)))
  · exact ly_br (fun _ => ⟨rfl, J⟩) (fun e' => by rw [e] at e'; cases e')
  · obtain ⟨j, hj, rfl⟩ := ly_in_n (n := 3) (by omega) e
    have h2 : vp_in (nI j) 4 := vp_in_nI (by omega) (by omega)
    refine ⟨h2, br_f z (ly_yin (ly_br (fun e' => by rw [e] at e'; cases e') (fun _ => ?_)))⟩
    rw [nI_clamp (by omega)]
    rcases (by omega : j = 0 ∨ j = 1 ∨ j = 2 ∨ j = 3) with rfl | rfl | rfl | rfl
    · exact br_t (by decide) ⟨s0.symm, J⟩
    · exact br_f (by decide) (br_t (by decide) ⟨s1.symm, J⟩)
    · exact br_f (by decide) (br_f (by decide) (br_t (by decide) ⟨s2.symm, J⟩))
    · exact br_f (by decide) (br_f (by decide) (br_f (by decide) ⟨s3.symm, J⟩))
theorem i_vc_memory {k : Nat} {u : SX} {v : SY} (I : i_Rel k u v) (hk : k + 5 ≤ 2560) (v1 : Int32) : wpX_memory (fun r => wpY_memory (fun r' => r' = r ∧ i_Rel (k + 5) u v) v v1) u v1 := by
  refine ly_el (P := fun u v => wpX_memory (fun r => wpY_memory (fun r' => r' = r ∧ i_Rel (k + 5) u v) v v1) u v1) I ?_
  intro f_origin f_culprit f_strip f_listed f_units f_ordered f_textEnd f_end f_longs f_rounds f_keptListed f_entry f_linked f_pc f_steps f_outs f_ran a_op a_opA a_opB a_section a_length a_role a_labelAt a_used a_local a_global a_weak a_faulty a_list a_chosen a_order a_lengthened a_at a_keptAt a_keptSymbol a_keptList a_image a_sizes a_words a_apart a_partA a_partN a_wide a_r a_output g_many g_textEnd g_end g_made g_rounds b_list b_places b_symbols b_stays b_wide hO hJ hK
  have J : i_Rel (k + 5) (f_origin, f_culprit, f_strip, f_listed, f_units, f_ordered, f_textEnd, f_end, f_longs, f_rounds, f_keptListed, f_entry, f_linked, f_pc, f_steps, f_outs, f_ran, a_op, a_opA, a_opB, a_section, a_length, a_role, a_labelAt, a_used, a_local, a_global, a_weak, a_faulty, a_list, a_chosen, a_order, a_lengthened, a_at, a_keptAt, a_keptSymbol, a_keptList, a_image, a_sizes, a_words, a_apart, a_partA, a_partN, a_wide, a_r, a_output) (f_origin, f_strip, g_many, f_culprit, g_textEnd, g_end, g_made, g_rounds, f_entry, f_linked, f_ran, f_pc, f_steps, f_outs, a_op, a_opA, a_opB, a_length, a_role, b_list, b_places, b_symbols, a_image, b_stays, b_wide, a_words, a_r, a_output) := ly_mk hO hJ hK
  by_cases z : f_ran = 0
  · exact br_t z (br_t z ⟨rfl, J⟩)
  refine br_f z (ly_xin (ly_br (fun e => br_f z (ly_yin ?_)) (fun e => ?_)))
  · exact ly_br (fun _ => ⟨rfl, J⟩) (fun e' => by rw [e] at e'; cases e')
  · obtain ⟨j, hj, rfl⟩ := ly_in_n (n := 255) (by omega) e
    have h2 : vp_in (nI j) 256 := vp_in_nI (by omega) (by omega)
    exact ⟨h2, br_f z (ly_yin (ly_br (fun e' => by rw [e] at e'; cases e') (fun _ => ⟨h2, rfl, J⟩)))⟩
theorem i_vc_state {k : Nat} {u : SX} {v : SY} (I : i_Rel k u v) (hk : k + 5 ≤ 2560) (v1 : Int32) : wpX_state (fun r => wpY_state (fun r' => r' = r ∧ i_Rel (k + 5) u v) v v1) u v1 := by
  refine ly_el (P := fun u v => wpX_state (fun r => wpY_state (fun r' => r' = r ∧ i_Rel (k + 5) u v) v v1) u v1) I ?_
  intro f_origin f_culprit f_strip f_listed f_units f_ordered f_textEnd f_end f_longs f_rounds f_keptListed f_entry f_linked f_pc f_steps f_outs f_ran a_op a_opA a_opB a_section a_length a_role a_labelAt a_used a_local a_global a_weak a_faulty a_list a_chosen a_order a_lengthened a_at a_keptAt a_keptSymbol a_keptList a_image a_sizes a_words a_apart a_partA a_partN a_wide a_r a_output g_many g_textEnd g_end g_made g_rounds b_list b_places b_symbols b_stays b_wide hO hJ hK
  have J : i_Rel (k + 5) (f_origin, f_culprit, f_strip, f_listed, f_units, f_ordered, f_textEnd, f_end, f_longs, f_rounds, f_keptListed, f_entry, f_linked, f_pc, f_steps, f_outs, f_ran, a_op, a_opA, a_opB, a_section, a_length, a_role, a_labelAt, a_used, a_local, a_global, a_weak, a_faulty, a_list, a_chosen, a_order, a_lengthened, a_at, a_keptAt, a_keptSymbol, a_keptList, a_image, a_sizes, a_words, a_apart, a_partA, a_partN, a_wide, a_r, a_output) (f_origin, f_strip, g_many, f_culprit, g_textEnd, g_end, g_made, g_rounds, f_entry, f_linked, f_ran, f_pc, f_steps, f_outs, a_op, a_opA, a_opB, a_length, a_role, b_list, b_places, b_symbols, a_image, b_stays, b_wide, a_words, a_r, a_output) := ly_mk hO hJ hK
  by_cases z : f_ran = 0
  · exact br_t z (br_t z ⟨rfl, J⟩)
  by_cases h0 : 0 ≤ v1
  · obtain ⟨j, hj, rfl⟩ := nI_of (x := v1) (Int32.not_lt.mpr h0)
    by_cases h8 : j < 8
    · have g8 : ¬ (8 : Int32) ≤ nI j := nI_ge (b := 8) h8 (by omega)
      have h2 : vp_in (nI j) 8 := vp_in_nI (by omega) (by omega)
      exact br_f z (br_t h0 (br_f g8 ⟨h2, br_f z (br_t h0 (br_f g8 ⟨h2, rfl, J⟩))⟩))
    · have g8 : (8 : Int32) ≤ nI j := nI_le (a := 8) (by omega) hj
      by_cases h11 : j < 11
      · have g11 : ¬ (11 : Int32) ≤ nI j := nI_ge (b := 11) h11 (by omega)
        by_cases e8 : nI j = 8
        · exact br_f z (br_t h0 (br_t g8 (br_f g11 (br_t e8 (br_f z (br_t h0 (br_t g8 (br_f g11 (br_t e8 ⟨rfl, J⟩)))))))))
        · by_cases e9 : nI j = 9
          · exact br_f z (br_t h0 (br_t g8 (br_f g11 (br_f e8 (br_t e9 (br_f z (br_t h0 (br_t g8 (br_f g11 (br_f e8 (br_t e9 ⟨rfl, J⟩)))))))))))
          · exact br_f z (br_t h0 (br_t g8 (br_f g11 (br_f e8 (br_f e9 (br_f z (br_t h0 (br_t g8 (br_f g11 (br_f e8 (br_f e9 ⟨rfl, J⟩)))))))))))
      · have g11 : (11 : Int32) ≤ nI j := nI_le (a := 11) (by omega) hj
        have es : nI j - 11 = nI (j - 11) := pk_sub (b := 11) (by omega)
        by_cases h51 : j < 51
        · have g51 : ¬ (51 : Int32) ≤ nI j := nI_ge (b := 51) h51 (by omega)
          have g40 : ¬ (40 : Int32) ≤ nI (j - 11) := nI_ge (b := 40) (by omega) (by omega)
          by_cases ho : f_outs ≤ nI (j - 11)
          · refine br_f z (br_t h0 (br_t g8 (br_t g11 (br_f g51 ?_))))
            rw [es]
            exact br_t ho (br_f z (br_t h0 (br_t g8 (br_t g11 (nm_r es (br_f g40 (br_t ho ⟨rfl, J⟩)))))))
          · have h2 : vp_in (nI (j - 11)) 40 := vp_in_nI (by omega) (by omega)
            refine br_f z (br_t h0 (br_t g8 (br_t g11 (br_f g51 ?_))))
            rw [es]
            exact br_f ho ⟨h2, br_f z (br_t h0 (br_t g8 (br_t g11 (nm_r es (br_f g40 (br_f ho ⟨h2, rfl, J⟩))))))⟩
        · have g51 : (51 : Int32) ≤ nI j := nI_le (a := 51) (by omega) hj
          have g40 : (40 : Int32) ≤ nI (j - 11) := nI_le (a := 40) (by omega) (by omega)
          exact br_f z (br_t h0 (br_t g8 (br_t g11 (br_t g51 (br_f z (br_t h0 (br_t g8 (br_t g11 (nm_r es (br_t g40 ⟨rfl, J⟩))))))))))
  · exact br_f z (br_f h0 (br_f z (br_f h0 ⟨rfl, J⟩)))
end
section
/-! the form check of an item (printed by genfits.py) -/
def ly_ft (o a b : Int32) : Bool :=
  if o = 0 then ly_in a 0 15 && ly_in b 0 2
  else if o = 16 then ly_in a 0 15 && ly_in b (-64) 64
  else if o = 17 then ly_in a 0 16
  else if o = 18 then ly_in a 2 8
  else if o = 19 then ly_in a 0 1
  else (!ly_rg o || ly_in a 0 7) && ((!ly_in o 2 7 || ly_in b 0 7) && (!ly_us o || ly_in b 0 15))
theorem ly_ft0 (a b : Int32) : ly_ft (nI 0) a b = (ly_in a 0 15 && ly_in b 0 2) := by unfold ly_ft; rw [if_pos (by decide)]
theorem ly_ft1 (a b : Int32) : ly_ft (nI 1) a b = ly_in a 0 7 := by unfold ly_ft; rw [if_neg (by decide)]; rw [if_neg (by decide)]; rw [if_neg (by decide)]; rw [if_neg (by decide)]; rw [if_neg (by decide)]; rw [show ly_rg (nI 1) = true by decide, show ly_in (nI 1) 2 7 = false by decide, show ly_us (nI 1) = false by decide]; simp
theorem ly_ft2 (a b : Int32) : ly_ft (nI 2) a b = (ly_in a 0 7 && ly_in b 0 7) := by unfold ly_ft; rw [if_neg (by decide)]; rw [if_neg (by decide)]; rw [if_neg (by decide)]; rw [if_neg (by decide)]; rw [if_neg (by decide)]; rw [show ly_rg (nI 2) = true by decide, show ly_in (nI 2) 2 7 = true by decide, show ly_us (nI 2) = false by decide]; simp
theorem ly_ft3 (a b : Int32) : ly_ft (nI 3) a b = (ly_in a 0 7 && ly_in b 0 7) := by unfold ly_ft; rw [if_neg (by decide)]; rw [if_neg (by decide)]; rw [if_neg (by decide)]; rw [if_neg (by decide)]; rw [if_neg (by decide)]; rw [show ly_rg (nI 3) = true by decide, show ly_in (nI 3) 2 7 = true by decide, show ly_us (nI 3) = false by decide]; simp
theorem ly_ft4 (a b : Int32) : ly_ft (nI 4) a b = (ly_in a 0 7 && ly_in b 0 7) := by unfold ly_ft; rw [if_neg (by decide)]; rw [if_neg (by decide)]; rw [if_neg (by decide)]; rw [if_neg (by decide)]; rw [if_neg (by decide)]; rw [show ly_rg (nI 4) = true by decide, show ly_in (nI 4) 2 7 = true by decide, show ly_us (nI 4) = false by decide]; simp
theorem ly_ft5 (a b : Int32) : ly_ft (nI 5) a b = (ly_in a 0 7 && ly_in b 0 7) := by unfold ly_ft; rw [if_neg (by decide)]; rw [if_neg (by decide)]; rw [if_neg (by decide)]; rw [if_neg (by decide)]; rw [if_neg (by decide)]; rw [show ly_rg (nI 5) = true by decide, show ly_in (nI 5) 2 7 = true by decide, show ly_us (nI 5) = false by decide]; simp
theorem ly_ft6 (a b : Int32) : ly_ft (nI 6) a b = (ly_in a 0 7 && ly_in b 0 7) := by unfold ly_ft; rw [if_neg (by decide)]; rw [if_neg (by decide)]; rw [if_neg (by decide)]; rw [if_neg (by decide)]; rw [if_neg (by decide)]; rw [show ly_rg (nI 6) = true by decide, show ly_in (nI 6) 2 7 = true by decide, show ly_us (nI 6) = false by decide]; simp
theorem ly_ft7 (a b : Int32) : ly_ft (nI 7) a b = (ly_in a 0 7 && ly_in b 0 7) := by unfold ly_ft; rw [if_neg (by decide)]; rw [if_neg (by decide)]; rw [if_neg (by decide)]; rw [if_neg (by decide)]; rw [if_neg (by decide)]; rw [show ly_rg (nI 7) = true by decide, show ly_in (nI 7) 2 7 = true by decide, show ly_us (nI 7) = false by decide]; simp
theorem ly_ft8 (a b : Int32) : ly_ft (nI 8) a b = ly_in b 0 15 := by unfold ly_ft; rw [if_neg (by decide)]; rw [if_neg (by decide)]; rw [if_neg (by decide)]; rw [if_neg (by decide)]; rw [if_neg (by decide)]; rw [show ly_rg (nI 8) = false by decide, show ly_in (nI 8) 2 7 = false by decide, show ly_us (nI 8) = true by decide]; simp
theorem ly_ft9 (a b : Int32) : ly_ft (nI 9) a b = (ly_in a 0 7 && ly_in b 0 15) := by unfold ly_ft; rw [if_neg (by decide)]; rw [if_neg (by decide)]; rw [if_neg (by decide)]; rw [if_neg (by decide)]; rw [if_neg (by decide)]; rw [show ly_rg (nI 9) = true by decide, show ly_in (nI 9) 2 7 = false by decide, show ly_us (nI 9) = true by decide]; simp
theorem ly_ft10 (a b : Int32) : ly_ft (nI 10) a b = ly_in b 0 15 := by unfold ly_ft; rw [if_neg (by decide)]; rw [if_neg (by decide)]; rw [if_neg (by decide)]; rw [if_neg (by decide)]; rw [if_neg (by decide)]; rw [show ly_rg (nI 10) = false by decide, show ly_in (nI 10) 2 7 = false by decide, show ly_us (nI 10) = true by decide]; simp
theorem ly_ft11 (a b : Int32) : ly_ft (nI 11) a b = true := by unfold ly_ft; rw [if_neg (by decide)]; rw [if_neg (by decide)]; rw [if_neg (by decide)]; rw [if_neg (by decide)]; rw [if_neg (by decide)]; rw [show ly_rg (nI 11) = false by decide, show ly_in (nI 11) 2 7 = false by decide, show ly_us (nI 11) = false by decide]; simp
theorem ly_ft12 (a b : Int32) : ly_ft (nI 12) a b = (ly_in a 0 7 && ly_in b 0 15) := by unfold ly_ft; rw [if_neg (by decide)]; rw [if_neg (by decide)]; rw [if_neg (by decide)]; rw [if_neg (by decide)]; rw [if_neg (by decide)]; rw [show ly_rg (nI 12) = true by decide, show ly_in (nI 12) 2 7 = false by decide, show ly_us (nI 12) = true by decide]; simp
theorem ly_ft13 (a b : Int32) : ly_ft (nI 13) a b = ly_in a 0 7 := by unfold ly_ft; rw [if_neg (by decide)]; rw [if_neg (by decide)]; rw [if_neg (by decide)]; rw [if_neg (by decide)]; rw [if_neg (by decide)]; rw [show ly_rg (nI 13) = true by decide, show ly_in (nI 13) 2 7 = false by decide, show ly_us (nI 13) = false by decide]; simp
theorem ly_ft14 (a b : Int32) : ly_ft (nI 14) a b = true := by unfold ly_ft; rw [if_neg (by decide)]; rw [if_neg (by decide)]; rw [if_neg (by decide)]; rw [if_neg (by decide)]; rw [if_neg (by decide)]; rw [show ly_rg (nI 14) = false by decide, show ly_in (nI 14) 2 7 = false by decide, show ly_us (nI 14) = false by decide]; simp
theorem ly_ft15 (a b : Int32) : ly_ft (nI 15) a b = true := by unfold ly_ft; rw [if_neg (by decide)]; rw [if_neg (by decide)]; rw [if_neg (by decide)]; rw [if_neg (by decide)]; rw [if_neg (by decide)]; rw [show ly_rg (nI 15) = false by decide, show ly_in (nI 15) 2 7 = false by decide, show ly_us (nI 15) = false by decide]; simp
theorem ly_ft16 (a b : Int32) : ly_ft (nI 16) a b = (ly_in a 0 15 && ly_in b (-64) 64) := by unfold ly_ft; rw [if_neg (by decide)]; rw [if_pos (by decide)]
theorem ly_ft17 (a b : Int32) : ly_ft (nI 17) a b = ly_in a 0 16 := by unfold ly_ft; rw [if_neg (by decide)]; rw [if_neg (by decide)]; rw [if_pos (by decide)]
theorem ly_ft18 (a b : Int32) : ly_ft (nI 18) a b = ly_in a 2 8 := by unfold ly_ft; rw [if_neg (by decide)]; rw [if_neg (by decide)]; rw [if_neg (by decide)]; rw [if_pos (by decide)]
theorem ly_ft19 (a b : Int32) : ly_ft (nI 19) a b = ly_in a 0 1 := by unfold ly_ft; rw [if_neg (by decide)]; rw [if_neg (by decide)]; rw [if_neg (by decide)]; rw [if_neg (by decide)]; rw [if_pos (by decide)]
section ft
variable {post : Int32 → Prop} {x y l h l2 h2 : Int32}
theorem ly_xA (hp : post (ly_b (ly_in x l h))) : wpX_in (fun r => (narrow .boolean (.int r) = .int r ∧ (post r))) x l h := ly_xin (post := fun r => (narrow .boolean (.int r) = .int r ∧ (post r))) ⟨ly_bn _, hp⟩
theorem ly_bB {c : Bool} (hp : post (ly_b c)) : (ly_b c = 0 → post 0) ∧ (¬ ly_b c = 0 → post 1) := ly_br (fun e => by rw [e] at hp; exact hp) (fun e => by rw [e] at hp; exact hp)
theorem ly_xB (hp : post (ly_b (ly_in x l h))) : wpX_in (fun r => (((r = 0 → (post 0)) ∧ (¬ r = 0 → (post 1))))) x l h := ly_xin (post := fun r => (((r = 0 → (post 0)) ∧ (¬ r = 0 → (post 1))))) (ly_bB hp)
theorem ly_xC (hp : post (ly_b (ly_in x l h && ly_in y l2 h2))) : wpX_in (fun r => (((r = 0 → (post 0)) ∧ (¬ r = 0 → (wpX_in (fun r2 => (((r2 = 0 → (post 0)) ∧ (¬ r2 = 0 → (post 1))))) y l2 h2))))) x l h := by
  refine ly_xin (ly_br (fun e => ?_) (fun e => ly_xB ?_))
  · rw [e] at hp; exact hp
  · rw [e] at hp; exact hp
theorem ly_yA (hp : post (ly_b (ly_in x l h))) : wpY_in (fun r => (narrow .boolean (.int r) = .int r ∧ (post r))) x l h := ly_xA hp
theorem ly_yB (hp : post (ly_b (ly_in x l h))) : wpY_in (fun r => (((r = 0 → (post 0)) ∧ (¬ r = 0 → (post 1))))) x l h := ly_xB hp
theorem ly_yC (hp : post (ly_b (ly_in x l h && ly_in y l2 h2))) : wpY_in (fun r => (((r = 0 → (post 0)) ∧ (¬ r = 0 → (wpY_in (fun r2 => (((r2 = 0 → (post 0)) ∧ (¬ r2 = 0 → (post 1))))) y l2 h2))))) x l h := ly_xC hp
theorem ly_yus (hp : post (ly_b (ly_us x))) : wpY_usesSymbol post x := by
  unfold wpY_usesSymbol
  refine ly_yin (ly_br (fun e => ?_) (fun e => ?_))
  · by_cases h12 : x = 12
    · refine br_t h12 ?_
      have : ly_us x = true := by rw [h12]; decide
      rw [this] at hp; exact hp
    · refine br_f h12 ?_
      by_cases h16 : x = 16
      · refine br_t h16 ?_
        have : ly_us x = true := by rw [h16]; decide
        rw [this] at hp; exact hp
      · refine br_f h16 ?_
        have : ly_us x = false := by unfold ly_us; rw [e, decide_eq_false h12, decide_eq_false h16]; rfl
        rw [this] at hp; exact hp
  · have : ly_us x = true := by unfold ly_us; rw [e]; rfl
    rw [this] at hp; exact hp
end ft
theorem ly_xf0 {post : Int32 → Prop} {a b : Int32} (hp : post (ly_b (ly_ft (nI 0) a b))) : wpX_fits post (nI 0) a b := by
  rw [ly_ft0] at hp
  unfold wpX_fits
  exact (br_t (by decide) (ly_xC hp))
theorem ly_xf1 {post : Int32 → Prop} {a b : Int32} (hp : post (ly_b (ly_ft (nI 1) a b))) : wpX_fits post (nI 1) a b := by
  rw [ly_ft1] at hp
  unfold wpX_fits
  exact (br_f (by decide) (br_t (by decide) (by unfold wX_fits_40; exact (ly_xA hp))))
theorem ly_xf2 {post : Int32 → Prop} {a b : Int32} (hp : post (ly_b (ly_ft (nI 2) a b))) : wpX_fits post (nI 2) a b := by
  rw [ly_ft2] at hp
  unfold wpX_fits
  exact (br_f (by decide) (br_f (by decide) (br_f (by decide) (br_f (by decide) (ly_xC hp)))))
theorem ly_xf3 {post : Int32 → Prop} {a b : Int32} (hp : post (ly_b (ly_ft (nI 3) a b))) : wpX_fits post (nI 3) a b := by
  rw [ly_ft3] at hp
  unfold wpX_fits
  exact (br_f (by decide) (br_f (by decide) (br_f (by decide) (br_f (by decide) (ly_xC hp)))))
theorem ly_xf4 {post : Int32 → Prop} {a b : Int32} (hp : post (ly_b (ly_ft (nI 4) a b))) : wpX_fits post (nI 4) a b := by
  rw [ly_ft4] at hp
  unfold wpX_fits
  exact (br_f (by decide) (br_f (by decide) (br_f (by decide) (br_f (by decide) (ly_xC hp)))))
theorem ly_xf5 {post : Int32 → Prop} {a b : Int32} (hp : post (ly_b (ly_ft (nI 5) a b))) : wpX_fits post (nI 5) a b := by
  rw [ly_ft5] at hp
  unfold wpX_fits
  exact (br_f (by decide) (br_f (by decide) (br_f (by decide) (br_f (by decide) (ly_xC hp)))))
theorem ly_xf6 {post : Int32 → Prop} {a b : Int32} (hp : post (ly_b (ly_ft (nI 6) a b))) : wpX_fits post (nI 6) a b := by
  rw [ly_ft6] at hp
  unfold wpX_fits
  exact (br_f (by decide) (br_f (by decide) (br_f (by decide) (br_f (by decide) (ly_xC hp)))))
theorem ly_xf7 {post : Int32 → Prop} {a b : Int32} (hp : post (ly_b (ly_ft (nI 7) a b))) : wpX_fits post (nI 7) a b := by
  rw [ly_ft7] at hp
  unfold wpX_fits
  exact (br_f (by decide) (br_f (by decide) (br_f (by decide) (br_f (by decide) (ly_xC hp)))))
theorem ly_xf8 {post : Int32 → Prop} {a b : Int32} (hp : post (ly_b (ly_ft (nI 8) a b))) : wpX_fits post (nI 8) a b := by
  rw [ly_ft8] at hp
  unfold wpX_fits
  exact (br_f (by decide) (br_f (by decide) (br_f (by decide) (br_t (by decide) (br_t (by decide) (by unfold wX_fits_92; exact (ly_xA hp)))))))
theorem ly_xf9 {post : Int32 → Prop} {a b : Int32} (hp : post (ly_b (ly_ft (nI 9) a b))) : wpX_fits post (nI 9) a b := by
  rw [ly_ft9] at hp
  unfold wpX_fits
  exact (br_f (by decide) (br_f (by decide) (br_f (by decide) (br_t (by decide) (br_f (by decide) (br_f (by decide) (br_t (by decide) (by unfold wX_fits_112; exact (ly_xC hp)))))))))
theorem ly_xf10 {post : Int32 → Prop} {a b : Int32} (hp : post (ly_b (ly_ft (nI 10) a b))) : wpX_fits post (nI 10) a b := by
  rw [ly_ft10] at hp
  unfold wpX_fits
  exact (br_f (by decide) (br_f (by decide) (br_f (by decide) (br_t (by decide) (br_f (by decide) (br_t (by decide) (by unfold wX_fits_92; exact (ly_xA hp))))))))
theorem ly_xf11 {post : Int32 → Prop} {a b : Int32} (hp : post (ly_b (ly_ft (nI 11) a b))) : wpX_fits post (nI 11) a b := by
  rw [ly_ft11] at hp
  unfold wpX_fits
  exact (br_f (by decide) (br_f (by decide) (br_f (by decide) (br_t (by decide) (br_f (by decide) (br_f (by decide) (br_f (by decide) (br_f (by decide) (br_f (by decide) (br_f (by decide) (br_f (by decide) (br_f (by decide) hp))))))))))))
theorem ly_xf12 {post : Int32 → Prop} {a b : Int32} (hp : post (ly_b (ly_ft (nI 12) a b))) : wpX_fits post (nI 12) a b := by
  rw [ly_ft12] at hp
  unfold wpX_fits
  exact (br_f (by decide) (br_f (by decide) (br_f (by decide) (br_t (by decide) (br_f (by decide) (br_f (by decide) (br_f (by decide) (br_t (by decide) (by unfold wX_fits_112; exact (ly_xC hp))))))))))
theorem ly_xf13 {post : Int32 → Prop} {a b : Int32} (hp : post (ly_b (ly_ft (nI 13) a b))) : wpX_fits post (nI 13) a b := by
  rw [ly_ft13] at hp
  unfold wpX_fits
  exact (br_f (by decide) (br_f (by decide) (br_t (by decide) (by unfold wX_fits_40; exact (ly_xA hp)))))
theorem ly_xf14 {post : Int32 → Prop} {a b : Int32} (hp : post (ly_b (ly_ft (nI 14) a b))) : wpX_fits post (nI 14) a b := by
  rw [ly_ft14] at hp
  unfold wpX_fits
  exact (br_f (by decide) (br_f (by decide) (br_f (by decide) (br_t (by decide) (br_f (by decide) (br_f (by decide) (br_f (by decide) (br_f (by decide) (br_f (by decide) (br_f (by decide) (br_f (by decide) (br_f (by decide) hp))))))))))))
theorem ly_xf15 {post : Int32 → Prop} {a b : Int32} (hp : post (ly_b (ly_ft (nI 15) a b))) : wpX_fits post (nI 15) a b := by
  rw [ly_ft15] at hp
  unfold wpX_fits
  exact (br_f (by decide) (br_f (by decide) (br_f (by decide) (br_t (by decide) (br_f (by decide) (br_f (by decide) (br_f (by decide) (br_f (by decide) (br_f (by decide) (br_f (by decide) (br_f (by decide) (br_f (by decide) hp))))))))))))
theorem ly_xf16 {post : Int32 → Prop} {a b : Int32} (hp : post (ly_b (ly_ft (nI 16) a b))) : wpX_fits post (nI 16) a b := by
  rw [ly_ft16] at hp
  unfold wpX_fits
  exact (br_f (by decide) (br_f (by decide) (br_f (by decide) (br_t (by decide) (br_f (by decide) (br_f (by decide) (br_f (by decide) (br_f (by decide) (br_t (by decide) (ly_xC hp))))))))))
theorem ly_xf17 {post : Int32 → Prop} {a b : Int32} (hp : post (ly_b (ly_ft (nI 17) a b))) : wpX_fits post (nI 17) a b := by
  rw [ly_ft17] at hp
  unfold wpX_fits
  exact (br_f (by decide) (br_f (by decide) (br_f (by decide) (br_t (by decide) (br_f (by decide) (br_f (by decide) (br_f (by decide) (br_f (by decide) (br_f (by decide) (br_t (by decide) (ly_xA hp)))))))))))
theorem ly_xf18 {post : Int32 → Prop} {a b : Int32} (hp : post (ly_b (ly_ft (nI 18) a b))) : wpX_fits post (nI 18) a b := by
  rw [ly_ft18] at hp
  unfold wpX_fits
  exact (br_f (by decide) (br_f (by decide) (br_f (by decide) (br_t (by decide) (br_f (by decide) (br_f (by decide) (br_f (by decide) (br_f (by decide) (br_f (by decide) (br_f (by decide) (br_t (by decide) (ly_xA hp))))))))))))
theorem ly_xf19 {post : Int32 → Prop} {a b : Int32} (hp : post (ly_b (ly_ft (nI 19) a b))) : wpX_fits post (nI 19) a b := by
  rw [ly_ft19] at hp
  unfold wpX_fits
  exact (br_f (by decide) (br_f (by decide) (br_f (by decide) (br_t (by decide) (br_f (by decide) (br_f (by decide) (br_f (by decide) (br_f (by decide) (br_f (by decide) (br_f (by decide) (br_f (by decide) (br_t (by decide) (ly_xB hp)))))))))))))
theorem ly_xft {post : Int32 → Prop} {j : Nat} {a b : Int32} (hj : j < 20) (hp : post (ly_b (ly_ft (nI j) a b))) : wpX_fits post (nI j) a b := by
  rcases (by omega : j = 0 ∨ j = 1 ∨ j = 2 ∨ j = 3 ∨ j = 4 ∨ j = 5 ∨ j = 6 ∨ j = 7 ∨ j = 8 ∨ j = 9 ∨ j = 10 ∨ j = 11 ∨ j = 12 ∨ j = 13 ∨ j = 14 ∨ j = 15 ∨ j = 16 ∨ j = 17 ∨ j = 18 ∨ j = 19) with rfl | rfl | rfl | rfl | rfl | rfl | rfl | rfl | rfl | rfl | rfl | rfl | rfl | rfl | rfl | rfl | rfl | rfl | rfl | rfl
  · exact ly_xf0 hp
  · exact ly_xf1 hp
  · exact ly_xf2 hp
  · exact ly_xf3 hp
  · exact ly_xf4 hp
  · exact ly_xf5 hp
  · exact ly_xf6 hp
  · exact ly_xf7 hp
  · exact ly_xf8 hp
  · exact ly_xf9 hp
  · exact ly_xf10 hp
  · exact ly_xf11 hp
  · exact ly_xf12 hp
  · exact ly_xf13 hp
  · exact ly_xf14 hp
  · exact ly_xf15 hp
  · exact ly_xf16 hp
  · exact ly_xf17 hp
  · exact ly_xf18 hp
  · exact ly_xf19 hp
theorem ly_y185 {post : Int32 → Prop} {o b : Int32} (hp : post (ly_b (!ly_us o || ly_in b 0 15))) : wY_fits_185 post o b := by
  unfold wY_fits_185
  refine ly_yus (ly_br (fun e => ?_) (fun e => ly_yB ?_))
  · rw [e] at hp; exact hp
  · rw [e] at hp; exact hp
theorem ly_y163 {post : Int32 → Prop} {o b : Int32} (hp : post (ly_b ((!ly_in o 2 7 || ly_in b 0 7) && (!ly_us o || ly_in b 0 15)))) : wY_fits_163 post o b := by
  unfold wY_fits_163
  refine ly_yin (ly_br (fun e => ly_y185 ?_) (fun e => ly_yin (ly_br (fun e2 => ?_) (fun e2 => ly_y185 ?_))))
  · rw [e, Bool.not_false, Bool.true_or, Bool.true_and] at hp; exact hp
  · rw [e, e2] at hp; exact hp
  · rw [e, e2, Bool.or_true, Bool.true_and] at hp; exact hp
theorem ly_y148 {post : Int32 → Prop} {o a b : Int32} {c : Bool} (hp : post (ly_b ((!c || ly_in a 0 7) && ((!ly_in o 2 7 || ly_in b 0 7) && (!ly_us o || ly_in b 0 15))))) : wY_fits_148 post o a b (ly_b c) := by
  unfold wY_fits_148
  refine ly_br (fun e => ly_y163 ?_) (fun e => ly_yin (ly_br (fun e2 => ?_) (fun e2 => ly_y163 ?_)))
  · rw [e, Bool.not_false, Bool.true_or, Bool.true_and] at hp; exact hp
  · rw [e, e2] at hp; exact hp
  · rw [e, e2, Bool.or_true, Bool.true_and] at hp; exact hp
theorem ly_yft {post : Int32 → Prop} {o a b : Int32} (hp : post (ly_b (ly_in o 0 19 && ly_ft o a b))) : wpY_fits post o a b := by
  unfold wpY_fits
  refine ly_yin (ly_br (fun e => ?_) (fun e => ?_))
  · rw [e] at hp; exact hp
  rw [e, Bool.true_and] at hp
  unfold ly_ft at hp
  by_cases h0 : o = 0
  · rw [if_pos h0] at hp; exact br_t h0 (ly_yC hp)
  rw [if_neg h0] at hp
  refine br_f h0 ?_
  by_cases h1 : o = 16
  · rw [if_pos h1] at hp; exact br_t h1 (ly_yC hp)
  rw [if_neg h1] at hp
  refine br_f h1 ?_
  by_cases h2 : o = 17
  · rw [if_pos h2] at hp; exact br_t h2 (ly_yA hp)
  rw [if_neg h2] at hp
  refine br_f h2 ?_
  by_cases h3 : o = 18
  · rw [if_pos h3] at hp; exact br_t h3 (ly_yA hp)
  rw [if_neg h3] at hp
  refine br_f h3 ?_
  by_cases h4 : o = 19
  · rw [if_pos h4] at hp; exact br_t h4 (ly_yA hp)
  rw [if_neg h4] at hp
  refine br_f h4 ?_
  refine ly_yin (ly_br (fun r => ?_) (fun r => ?_))
  · by_cases h9 : o = 9
    · have : ly_rg o = true := by rw [h9]; decide
      rw [this] at hp
      exact br_t h9 (ly_y148 (c := true) hp)
    refine br_f h9 ?_
    by_cases h12 : o = 12
    · have : ly_rg o = true := by rw [h12]; decide
      rw [this] at hp
      exact br_t h12 (ly_y148 (c := true) hp)
    refine br_f h12 ?_
    by_cases h13 : o = 13
    · have : ly_rg o = true := by rw [h13]; decide
      rw [this] at hp
      exact br_t h13 (ly_y148 (c := true) hp)
    refine br_f h13 ?_
    have : ly_rg o = false := by unfold ly_rg; rw [r, decide_eq_false h9, decide_eq_false h12, decide_eq_false h13]; rfl
    rw [this] at hp
    exact ly_y148 (c := false) hp
  · have : ly_rg o = true := by unfold ly_rg; rw [r]; rfl
    rw [this] at hp
    exact ly_y148 (c := true) hp
theorem ly_i2 {b : Int32} (h : ly_in b 0 2 = true) : b = 0 ∨ b = 1 ∨ b = 2 := by
  obtain ⟨j, hj, rfl⟩ := ly_in_n (n := 2) (by omega) h
  rcases (by omega : j = 0 ∨ j = 1 ∨ j = 2) with rfl | rfl | rfl
  · exact Or.inl rfl
  · exact Or.inr (Or.inl rfl)
  · exact Or.inr (Or.inr rfl)
theorem ly_i1 {b : Int32} (h : ly_in b 0 1 = true) : b = 0 ∨ b = 1 := by
  obtain ⟨j, hj, rfl⟩ := ly_in_n (n := 1) (by omega) h
  rcases (by omega : j = 0 ∨ j = 1) with rfl | rfl
  · exact Or.inl rfl
  · exact Or.inr rfl
theorem ly_i28 {b : Int32} (h : ly_in b 2 8 = true) : ∃ n, 2 ≤ n ∧ n < 9 ∧ b = nI n := by
  obtain ⟨h1, h2⟩ := ly_in_t h
  obtain ⟨j, hj, rfl⟩ := nI_of (x := b) (Int32.not_lt.mpr (Int32.le_trans (by decide) h1))
  rw [show (2 : Int32) = nI 2 from rfl, nI_leI (by omega) hj] at h1
  rw [show (8 : Int32) = nI 8 from rfl, nI_leI hj (by omega)] at h2
  exact ⟨j, h1, by omega, rfl⟩
theorem ly_ok0 {a b : Int32} (h : ly_ft (nI 0) a b = true) : ly_ok (nI 0) a b := by
  rw [ly_ft0] at h
  rw [Bool.and_eq_true] at h
  exact ⟨⟨0, by omega, rfl⟩, (fun _ => ⟨ly_in_n (n := 15) (by omega) h.1, ly_i2 h.2⟩), (fun z => absurd z (by decide)), (fun z => absurd z (by decide)), (fun z => absurd z (by decide)), (fun z => absurd z (by decide)), (fun z => absurd z (by decide))⟩
theorem ly_ok1 {a b : Int32} (h : ly_ft (nI 1) a b = true) : ly_ok (nI 1) a b := by
  rw [ly_ft1] at h
  exact ⟨⟨1, by omega, rfl⟩, (fun z => absurd z (by decide)), (fun z => absurd z (by decide)), (fun z => absurd z (by decide)), (fun z => absurd z (by decide)), (fun z => absurd z (by decide)), (fun _ => ly_in_n (n := 7) (by omega) h)⟩
theorem ly_ok2 {a b : Int32} (h : ly_ft (nI 2) a b = true) : ly_ok (nI 2) a b := by
  rw [ly_ft2] at h
  rw [Bool.and_eq_true] at h
  exact ⟨⟨2, by omega, rfl⟩, (fun z => absurd z (by decide)), (fun z => absurd z (by decide)), (fun z => absurd z (by decide)), (fun z => absurd z (by decide)), (fun z => absurd z (by decide)), (fun _ => ly_in_n (n := 7) (by omega) h.1)⟩
theorem ly_ok3 {a b : Int32} (h : ly_ft (nI 3) a b = true) : ly_ok (nI 3) a b := by
  rw [ly_ft3] at h
  rw [Bool.and_eq_true] at h
  exact ⟨⟨3, by omega, rfl⟩, (fun z => absurd z (by decide)), (fun z => absurd z (by decide)), (fun z => absurd z (by decide)), (fun z => absurd z (by decide)), (fun z => absurd z (by decide)), (fun _ => ly_in_n (n := 7) (by omega) h.1)⟩
theorem ly_ok4 {a b : Int32} (h : ly_ft (nI 4) a b = true) : ly_ok (nI 4) a b := by
  rw [ly_ft4] at h
  rw [Bool.and_eq_true] at h
  exact ⟨⟨4, by omega, rfl⟩, (fun z => absurd z (by decide)), (fun z => absurd z (by decide)), (fun z => absurd z (by decide)), (fun z => absurd z (by decide)), (fun z => absurd z (by decide)), (fun _ => ly_in_n (n := 7) (by omega) h.1)⟩
theorem ly_ok5 {a b : Int32} (h : ly_ft (nI 5) a b = true) : ly_ok (nI 5) a b := by
  rw [ly_ft5] at h
  rw [Bool.and_eq_true] at h
  exact ⟨⟨5, by omega, rfl⟩, (fun z => absurd z (by decide)), (fun z => absurd z (by decide)), (fun z => absurd z (by decide)), (fun z => absurd z (by decide)), (fun z => absurd z (by decide)), (fun _ => ly_in_n (n := 7) (by omega) h.1)⟩
theorem ly_ok6 {a b : Int32} (h : ly_ft (nI 6) a b = true) : ly_ok (nI 6) a b := by
  rw [ly_ft6] at h
  rw [Bool.and_eq_true] at h
  exact ⟨⟨6, by omega, rfl⟩, (fun z => absurd z (by decide)), (fun z => absurd z (by decide)), (fun z => absurd z (by decide)), (fun z => absurd z (by decide)), (fun z => absurd z (by decide)), (fun _ => ly_in_n (n := 7) (by omega) h.1)⟩
theorem ly_ok7 {a b : Int32} (h : ly_ft (nI 7) a b = true) : ly_ok (nI 7) a b := by
  rw [ly_ft7] at h
  rw [Bool.and_eq_true] at h
  exact ⟨⟨7, by omega, rfl⟩, (fun z => absurd z (by decide)), (fun z => absurd z (by decide)), (fun z => absurd z (by decide)), (fun z => absurd z (by decide)), (fun z => absurd z (by decide)), (fun _ => ly_in_n (n := 7) (by omega) h.1)⟩
theorem ly_ok8 {a b : Int32} (h : ly_ft (nI 8) a b = true) : ly_ok (nI 8) a b := by
  rw [ly_ft8] at h
  exact ⟨⟨8, by omega, rfl⟩, (fun z => absurd z (by decide)), (fun _ => by rw [if_neg (by decide)]; exact ly_in_n (n := 15) (by omega) h), (fun z => absurd z (by decide)), (fun z => absurd z (by decide)), (fun z => absurd z (by decide)), (fun z => absurd z (by decide))⟩
theorem ly_ok9 {a b : Int32} (h : ly_ft (nI 9) a b = true) : ly_ok (nI 9) a b := by
  rw [ly_ft9] at h
  rw [Bool.and_eq_true] at h
  exact ⟨⟨9, by omega, rfl⟩, (fun z => absurd z (by decide)), (fun _ => by rw [if_neg (by decide)]; exact ly_in_n (n := 15) (by omega) h.2), (fun z => absurd z (by decide)), (fun z => absurd z (by decide)), (fun z => absurd z (by decide)), (fun _ => ly_in_n (n := 7) (by omega) h.1)⟩
theorem ly_ok10 {a b : Int32} (h : ly_ft (nI 10) a b = true) : ly_ok (nI 10) a b := by
  rw [ly_ft10] at h
  exact ⟨⟨10, by omega, rfl⟩, (fun z => absurd z (by decide)), (fun _ => by rw [if_neg (by decide)]; exact ly_in_n (n := 15) (by omega) h), (fun z => absurd z (by decide)), (fun z => absurd z (by decide)), (fun z => absurd z (by decide)), (fun z => absurd z (by decide))⟩
theorem ly_ok11 {a b : Int32} (h : ly_ft (nI 11) a b = true) : ly_ok (nI 11) a b := by
  rw [ly_ft11] at h
  exact ⟨⟨11, by omega, rfl⟩, (fun z => absurd z (by decide)), (fun z => absurd z (by decide)), (fun z => absurd z (by decide)), (fun z => absurd z (by decide)), (fun z => absurd z (by decide)), (fun z => absurd z (by decide))⟩
theorem ly_ok12 {a b : Int32} (h : ly_ft (nI 12) a b = true) : ly_ok (nI 12) a b := by
  rw [ly_ft12] at h
  rw [Bool.and_eq_true] at h
  exact ⟨⟨12, by omega, rfl⟩, (fun z => absurd z (by decide)), (fun _ => by rw [if_neg (by decide)]; exact ly_in_n (n := 15) (by omega) h.2), (fun z => absurd z (by decide)), (fun z => absurd z (by decide)), (fun z => absurd z (by decide)), (fun _ => ly_in_n (n := 7) (by omega) h.1)⟩
theorem ly_ok13 {a b : Int32} (h : ly_ft (nI 13) a b = true) : ly_ok (nI 13) a b := by
  rw [ly_ft13] at h
  exact ⟨⟨13, by omega, rfl⟩, (fun z => absurd z (by decide)), (fun z => absurd z (by decide)), (fun z => absurd z (by decide)), (fun z => absurd z (by decide)), (fun z => absurd z (by decide)), (fun _ => ly_in_n (n := 7) (by omega) h)⟩
theorem ly_ok14 {a b : Int32} (h : ly_ft (nI 14) a b = true) : ly_ok (nI 14) a b := by
  rw [ly_ft14] at h
  exact ⟨⟨14, by omega, rfl⟩, (fun z => absurd z (by decide)), (fun z => absurd z (by decide)), (fun z => absurd z (by decide)), (fun z => absurd z (by decide)), (fun z => absurd z (by decide)), (fun z => absurd z (by decide))⟩
theorem ly_ok15 {a b : Int32} (h : ly_ft (nI 15) a b = true) : ly_ok (nI 15) a b := by
  rw [ly_ft15] at h
  exact ⟨⟨15, by omega, rfl⟩, (fun z => absurd z (by decide)), (fun z => absurd z (by decide)), (fun z => absurd z (by decide)), (fun z => absurd z (by decide)), (fun z => absurd z (by decide)), (fun z => absurd z (by decide))⟩
theorem ly_ok16 {a b : Int32} (h : ly_ft (nI 16) a b = true) : ly_ok (nI 16) a b := by
  rw [ly_ft16] at h
  rw [Bool.and_eq_true] at h
  exact ⟨⟨16, by omega, rfl⟩, (fun z => absurd z (by decide)), (fun _ => by rw [if_pos (by decide)]; exact ly_in_n (n := 15) (by omega) h.1), (fun z => absurd z (by decide)), (fun z => absurd z (by decide)), (fun z => absurd z (by decide)), (fun z => absurd z (by decide))⟩
theorem ly_ok17 {a b : Int32} (h : ly_ft (nI 17) a b = true) : ly_ok (nI 17) a b := by
  rw [ly_ft17] at h
  exact ⟨⟨17, by omega, rfl⟩, (fun z => absurd z (by decide)), (fun z => absurd z (by decide)), (fun _ => ly_in_n (n := 16) (by omega) h), (fun z => absurd z (by decide)), (fun z => absurd z (by decide)), (fun z => absurd z (by decide))⟩
theorem ly_ok18 {a b : Int32} (h : ly_ft (nI 18) a b = true) : ly_ok (nI 18) a b := by
  rw [ly_ft18] at h
  exact ⟨⟨18, by omega, rfl⟩, (fun z => absurd z (by decide)), (fun z => absurd z (by decide)), (fun z => absurd z (by decide)), (fun _ => ly_i28 h), (fun z => absurd z (by decide)), (fun z => absurd z (by decide))⟩
theorem ly_ok19 {a b : Int32} (h : ly_ft (nI 19) a b = true) : ly_ok (nI 19) a b := by
  rw [ly_ft19] at h
  exact ⟨⟨19, by omega, rfl⟩, (fun z => absurd z (by decide)), (fun z => absurd z (by decide)), (fun z => absurd z (by decide)), (fun z => absurd z (by decide)), (fun _ => ly_i1 h), (fun z => absurd z (by decide))⟩
theorem ly_okj {j : Nat} {a b : Int32} (hj : j < 20) (h : ly_ft (nI j) a b = true) : ly_ok (nI j) a b := by
  rcases (by omega : j = 0 ∨ j = 1 ∨ j = 2 ∨ j = 3 ∨ j = 4 ∨ j = 5 ∨ j = 6 ∨ j = 7 ∨ j = 8 ∨ j = 9 ∨ j = 10 ∨ j = 11 ∨ j = 12 ∨ j = 13 ∨ j = 14 ∨ j = 15 ∨ j = 16 ∨ j = 17 ∨ j = 18 ∨ j = 19) with rfl | rfl | rfl | rfl | rfl | rfl | rfl | rfl | rfl | rfl | rfl | rfl | rfl | rfl | rfl | rfl | rfl | rfl | rfl | rfl
  · exact ly_ok0 h
  · exact ly_ok1 h
  · exact ly_ok2 h
  · exact ly_ok3 h
  · exact ly_ok4 h
  · exact ly_ok5 h
  · exact ly_ok6 h
  · exact ly_ok7 h
  · exact ly_ok8 h
  · exact ly_ok9 h
  · exact ly_ok10 h
  · exact ly_ok11 h
  · exact ly_ok12 h
  · exact ly_ok13 h
  · exact ly_ok14 h
  · exact ly_ok15 h
  · exact ly_ok16 h
  · exact ly_ok17 h
  · exact ly_ok18 h
  · exact ly_ok19 h
end
section
/-! item, clear, role, layout -/
theorem ly_uu {f : Nat → Int32} {k : Nat} {x y : Int32} : upd (upd f k x) k y = upd f k y := by
  funext j
  by_cases h : j = k <;> simp [upd, h]
section xi
variable {f_origin f_culprit f_strip f_listed f_units f_ordered f_textEnd f_end f_longs f_rounds f_keptListed f_entry f_linked f_pc f_steps f_outs f_ran : Int32} {a_op a_opA a_opB a_section a_length a_role a_labelAt a_used a_local a_global a_weak a_faulty a_list a_chosen a_order a_lengthened a_at a_keptAt a_keptSymbol a_keptList a_image a_sizes a_words a_apart a_partA a_partN a_wide a_r a_output : Nat → Int32}
theorem ly_xsym {post : Int32 → Prop} {k : Nat} (hk : k < 144) (hp : post (if ly_us (a_op k) = true then ly_sy a_op a_opA a_opB k else -1)) : wpX_symbol post (f_origin, f_culprit, f_strip, f_listed, f_units, f_ordered, f_textEnd, f_end, f_longs, f_rounds, f_keptListed, f_entry, f_linked, f_pc, f_steps, f_outs, f_ran, a_op, a_opA, a_opB, a_section, a_length, a_role, a_labelAt, a_used, a_local, a_global, a_weak, a_faulty, a_list, a_chosen, a_order, a_lengthened, a_at, a_keptAt, a_keptSymbol, a_keptList, a_image, a_sizes, a_words, a_apart, a_partA, a_partN, a_wide, a_r, a_output) (nI k) := by
  have hv : vp_in (nI k) 144 := vp_in_nI hk (by omega)
  have hc : (nI k).toNatClampNeg = k := nI_clamp (by omega)
  unfold ly_sy at hp
  refine And.intro hv (nm_r (e' := a_op k) (by rw [hc]) ?_)
  by_cases h16 : a_op k = 16
  · refine br_t h16 ⟨hv, ?_⟩
    rw [hc]
    rw [if_pos (by rw [h16]; decide), if_pos h16] at hp
    exact hp
  refine br_f h16 ?_
  rw [if_neg h16] at hp
  have s34 : (ly_in (a_op k) 8 10 = false) → wX_symbol_34 post (nI k) (a_op k) f_origin f_culprit f_strip f_listed f_units f_ordered f_textEnd f_end f_longs f_rounds f_keptListed f_entry f_linked f_pc f_steps f_outs f_ran a_op a_opA a_opB a_section a_length a_role a_labelAt a_used a_local a_global a_weak a_faulty a_list a_chosen a_order a_lengthened a_at a_keptAt a_keptSymbol a_keptList a_image a_sizes a_words a_apart a_partA a_partN a_wide a_r a_output := by
    intro e
    unfold wX_symbol_34
    by_cases h12 : a_op k = 12
    · refine br_t h12 ⟨hv, ?_⟩
      rw [hc]
      rw [if_pos (by rw [h12]; decide)] at hp
      exact hp
    · refine br_f h12 ?_
      have : ly_us (a_op k) = false := by unfold ly_us; rw [e, decide_eq_false h12, decide_eq_false h16]; rfl
      rw [this, if_neg (by decide)] at hp
      exact hp
  by_cases h8 : a_op k < 8
  · refine br_t h8 (s34 ?_)
    unfold ly_in
    rw [decide_eq_false (Int32.not_le.mpr h8), Bool.false_and]
  · refine br_f h8 ?_
    by_cases h10 : a_op k ≤ 10
    · refine br_t h10 ⟨hv, ?_⟩
      rw [hc]
      have : ly_us (a_op k) = true := by unfold ly_us ly_in; rw [decide_eq_true (Int32.not_lt.mp h8), decide_eq_true h10]; rfl
      rw [this, if_pos rfl] at hp
      exact hp
    · refine br_f h10 (s34 ?_)
      unfold ly_in
      rw [decide_eq_false h10, Bool.and_false]
theorem ly_xl73 {post : SX → Prop} {m t : Nat} {p : Int32} (hm : m < 6) (hp : post (f_origin, f_culprit, f_strip, f_listed, f_units, f_ordered, f_textEnd, f_end, f_longs, f_rounds, f_keptListed, f_entry, f_linked, f_pc, f_steps, f_outs, f_ran, a_op, a_opA, a_opB, a_section, a_length, a_role, a_labelAt, a_used, a_local, a_global, if p = 2 then upd a_weak m (a_weak m ||| ((1 : Int32) <<< (nI t &&& 31))) else a_weak, a_faulty, a_list, a_chosen, a_order, a_lengthened, a_at, a_keptAt, a_keptSymbol, a_keptList, a_image, a_sizes, a_words, a_apart, a_partA, a_partN, a_wide, a_r, a_output)) : wX_label_73 post (nI m) (nI t) p f_origin f_culprit f_strip f_listed f_units f_ordered f_textEnd f_end f_longs f_rounds f_keptListed f_entry f_linked f_pc f_steps f_outs f_ran a_op a_opA a_opB a_section a_length a_role a_labelAt a_used a_local a_global a_weak a_faulty a_list a_chosen a_order a_lengthened a_at a_keptAt a_keptSymbol a_keptList a_image a_sizes a_words a_apart a_partA a_partN a_wide a_r a_output := by
  have hv : vp_in (nI m) 6 := vp_in_nI hm (by omega)
  have hc : (nI m).toNatClampNeg = m := nI_clamp (by omega)
  unfold wX_label_73
  rw [hc]
  by_cases z : p = 2
  · rw [if_pos z] at hp
    exact br_t z ⟨hv, hv, nm_e hp⟩
  · rw [if_neg z] at hp
    exact br_f z hp
theorem ly_xl56 {post : SX → Prop} {m t : Nat} {p : Int32} (hm : m < 6) (hp : post (f_origin, f_culprit, f_strip, f_listed, f_units, f_ordered, f_textEnd, f_end, f_longs, f_rounds, f_keptListed, f_entry, f_linked, f_pc, f_steps, f_outs, f_ran, a_op, a_opA, a_opB, a_section, a_length, a_role, a_labelAt, a_used, a_local, if p = 1 then upd a_global m (a_global m ||| ((1 : Int32) <<< (nI t &&& 31))) else a_global, if p = 2 then upd a_weak m (a_weak m ||| ((1 : Int32) <<< (nI t &&& 31))) else a_weak, a_faulty, a_list, a_chosen, a_order, a_lengthened, a_at, a_keptAt, a_keptSymbol, a_keptList, a_image, a_sizes, a_words, a_apart, a_partA, a_partN, a_wide, a_r, a_output)) : wX_label_56 post (nI m) (nI t) p f_origin f_culprit f_strip f_listed f_units f_ordered f_textEnd f_end f_longs f_rounds f_keptListed f_entry f_linked f_pc f_steps f_outs f_ran a_op a_opA a_opB a_section a_length a_role a_labelAt a_used a_local a_global a_weak a_faulty a_list a_chosen a_order a_lengthened a_at a_keptAt a_keptSymbol a_keptList a_image a_sizes a_words a_apart a_partA a_partN a_wide a_r a_output := by
  have hv : vp_in (nI m) 6 := vp_in_nI hm (by omega)
  have hc : (nI m).toNatClampNeg = m := nI_clamp (by omega)
  unfold wX_label_56
  rw [hc]
  by_cases z : p = 1
  · rw [if_pos z] at hp
    exact br_t z ⟨hv, hv, nm_e (ly_xl73 hm hp)⟩
  · rw [if_neg z] at hp
    exact br_f z (ly_xl73 hm hp)
theorem ly_xl40 {post : SX → Prop} {m t : Nat} {p : Int32} (hm : m < 6) (hp : post (f_origin, f_culprit, f_strip, f_listed, f_units, f_ordered, f_textEnd, f_end, f_longs, f_rounds, f_keptListed, f_entry, f_linked, f_pc, f_steps, f_outs, f_ran, a_op, a_opA, a_opB, a_section, a_length, a_role, a_labelAt, a_used, if p = 0 then upd a_local m (a_local m ||| ((1 : Int32) <<< (nI t &&& 31))) else a_local, if p = 1 then upd a_global m (a_global m ||| ((1 : Int32) <<< (nI t &&& 31))) else a_global, if p = 2 then upd a_weak m (a_weak m ||| ((1 : Int32) <<< (nI t &&& 31))) else a_weak, a_faulty, a_list, a_chosen, a_order, a_lengthened, a_at, a_keptAt, a_keptSymbol, a_keptList, a_image, a_sizes, a_words, a_apart, a_partA, a_partN, a_wide, a_r, a_output)) : wX_label_40 post (nI m) (nI t) p f_origin f_culprit f_strip f_listed f_units f_ordered f_textEnd f_end f_longs f_rounds f_keptListed f_entry f_linked f_pc f_steps f_outs f_ran a_op a_opA a_opB a_section a_length a_role a_labelAt a_used a_local a_global a_weak a_faulty a_list a_chosen a_order a_lengthened a_at a_keptAt a_keptSymbol a_keptList a_image a_sizes a_words a_apart a_partA a_partN a_wide a_r a_output := by
  have hv : vp_in (nI m) 6 := vp_in_nI hm (by omega)
  have hc : (nI m).toNatClampNeg = m := nI_clamp (by omega)
  unfold wX_label_40
  rw [hc]
  by_cases z : p = 0
  · rw [if_pos z] at hp
    exact br_t z ⟨hv, hv, nm_e (ly_xl56 hm hp)⟩
  · rw [if_neg z] at hp
    exact br_f z (ly_xl56 hm hp)
theorem ly_xlabel {post : SX → Prop} {m t n : Nat} {p : Int32} (hm : m < 6) (ht : t < 16) (hn : n < 24)
    (hp : post (f_origin, f_culprit, f_strip, f_listed, f_units, f_ordered, f_textEnd, f_end, f_longs, f_rounds, f_keptListed, f_entry, f_linked, f_pc, f_steps, f_outs, f_ran, a_op, a_opA, a_opB, a_section, a_length, a_role, if a_labelAt (16 * m + t) = 0 then upd a_labelAt (16 * m + t) (nI (n + 1)) else a_labelAt, a_used, if p = 0 then upd a_local m (a_local m ||| ((1 : Int32) <<< (nI t &&& 31))) else a_local, if p = 1 then upd a_global m (a_global m ||| ((1 : Int32) <<< (nI t &&& 31))) else a_global, if p = 2 then upd a_weak m (a_weak m ||| ((1 : Int32) <<< (nI t &&& 31))) else a_weak, if a_labelAt (16 * m + t) = 0 then a_faulty else upd a_faulty m 1, a_list, a_chosen, a_order, a_lengthened, a_at, a_keptAt, a_keptSymbol, a_keptList, a_image, a_sizes, a_words, a_apart, a_partA, a_partN, a_wide, a_r, a_output)) :
    wpX_label post (f_origin, f_culprit, f_strip, f_listed, f_units, f_ordered, f_textEnd, f_end, f_longs, f_rounds, f_keptListed, f_entry, f_linked, f_pc, f_steps, f_outs, f_ran, a_op, a_opA, a_opB, a_section, a_length, a_role, a_labelAt, a_used, a_local, a_global, a_weak, a_faulty, a_list, a_chosen, a_order, a_lengthened, a_at, a_keptAt, a_keptSymbol, a_keptList, a_image, a_sizes, a_words, a_apart, a_partA, a_partN, a_wide, a_r, a_output) (nI m) (nI t) p (nI n) := by
  have hv : vp_in (nI m) 6 := vp_in_nI hm (by omega)
  have hc : (nI m).toNatClampNeg = m := nI_clamp (by omega)
  have hv2 : vp_in (16 * nI m + nI t) 96 := by rw [ly_16]; exact vp_in_nI (by omega) (by omega)
  have hc2 : (16 * nI m + nI t).toNatClampNeg = 16 * m + t := by rw [ly_16]; exact nI_clamp (by omega)
  have hn1 : vp_nar .byte ((nI n + 1).toInt8.toInt32) = nI (n + 1) := by rw [nI_1]; exact ly_nb _ (by omega)
  refine And.intro hv2 ?_
  rw [hc2]
  by_cases z : a_labelAt (16 * m + t) = 0
  · simp only [if_pos z] at hp
    refine br_t z ⟨hv2, nm_e ?_⟩
    rw [hn1]
    exact ly_xl40 hm hp
  · simp only [if_neg z] at hp
    refine br_f z ⟨hv, nm_e ?_⟩
    rw [hc]
    exact ly_xl40 hm hp
theorem ly_xi169 {post : Int32 → SX → Prop} {m n : Nat} (hm : m < 6) (hl : a_length m = nI n) (hn : n < 24) (hp : post (nI n) (f_origin, f_culprit, f_strip, f_listed, f_units, f_ordered, f_textEnd, f_end, f_longs, f_rounds, f_keptListed, f_entry, f_linked, f_pc, f_steps, f_outs, f_ran, a_op, a_opA, a_opB, a_section, upd a_length m (nI (n + 1)), a_role, a_labelAt, a_used, a_local, a_global, a_weak, a_faulty, a_list, a_chosen, a_order, a_lengthened, a_at, a_keptAt, a_keptSymbol, a_keptList, a_image, a_sizes, a_words, a_apart, a_partA, a_partN, a_wide, a_r, a_output)) : wX_item_169 post (nI m) f_origin f_culprit f_strip f_listed f_units f_ordered f_textEnd f_end f_longs f_rounds f_keptListed f_entry f_linked f_pc f_steps f_outs f_ran a_op a_opA a_opB a_section a_length a_role a_labelAt a_used a_local a_global a_weak a_faulty a_list a_chosen a_order a_lengthened a_at a_keptAt a_keptSymbol a_keptList a_image a_sizes a_words a_apart a_partA a_partN a_wide a_r a_output := by
  have hv : vp_in (nI m) 6 := vp_in_nI hm (by omega)
  have hc : (nI m).toNatClampNeg = m := nI_clamp (by omega)
  have hn1 : vp_nar .byte ((nI n + 1).toInt8.toInt32) = nI (n + 1) := by rw [nI_1]; exact ly_nb _ (by omega)
  unfold wX_item_169
  rw [hc, hl, hn1]
  exact ⟨hv, hv, nm_e hp⟩
theorem ly_xi143 {post : Int32 → SX → Prop} {m n k : Nat} (hm : m < 6) (hk : k < 144) (hl : a_length m = nI n) (hn : n < 24) (hs : ly_us (a_op k) = true → ∃ t, t < 16 ∧ ly_sy a_op a_opA a_opB k = nI t)
    (hp : post (nI n) (f_origin, f_culprit, f_strip, f_listed, f_units, f_ordered, f_textEnd, f_end, f_longs, f_rounds, f_keptListed, f_entry, f_linked, f_pc, f_steps, f_outs, f_ran, a_op, a_opA, a_opB, a_section, upd a_length m (nI (n + 1)), a_role, a_labelAt, if ly_us (a_op k) = true then upd a_used m (a_used m ||| ((1 : Int32) <<< (ly_sy a_op a_opA a_opB k &&& 31))) else a_used, a_local, a_global, a_weak, a_faulty, a_list, a_chosen, a_order, a_lengthened, a_at, a_keptAt, a_keptSymbol, a_keptList, a_image, a_sizes, a_words, a_apart, a_partA, a_partN, a_wide, a_r, a_output)) : wX_item_143 post (nI m) (nI k) f_origin f_culprit f_strip f_listed f_units f_ordered f_textEnd f_end f_longs f_rounds f_keptListed f_entry f_linked f_pc f_steps f_outs f_ran a_op a_opA a_opB a_section a_length a_role a_labelAt a_used a_local a_global a_weak a_faulty a_list a_chosen a_order a_lengthened a_at a_keptAt a_keptSymbol a_keptList a_image a_sizes a_words a_apart a_partA a_partN a_wide a_r a_output := by
  have hv : vp_in (nI m) 6 := vp_in_nI hm (by omega)
  have hc : (nI m).toNatClampNeg = m := nI_clamp (by omega)
  unfold wX_item_143
  refine ly_xsym hk ?_
  by_cases z : ly_us (a_op k) = true
  · obtain ⟨t, ht, e⟩ := hs z
    rw [if_pos z] at hp ⊢
    refine br_f (by rw [e]; exact nI_pos (by omega)) ⟨hv, hv, nm_e ?_⟩
    rw [hc]
    exact ly_xi169 hm hl hn hp
  · rw [if_neg z] at hp ⊢
    exact br_t (by decide) (ly_xi169 hm hl hn hp)
theorem ly_xi125 {post : Int32 → SX → Prop} {m n k j : Nat} {a b : Int32} (hm : m < 6) (hj : ¬ nI j = 0) (hp : wX_item_143 post (nI m) (nI k) f_origin f_culprit f_strip f_listed f_units f_ordered f_textEnd f_end f_longs f_rounds f_keptListed f_entry f_linked f_pc f_steps f_outs f_ran a_op a_opA a_opB a_section a_length a_role a_labelAt a_used a_local a_global a_weak a_faulty a_list a_chosen a_order a_lengthened a_at a_keptAt a_keptSymbol a_keptList a_image a_sizes a_words a_apart a_partA a_partN a_wide a_r a_output) : wX_item_125 post (nI m) (nI j) a b (nI k) f_origin f_culprit f_strip f_listed f_units f_ordered f_textEnd f_end f_longs f_rounds f_keptListed f_entry f_linked f_pc f_steps f_outs f_ran a_op a_opA a_opB a_section a_length a_role a_labelAt a_used a_local a_global a_weak a_faulty a_list a_chosen a_order a_lengthened a_at a_keptAt a_keptSymbol a_keptList a_image a_sizes a_words a_apart a_partA a_partN a_wide a_r a_output := by
  unfold wX_item_125
  exact br_f hj hp
theorem ly_xi125L {post : Int32 → SX → Prop} {m n k t : Nat} {b : Int32} (hm : m < 6) (ht : t < 16) (hl : a_length m = nI n) (hn : n < 24)
    (hp : wX_item_143 post (nI m) (nI k) f_origin f_culprit f_strip f_listed f_units f_ordered f_textEnd f_end f_longs f_rounds f_keptListed f_entry f_linked f_pc f_steps f_outs f_ran a_op a_opA a_opB a_section a_length a_role (if a_labelAt (16 * m + t) = 0 then upd a_labelAt (16 * m + t) (nI (n + 1)) else a_labelAt) a_used (if b = 0 then upd a_local m (a_local m ||| ((1 : Int32) <<< (nI t &&& 31))) else a_local) (if b = 1 then upd a_global m (a_global m ||| ((1 : Int32) <<< (nI t &&& 31))) else a_global) (if b = 2 then upd a_weak m (a_weak m ||| ((1 : Int32) <<< (nI t &&& 31))) else a_weak) (if a_labelAt (16 * m + t) = 0 then a_faulty else upd a_faulty m 1) a_list a_chosen a_order a_lengthened a_at a_keptAt a_keptSymbol a_keptList a_image a_sizes a_words a_apart a_partA a_partN a_wide a_r a_output) :
    wX_item_125 post (nI m) (nI 0) (nI t) b (nI k) f_origin f_culprit f_strip f_listed f_units f_ordered f_textEnd f_end f_longs f_rounds f_keptListed f_entry f_linked f_pc f_steps f_outs f_ran a_op a_opA a_opB a_section a_length a_role a_labelAt a_used a_local a_global a_weak a_faulty a_list a_chosen a_order a_lengthened a_at a_keptAt a_keptSymbol a_keptList a_image a_sizes a_words a_apart a_partA a_partN a_wide a_r a_output := by
  have hv : vp_in (nI m) 6 := vp_in_nI hm (by omega)
  have hc : (nI m).toNatClampNeg = m := nI_clamp (by omega)
  unfold wX_item_125
  refine br_t rfl ⟨hv, ?_⟩
  rw [hc, hl]
  exact ly_xlabel hm ht hn hp
theorem ly_xi109 {post : Int32 → SX → Prop} {m k j : Nat} {a b z0 : Int32} (hk : k < 144) (ha : nI j = 19 → a = 0 ∨ a = 1) (hz : z0 = 0 ∨ z0 = 1)
    (hp : wX_item_125 post (nI m) (nI j) a b (nI k) f_origin f_culprit f_strip f_listed f_units f_ordered f_textEnd f_end f_longs f_rounds f_keptListed f_entry f_linked f_pc f_steps f_outs f_ran a_op a_opA a_opB (upd a_section k (if nI j = 19 then a else z0)) a_length a_role a_labelAt a_used a_local a_global a_weak a_faulty a_list a_chosen a_order a_lengthened a_at a_keptAt a_keptSymbol a_keptList a_image a_sizes a_words a_apart a_partA a_partN a_wide a_r a_output) : wX_item_109 post (nI m) (nI j) a b (nI k) z0 (nI k) f_origin f_culprit f_strip f_listed f_units f_ordered f_textEnd f_end f_longs f_rounds f_keptListed f_entry f_linked f_pc f_steps f_outs f_ran a_op a_opA a_opB a_section a_length a_role a_labelAt a_used a_local a_global a_weak a_faulty a_list a_chosen a_order a_lengthened a_at a_keptAt a_keptSymbol a_keptList a_image a_sizes a_words a_apart a_partA a_partN a_wide a_r a_output := by
  have hv : vp_in (nI k) 144 := vp_in_nI hk (by omega)
  have hc : (nI k).toNatClampNeg = k := nI_clamp (by omega)
  unfold wX_item_109
  rw [hc]
  have hz' : vp_nar .byte z0 = z0 := by rcases hz with rfl | rfl <;> rfl
  refine ⟨hv, nm_r (e' := upd a_section k z0) (by rw [hz']) ?_⟩
  by_cases z : nI j = 19
  · have ha' : vp_nar .byte a.toInt8.toInt32 = a := by rcases ha z with rfl | rfl <;> rfl
    rw [if_pos z] at hp
    refine br_t z ⟨hv, nm_e ?_⟩
    rw [ha', ly_uu]
    exact hp
  · rw [if_neg z] at hp
    exact br_f z hp
theorem ly_xitem {post : Int32 → SX → Prop} {m n j : Nat} {a b : Int32} (hm : m < 6) (hj : j < 20) (hl : a_length m = nI n) (hn : n < 24) (hf : ly_ft (nI j) a b = true) (hs : n ≠ 0 → a_section (24 * m + n - 1) = 0 ∨ a_section (24 * m + n - 1) = 1)
    (hp : wX_item_125 post (nI m) (nI j) a b (nI (24 * m + n)) f_origin f_culprit f_strip f_listed f_units f_ordered f_textEnd f_end f_longs f_rounds f_keptListed f_entry f_linked f_pc f_steps f_outs f_ran (upd a_op (24 * m + n) (nI j)) (upd a_opA (24 * m + n) a) (upd a_opB (24 * m + n) b) (upd a_section (24 * m + n) (if nI j = 19 then a else if n = 0 then 0 else a_section (24 * m + n - 1))) a_length a_role a_labelAt a_used a_local a_global a_weak a_faulty a_list a_chosen a_order a_lengthened a_at a_keptAt a_keptSymbol a_keptList a_image a_sizes a_words a_apart a_partA a_partN a_wide a_r a_output) :
    wpX_item post (f_origin, f_culprit, f_strip, f_listed, f_units, f_ordered, f_textEnd, f_end, f_longs, f_rounds, f_keptListed, f_entry, f_linked, f_pc, f_steps, f_outs, f_ran, a_op, a_opA, a_opB, a_section, a_length, a_role, a_labelAt, a_used, a_local, a_global, a_weak, a_faulty, a_list, a_chosen, a_order, a_lengthened, a_at, a_keptAt, a_keptSymbol, a_keptList, a_image, a_sizes, a_words, a_apart, a_partA, a_partN, a_wide, a_r, a_output) (nI m) (nI j) a b := by
  have hv : vp_in (nI m) 6 := vp_in_nI hm (by omega)
  have hc : (nI m).toNatClampNeg = m := nI_clamp (by omega)
  have hv2 : vp_in (nI (24 * m + n)) 144 := vp_in_nI (by omega) (by omega)
  have hc2 : (nI (24 * m + n)).toNatClampNeg = 24 * m + n := nI_clamp (by omega)
  have hok := (ly_okj hj hf).2.2.2.2.2.1
  have hj1 : vp_nar .byte (nI j).toInt8.toInt32 = nI j := ly_nb _ (by omega)
  unfold wpX_item
  refine ly_xin (ly_br (fun e => ?_) (fun _ => ly_xin (ly_br (fun e => ?_) (fun _ => ⟨hv, ?_⟩))))
  · rw [show (5 : Int32) = nI 5 from rfl, ly_in_f (by omega) (by omega : m ≤ 5) rfl] at e; cases e
  · rw [show (19 : Int32) = nI 19 from rfl, ly_in_f (by omega) (by omega : j ≤ 19) rfl] at e; cases e
  rw [hc, hl]
  refine br_f (by rw [show (24 : Int32) = nI 24 from rfl, nI_eq (by omega) (by omega)]; omega) (ly_xft hj ?_)
  rw [hf]
  refine br_f (by decide) ⟨hv, nm_r (e' := nI (24 * m + n)) (ly_24 m n) ⟨hv2, nm_e ⟨hv2, nm_e ⟨hv2, nm_e ⟨hv, ?_⟩⟩⟩⟩⟩
  rw [hc2, hj1]
  by_cases z : n = 0
  · refine br_t (by rw [z]; rfl) (ly_xi109 (by omega) hok (Or.inl rfl) ?_)
    rw [if_pos z] at hp
    exact hp
  · have e1 : nI (24 * m + n) - 1 = nI (24 * m + n - 1) := pk_sub (b := 1) (by omega)
    have hv3 : vp_in (nI (24 * m + n) - 1) 144 := by rw [e1]; exact vp_in_nI (by omega) (by omega)
    have hc3 : (nI (24 * m + n) - 1).toNatClampNeg = 24 * m + n - 1 := by rw [e1]; exact nI_clamp (by omega)
    refine br_f (nI_ne0 (by omega) (by omega)) ⟨hv3, ?_⟩
    rw [hc3]
    rw [if_neg z] at hp
    exact ly_xi109 (by omega) hok (hs z) hp
theorem ly_xclear {post : Int32 → SX → Prop} {m : Nat} {x : Int32} (hm : m < 6) (hp : ∀ lab, (∀ q, q / 16 ≠ m → lab q = a_labelAt q) → (∀ s, s < 16 → lab (16 * m + s) = 0) → post x (f_origin, f_culprit, f_strip, f_listed, f_units, f_ordered, f_textEnd, f_end, f_longs, f_rounds, f_keptListed, f_entry, f_linked, f_pc, f_steps, f_outs, f_ran, a_op, a_opA, a_opB, a_section, a_length, a_role, lab, upd a_used m 0, upd a_local m 0, upd a_global m 0, upd a_weak m 0, upd a_faulty m 0, a_list, a_chosen, a_order, a_lengthened, a_at, a_keptAt, a_keptSymbol, a_keptList, a_image, a_sizes, a_words, a_apart, a_partA, a_partN, a_wide, a_r, a_output)) :
    ∀ n i lab, i ≤ 16 → 16 < n + i → (∀ q, q / 16 ≠ m → lab q = a_labelAt q) → (∀ s, s < i → lab (16 * m + s) = 0) → wX_clear_27 post (nI m) x f_origin f_culprit f_strip f_listed f_units f_ordered f_textEnd f_end f_longs f_rounds f_keptListed f_entry f_linked f_pc f_steps f_outs f_ran n (nI i) a_op a_opA a_opB a_section a_length a_role lab a_used a_local a_global a_weak a_faulty a_list a_chosen a_order a_lengthened a_at a_keptAt a_keptSymbol a_keptList a_image a_sizes a_words a_apart a_partA a_partN a_wide a_r a_output := by
  have hv : vp_in (nI m) 6 := vp_in_nI hm (by omega)
  have hc : (nI m).toNatClampNeg = m := nI_clamp (by omega)
  intro n
  induction n with
  | zero => intro i lab h1 h2; omega
  | succ n ih =>
    intro i lab h1 h2 g1 g2
    unfold wX_clear_27
    by_cases z : i = 16
    · subst z
      refine br_t (Int32.le_refl _) ⟨hv, nm_e ⟨hv, nm_e ⟨hv, nm_e ⟨hv, nm_e ⟨hv, nm_e ?_⟩⟩⟩⟩⟩
      rw [hc]
      exact hp lab g1 g2
    · have hv2 : vp_in (16 * nI m + nI i) 96 := by rw [ly_16]; exact vp_in_nI (by omega) (by omega)
      have hc2 : (16 * nI m + nI i).toNatClampNeg = 16 * m + i := by rw [ly_16]; exact nI_clamp (by omega)
      refine br_f (nI_ge (b := 16) (by omega) (by omega)) ⟨hv2, nm_e (nm_r (nI_1 i) ?_)⟩
      rw [hc2]
      refine ih (i + 1) _ (by omega) (by omega) (fun q hq => ?_) (fun s hs => ?_)
      · rw [pk_un (by omega)]; exact g1 q hq
      · by_cases y : s = i
        · rw [y, pk_us]; rfl
        · rw [pk_un (by omega)]; exact g2 s (by omega)
end xi
section yi
variable {g_origin g_strip g_many g_culprit g_textEnd g_end g_made g_rounds g_entry g_linked g_ran g_pc g_steps g_outs : Int32} {b_ops b_opA b_opB b_counts b_roles b_list b_places b_symbols b_image b_stays b_wide b_memory b_reg b_out : Nat → Int32}
theorem ly_yitemT {post : Int32 → SY → Prop} {m n : Nat} {o a b : Int32} (hm : m < 6) (hl : b_counts m = nI n) (hn : n < 24) (hf : (ly_in o 0 19 && ly_ft o a b) = true)
    (hp : post (nI n) (g_origin, g_strip, g_many, g_culprit, g_textEnd, g_end, g_made, g_rounds, g_entry, g_linked, g_ran, g_pc, g_steps, g_outs, upd b_ops (24 * m + n) o, upd b_opA (24 * m + n) a, upd b_opB (24 * m + n) b, upd b_counts m (nI (n + 1)), b_roles, b_list, b_places, b_symbols, b_image, b_stays, b_wide, b_memory, b_reg, b_out)) : wpY_item post (g_origin, g_strip, g_many, g_culprit, g_textEnd, g_end, g_made, g_rounds, g_entry, g_linked, g_ran, g_pc, g_steps, g_outs, b_ops, b_opA, b_opB, b_counts, b_roles, b_list, b_places, b_symbols, b_image, b_stays, b_wide, b_memory, b_reg, b_out) (nI m) o a b := by
  have hv : vp_in (nI m) 6 := vp_in_nI hm (by omega)
  have hc : (nI m).toNatClampNeg = m := nI_clamp (by omega)
  have hv2 : vp_in (nI (24 * m + n)) 144 := vp_in_nI (by omega) (by omega)
  have hc2 : (nI (24 * m + n)).toNatClampNeg = 24 * m + n := nI_clamp (by omega)
  unfold wpY_item
  refine ly_yin (ly_br (fun e => ?_) (fun _ => ly_yft ?_))
  · rw [show (5 : Int32) = nI 5 from rfl, ly_in_f (by omega) (by omega : m ≤ 5) rfl] at e; cases e
  rw [hf, hc, hl]
  refine br_f (by decide) ⟨hv, br_f (by rw [show (24 : Int32) = nI 24 from rfl, nI_eq (by omega) (by omega)]; omega) ⟨hv, nm_r (e' := nI (24 * m + n)) (ly_24 m n) ⟨hv2, nm_e ⟨hv2, nm_e ⟨hv2, nm_e ⟨hv, hv, nm_r (nI_1 n ▸ rfl : upd b_counts m (nI n + 1) = upd b_counts m (nI (n + 1))) ⟨hv, ?_⟩⟩⟩⟩⟩⟩⟩
  rw [hc2, pk_us, nI_pred]
  exact hp
theorem ly_yitemF {post : Int32 → SY → Prop} {m n : Nat} {o a b : Int32} (hm : m < 6) (hl : b_counts m = nI n) (hf : (ly_in o 0 19 && ly_ft o a b) = false ∨ n = 24) (hp : post (-1) (g_origin, g_strip, g_many, g_culprit, g_textEnd, g_end, g_made, g_rounds, g_entry, g_linked, g_ran, g_pc, g_steps, g_outs, b_ops, b_opA, b_opB, b_counts, b_roles, b_list, b_places, b_symbols, b_image, b_stays, b_wide, b_memory, b_reg, b_out)) : wpY_item post (g_origin, g_strip, g_many, g_culprit, g_textEnd, g_end, g_made, g_rounds, g_entry, g_linked, g_ran, g_pc, g_steps, g_outs, b_ops, b_opA, b_opB, b_counts, b_roles, b_list, b_places, b_symbols, b_image, b_stays, b_wide, b_memory, b_reg, b_out) (nI m) o a b := by
  have hv : vp_in (nI m) 6 := vp_in_nI hm (by omega)
  have hc : (nI m).toNatClampNeg = m := nI_clamp (by omega)
  unfold wpY_item
  refine ly_yin (ly_br (fun _ => hp) (fun _ => ly_yft (ly_br (fun _ => hp) (fun e => ⟨hv, ?_⟩))))
  rcases hf with h | h
  · rw [h] at e; cases e
  · rw [hc, hl, h]
    exact br_t rfl hp
end yi
end
section
theorem ly_oka {j : Nat} {a b : Int32} (h : ly_ok (nI j) a b) (hu : ly_us (nI j) = true) : ∃ t, t < 16 ∧ (if nI j = 16 then a else b) = nI t := h.2.2.1 hu
/-- an item more keeps the picture of all modules -/
theorem ly_J_item {op opA opB len sec lab us lo gl we fa sec' lab' us' lo' gl' we' fa' : Nat → Int32} {L : Nat → Nat} {m j : Nat} {a b : Int32}
    (hL : ∀ m, m < 6 → len m = nI (L m) ∧ ly_Mo op opA opB m (L m) sec lab (us m) (lo m) (gl m) (we m) (fa m)) (hm : m < 6) (hn : L m < 24) (hk : ly_ok (nI j) a b)
    (hs : ∀ k, k ≠ 24 * m + L m → sec' k = sec k)
    (hs2 : sec' (24 * m + L m) = if nI j = 19 then a else if L m = 0 then 0 else sec (24 * m + L m - 1))
    (hq : ∀ q, q ≠ m → us' q = us q ∧ lo' q = lo q ∧ gl' q = gl q ∧ we' q = we q ∧ fa' q = fa q) (hlq : ∀ q, q / 16 ≠ m → lab' q = lab q)
    (hl0 : ¬ nI j = 0 → (∀ s, s < 16 → lab' (16 * m + s) = lab (16 * m + s)) ∧ lo' m = lo m ∧ gl' m = gl m ∧ we' m = we m ∧ fa' m = fa m)
    (hl1 : ∀ t, t < 16 → nI j = 0 → a = nI t → (∀ s, s < 16 → s ≠ t → lab' (16 * m + s) = lab (16 * m + s)) ∧
      lab' (16 * m + t) = (if lab (16 * m + t) = 0 then nI (L m + 1) else lab (16 * m + t)) ∧ fa' m = (if lab (16 * m + t) = 0 then fa m else 1) ∧
      lo' m = (if b = 0 then lo m ||| ((1 : Int32) <<< (nI t &&& 31)) else lo m) ∧ gl' m = (if b = 1 then gl m ||| ((1 : Int32) <<< (nI t &&& 31)) else gl m) ∧
      we' m = (if b = 2 then we m ||| ((1 : Int32) <<< (nI t &&& 31)) else we m))
    (hu0 : ly_us (nI j) = false → us' m = us m)
    (hu1 : ∀ t, t < 16 → ly_us (nI j) = true → (if nI j = 16 then a else b) = nI t → us' m = us m ||| ((1 : Int32) <<< (nI t &&& 31))) :
    ly_J (upd op (24 * m + L m) (nI j)) (upd opA (24 * m + L m) a) (upd opB (24 * m + L m) b) (upd len m (nI (L m + 1))) sec' lab' us' lo' gl' we' fa' := by
  refine ⟨fun q => if q = m then L m + 1 else L q, fun q hq6 => ?_⟩
  have hm1 := (hL m hm).2
  by_cases z : q = m
  · subst z
    dsimp only
    rw [if_pos rfl]
    refine ⟨pk_us, ?_⟩
    have hc : ly_Mo (upd op (24 * q + L q) (nI j)) (upd opA (24 * q + L q) a) (upd opB (24 * q + L q) b) q (L q) sec lab (us q) (lo q) (gl q) (we q) (fa q) := by
      obtain ⟨h1, h2, h3, h4, h5, h6, h7, h8, h9⟩ := hm1
      have ho : ∀ k, 24 * q ≤ k → k < 24 * q + L q → upd op (24 * q + L q) (nI j) k = op k := fun k _ g => pk_un (by omega)
      have ha : ∀ k, 24 * q ≤ k → k < 24 * q + L q → upd opA (24 * q + L q) a k = opA k := fun k _ g => pk_un (by omega)
      have hb : ∀ k, 24 * q ≤ k → k < 24 * q + L q → upd opB (24 * q + L q) b k = opB k := fun k _ g => pk_un (by omega)
      refine ⟨h1, fun k g1 g2 => ?_, fun i hi => ?_, fun s h => ?_, fun s h => ?_, fun s h => ?_, fun s h => ?_, fun s h => ?_, ?_⟩
      · rw [ho k g1 g2, ha k g1 g2, hb k g1 g2]; exact h2 k g1 g2
      · rw [ly_sc_c hi ho ha]; exact h3 i hi
      · rw [ly_lb_c ho ha]; exact h4 s h
      · rw [ly_ud_c ho ha hb]; exact h5 s h
      · rw [ly_sl_c ho ha hb]; exact h6 s h
      · rw [ly_sl_c ho ha hb]; exact h7 s h
      · rw [ly_sl_c ho ha hb]; exact h8 s h
      · rw [ly_fl_c ho ha]; exact h9
    have eo : upd op (24 * q + L q) (nI j) (24 * q + L q) = nI j := pk_us
    have ea : upd opA (24 * q + L q) a (24 * q + L q) = a := pk_us
    have eb : upd opB (24 * q + L q) b (24 * q + L q) = b := pk_us
    refine ly_Mo_s hc hn (by rw [eo, ea, eb]; exact hk) (fun k g1 g2 => hs k (by omega)) (by rw [eo, ea]; exact hs2) ?_ ?_ ?_ ?_
    · rw [eo]; exact hl0
    · rw [eo, ea, eb]; exact hl1
    · rw [eo]; exact hu0
    · unfold ly_sy; rw [eo, ea, eb]; exact hu1
  · dsimp only
    rw [if_neg z, pk_un z]
    refine ⟨(hL q hq6).1, ?_⟩
    obtain ⟨e1, e2, e3, e4, e5⟩ := hq q z
    rw [e1, e2, e3, e4, e5]
    refine ly_Mo_c (hL q hq6).2 (fun k g1 g2 => pk_un (by omega)) (fun k g1 g2 => pk_un (by omega)) (fun k g1 g2 => pk_un (by omega)) (fun k g1 g2 => hs k (by omega)) (fun s hs => hlq _ (by omega))
theorem i_vc_item {k : Nat} {u : SX} {v : SY} (I : i_Rel k u v) (hk : k + 5 ≤ 2560) (v1 : Int32) (v2 : Int32) (v3 : Int32) (v4 : Int32) : wpX_item (fun r u' => wpY_item (fun r' v' => r' = r ∧ i_Rel (k + 5) u' v') v v1 v2 v3 v4) u v1 v2 v3 v4 := by
  refine ly_el (P := fun u v => wpX_item (fun r u' => wpY_item (fun r' v' => r' = r ∧ i_Rel (k + 5) u' v') v v1 v2 v3 v4) u v1 v2 v3 v4) I ?_
  intro f_origin f_culprit f_strip f_listed f_units f_ordered f_textEnd f_end f_longs f_rounds f_keptListed f_entry f_linked f_pc f_steps f_outs f_ran a_op a_opA a_opB a_section a_length a_role a_labelAt a_used a_local a_global a_weak a_faulty a_list a_chosen a_order a_lengthened a_at a_keptAt a_keptSymbol a_keptList a_image a_sizes a_words a_apart a_partA a_partN a_wide a_r a_output g_many g_textEnd g_end g_made g_rounds b_list b_places b_symbols b_stays b_wide hO hJ hK
  have J : i_Rel (k + 5) (f_origin, f_culprit, f_strip, f_listed, f_units, f_ordered, f_textEnd, f_end, f_longs, f_rounds, f_keptListed, f_entry, f_linked, f_pc, f_steps, f_outs, f_ran, a_op, a_opA, a_opB, a_section, a_length, a_role, a_labelAt, a_used, a_local, a_global, a_weak, a_faulty, a_list, a_chosen, a_order, a_lengthened, a_at, a_keptAt, a_keptSymbol, a_keptList, a_image, a_sizes, a_words, a_apart, a_partA, a_partN, a_wide, a_r, a_output) (f_origin, f_strip, g_many, f_culprit, g_textEnd, g_end, g_made, g_rounds, f_entry, f_linked, f_ran, f_pc, f_steps, f_outs, a_op, a_opA, a_opB, a_length, a_role, b_list, b_places, b_symbols, a_image, b_stays, b_wide, a_words, a_r, a_output) := ly_mk hO hJ hK
  cases e0 : ly_in v1 0 5 with
  | false =>
    unfold wpX_item wpY_item
    refine ly_xin (ly_br (fun _ => ly_yin (ly_br (fun _ => ⟨rfl, J⟩) (fun e => by rw [e0] at e; cases e))) (fun e => by rw [e0] at e; cases e))
  | true =>
  obtain ⟨m, hm, rfl⟩ := ly_in_n (n := 5) (by omega) e0
  obtain ⟨L, hL⟩ := hJ
  obtain ⟨hl, hMo⟩ := hL m (by omega)
  have hv : vp_in (nI m) 6 := vp_in_nI hm (by omega)
  have hc : (nI m).toNatClampNeg = m := nI_clamp (by omega)
  cases e1 : ly_in v2 0 19 with
  | false =>
    unfold wpX_item
    refine ly_xin (ly_br (fun e => by rw [e0] at e; cases e) (fun _ => ly_xin (ly_br (fun _ => ?_) (fun e => by rw [e1] at e; cases e))))
    exact ly_yitemF (by omega) hl (Or.inl (by rw [e1]; rfl)) ⟨rfl, J⟩
  | true =>
  obtain ⟨j, hj, rfl⟩ := ly_in_n (n := 19) (by omega) e1
  by_cases hn : L m = 24
  · unfold wpX_item
    refine ly_xin (ly_br (fun e => by rw [e0] at e; cases e) (fun _ => ly_xin (ly_br (fun e => by rw [e1] at e; cases e) (fun _ => ⟨hv, ?_⟩))))
    rw [hc, hl, hn]
    exact br_t rfl (ly_yitemF (by omega) hl (Or.inr hn) ⟨rfl, J⟩)
  have hn' : L m < 24 := by have := hMo.1; omega
  cases e2 : ly_ft (nI j) v3 v4 with
  | false =>
    unfold wpX_item
    refine ly_xin (ly_br (fun e => by rw [e0] at e; cases e) (fun _ => ly_xin (ly_br (fun e => by rw [e1] at e; cases e) (fun _ => ⟨hv, ?_⟩))))
    rw [hc, hl]
    refine br_f (by rw [show (24 : Int32) = nI 24 from rfl, nI_eq (by omega) (by omega)]; omega) (ly_xft hj ?_)
    rw [e2]
    exact br_t rfl (ly_yitemF (by omega) hl (Or.inl (by rw [e2, Bool.and_false])) ⟨rfl, J⟩)
  | true =>
  have hok := ly_okj hj e2
  have hs1 : L m ≠ 0 → a_section (24 * m + L m - 1) = 0 ∨ a_section (24 * m + L m - 1) = 1 := by
    intro h0
    have h1 := hMo.2.2.1 (L m - 1) (by omega)
    have h2 := ly_sc_le (o := a_op) (a := a_opA) (m := m) (L m - 1)
    rw [show 24 * m + L m - 1 = 24 * m + (L m - 1) by omega, h1]
    rcases (by omega : ly_sc a_op a_opA m (L m - 1) = 0 ∨ ly_sc a_op a_opA m (L m - 1) = 1) with e | e
    · rw [e]; exact Or.inl rfl
    · rw [e]; exact Or.inr rfl
  refine ly_xitem (by omega) hj hl hn' e2 hs1 ?_
  have eo : upd a_op (24 * m + L m) (nI j) (24 * m + L m) = nI j := pk_us
  have esy : ly_sy (upd a_op (24 * m + L m) (nI j)) (upd a_opA (24 * m + L m) v3) (upd a_opB (24 * m + L m) v4) (24 * m + L m) = (if nI j = 16 then v3 else v4) := by
    unfold ly_sy; rw [pk_us, pk_us, pk_us]
  have hsy : ly_us (upd a_op (24 * m + L m) (nI j) (24 * m + L m)) = true → ∃ t, t < 16 ∧ ly_sy (upd a_op (24 * m + L m) (nI j)) (upd a_opA (24 * m + L m) v3) (upd a_opB (24 * m + L m) v4) (24 * m + L m) = nI t := by
    rw [eo, esy]; exact ly_oka hok
  by_cases j0 : j = 0
  · subst j0
    obtain ⟨⟨t, ht, rfl⟩, -⟩ := hok.2.1 rfl
    refine ly_xi125L (by omega) ht hl hn' (ly_xi143 (by omega) (by omega) hl hn' hsy ?_)
    rw [eo, if_neg (by decide)]
    refine ly_yitemT (by omega) hl hn' (by rw [e1, e2]; rfl) ⟨rfl, ly_mk hO (ly_J_item hL (by omega) hn' hok ?_ ?_ ?_ ?_ ?_ ?_ ?_ ?_) hK⟩
    · exact fun k hk => pk_un hk
    · exact pk_us
    · intro q hq
      refine ⟨rfl, ?_, ?_, ?_, ?_⟩
      · split
        · exact pk_un hq
        · rfl
      · split
        · exact pk_un hq
        · rfl
      · split
        · exact pk_un hq
        · rfl
      · split
        · rfl
        · exact pk_un hq
    · intro q hq
      split
      · exact pk_un (by omega)
      · rfl
    · exact fun z => absurd rfl z
    · intro t' ht' _ et
      rw [nI_eq (by omega) (by omega)] at et
      subst et
      refine ⟨fun s hs hne => ?_, ?_, ?_, ?_, ?_, ?_⟩
      · split
        · exact pk_un (by omega)
        · rfl
      · by_cases z : a_labelAt (16 * m + t) = 0
        · rw [if_pos z, if_pos z, pk_us]
        · rw [if_neg z, if_neg z]
      · by_cases z : a_labelAt (16 * m + t) = 0
        · rw [if_pos z, if_pos z]
        · rw [if_neg z, if_neg z, pk_us]
      · by_cases z : v4 = 0
        · rw [if_pos z, if_pos z, pk_us]
        · rw [if_neg z, if_neg z]
      · by_cases z : v4 = 1
        · rw [if_pos z, if_pos z, pk_us]
        · rw [if_neg z, if_neg z]
      · by_cases z : v4 = 2
        · rw [if_pos z, if_pos z, pk_us]
        · rw [if_neg z, if_neg z]
    · exact fun _ => rfl
    · exact fun t' _ h => absurd h (by decide)
  · have hj0 : ¬ nI j = 0 := nI_ne0 (by omega) (by omega)
    refine ly_xi125 (n := 0) (by omega) hj0 (ly_xi143 (by omega) (by omega) hl hn' hsy ?_)
    rw [eo, esy]
    refine ly_yitemT (by omega) hl hn' (by rw [e1, e2]; rfl) ⟨rfl, ly_mk hO (ly_J_item hL (by omega) hn' hok ?_ ?_ ?_ ?_ ?_ ?_ ?_ ?_) hK⟩
    · exact fun k hk => pk_un hk
    · exact pk_us
    · intro q hq
      refine ⟨?_, rfl, rfl, rfl, rfl⟩
      split
      · exact pk_un hq
      · rfl
    · exact fun q hq => rfl
    · exact fun _ => ⟨fun s hs => rfl, rfl, rfl, rfl, rfl⟩
    · exact fun t _ z => absurd z hj0
    · intro z
      rw [z, if_neg (by decide)]
    · intro t ht z e
      rw [if_pos z, pk_us, e]
theorem i_vc_clear {k : Nat} {u : SX} {v : SY} (I : i_Rel k u v) (hk : k + 5 ≤ 2560) (v1 : Int32) : wpX_clear (fun r u' => wpY_clear (fun r' v' => r' = r ∧ i_Rel (k + 5) u' v') v v1) u v1 := by
  refine ly_el (P := fun u v => wpX_clear (fun r u' => wpY_clear (fun r' v' => r' = r ∧ i_Rel (k + 5) u' v') v v1) u v1) I ?_
  intro f_origin f_culprit f_strip f_listed f_units f_ordered f_textEnd f_end f_longs f_rounds f_keptListed f_entry f_linked f_pc f_steps f_outs f_ran a_op a_opA a_opB a_section a_length a_role a_labelAt a_used a_local a_global a_weak a_faulty a_list a_chosen a_order a_lengthened a_at a_keptAt a_keptSymbol a_keptList a_image a_sizes a_words a_apart a_partA a_partN a_wide a_r a_output g_many g_textEnd g_end g_made g_rounds b_list b_places b_symbols b_stays b_wide hO hJ hK
  have J : i_Rel (k + 5) (f_origin, f_culprit, f_strip, f_listed, f_units, f_ordered, f_textEnd, f_end, f_longs, f_rounds, f_keptListed, f_entry, f_linked, f_pc, f_steps, f_outs, f_ran, a_op, a_opA, a_opB, a_section, a_length, a_role, a_labelAt, a_used, a_local, a_global, a_weak, a_faulty, a_list, a_chosen, a_order, a_lengthened, a_at, a_keptAt, a_keptSymbol, a_keptList, a_image, a_sizes, a_words, a_apart, a_partA, a_partN, a_wide, a_r, a_output) (f_origin, f_strip, g_many, f_culprit, g_textEnd, g_end, g_made, g_rounds, f_entry, f_linked, f_ran, f_pc, f_steps, f_outs, a_op, a_opA, a_opB, a_length, a_role, b_list, b_places, b_symbols, a_image, b_stays, b_wide, a_words, a_r, a_output) := ly_mk hO hJ hK
  unfold wpX_clear wpY_clear
  cases e0 : ly_in v1 0 5 with
  | false => exact ly_xin (ly_br (fun _ => ly_yin (ly_br (fun _ => ⟨rfl, J⟩) (fun e => by rw [e0] at e; cases e))) (fun e => by rw [e0] at e; cases e))
  | true =>
  obtain ⟨m, hm, rfl⟩ := ly_in_n (n := 5) (by omega) e0
  obtain ⟨L, hL⟩ := hJ
  have hv : vp_in (nI m) 6 := vp_in_nI hm (by omega)
  have hc : (nI m).toNatClampNeg = m := nI_clamp (by omega)
  refine ly_xin (ly_br (fun e => by rw [e0] at e; cases e) (fun _ => ⟨hv, nm_e ⟨hv, nm_e ⟨17, ?_⟩⟩⟩))
  rw [hc]
  refine ly_xclear (by omega) (fun lab g1 g2 => ?_) 17 0 a_labelAt (by omega) (by omega) (fun q _ => rfl) (fun s hs => absurd hs (by omega))
  refine ly_yin (ly_br (fun e => by rw [e0] at e; cases e) (fun _ => ⟨hv, nm_e ⟨hv, nm_e ?_⟩⟩))
  refine ⟨rfl, ly_mk hO ⟨fun q => if q = m then 0 else L q, fun q hq => ?_⟩ hK⟩
  dsimp only
  by_cases z : q = m
  · subst z
    rw [if_pos rfl, pk_us, pk_us, pk_us, pk_us, pk_us, pk_us]
    exact ⟨rfl, ly_Mo_0 g2⟩
  · rw [if_neg z, pk_un z, pk_un z, pk_un z, pk_un z, pk_un z, pk_un z]
    exact ⟨(hL q hq).1, ly_Mo_c (hL q hq).2 (fun _ _ _ => rfl) (fun _ _ _ => rfl) (fun _ _ _ => rfl) (fun _ _ _ => rfl) (fun s hs => g1 _ (by omega))⟩
theorem i_vc_role {k : Nat} {u : SX} {v : SY} (I : i_Rel k u v) (hk : k + 5 ≤ 2560) (v1 : Int32) (v2 : Int32) : wpX_role (fun r u' => wpY_role (fun r' v' => r' = r ∧ i_Rel (k + 5) u' v') v v1 v2) u v1 v2 := by
  refine ly_el (P := fun u v => wpX_role (fun r u' => wpY_role (fun r' v' => r' = r ∧ i_Rel (k + 5) u' v') v v1 v2) u v1 v2) I ?_
  intro f_origin f_culprit f_strip f_listed f_units f_ordered f_textEnd f_end f_longs f_rounds f_keptListed f_entry f_linked f_pc f_steps f_outs f_ran a_op a_opA a_opB a_section a_length a_role a_labelAt a_used a_local a_global a_weak a_faulty a_list a_chosen a_order a_lengthened a_at a_keptAt a_keptSymbol a_keptList a_image a_sizes a_words a_apart a_partA a_partN a_wide a_r a_output g_many g_textEnd g_end g_made g_rounds b_list b_places b_symbols b_stays b_wide hO hJ hK
  have J : i_Rel (k + 5) (f_origin, f_culprit, f_strip, f_listed, f_units, f_ordered, f_textEnd, f_end, f_longs, f_rounds, f_keptListed, f_entry, f_linked, f_pc, f_steps, f_outs, f_ran, a_op, a_opA, a_opB, a_section, a_length, a_role, a_labelAt, a_used, a_local, a_global, a_weak, a_faulty, a_list, a_chosen, a_order, a_lengthened, a_at, a_keptAt, a_keptSymbol, a_keptList, a_image, a_sizes, a_words, a_apart, a_partA, a_partN, a_wide, a_r, a_output) (f_origin, f_strip, g_many, f_culprit, g_textEnd, g_end, g_made, g_rounds, f_entry, f_linked, f_ran, f_pc, f_steps, f_outs, a_op, a_opA, a_opB, a_length, a_role, b_list, b_places, b_symbols, a_image, b_stays, b_wide, a_words, a_r, a_output) := ly_mk hO hJ hK
  unfold wpX_role wpY_role
  cases e0 : ly_in v1 0 5 with
  | false => exact ly_xin (ly_br (fun _ => ly_yin (ly_br (fun _ => ⟨rfl, J⟩) (fun e => by rw [e0] at e; cases e))) (fun e => by rw [e0] at e; cases e))
  | true =>
  cases e1 : ly_in v2 0 2 with
  | false =>
    exact ly_xin (ly_br (fun e => by rw [e0] at e; cases e) (fun _ => ly_xin (ly_br (fun _ => ly_yin (ly_br (fun e => by rw [e0] at e; cases e) (fun _ => ly_yin (ly_br (fun _ => ⟨rfl, J⟩) (fun e => by rw [e1] at e; cases e))))) (fun e => by rw [e1] at e; cases e))))
  | true =>
  obtain ⟨m, hm, rfl⟩ := ly_in_n (n := 5) (by omega) e0
  obtain ⟨h, hh, rfl⟩ := ly_in_n (n := 2) (by omega) e1
  have hv : vp_in (nI m) 6 := vp_in_nI hm (by omega)
  have hb : vp_nar .byte (nI h).toInt8.toInt32 = nI h := ly_nb _ (by omega)
  refine ly_xin (ly_br (fun e => by rw [e0] at e; cases e) (fun _ => ly_xin (ly_br (fun e => by rw [e1] at e; cases e) (fun _ => ⟨hv, nm_e ?_⟩))))
  refine ly_yin (ly_br (fun e => by rw [e0] at e; cases e) (fun _ => ly_yin (ly_br (fun e => by rw [e1] at e; cases e) (fun _ => ⟨hv, nm_e ⟨rfl, ?_⟩⟩))))
  rw [hb]
  exact ly_mk hO hJ hK
theorem i_vc_layout {k : Nat} {u : SX} {v : SY} (I : i_Rel k u v) (hk : k + 5 ≤ 2560) (v1 : Int32) (v2 : Int32) : wpX_layout (fun r u' => wpY_layout (fun r' v' => r' = r ∧ i_Rel (k + 5) u' v') v v1 (lw_bz v2)) u v1 (lw_bz v2) := by
  refine ly_el (P := fun u v => wpX_layout (fun r u' => wpY_layout (fun r' v' => r' = r ∧ i_Rel (k + 5) u' v') v v1 (lw_bz v2)) u v1 (lw_bz v2)) I ?_
  intro f_origin f_culprit f_strip f_listed f_units f_ordered f_textEnd f_end f_longs f_rounds f_keptListed f_entry f_linked f_pc f_steps f_outs f_ran a_op a_opA a_opB a_section a_length a_role a_labelAt a_used a_local a_global a_weak a_faulty a_list a_chosen a_order a_lengthened a_at a_keptAt a_keptSymbol a_keptList a_image a_sizes a_words a_apart a_partA a_partN a_wide a_r a_output g_many g_textEnd g_end g_made g_rounds b_list b_places b_symbols b_stays b_wide hO hJ hK
  have J : i_Rel (k + 5) (f_origin, f_culprit, f_strip, f_listed, f_units, f_ordered, f_textEnd, f_end, f_longs, f_rounds, f_keptListed, f_entry, f_linked, f_pc, f_steps, f_outs, f_ran, a_op, a_opA, a_opB, a_section, a_length, a_role, a_labelAt, a_used, a_local, a_global, a_weak, a_faulty, a_list, a_chosen, a_order, a_lengthened, a_at, a_keptAt, a_keptSymbol, a_keptList, a_image, a_sizes, a_words, a_apart, a_partA, a_partN, a_wide, a_r, a_output) (f_origin, f_strip, g_many, f_culprit, g_textEnd, g_end, g_made, g_rounds, f_entry, f_linked, f_ran, f_pc, f_steps, f_outs, a_op, a_opA, a_opB, a_length, a_role, b_list, b_places, b_symbols, a_image, b_stays, b_wide, a_words, a_r, a_output) := ly_mk hO hJ hK
  have hb := lw_bz_n v2
  have hf : fits .boolean (.int (lw_bz v2)) = true := by rcases lw_bz_01 v2 with e | e <;> rw [e] <;> rfl
  unfold wpX_layout wpY_layout
  cases e0 : ly_in v1 0 100 with
  | false => exact ly_xin (ly_br (fun _ => ly_yin (ly_br (fun _ => ⟨rfl, J⟩) (fun e => by rw [e0] at e; cases e))) (fun e => by rw [e0] at e; cases e))
  | true =>
  obtain ⟨n, hn, rfl⟩ := ly_in_n (n := 100) (by omega) e0
  refine ly_xin (ly_br (fun e => by rw [e0] at e; cases e) (fun _ => ⟨hb, hf, ?_⟩))
  refine ly_yin (ly_br (fun e => by rw [e0] at e; cases e) (fun _ => ⟨hb, hf, rfl, ?_⟩))
  exact ly_mk ⟨n, by omega, rfl⟩ hJ hK
end
section
/-! one step of a run (printed by genrun.py) -/
theorem ly_inab {j a b : Nat} (h1 : a ≤ j) (h2 : j ≤ b) (hb : b < 2 ^ 31) : ly_in (nI j) (nI a) (nI b) = true := by
  unfold ly_in
  rw [decide_eq_true (nI_le h1 (by omega)), decide_eq_true (nI_le h2 hb)]
  rfl
def ly_wo (w : Int32) : Int32 := (w >>> ((24 : Int32) &&& 31)) &&& 31
def ly_wa (w : Int32) : Int32 := (w >>> ((20 : Int32) &&& 31)) &&& 7
def ly_wn (w : Int32) : Int32 := w.toInt16.toInt32
def ly_wt (w : Int32) : Bool := !decide (((w >>> ((16 : Int32) &&& 31)) &&& 1) = 0)
theorem ly_wo_n (w : Int32) : ∃ j, j < 32 ∧ ly_wo w = nI j := pk_andE _ 5 (by decide)
theorem ly_wa_n (w : Int32) : ∃ j, j < 8 ∧ ly_wa w = nI j := pk_andE _ 3 (by decide)
theorem ly_wb_n (w : Int32) : ∃ j, j < 8 ∧ ly_wn w &&& 7 = nI j := pk_andE _ 3 (by decide)
theorem ly_wt_1 (w : Int32) : ((w >>> ((16 : Int32) &&& 31)) &&& 1) = 1 ↔ ly_wt w = true := by
  obtain ⟨j, hj, e⟩ := pk_andE (w >>> ((16 : Int32) &&& 31)) (m := 1) 1 (by decide)
  unfold ly_wt
  rw [e]
  rcases (by omega : j = 0 ∨ j = 1) with rfl | rfl <;> decide
theorem ly_wt_0 (w : Int32) : ((w >>> ((16 : Int32) &&& 31)) &&& 1) = 0 ↔ ly_wt w = false := by
  unfold ly_wt
  rw [Bool.not_eq_false', decide_eq_true_eq]
def ly_nx (p : Nat) (two : Bool) : Nat := match two with
  | true => p + 2
  | false => p + 1
def ly_vv (mem : Nat → Int32) (p : Nat) (n : Int32) (two : Bool) : Int32 := match two with
  | true => mem (p + 1)
  | false => n
def ly_to (p : Nat) (n v : Int32) (two : Bool) : Int32 := match two with
  | true => v
  | false => nI p + n
section sx
variable {f_origin f_culprit f_strip f_listed f_units f_ordered f_textEnd f_end f_longs f_rounds f_keptListed f_entry f_linked f_pc f_steps f_outs f_ran : Int32} {a_op a_opA a_opB a_section a_length a_role a_labelAt a_used a_local a_global a_weak a_faulty a_list a_chosen a_order a_lengthened a_at a_keptAt a_keptSymbol a_keptList a_image a_sizes a_words a_apart a_partA a_partN a_wide a_r a_output : Nat → Int32} {post : Int32 → SX → Prop} {p q c a b y : Nat} {n v : Int32} {two : Bool}
theorem ly_xw1 (ha : a < 8) (hb : b < 8) (hp : post 1 (f_origin, f_culprit, f_strip, f_listed, f_units, f_ordered, f_textEnd, f_end, f_longs, f_rounds, f_keptListed, f_entry, f_linked, f_pc, f_steps, f_outs, f_ran, a_op, a_opA, a_opB, a_section, a_length, a_role, a_labelAt, a_used, a_local, a_global, a_weak, a_faulty, a_list, a_chosen, a_order, a_lengthened, a_at, a_keptAt, a_keptSymbol, a_keptList, a_image, a_sizes, a_words, a_apart, a_partA, a_partN, a_wide, upd a_r a v, a_output)) : wpX_work post (f_origin, f_culprit, f_strip, f_listed, f_units, f_ordered, f_textEnd, f_end, f_longs, f_rounds, f_keptListed, f_entry, f_linked, f_pc, f_steps, f_outs, f_ran, a_op, a_opA, a_opB, a_section, a_length, a_role, a_labelAt, a_used, a_local, a_global, a_weak, a_faulty, a_list, a_chosen, a_order, a_lengthened, a_at, a_keptAt, a_keptSymbol, a_keptList, a_image, a_sizes, a_words, a_apart, a_partA, a_partN, a_wide, a_r, a_output) (nI 1) (nI a) (nI b) v := by
  have hva : vp_in (nI a) 8 := vp_in_nI ha (by omega)
  have hca : (nI a).toNatClampNeg = a := nI_clamp (by omega)
  have hvb : vp_in (nI b) 8 := vp_in_nI hb (by omega)
  have hcb : (nI b).toNatClampNeg = b := nI_clamp (by omega)
  exact And.intro hva (nm_r (e' := a_r a) (congrArg a_r hca) (And.intro hvb (nm_r (e' := a_r b) (congrArg a_r hcb) (br_f (by decide) (br_f (by decide) (br_t (by decide) (And.intro hva (nm_r (e' := upd a_r a v) (by rw [hca]) hp))))))))
theorem ly_xw12 (ha : a < 8) (hb : b < 8) (hp : post 1 (f_origin, f_culprit, f_strip, f_listed, f_units, f_ordered, f_textEnd, f_end, f_longs, f_rounds, f_keptListed, f_entry, f_linked, f_pc, f_steps, f_outs, f_ran, a_op, a_opA, a_opB, a_section, a_length, a_role, a_labelAt, a_used, a_local, a_global, a_weak, a_faulty, a_list, a_chosen, a_order, a_lengthened, a_at, a_keptAt, a_keptSymbol, a_keptList, a_image, a_sizes, a_words, a_apart, a_partA, a_partN, a_wide, upd a_r a v, a_output)) : wpX_work post (f_origin, f_culprit, f_strip, f_listed, f_units, f_ordered, f_textEnd, f_end, f_longs, f_rounds, f_keptListed, f_entry, f_linked, f_pc, f_steps, f_outs, f_ran, a_op, a_opA, a_opB, a_section, a_length, a_role, a_labelAt, a_used, a_local, a_global, a_weak, a_faulty, a_list, a_chosen, a_order, a_lengthened, a_at, a_keptAt, a_keptSymbol, a_keptList, a_image, a_sizes, a_words, a_apart, a_partA, a_partN, a_wide, a_r, a_output) (nI 12) (nI a) (nI b) v := by
  have hva : vp_in (nI a) 8 := vp_in_nI ha (by omega)
  have hca : (nI a).toNatClampNeg = a := nI_clamp (by omega)
  have hvb : vp_in (nI b) 8 := vp_in_nI hb (by omega)
  have hcb : (nI b).toNatClampNeg = b := nI_clamp (by omega)
  exact And.intro hva (nm_r (e' := a_r a) (congrArg a_r hca) (And.intro hvb (nm_r (e' := a_r b) (congrArg a_r hcb) (br_f (by decide) (br_f (by decide) (br_f (by decide) (br_f (by decide) (br_f (by decide) (br_f (by decide) (br_f (by decide) (br_f (by decide) (br_f (by decide) (br_f (by decide) (br_f (by decide) (br_f (by decide) (br_f (by decide) (br_t (by decide) (And.intro hva (nm_r (e' := upd a_r a v) (by rw [hca]) hp)))))))))))))))))))
theorem ly_xw2 (ha : a < 8) (hb : b < 8) (hp : post 1 (f_origin, f_culprit, f_strip, f_listed, f_units, f_ordered, f_textEnd, f_end, f_longs, f_rounds, f_keptListed, f_entry, f_linked, f_pc, f_steps, f_outs, f_ran, a_op, a_opA, a_opB, a_section, a_length, a_role, a_labelAt, a_used, a_local, a_global, a_weak, a_faulty, a_list, a_chosen, a_order, a_lengthened, a_at, a_keptAt, a_keptSymbol, a_keptList, a_image, a_sizes, a_words, a_apart, a_partA, a_partN, a_wide, upd a_r a (a_r a + a_r b), a_output)) : wpX_work post (f_origin, f_culprit, f_strip, f_listed, f_units, f_ordered, f_textEnd, f_end, f_longs, f_rounds, f_keptListed, f_entry, f_linked, f_pc, f_steps, f_outs, f_ran, a_op, a_opA, a_opB, a_section, a_length, a_role, a_labelAt, a_used, a_local, a_global, a_weak, a_faulty, a_list, a_chosen, a_order, a_lengthened, a_at, a_keptAt, a_keptSymbol, a_keptList, a_image, a_sizes, a_words, a_apart, a_partA, a_partN, a_wide, a_r, a_output) (nI 2) (nI a) (nI b) v := by
  have hva : vp_in (nI a) 8 := vp_in_nI ha (by omega)
  have hca : (nI a).toNatClampNeg = a := nI_clamp (by omega)
  have hvb : vp_in (nI b) 8 := vp_in_nI hb (by omega)
  have hcb : (nI b).toNatClampNeg = b := nI_clamp (by omega)
  exact And.intro hva (nm_r (e' := a_r a) (congrArg a_r hca) (And.intro hvb (nm_r (e' := a_r b) (congrArg a_r hcb) (br_f (by decide) (br_f (by decide) (br_f (by decide) (br_t (by decide) (And.intro hva (nm_r (e' := upd a_r a (a_r a + a_r b)) (by rw [hca]) hp)))))))))
theorem ly_xw3 (ha : a < 8) (hb : b < 8) (hp : post 1 (f_origin, f_culprit, f_strip, f_listed, f_units, f_ordered, f_textEnd, f_end, f_longs, f_rounds, f_keptListed, f_entry, f_linked, f_pc, f_steps, f_outs, f_ran, a_op, a_opA, a_opB, a_section, a_length, a_role, a_labelAt, a_used, a_local, a_global, a_weak, a_faulty, a_list, a_chosen, a_order, a_lengthened, a_at, a_keptAt, a_keptSymbol, a_keptList, a_image, a_sizes, a_words, a_apart, a_partA, a_partN, a_wide, upd a_r a (a_r a - a_r b), a_output)) : wpX_work post (f_origin, f_culprit, f_strip, f_listed, f_units, f_ordered, f_textEnd, f_end, f_longs, f_rounds, f_keptListed, f_entry, f_linked, f_pc, f_steps, f_outs, f_ran, a_op, a_opA, a_opB, a_section, a_length, a_role, a_labelAt, a_used, a_local, a_global, a_weak, a_faulty, a_list, a_chosen, a_order, a_lengthened, a_at, a_keptAt, a_keptSymbol, a_keptList, a_image, a_sizes, a_words, a_apart, a_partA, a_partN, a_wide, a_r, a_output) (nI 3) (nI a) (nI b) v := by
  have hva : vp_in (nI a) 8 := vp_in_nI ha (by omega)
  have hca : (nI a).toNatClampNeg = a := nI_clamp (by omega)
  have hvb : vp_in (nI b) 8 := vp_in_nI hb (by omega)
  have hcb : (nI b).toNatClampNeg = b := nI_clamp (by omega)
  exact And.intro hva (nm_r (e' := a_r a) (congrArg a_r hca) (And.intro hvb (nm_r (e' := a_r b) (congrArg a_r hcb) (br_f (by decide) (br_f (by decide) (br_f (by decide) (br_f (by decide) (br_t (by decide) (And.intro hva (nm_r (e' := upd a_r a (a_r a - a_r b)) (by rw [hca]) hp))))))))))
theorem ly_xw4 (ha : a < 8) (hb : b < 8) (hp : post 1 (f_origin, f_culprit, f_strip, f_listed, f_units, f_ordered, f_textEnd, f_end, f_longs, f_rounds, f_keptListed, f_entry, f_linked, f_pc, f_steps, f_outs, f_ran, a_op, a_opA, a_opB, a_section, a_length, a_role, a_labelAt, a_used, a_local, a_global, a_weak, a_faulty, a_list, a_chosen, a_order, a_lengthened, a_at, a_keptAt, a_keptSymbol, a_keptList, a_image, a_sizes, a_words, a_apart, a_partA, a_partN, a_wide, upd a_r a (a_r a * a_r b), a_output)) : wpX_work post (f_origin, f_culprit, f_strip, f_listed, f_units, f_ordered, f_textEnd, f_end, f_longs, f_rounds, f_keptListed, f_entry, f_linked, f_pc, f_steps, f_outs, f_ran, a_op, a_opA, a_opB, a_section, a_length, a_role, a_labelAt, a_used, a_local, a_global, a_weak, a_faulty, a_list, a_chosen, a_order, a_lengthened, a_at, a_keptAt, a_keptSymbol, a_keptList, a_image, a_sizes, a_words, a_apart, a_partA, a_partN, a_wide, a_r, a_output) (nI 4) (nI a) (nI b) v := by
  have hva : vp_in (nI a) 8 := vp_in_nI ha (by omega)
  have hca : (nI a).toNatClampNeg = a := nI_clamp (by omega)
  have hvb : vp_in (nI b) 8 := vp_in_nI hb (by omega)
  have hcb : (nI b).toNatClampNeg = b := nI_clamp (by omega)
  exact And.intro hva (nm_r (e' := a_r a) (congrArg a_r hca) (And.intro hvb (nm_r (e' := a_r b) (congrArg a_r hcb) (br_f (by decide) (br_f (by decide) (br_f (by decide) (br_f (by decide) (br_f (by decide) (br_t (by decide) (And.intro hva (nm_r (e' := upd a_r a (a_r a * a_r b)) (by rw [hca]) hp)))))))))))
theorem ly_xw5 (ha : a < 8) (hb : b < 8) (hp : post 1 (f_origin, f_culprit, f_strip, f_listed, f_units, f_ordered, f_textEnd, f_end, f_longs, f_rounds, f_keptListed, f_entry, f_linked, f_pc, f_steps, f_outs, f_ran, a_op, a_opA, a_opB, a_section, a_length, a_role, a_labelAt, a_used, a_local, a_global, a_weak, a_faulty, a_list, a_chosen, a_order, a_lengthened, a_at, a_keptAt, a_keptSymbol, a_keptList, a_image, a_sizes, a_words, a_apart, a_partA, a_partN, a_wide, upd a_r a (if a_r b ≤ a_r a then 0 else 1), a_output)) : wpX_work post (f_origin, f_culprit, f_strip, f_listed, f_units, f_ordered, f_textEnd, f_end, f_longs, f_rounds, f_keptListed, f_entry, f_linked, f_pc, f_steps, f_outs, f_ran, a_op, a_opA, a_opB, a_section, a_length, a_role, a_labelAt, a_used, a_local, a_global, a_weak, a_faulty, a_list, a_chosen, a_order, a_lengthened, a_at, a_keptAt, a_keptSymbol, a_keptList, a_image, a_sizes, a_words, a_apart, a_partA, a_partN, a_wide, a_r, a_output) (nI 5) (nI a) (nI b) v := by
  have hva : vp_in (nI a) 8 := vp_in_nI ha (by omega)
  have hca : (nI a).toNatClampNeg = a := nI_clamp (by omega)
  have hvb : vp_in (nI b) 8 := vp_in_nI hb (by omega)
  have hcb : (nI b).toNatClampNeg = b := nI_clamp (by omega)
  exact And.intro hva (nm_r (e' := a_r a) (congrArg a_r hca) (And.intro hvb (nm_r (e' := a_r b) (congrArg a_r hcb) (br_f (by decide) (br_f (by decide) (br_f (by decide) (br_f (by decide) (br_f (by decide) (br_f (by decide) (br_t (by decide) (br_c (fun z => And.intro hva (nm_r (e' := upd a_r a (if a_r b ≤ a_r a then 0 else 1)) (by rw [hca, if_pos z]) hp)) (fun z => And.intro hva (nm_r (e' := upd a_r a (if a_r b ≤ a_r a then 0 else 1)) (by rw [hca, if_neg z]) hp)))))))))))))
theorem ly_xw6 (ha : a < 8) (hb : b < 8) (hy : a_r b = nI y) (hy2 : y < 256) (hp : post 1 (f_origin, f_culprit, f_strip, f_listed, f_units, f_ordered, f_textEnd, f_end, f_longs, f_rounds, f_keptListed, f_entry, f_linked, f_pc, f_steps, f_outs, f_ran, a_op, a_opA, a_opB, a_section, a_length, a_role, a_labelAt, a_used, a_local, a_global, a_weak, a_faulty, a_list, a_chosen, a_order, a_lengthened, a_at, a_keptAt, a_keptSymbol, a_keptList, a_image, a_sizes, a_words, a_apart, a_partA, a_partN, a_wide, upd a_r a (a_words y), a_output)) : wpX_work post (f_origin, f_culprit, f_strip, f_listed, f_units, f_ordered, f_textEnd, f_end, f_longs, f_rounds, f_keptListed, f_entry, f_linked, f_pc, f_steps, f_outs, f_ran, a_op, a_opA, a_opB, a_section, a_length, a_role, a_labelAt, a_used, a_local, a_global, a_weak, a_faulty, a_list, a_chosen, a_order, a_lengthened, a_at, a_keptAt, a_keptSymbol, a_keptList, a_image, a_sizes, a_words, a_apart, a_partA, a_partN, a_wide, a_r, a_output) (nI 6) (nI a) (nI b) v := by
  have hva : vp_in (nI a) 8 := vp_in_nI ha (by omega)
  have hca : (nI a).toNatClampNeg = a := nI_clamp (by omega)
  have hvb : vp_in (nI b) 8 := vp_in_nI hb (by omega)
  have hcb : (nI b).toNatClampNeg = b := nI_clamp (by omega)
  have hvy : vp_in (a_r b) 256 := by rw [hy]; exact vp_in_nI hy2 (by omega)
  have hcy : (a_r b).toNatClampNeg = y := by rw [hy]; exact nI_clamp (by omega)
  have hiy : ly_in (a_r b) 0 255 = true := ly_in_f (n := 255) (j := y) (by omega) (by omega) hy
  exact And.intro hva (nm_r (e' := a_r a) (congrArg a_r hca) (And.intro hvb (nm_r (e' := a_r b) (congrArg a_r hcb) (br_f (by decide) (br_f (by decide) (br_f (by decide) (br_f (by decide) (br_f (by decide) (br_f (by decide) (br_f (by decide) (br_t (by decide) (ly_xin (ly_br (fun e => by rw [hiy] at e; cases e) (fun _ => And.intro hvy (And.intro hva (nm_r (e' := upd a_r a (a_words y)) (by rw [hca, hcy]) hp))))))))))))))))
theorem ly_xw6f (ha : a < 8) (hb : b < 8) (hy : ly_in (a_r b) 0 255 = false) (hp : post 0 (f_origin, f_culprit, f_strip, f_listed, f_units, f_ordered, f_textEnd, f_end, f_longs, f_rounds, f_keptListed, f_entry, f_linked, f_pc, f_steps, f_outs, f_ran, a_op, a_opA, a_opB, a_section, a_length, a_role, a_labelAt, a_used, a_local, a_global, a_weak, a_faulty, a_list, a_chosen, a_order, a_lengthened, a_at, a_keptAt, a_keptSymbol, a_keptList, a_image, a_sizes, a_words, a_apart, a_partA, a_partN, a_wide, a_r, a_output)) : wpX_work post (f_origin, f_culprit, f_strip, f_listed, f_units, f_ordered, f_textEnd, f_end, f_longs, f_rounds, f_keptListed, f_entry, f_linked, f_pc, f_steps, f_outs, f_ran, a_op, a_opA, a_opB, a_section, a_length, a_role, a_labelAt, a_used, a_local, a_global, a_weak, a_faulty, a_list, a_chosen, a_order, a_lengthened, a_at, a_keptAt, a_keptSymbol, a_keptList, a_image, a_sizes, a_words, a_apart, a_partA, a_partN, a_wide, a_r, a_output) (nI 6) (nI a) (nI b) v := by
  have hva : vp_in (nI a) 8 := vp_in_nI ha (by omega)
  have hca : (nI a).toNatClampNeg = a := nI_clamp (by omega)
  have hvb : vp_in (nI b) 8 := vp_in_nI hb (by omega)
  have hcb : (nI b).toNatClampNeg = b := nI_clamp (by omega)
  exact And.intro hva (nm_r (e' := a_r a) (congrArg a_r hca) (And.intro hvb (nm_r (e' := a_r b) (congrArg a_r hcb) (br_f (by decide) (br_f (by decide) (br_f (by decide) (br_f (by decide) (br_f (by decide) (br_f (by decide) (br_f (by decide) (br_t (by decide) (ly_xin (ly_br (fun _ => hp) (fun e => by rw [hy] at e; cases e))))))))))))))
theorem ly_xw7 (ha : a < 8) (hb : b < 8) (hy : a_r b = nI y) (hy2 : y < 256) (hp : post 1 (f_origin, f_culprit, f_strip, f_listed, f_units, f_ordered, f_textEnd, f_end, f_longs, f_rounds, f_keptListed, f_entry, f_linked, f_pc, f_steps, f_outs, f_ran, a_op, a_opA, a_opB, a_section, a_length, a_role, a_labelAt, a_used, a_local, a_global, a_weak, a_faulty, a_list, a_chosen, a_order, a_lengthened, a_at, a_keptAt, a_keptSymbol, a_keptList, a_image, a_sizes, upd a_words y (a_r a), upd a_apart y 0, a_partA, a_partN, a_wide, a_r, a_output)) : wpX_work post (f_origin, f_culprit, f_strip, f_listed, f_units, f_ordered, f_textEnd, f_end, f_longs, f_rounds, f_keptListed, f_entry, f_linked, f_pc, f_steps, f_outs, f_ran, a_op, a_opA, a_opB, a_section, a_length, a_role, a_labelAt, a_used, a_local, a_global, a_weak, a_faulty, a_list, a_chosen, a_order, a_lengthened, a_at, a_keptAt, a_keptSymbol, a_keptList, a_image, a_sizes, a_words, a_apart, a_partA, a_partN, a_wide, a_r, a_output) (nI 7) (nI a) (nI b) v := by
  have hva : vp_in (nI a) 8 := vp_in_nI ha (by omega)
  have hca : (nI a).toNatClampNeg = a := nI_clamp (by omega)
  have hvb : vp_in (nI b) 8 := vp_in_nI hb (by omega)
  have hcb : (nI b).toNatClampNeg = b := nI_clamp (by omega)
  have hvy : vp_in (a_r b) 256 := by rw [hy]; exact vp_in_nI hy2 (by omega)
  have hcy : (a_r b).toNatClampNeg = y := by rw [hy]; exact nI_clamp (by omega)
  have hiy : ly_in (a_r b) 0 255 = true := ly_in_f (n := 255) (j := y) (by omega) (by omega) hy
  exact And.intro hva (nm_r (e' := a_r a) (congrArg a_r hca) (And.intro hvb (nm_r (e' := a_r b) (congrArg a_r hcb) (br_f (by decide) (br_f (by decide) (br_f (by decide) (br_f (by decide) (br_f (by decide) (br_f (by decide) (br_f (by decide) (br_f (by decide) (br_t (by decide) (ly_xin (ly_br (fun e => by rw [hiy] at e; cases e) (fun _ => And.intro hvy (nm_r (e' := upd a_words y (a_r a)) (by rw [hcy]) (And.intro hvy (nm_r (e' := upd a_apart y 0) (by rw [hcy]; rfl) hp))))))))))))))))))
theorem ly_xw7f (ha : a < 8) (hb : b < 8) (hy : ly_in (a_r b) 0 255 = false) (hp : post 0 (f_origin, f_culprit, f_strip, f_listed, f_units, f_ordered, f_textEnd, f_end, f_longs, f_rounds, f_keptListed, f_entry, f_linked, f_pc, f_steps, f_outs, f_ran, a_op, a_opA, a_opB, a_section, a_length, a_role, a_labelAt, a_used, a_local, a_global, a_weak, a_faulty, a_list, a_chosen, a_order, a_lengthened, a_at, a_keptAt, a_keptSymbol, a_keptList, a_image, a_sizes, a_words, a_apart, a_partA, a_partN, a_wide, a_r, a_output)) : wpX_work post (f_origin, f_culprit, f_strip, f_listed, f_units, f_ordered, f_textEnd, f_end, f_longs, f_rounds, f_keptListed, f_entry, f_linked, f_pc, f_steps, f_outs, f_ran, a_op, a_opA, a_opB, a_section, a_length, a_role, a_labelAt, a_used, a_local, a_global, a_weak, a_faulty, a_list, a_chosen, a_order, a_lengthened, a_at, a_keptAt, a_keptSymbol, a_keptList, a_image, a_sizes, a_words, a_apart, a_partA, a_partN, a_wide, a_r, a_output) (nI 7) (nI a) (nI b) v := by
  have hva : vp_in (nI a) 8 := vp_in_nI ha (by omega)
  have hca : (nI a).toNatClampNeg = a := nI_clamp (by omega)
  have hvb : vp_in (nI b) 8 := vp_in_nI hb (by omega)
  have hcb : (nI b).toNatClampNeg = b := nI_clamp (by omega)
  exact And.intro hva (nm_r (e' := a_r a) (congrArg a_r hca) (And.intro hvb (nm_r (e' := a_r b) (congrArg a_r hcb) (br_f (by decide) (br_f (by decide) (br_f (by decide) (br_f (by decide) (br_f (by decide) (br_f (by decide) (br_f (by decide) (br_f (by decide) (br_t (by decide) (ly_xin (ly_br (fun _ => hp) (fun e => by rw [hy] at e; cases e)))))))))))))))
theorem ly_xw218 {x : Int32} (hq : q ≤ 300) (hp : post 1 (f_origin, f_culprit, f_strip, f_listed, f_units, f_ordered, f_textEnd, f_end, f_longs, f_rounds, f_keptListed, f_entry, f_linked, f_pc, f_steps, nI (q + 1), f_ran, a_op, a_opA, a_opB, a_section, a_length, a_role, a_labelAt, a_used, a_local, a_global, a_weak, a_faulty, a_list, a_chosen, a_order, a_lengthened, a_at, a_keptAt, a_keptSymbol, a_keptList, a_image, a_sizes, a_words, a_apart, a_partA, a_partN, a_wide, a_r, if q < 40 then upd a_output q x else a_output)) : wX_work_218 post x f_origin f_culprit f_strip f_listed f_units f_ordered f_textEnd f_end f_longs f_rounds f_keptListed f_entry f_linked f_pc f_steps (nI q) f_ran a_op a_opA a_opB a_section a_length a_role a_labelAt a_used a_local a_global a_weak a_faulty a_list a_chosen a_order a_lengthened a_at a_keptAt a_keptSymbol a_keptList a_image a_sizes a_words a_apart a_partA a_partN a_wide a_r a_output := by
  unfold wX_work_218
  refine pk_le 40 q (fun h => ?_) (fun h => ?_)
  · rw [if_neg (by omega)] at hp
    unfold wX_work_238
    exact nm_r (nI_1 q) hp
  · rw [if_pos h] at hp
    refine ⟨vp_in_nI h (by omega), nm_r (e' := upd a_output q x) (by rw [nI_clamp (by omega)]) ?_⟩
    unfold wX_work_238
    exact nm_r (nI_1 q) hp
theorem ly_xw13 (ha : a < 8) (hb : b < 8) (hq : q ≤ 300) (hp : post 1 (f_origin, f_culprit, f_strip, f_listed, f_units, f_ordered, f_textEnd, f_end, f_longs, f_rounds, f_keptListed, f_entry, f_linked, f_pc, f_steps, nI (q + 1), f_ran, a_op, a_opA, a_opB, a_section, a_length, a_role, a_labelAt, a_used, a_local, a_global, a_weak, a_faulty, a_list, a_chosen, a_order, a_lengthened, a_at, a_keptAt, a_keptSymbol, a_keptList, a_image, a_sizes, a_words, a_apart, a_partA, a_partN, a_wide, a_r, if q < 40 then upd a_output q (a_r a) else a_output)) : wpX_work post (f_origin, f_culprit, f_strip, f_listed, f_units, f_ordered, f_textEnd, f_end, f_longs, f_rounds, f_keptListed, f_entry, f_linked, f_pc, f_steps, nI q, f_ran, a_op, a_opA, a_opB, a_section, a_length, a_role, a_labelAt, a_used, a_local, a_global, a_weak, a_faulty, a_list, a_chosen, a_order, a_lengthened, a_at, a_keptAt, a_keptSymbol, a_keptList, a_image, a_sizes, a_words, a_apart, a_partA, a_partN, a_wide, a_r, a_output) (nI 13) (nI a) (nI b) v := by
  have hva : vp_in (nI a) 8 := vp_in_nI ha (by omega)
  have hca : (nI a).toNatClampNeg = a := nI_clamp (by omega)
  have hvb : vp_in (nI b) 8 := vp_in_nI hb (by omega)
  have hcb : (nI b).toNatClampNeg = b := nI_clamp (by omega)
  exact And.intro hva (nm_r (e' := a_r a) (congrArg a_r hca) (And.intro hvb (nm_r (e' := a_r b) (congrArg a_r hcb) (br_f (by decide) (br_t (by decide) (ly_xw218 hq hp))))))
theorem ly_xs117 {j : Nat} {nx : Int32} (hp2 : p < 256) (hA : a_partA p = nI a) (h14 : j ≠ 14) (hj : j < 8 ∨ 11 < j) (hj2 : j < 32) (hp : wX_step_201 post (nI j) n nx v (nI a) f_origin f_culprit f_strip f_listed f_units f_ordered f_textEnd f_end f_longs f_rounds f_keptListed f_entry f_linked (nI p) (nI c) f_outs f_ran a_op a_opA a_opB a_section a_length a_role a_labelAt a_used a_local a_global a_weak a_faulty a_list a_chosen a_order a_lengthened a_at a_keptAt a_keptSymbol a_keptList a_image a_sizes a_words a_apart a_partA a_partN a_wide a_r a_output) : wX_step_117 post (nI j) n nx v f_origin f_culprit f_strip f_listed f_units f_ordered f_textEnd f_end f_longs f_rounds f_keptListed f_entry f_linked (nI p) (nI c) f_outs f_ran a_op a_opA a_opB a_section a_length a_role a_labelAt a_used a_local a_global a_weak a_faulty a_list a_chosen a_order a_lengthened a_at a_keptAt a_keptSymbol a_keptList a_image a_sizes a_words a_apart a_partA a_partN a_wide a_r a_output := by
  have hv : vp_in (nI p) 256 := vp_in_nI hp2 (by omega)
  have hc : (nI p).toNatClampNeg = p := nI_clamp (by omega)
  unfold wX_step_117
  refine ⟨hv, nm_r (e' := nI a) (by rw [hc]; exact hA) (br_f (by rw [show (14 : Int32) = nI 14 from rfl, nI_eq (by omega) (by omega)]; exact h14) ?_)⟩
  by_cases h8 : j < 8
  · exact br_t (nI_lt (b := 8) h8 (by omega)) hp
  · exact br_f (nI_nlt (b := 8) (by omega) (by omega)) (br_t (nI_lt (a := 11) (by omega) (by omega)) hp)
theorem ly_xs1 {nx : Int32} (hp2 : p < 256) (hA : a_partA p = nI a) (ha : a < 8) (hb : b < 8) (hB : n &&& 7 = nI b) (hp : post 0 (f_origin, f_culprit, f_strip, f_listed, f_units, f_ordered, f_textEnd, f_end, f_longs, f_rounds, f_keptListed, f_entry, f_linked, nx, nI (c + 1), f_outs, f_ran, a_op, a_opA, a_opB, a_section, a_length, a_role, a_labelAt, a_used, a_local, a_global, a_weak, a_faulty, a_list, a_chosen, a_order, a_lengthened, a_at, a_keptAt, a_keptSymbol, a_keptList, a_image, a_sizes, a_words, a_apart, a_partA, a_partN, a_wide, upd a_r a v, a_output)) : wX_step_117 post (nI 1) n nx v f_origin f_culprit f_strip f_listed f_units f_ordered f_textEnd f_end f_longs f_rounds f_keptListed f_entry f_linked (nI p) (nI c) f_outs f_ran a_op a_opA a_opB a_section a_length a_role a_labelAt a_used a_local a_global a_weak a_faulty a_list a_chosen a_order a_lengthened a_at a_keptAt a_keptSymbol a_keptList a_image a_sizes a_words a_apart a_partA a_partN a_wide a_r a_output := by
  refine ly_xs117 hp2 hA (by omega) (by omega) (by omega) ?_
  unfold wX_step_201
  rw [hB]
  refine ly_xw1 ha hb ?_
  exact br_f (by decide) (nm_r (nI_1 c) hp)
theorem ly_xs12 {nx : Int32} (hp2 : p < 256) (hA : a_partA p = nI a) (ha : a < 8) (hb : b < 8) (hB : n &&& 7 = nI b) (hp : post 0 (f_origin, f_culprit, f_strip, f_listed, f_units, f_ordered, f_textEnd, f_end, f_longs, f_rounds, f_keptListed, f_entry, f_linked, nx, nI (c + 1), f_outs, f_ran, a_op, a_opA, a_opB, a_section, a_length, a_role, a_labelAt, a_used, a_local, a_global, a_weak, a_faulty, a_list, a_chosen, a_order, a_lengthened, a_at, a_keptAt, a_keptSymbol, a_keptList, a_image, a_sizes, a_words, a_apart, a_partA, a_partN, a_wide, upd a_r a v, a_output)) : wX_step_117 post (nI 12) n nx v f_origin f_culprit f_strip f_listed f_units f_ordered f_textEnd f_end f_longs f_rounds f_keptListed f_entry f_linked (nI p) (nI c) f_outs f_ran a_op a_opA a_opB a_section a_length a_role a_labelAt a_used a_local a_global a_weak a_faulty a_list a_chosen a_order a_lengthened a_at a_keptAt a_keptSymbol a_keptList a_image a_sizes a_words a_apart a_partA a_partN a_wide a_r a_output := by
  refine ly_xs117 hp2 hA (by omega) (by omega) (by omega) ?_
  unfold wX_step_201
  rw [hB]
  refine ly_xw12 ha hb ?_
  exact br_f (by decide) (nm_r (nI_1 c) hp)
theorem ly_xs2 {nx : Int32} (hp2 : p < 256) (hA : a_partA p = nI a) (ha : a < 8) (hb : b < 8) (hB : n &&& 7 = nI b) (hp : post 0 (f_origin, f_culprit, f_strip, f_listed, f_units, f_ordered, f_textEnd, f_end, f_longs, f_rounds, f_keptListed, f_entry, f_linked, nx, nI (c + 1), f_outs, f_ran, a_op, a_opA, a_opB, a_section, a_length, a_role, a_labelAt, a_used, a_local, a_global, a_weak, a_faulty, a_list, a_chosen, a_order, a_lengthened, a_at, a_keptAt, a_keptSymbol, a_keptList, a_image, a_sizes, a_words, a_apart, a_partA, a_partN, a_wide, upd a_r a (a_r a + a_r b), a_output)) : wX_step_117 post (nI 2) n nx v f_origin f_culprit f_strip f_listed f_units f_ordered f_textEnd f_end f_longs f_rounds f_keptListed f_entry f_linked (nI p) (nI c) f_outs f_ran a_op a_opA a_opB a_section a_length a_role a_labelAt a_used a_local a_global a_weak a_faulty a_list a_chosen a_order a_lengthened a_at a_keptAt a_keptSymbol a_keptList a_image a_sizes a_words a_apart a_partA a_partN a_wide a_r a_output := by
  refine ly_xs117 hp2 hA (by omega) (by omega) (by omega) ?_
  unfold wX_step_201
  rw [hB]
  refine ly_xw2 ha hb ?_
  exact br_f (by decide) (nm_r (nI_1 c) hp)
theorem ly_xs3 {nx : Int32} (hp2 : p < 256) (hA : a_partA p = nI a) (ha : a < 8) (hb : b < 8) (hB : n &&& 7 = nI b) (hp : post 0 (f_origin, f_culprit, f_strip, f_listed, f_units, f_ordered, f_textEnd, f_end, f_longs, f_rounds, f_keptListed, f_entry, f_linked, nx, nI (c + 1), f_outs, f_ran, a_op, a_opA, a_opB, a_section, a_length, a_role, a_labelAt, a_used, a_local, a_global, a_weak, a_faulty, a_list, a_chosen, a_order, a_lengthened, a_at, a_keptAt, a_keptSymbol, a_keptList, a_image, a_sizes, a_words, a_apart, a_partA, a_partN, a_wide, upd a_r a (a_r a - a_r b), a_output)) : wX_step_117 post (nI 3) n nx v f_origin f_culprit f_strip f_listed f_units f_ordered f_textEnd f_end f_longs f_rounds f_keptListed f_entry f_linked (nI p) (nI c) f_outs f_ran a_op a_opA a_opB a_section a_length a_role a_labelAt a_used a_local a_global a_weak a_faulty a_list a_chosen a_order a_lengthened a_at a_keptAt a_keptSymbol a_keptList a_image a_sizes a_words a_apart a_partA a_partN a_wide a_r a_output := by
  refine ly_xs117 hp2 hA (by omega) (by omega) (by omega) ?_
  unfold wX_step_201
  rw [hB]
  refine ly_xw3 ha hb ?_
  exact br_f (by decide) (nm_r (nI_1 c) hp)
theorem ly_xs4 {nx : Int32} (hp2 : p < 256) (hA : a_partA p = nI a) (ha : a < 8) (hb : b < 8) (hB : n &&& 7 = nI b) (hp : post 0 (f_origin, f_culprit, f_strip, f_listed, f_units, f_ordered, f_textEnd, f_end, f_longs, f_rounds, f_keptListed, f_entry, f_linked, nx, nI (c + 1), f_outs, f_ran, a_op, a_opA, a_opB, a_section, a_length, a_role, a_labelAt, a_used, a_local, a_global, a_weak, a_faulty, a_list, a_chosen, a_order, a_lengthened, a_at, a_keptAt, a_keptSymbol, a_keptList, a_image, a_sizes, a_words, a_apart, a_partA, a_partN, a_wide, upd a_r a (a_r a * a_r b), a_output)) : wX_step_117 post (nI 4) n nx v f_origin f_culprit f_strip f_listed f_units f_ordered f_textEnd f_end f_longs f_rounds f_keptListed f_entry f_linked (nI p) (nI c) f_outs f_ran a_op a_opA a_opB a_section a_length a_role a_labelAt a_used a_local a_global a_weak a_faulty a_list a_chosen a_order a_lengthened a_at a_keptAt a_keptSymbol a_keptList a_image a_sizes a_words a_apart a_partA a_partN a_wide a_r a_output := by
  refine ly_xs117 hp2 hA (by omega) (by omega) (by omega) ?_
  unfold wX_step_201
  rw [hB]
  refine ly_xw4 ha hb ?_
  exact br_f (by decide) (nm_r (nI_1 c) hp)
theorem ly_xs5 {nx : Int32} (hp2 : p < 256) (hA : a_partA p = nI a) (ha : a < 8) (hb : b < 8) (hB : n &&& 7 = nI b) (hp : post 0 (f_origin, f_culprit, f_strip, f_listed, f_units, f_ordered, f_textEnd, f_end, f_longs, f_rounds, f_keptListed, f_entry, f_linked, nx, nI (c + 1), f_outs, f_ran, a_op, a_opA, a_opB, a_section, a_length, a_role, a_labelAt, a_used, a_local, a_global, a_weak, a_faulty, a_list, a_chosen, a_order, a_lengthened, a_at, a_keptAt, a_keptSymbol, a_keptList, a_image, a_sizes, a_words, a_apart, a_partA, a_partN, a_wide, upd a_r a (if a_r b ≤ a_r a then 0 else 1), a_output)) : wX_step_117 post (nI 5) n nx v f_origin f_culprit f_strip f_listed f_units f_ordered f_textEnd f_end f_longs f_rounds f_keptListed f_entry f_linked (nI p) (nI c) f_outs f_ran a_op a_opA a_opB a_section a_length a_role a_labelAt a_used a_local a_global a_weak a_faulty a_list a_chosen a_order a_lengthened a_at a_keptAt a_keptSymbol a_keptList a_image a_sizes a_words a_apart a_partA a_partN a_wide a_r a_output := by
  refine ly_xs117 hp2 hA (by omega) (by omega) (by omega) ?_
  unfold wX_step_201
  rw [hB]
  refine ly_xw5 ha hb ?_
  exact br_f (by decide) (nm_r (nI_1 c) hp)
theorem ly_xs6 {nx : Int32} (hp2 : p < 256) (hA : a_partA p = nI a) (ha : a < 8) (hb : b < 8) (hB : n &&& 7 = nI b) (hy : a_r b = nI y) (hy2 : y < 256) (hp : post 0 (f_origin, f_culprit, f_strip, f_listed, f_units, f_ordered, f_textEnd, f_end, f_longs, f_rounds, f_keptListed, f_entry, f_linked, nx, nI (c + 1), f_outs, f_ran, a_op, a_opA, a_opB, a_section, a_length, a_role, a_labelAt, a_used, a_local, a_global, a_weak, a_faulty, a_list, a_chosen, a_order, a_lengthened, a_at, a_keptAt, a_keptSymbol, a_keptList, a_image, a_sizes, a_words, a_apart, a_partA, a_partN, a_wide, upd a_r a (a_words y), a_output)) : wX_step_117 post (nI 6) n nx v f_origin f_culprit f_strip f_listed f_units f_ordered f_textEnd f_end f_longs f_rounds f_keptListed f_entry f_linked (nI p) (nI c) f_outs f_ran a_op a_opA a_opB a_section a_length a_role a_labelAt a_used a_local a_global a_weak a_faulty a_list a_chosen a_order a_lengthened a_at a_keptAt a_keptSymbol a_keptList a_image a_sizes a_words a_apart a_partA a_partN a_wide a_r a_output := by
  refine ly_xs117 hp2 hA (by omega) (by omega) (by omega) ?_
  unfold wX_step_201
  rw [hB]
  refine ly_xw6 ha hb hy hy2 ?_
  exact br_f (by decide) (nm_r (nI_1 c) hp)
theorem ly_xs7 {nx : Int32} (hp2 : p < 256) (hA : a_partA p = nI a) (ha : a < 8) (hb : b < 8) (hB : n &&& 7 = nI b) (hy : a_r b = nI y) (hy2 : y < 256) (hp : post 0 (f_origin, f_culprit, f_strip, f_listed, f_units, f_ordered, f_textEnd, f_end, f_longs, f_rounds, f_keptListed, f_entry, f_linked, nx, nI (c + 1), f_outs, f_ran, a_op, a_opA, a_opB, a_section, a_length, a_role, a_labelAt, a_used, a_local, a_global, a_weak, a_faulty, a_list, a_chosen, a_order, a_lengthened, a_at, a_keptAt, a_keptSymbol, a_keptList, a_image, a_sizes, upd a_words y (a_r a), upd a_apart y 0, a_partA, a_partN, a_wide, a_r, a_output)) : wX_step_117 post (nI 7) n nx v f_origin f_culprit f_strip f_listed f_units f_ordered f_textEnd f_end f_longs f_rounds f_keptListed f_entry f_linked (nI p) (nI c) f_outs f_ran a_op a_opA a_opB a_section a_length a_role a_labelAt a_used a_local a_global a_weak a_faulty a_list a_chosen a_order a_lengthened a_at a_keptAt a_keptSymbol a_keptList a_image a_sizes a_words a_apart a_partA a_partN a_wide a_r a_output := by
  refine ly_xs117 hp2 hA (by omega) (by omega) (by omega) ?_
  unfold wX_step_201
  rw [hB]
  refine ly_xw7 ha hb hy hy2 ?_
  exact br_f (by decide) (nm_r (nI_1 c) hp)
theorem ly_xs6f {nx : Int32} (hp2 : p < 256) (hA : a_partA p = nI a) (ha : a < 8) (hb : b < 8) (hB : n &&& 7 = nI b) (hy : ly_in (a_r b) 0 255 = false) (hp : post 7 (f_origin, f_culprit, f_strip, f_listed, f_units, f_ordered, f_textEnd, f_end, f_longs, f_rounds, f_keptListed, f_entry, f_linked, nI p, nI c, f_outs, f_ran, a_op, a_opA, a_opB, a_section, a_length, a_role, a_labelAt, a_used, a_local, a_global, a_weak, a_faulty, a_list, a_chosen, a_order, a_lengthened, a_at, a_keptAt, a_keptSymbol, a_keptList, a_image, a_sizes, a_words, a_apart, a_partA, a_partN, a_wide, a_r, a_output)) : wX_step_117 post (nI 6) n nx v f_origin f_culprit f_strip f_listed f_units f_ordered f_textEnd f_end f_longs f_rounds f_keptListed f_entry f_linked (nI p) (nI c) f_outs f_ran a_op a_opA a_opB a_section a_length a_role a_labelAt a_used a_local a_global a_weak a_faulty a_list a_chosen a_order a_lengthened a_at a_keptAt a_keptSymbol a_keptList a_image a_sizes a_words a_apart a_partA a_partN a_wide a_r a_output := by
  refine ly_xs117 hp2 hA (by omega) (by omega) (by omega) ?_
  unfold wX_step_201
  rw [hB]
  refine ly_xw6f ha hb hy ?_
  exact br_t (by decide) hp
theorem ly_xs7f {nx : Int32} (hp2 : p < 256) (hA : a_partA p = nI a) (ha : a < 8) (hb : b < 8) (hB : n &&& 7 = nI b) (hy : ly_in (a_r b) 0 255 = false) (hp : post 7 (f_origin, f_culprit, f_strip, f_listed, f_units, f_ordered, f_textEnd, f_end, f_longs, f_rounds, f_keptListed, f_entry, f_linked, nI p, nI c, f_outs, f_ran, a_op, a_opA, a_opB, a_section, a_length, a_role, a_labelAt, a_used, a_local, a_global, a_weak, a_faulty, a_list, a_chosen, a_order, a_lengthened, a_at, a_keptAt, a_keptSymbol, a_keptList, a_image, a_sizes, a_words, a_apart, a_partA, a_partN, a_wide, a_r, a_output)) : wX_step_117 post (nI 7) n nx v f_origin f_culprit f_strip f_listed f_units f_ordered f_textEnd f_end f_longs f_rounds f_keptListed f_entry f_linked (nI p) (nI c) f_outs f_ran a_op a_opA a_opB a_section a_length a_role a_labelAt a_used a_local a_global a_weak a_faulty a_list a_chosen a_order a_lengthened a_at a_keptAt a_keptSymbol a_keptList a_image a_sizes a_words a_apart a_partA a_partN a_wide a_r a_output := by
  refine ly_xs117 hp2 hA (by omega) (by omega) (by omega) ?_
  unfold wX_step_201
  rw [hB]
  refine ly_xw7f ha hb hy ?_
  exact br_t (by decide) hp
theorem ly_xs13 {nx : Int32} (hp2 : p < 256) (hA : a_partA p = nI a) (ha : a < 8) (hb : b < 8) (hB : n &&& 7 = nI b) (hq : q ≤ 300) (hp : post 0 (f_origin, f_culprit, f_strip, f_listed, f_units, f_ordered, f_textEnd, f_end, f_longs, f_rounds, f_keptListed, f_entry, f_linked, nx, nI (c + 1), nI (q + 1), f_ran, a_op, a_opA, a_opB, a_section, a_length, a_role, a_labelAt, a_used, a_local, a_global, a_weak, a_faulty, a_list, a_chosen, a_order, a_lengthened, a_at, a_keptAt, a_keptSymbol, a_keptList, a_image, a_sizes, a_words, a_apart, a_partA, a_partN, a_wide, a_r, if q < 40 then upd a_output q (a_r a) else a_output)) : wX_step_117 post (nI 13) n nx v f_origin f_culprit f_strip f_listed f_units f_ordered f_textEnd f_end f_longs f_rounds f_keptListed f_entry f_linked (nI p) (nI c) (nI q) f_ran a_op a_opA a_opB a_section a_length a_role a_labelAt a_used a_local a_global a_weak a_faulty a_list a_chosen a_order a_lengthened a_at a_keptAt a_keptSymbol a_keptList a_image a_sizes a_words a_apart a_partA a_partN a_wide a_r a_output := by
  refine ly_xs117 hp2 hA (by omega) (by omega) (by omega) ?_
  unfold wX_step_201
  rw [hB]
  refine ly_xw13 ha hb hq ?_
  exact br_f (by decide) (nm_r (nI_1 c) hp)
theorem ly_xs14 {nx : Int32} (hp2 : p < 256) (hp : post 5 (f_origin, f_culprit, f_strip, f_listed, f_units, f_ordered, f_textEnd, f_end, f_longs, f_rounds, f_keptListed, f_entry, f_linked, nI p, nI (c + 1), f_outs, f_ran, a_op, a_opA, a_opB, a_section, a_length, a_role, a_labelAt, a_used, a_local, a_global, a_weak, a_faulty, a_list, a_chosen, a_order, a_lengthened, a_at, a_keptAt, a_keptSymbol, a_keptList, a_image, a_sizes, a_words, a_apart, a_partA, a_partN, a_wide, a_r, a_output)) : wX_step_117 post (nI 14) n nx v f_origin f_culprit f_strip f_listed f_units f_ordered f_textEnd f_end f_longs f_rounds f_keptListed f_entry f_linked (nI p) (nI c) f_outs f_ran a_op a_opA a_opB a_section a_length a_role a_labelAt a_used a_local a_global a_weak a_faulty a_list a_chosen a_order a_lengthened a_at a_keptAt a_keptSymbol a_keptList a_image a_sizes a_words a_apart a_partA a_partN a_wide a_r a_output := by
  unfold wX_step_117
  exact ⟨vp_in_nI hp2 (by omega), nm_e (br_t rfl (nm_r (nI_1 c) hp))⟩
theorem ly_xs117j {j : Nat} {nx : Int32} (hp2 : p < 256) (hA : a_partA p = nI a) (hW : a_wide p = ly_b two) (h8 : 8 ≤ j) (h11 : j ≤ 11) (hp : wX_step_195 post nx (ly_to p n v two) (nI a) (nI j) f_origin f_culprit f_strip f_listed f_units f_ordered f_textEnd f_end f_longs f_rounds f_keptListed f_entry f_linked (nI p) (nI (c + 1)) f_outs f_ran a_op a_opA a_opB a_section a_length a_role a_labelAt a_used a_local a_global a_weak a_faulty a_list a_chosen a_order a_lengthened a_at a_keptAt a_keptSymbol a_keptList a_image a_sizes a_words a_apart a_partA a_partN a_wide a_r a_output) : wX_step_117 post (nI j) n nx v f_origin f_culprit f_strip f_listed f_units f_ordered f_textEnd f_end f_longs f_rounds f_keptListed f_entry f_linked (nI p) (nI c) f_outs f_ran a_op a_opA a_opB a_section a_length a_role a_labelAt a_used a_local a_global a_weak a_faulty a_list a_chosen a_order a_lengthened a_at a_keptAt a_keptSymbol a_keptList a_image a_sizes a_words a_apart a_partA a_partN a_wide a_r a_output := by
  have hv : vp_in (nI p) 256 := vp_in_nI hp2 (by omega)
  have hc : (nI p).toNatClampNeg = p := nI_clamp (by omega)
  unfold wX_step_117
  refine ⟨hv, nm_r (e' := nI a) (by rw [hc]; exact hA) (br_f (by rw [show (14 : Int32) = nI 14 from rfl, nI_eq (by omega) (by omega)]; omega) (br_f (nI_nlt (b := 8) (by omega) (by omega)) (br_f (nI_nlt (a := 11) (b := j) (by omega) (by omega)) (nm_r (nI_1 c) ⟨hv, ?_⟩))))⟩
  rw [hc, hW]
  exact ly_br (fun e => by rw [e] at hp; exact hp) (fun e => by rw [e] at hp; exact hp)
theorem ly_xs8 {nx : Int32} (hp2 : p < 256) (hA : a_partA p = nI a) (hW : a_wide p = ly_b two) (hp : post 0 (f_origin, f_culprit, f_strip, f_listed, f_units, f_ordered, f_textEnd, f_end, f_longs, f_rounds, f_keptListed, f_entry, f_linked, ly_to p n v two, nI (c + 1), f_outs, f_ran, a_op, a_opA, a_opB, a_section, a_length, a_role, a_labelAt, a_used, a_local, a_global, a_weak, a_faulty, a_list, a_chosen, a_order, a_lengthened, a_at, a_keptAt, a_keptSymbol, a_keptList, a_image, a_sizes, a_words, a_apart, a_partA, a_partN, a_wide, a_r, a_output)) : wX_step_117 post (nI 8) n nx v f_origin f_culprit f_strip f_listed f_units f_ordered f_textEnd f_end f_longs f_rounds f_keptListed f_entry f_linked (nI p) (nI c) f_outs f_ran a_op a_opA a_opB a_section a_length a_role a_labelAt a_used a_local a_global a_weak a_faulty a_list a_chosen a_order a_lengthened a_at a_keptAt a_keptSymbol a_keptList a_image a_sizes a_words a_apart a_partA a_partN a_wide a_r a_output := by
  refine ly_xs117j hp2 hA hW (by omega) (by omega) ?_
  unfold wX_step_195
  exact br_f (by decide) (br_f (by decide) (br_f (by decide) hp))
theorem ly_xs10 {nx : Int32} (hp2 : p < 256) (hA : a_partA p = nI a) (hW : a_wide p = ly_b two) (hp : post 0 (f_origin, f_culprit, f_strip, f_listed, f_units, f_ordered, f_textEnd, f_end, f_longs, f_rounds, f_keptListed, f_entry, f_linked, ly_to p n v two, nI (c + 1), f_outs, f_ran, a_op, a_opA, a_opB, a_section, a_length, a_role, a_labelAt, a_used, a_local, a_global, a_weak, a_faulty, a_list, a_chosen, a_order, a_lengthened, a_at, a_keptAt, a_keptSymbol, a_keptList, a_image, a_sizes, a_words, a_apart, a_partA, a_partN, a_wide, upd a_r 7 nx, a_output)) : wX_step_117 post (nI 10) n nx v f_origin f_culprit f_strip f_listed f_units f_ordered f_textEnd f_end f_longs f_rounds f_keptListed f_entry f_linked (nI p) (nI c) f_outs f_ran a_op a_opA a_opB a_section a_length a_role a_labelAt a_used a_local a_global a_weak a_faulty a_list a_chosen a_order a_lengthened a_at a_keptAt a_keptSymbol a_keptList a_image a_sizes a_words a_apart a_partA a_partN a_wide a_r a_output := by
  refine ly_xs117j hp2 hA hW (by omega) (by omega) ?_
  unfold wX_step_195
  exact br_f (by decide) (br_f (by decide) (br_t (by decide) (nm_e hp)))
theorem ly_xs11 {nx : Int32} (hp2 : p < 256) (hA : a_partA p = nI a) (hW : a_wide p = ly_b two) (hp : post 0 (f_origin, f_culprit, f_strip, f_listed, f_units, f_ordered, f_textEnd, f_end, f_longs, f_rounds, f_keptListed, f_entry, f_linked, a_r 7, nI (c + 1), f_outs, f_ran, a_op, a_opA, a_opB, a_section, a_length, a_role, a_labelAt, a_used, a_local, a_global, a_weak, a_faulty, a_list, a_chosen, a_order, a_lengthened, a_at, a_keptAt, a_keptSymbol, a_keptList, a_image, a_sizes, a_words, a_apart, a_partA, a_partN, a_wide, a_r, a_output)) : wX_step_117 post (nI 11) n nx v f_origin f_culprit f_strip f_listed f_units f_ordered f_textEnd f_end f_longs f_rounds f_keptListed f_entry f_linked (nI p) (nI c) f_outs f_ran a_op a_opA a_opB a_section a_length a_role a_labelAt a_used a_local a_global a_weak a_faulty a_list a_chosen a_order a_lengthened a_at a_keptAt a_keptSymbol a_keptList a_image a_sizes a_words a_apart a_partA a_partN a_wide a_r a_output := by
  refine ly_xs117j hp2 hA hW (by omega) (by omega) ?_
  unfold wX_step_195
  exact br_t (by decide) (nm_e hp)
theorem ly_xs9 {nx : Int32} (hp2 : p < 256) (hA : a_partA p = nI a) (ha : a < 8) (hW : a_wide p = ly_b two) (hp : post 0 (f_origin, f_culprit, f_strip, f_listed, f_units, f_ordered, f_textEnd, f_end, f_longs, f_rounds, f_keptListed, f_entry, f_linked, if a_r a = 0 then ly_to p n v two else nx, nI (c + 1), f_outs, f_ran, a_op, a_opA, a_opB, a_section, a_length, a_role, a_labelAt, a_used, a_local, a_global, a_weak, a_faulty, a_list, a_chosen, a_order, a_lengthened, a_at, a_keptAt, a_keptSymbol, a_keptList, a_image, a_sizes, a_words, a_apart, a_partA, a_partN, a_wide, a_r, a_output)) : wX_step_117 post (nI 9) n nx v f_origin f_culprit f_strip f_listed f_units f_ordered f_textEnd f_end f_longs f_rounds f_keptListed f_entry f_linked (nI p) (nI c) f_outs f_ran a_op a_opA a_opB a_section a_length a_role a_labelAt a_used a_local a_global a_weak a_faulty a_list a_chosen a_order a_lengthened a_at a_keptAt a_keptSymbol a_keptList a_image a_sizes a_words a_apart a_partA a_partN a_wide a_r a_output := by
  refine ly_xs117j hp2 hA hW (by omega) (by omega) ?_
  unfold wX_step_195
  refine br_f (by decide) (br_t (by decide) (And.intro (vp_in_nI ha (by omega)) ?_))
  rw [nI_clamp (by omega)]
  by_cases z : a_r a = 0
  · rw [if_pos z] at hp
    exact br_t z (br_f (by decide) hp)
  · rw [if_neg z] at hp
    exact br_f z hp
def ly_CA (mem ap pA pN wi : Nat → Int32) : Prop := ∀ k, k < 256 → ap k = 0 ∨ (ap k = (if ly_in (ly_wo (mem k)) 1 14 = true then ly_wo (mem k) else 32) ∧ pA k = ly_wa (mem k) ∧ pN k = ly_wn (mem k) ∧ wi k = ly_b (ly_wt (mem k)))
theorem ly_xs37 {j : Nat} (hp2 : p < 256) (hap : a_apart p = nI j) (hj : 1 ≤ j) (hj2 : j ≤ 14) (hN : a_partN p = n) (hW : a_wide p = ly_b two) (ht : two = true → p ≠ 255)
    (hp : wX_step_117 post (nI j) n (nI (ly_nx p two)) (ly_vv a_words p n two) f_origin f_culprit f_strip f_listed f_units f_ordered f_textEnd f_end f_longs f_rounds f_keptListed f_entry f_linked (nI p) f_steps f_outs f_ran a_op a_opA a_opB a_section a_length a_role a_labelAt a_used a_local a_global a_weak a_faulty a_list a_chosen a_order a_lengthened a_at a_keptAt a_keptSymbol a_keptList a_image a_sizes a_words a_apart a_partA a_partN a_wide a_r a_output) : wX_step_37 post f_origin f_culprit f_strip f_listed f_units f_ordered f_textEnd f_end f_longs f_rounds f_keptListed f_entry f_linked (nI p) f_steps f_outs f_ran a_op a_opA a_opB a_section a_length a_role a_labelAt a_used a_local a_global a_weak a_faulty a_list a_chosen a_order a_lengthened a_at a_keptAt a_keptSymbol a_keptList a_image a_sizes a_words a_apart a_partA a_partN a_wide a_r a_output := by
  have hv : vp_in (nI p) 256 := vp_in_nI hp2 (by omega)
  have hc : (nI p).toNatClampNeg = p := nI_clamp (by omega)
  unfold wX_step_37
  refine ⟨hv, nm_r (e' := nI j) (by rw [hc]; exact hap) (br_f (by rw [show (32 : Int32) = nI 32 from rfl, nI_eq (by omega) (by omega)]; omega) ⟨hv, nm_r (e' := n) (by rw [hc]; exact hN) (nm_r (nI_1 p) ⟨hv, ?_⟩)⟩)⟩
  rw [hc, hW]
  refine ly_br (fun e => by rw [e] at hp; exact hp) (fun e => br_f (by rw [show (255 : Int32) = nI 255 from rfl, nI_eq (by omega) (by omega)]; exact ht e) ?_)
  have h1 := ht e
  rw [e] at hp
  rw [nI_1]
  refine ⟨vp_in_nI (by omega) (by omega), nm_r (e' := a_words (p + 1)) (by rw [nI_clamp (by omega)]) (nm_r (nI_1 (p + 1)) hp)⟩
theorem ly_xs37w {j : Nat} (hp2 : p < 256) (hap : a_apart p = nI j) (hj : 1 ≤ j) (hj2 : j ≤ 14) (hW : a_wide p = 1) (h255 : p = 255)
    (hp : post 7 (f_origin, f_culprit, f_strip, f_listed, f_units, f_ordered, f_textEnd, f_end, f_longs, f_rounds, f_keptListed, f_entry, f_linked, nI p, f_steps, f_outs, f_ran, a_op, a_opA, a_opB, a_section, a_length, a_role, a_labelAt, a_used, a_local, a_global, a_weak, a_faulty, a_list, a_chosen, a_order, a_lengthened, a_at, a_keptAt, a_keptSymbol, a_keptList, a_image, a_sizes, a_words, a_apart, a_partA, a_partN, a_wide, a_r, a_output)) : wX_step_37 post f_origin f_culprit f_strip f_listed f_units f_ordered f_textEnd f_end f_longs f_rounds f_keptListed f_entry f_linked (nI p) f_steps f_outs f_ran a_op a_opA a_opB a_section a_length a_role a_labelAt a_used a_local a_global a_weak a_faulty a_list a_chosen a_order a_lengthened a_at a_keptAt a_keptSymbol a_keptList a_image a_sizes a_words a_apart a_partA a_partN a_wide a_r a_output := by
  have hv : vp_in (nI p) 256 := vp_in_nI hp2 (by omega)
  have hc : (nI p).toNatClampNeg = p := nI_clamp (by omega)
  unfold wX_step_37
  refine ⟨hv, nm_r (e' := nI j) (by rw [hc]; exact hap) (br_f (by rw [show (32 : Int32) = nI 32 from rfl, nI_eq (by omega) (by omega)]; omega) ⟨hv, nm_e (nm_e ⟨hv, ?_⟩)⟩)⟩
  rw [hc, hW]
  exact br_f (by decide) (br_t (by rw [h255]; rfl) hp)
theorem ly_xs37i (hp2 : p < 256) (hap : a_apart p = 32) (hp : post 8 (f_origin, f_culprit, f_strip, f_listed, f_units, f_ordered, f_textEnd, f_end, f_longs, f_rounds, f_keptListed, f_entry, f_linked, nI p, f_steps, f_outs, f_ran, a_op, a_opA, a_opB, a_section, a_length, a_role, a_labelAt, a_used, a_local, a_global, a_weak, a_faulty, a_list, a_chosen, a_order, a_lengthened, a_at, a_keptAt, a_keptSymbol, a_keptList, a_image, a_sizes, a_words, a_apart, a_partA, a_partN, a_wide, a_r, a_output)) : wX_step_37 post f_origin f_culprit f_strip f_listed f_units f_ordered f_textEnd f_end f_longs f_rounds f_keptListed f_entry f_linked (nI p) f_steps f_outs f_ran a_op a_opA a_opB a_section a_length a_role a_labelAt a_used a_local a_global a_weak a_faulty a_list a_chosen a_order a_lengthened a_at a_keptAt a_keptSymbol a_keptList a_image a_sizes a_words a_apart a_partA a_partN a_wide a_r a_output := by
  have hv : vp_in (nI p) 256 := vp_in_nI hp2 (by omega)
  have hc : (nI p).toNatClampNeg = p := nI_clamp (by omega)
  unfold wX_step_37
  exact ⟨hv, nm_r (e' := 32) (by rw [hc]; exact hap) (br_t rfl hp)⟩
theorem ly_xta {post : SX → Prop} {z : Int32} (hp2 : p < 256) (hz : vp_nar .byte z.toInt8.toInt32 = z) (hp : post (f_origin, f_culprit, f_strip, f_listed, f_units, f_ordered, f_textEnd, f_end, f_longs, f_rounds, f_keptListed, f_entry, f_linked, f_pc, f_steps, f_outs, f_ran, a_op, a_opA, a_opB, a_section, a_length, a_role, a_labelAt, a_used, a_local, a_global, a_weak, a_faulty, a_list, a_chosen, a_order, a_lengthened, a_at, a_keptAt, a_keptSymbol, a_keptList, a_image, a_sizes, a_words, upd a_apart p z, upd a_partA p (ly_wa v), upd a_partN p (ly_wn v), upd a_wide p (ly_b (ly_wt v)), a_r, a_output)) : wX_takeApart_37 post (nI p) v z (nI p) f_origin f_culprit f_strip f_listed f_units f_ordered f_textEnd f_end f_longs f_rounds f_keptListed f_entry f_linked f_pc f_steps f_outs f_ran a_op a_opA a_opB a_section a_length a_role a_labelAt a_used a_local a_global a_weak a_faulty a_list a_chosen a_order a_lengthened a_at a_keptAt a_keptSymbol a_keptList a_image a_sizes a_words a_apart a_partA a_partN a_wide a_r a_output := by
  have hv : vp_in (nI p) 256 := vp_in_nI hp2 (by omega)
  have hc : (nI p).toNatClampNeg = p := nI_clamp (by omega)
  have e1 : vp_nar .byte (((v >>> ((20 : Int32) &&& 31)) &&& 7).toInt8.toInt32) = ly_wa v := by
    obtain ⟨j, hj, e⟩ := ly_wa_n v
    rw [e]
    rw [show (v >>> ((20 : Int32) &&& 31)) &&& 7 = nI j from e]
    exact ly_nb j (by omega)
  have e2 : vp_nar .short v.toInt16.toInt32 = ly_wn v := pk_vs v
  unfold wX_takeApart_37
  rw [hc]
  refine ⟨hv, nm_r (e' := upd a_apart p z) (by rw [hz]) ⟨hv, nm_r (e' := upd a_partA p (ly_wa v)) (by rw [e1]) ⟨hv, nm_r (e' := upd a_partN p (ly_wn v)) (by rw [e2]) ?_⟩⟩⟩
  by_cases z1 : ((v >>> ((16 : Int32) &&& 31)) &&& 1) = 0
  · refine br_t z1 ⟨hv, nm_e ?_⟩
    rw [(ly_wt_0 v).mp z1] at hp
    exact hp
  · refine br_f z1 ⟨hv, nm_e ?_⟩
    have : ly_wt v = true := by
      cases e : ly_wt v with
      | true => rfl
      | false => exact absurd ((ly_wt_0 v).mpr e) z1
    rw [this] at hp
    exact hp
theorem ly_xtake {post : SX → Prop} (hp2 : p < 256) (hp : post (f_origin, f_culprit, f_strip, f_listed, f_units, f_ordered, f_textEnd, f_end, f_longs, f_rounds, f_keptListed, f_entry, f_linked, f_pc, f_steps, f_outs, f_ran, a_op, a_opA, a_opB, a_section, a_length, a_role, a_labelAt, a_used, a_local, a_global, a_weak, a_faulty, a_list, a_chosen, a_order, a_lengthened, a_at, a_keptAt, a_keptSymbol, a_keptList, a_image, a_sizes, a_words, upd a_apart p (if ly_in (ly_wo (a_words p)) 1 14 = true then ly_wo (a_words p) else 32), upd a_partA p (ly_wa (a_words p)), upd a_partN p (ly_wn (a_words p)), upd a_wide p (ly_b (ly_wt (a_words p))), a_r, a_output)) : wpX_takeApart post (f_origin, f_culprit, f_strip, f_listed, f_units, f_ordered, f_textEnd, f_end, f_longs, f_rounds, f_keptListed, f_entry, f_linked, f_pc, f_steps, f_outs, f_ran, a_op, a_opA, a_opB, a_section, a_length, a_role, a_labelAt, a_used, a_local, a_global, a_weak, a_faulty, a_list, a_chosen, a_order, a_lengthened, a_at, a_keptAt, a_keptSymbol, a_keptList, a_image, a_sizes, a_words, a_apart, a_partA, a_partN, a_wide, a_r, a_output) (nI p) := by
  have hv : vp_in (nI p) 256 := vp_in_nI hp2 (by omega)
  have hc : (nI p).toNatClampNeg = p := nI_clamp (by omega)
  refine And.intro hv (nm_r (e' := a_words p) (by rw [hc]) (nm_r (e' := ly_wo (a_words p)) rfl ?_))
  have h32 : vp_nar .byte (32 : Int32).toInt8.toInt32 = 32 := by rw [pk_vb]; decide
  by_cases z1 : ly_wo (a_words p) < 1
  · have : ly_in (ly_wo (a_words p)) 1 14 = false := by unfold ly_in; rw [decide_eq_false (Int32.not_le.mpr z1), Bool.false_and]
    rw [this, if_neg (by decide)] at hp
    refine br_t z1 ?_
    unfold wX_takeApart_35
    exact ly_xta hp2 h32 hp
  · refine br_f z1 ?_
    by_cases z2 : 14 < ly_wo (a_words p)
    · have : ly_in (ly_wo (a_words p)) 1 14 = false := by unfold ly_in; rw [decide_eq_false (p := ly_wo (a_words p) ≤ 14) (Int32.not_le.mpr z2), Bool.and_false]
      rw [this, if_neg (by decide)] at hp
      refine br_t z2 ?_
      unfold wX_takeApart_35
      exact ly_xta hp2 h32 hp
    · have : ly_in (ly_wo (a_words p)) 1 14 = true := by unfold ly_in; rw [decide_eq_true (Int32.not_lt.mp z1), decide_eq_true (Int32.not_lt.mp z2)]; rfl
      rw [this, if_pos rfl] at hp
      refine br_f z2 ?_
      obtain ⟨j, hj, e⟩ := ly_wo_n (a_words p)
      exact ly_xta hp2 (by rw [e]; exact ly_nb j (by omega)) hp
theorem ly_xstep (hp2 : p < 256) (hC : ly_CA a_words a_apart a_partA a_partN a_wide)
    (hp : ∀ ap pA pN wi, ly_CA a_words ap pA pN wi → (ap p = (if ly_in (ly_wo (a_words p)) 1 14 = true then ly_wo (a_words p) else 32) ∧ pA p = ly_wa (a_words p) ∧ pN p = ly_wn (a_words p) ∧ wi p = ly_b (ly_wt (a_words p))) → wX_step_37 post f_origin f_culprit f_strip f_listed f_units f_ordered f_textEnd f_end f_longs f_rounds f_keptListed f_entry f_linked (nI p) f_steps f_outs f_ran a_op a_opA a_opB a_section a_length a_role a_labelAt a_used a_local a_global a_weak a_faulty a_list a_chosen a_order a_lengthened a_at a_keptAt a_keptSymbol a_keptList a_image a_sizes a_words ap pA pN wi a_r a_output) : wpX_step post (f_origin, f_culprit, f_strip, f_listed, f_units, f_ordered, f_textEnd, f_end, f_longs, f_rounds, f_keptListed, f_entry, f_linked, nI p, f_steps, f_outs, f_ran, a_op, a_opA, a_opB, a_section, a_length, a_role, a_labelAt, a_used, a_local, a_global, a_weak, a_faulty, a_list, a_chosen, a_order, a_lengthened, a_at, a_keptAt, a_keptSymbol, a_keptList, a_image, a_sizes, a_words, a_apart, a_partA, a_partN, a_wide, a_r, a_output) := by
  have hv : vp_in (nI p) 256 := vp_in_nI hp2 (by omega)
  have hc : (nI p).toNatClampNeg = p := nI_clamp (by omega)
  have hi : ly_in (nI p) 0 255 = true := ly_in_f (n := 255) (j := p) (by omega) (by omega) rfl
  unfold wpX_step
  refine ly_xin (ly_br (fun e => by rw [hi] at e; cases e) (fun _ => ⟨hv, ?_⟩))
  rw [hc]
  by_cases z : a_apart p = 0
  · refine br_t z (ly_xtake hp2 (hp _ _ _ _ (fun k hk => ?_) ⟨pk_us, pk_us, pk_us, pk_us⟩))
    by_cases y : k = p
    · rw [y]; exact Or.inr ⟨pk_us, pk_us, pk_us, pk_us⟩
    · rw [pk_un y, pk_un y, pk_un y, pk_un y]; exact hC k hk
  · exact br_f z (hp _ _ _ _ hC ((hC p hp2).resolve_left z))
theorem ly_xstepw (h : ly_in f_pc 0 255 = false) (hp : post 7 (f_origin, f_culprit, f_strip, f_listed, f_units, f_ordered, f_textEnd, f_end, f_longs, f_rounds, f_keptListed, f_entry, f_linked, f_pc, f_steps, f_outs, f_ran, a_op, a_opA, a_opB, a_section, a_length, a_role, a_labelAt, a_used, a_local, a_global, a_weak, a_faulty, a_list, a_chosen, a_order, a_lengthened, a_at, a_keptAt, a_keptSymbol, a_keptList, a_image, a_sizes, a_words, a_apart, a_partA, a_partN, a_wide, a_r, a_output)) : wpX_step post (f_origin, f_culprit, f_strip, f_listed, f_units, f_ordered, f_textEnd, f_end, f_longs, f_rounds, f_keptListed, f_entry, f_linked, f_pc, f_steps, f_outs, f_ran, a_op, a_opA, a_opB, a_section, a_length, a_role, a_labelAt, a_used, a_local, a_global, a_weak, a_faulty, a_list, a_chosen, a_order, a_lengthened, a_at, a_keptAt, a_keptSymbol, a_keptList, a_image, a_sizes, a_words, a_apart, a_partA, a_partN, a_wide, a_r, a_output) := by
  unfold wpX_step
  exact ly_xin (ly_br (fun _ => hp) (fun e => by rw [h] at e; cases e))
end sx
section sy
variable {g_origin g_strip g_many g_culprit g_textEnd g_end g_made g_rounds g_entry g_linked g_ran g_pc g_steps g_outs : Int32} {b_ops b_opA b_opB b_counts b_roles b_list b_places b_symbols b_image b_stays b_wide b_memory b_reg b_out : Nat → Int32} {post : Int32 → SY → Prop} {p q c a b y : Nat} {n v : Int32} {two : Bool}
theorem ly_ys1 {nx : Int32} (ha : a < 8) (hp : post 0 (g_origin, g_strip, g_many, g_culprit, g_textEnd, g_end, g_made, g_rounds, g_entry, g_linked, g_ran, nx, nI (c + 1), g_outs, b_ops, b_opA, b_opB, b_counts, b_roles, b_list, b_places, b_symbols, b_image, b_stays, b_wide, b_memory, upd b_reg a v, b_out)) : wY_step_187 post (nI 1) (nI a) n nx (ly_b two) v (b_reg a) (b_reg b) g_origin g_strip g_many g_culprit g_textEnd g_end g_made g_rounds g_entry g_linked g_ran (nI p) (nI c) g_outs b_ops b_opA b_opB b_counts b_roles b_list b_places b_symbols b_image b_stays b_wide b_memory b_reg b_out := by
  have hva : vp_in (nI a) 8 := vp_in_nI ha (by omega)
  have hca : (nI a).toNatClampNeg = a := nI_clamp (by omega)
  unfold wY_step_187
  exact nm_r (nI_1 c) (br_f (by decide) (br_t (by decide) (And.intro hva (nm_r (e' := upd b_reg a v) (by rw [hca]) (br_f (by decide) (br_f (by decide) (br_f (by decide) (br_f (by decide) (br_f (by decide) (br_f (by decide) (br_f (by decide) (br_f (by decide) (br_f (by decide) (br_f (by decide) (br_t (by decide) (br_f (by decide) (br_f (by decide) hp)))))))))))))))))
theorem ly_ys12 {nx : Int32} (ha : a < 8) (hp : post 0 (g_origin, g_strip, g_many, g_culprit, g_textEnd, g_end, g_made, g_rounds, g_entry, g_linked, g_ran, nx, nI (c + 1), g_outs, b_ops, b_opA, b_opB, b_counts, b_roles, b_list, b_places, b_symbols, b_image, b_stays, b_wide, b_memory, upd b_reg a v, b_out)) : wY_step_187 post (nI 12) (nI a) n nx (ly_b two) v (b_reg a) (b_reg b) g_origin g_strip g_many g_culprit g_textEnd g_end g_made g_rounds g_entry g_linked g_ran (nI p) (nI c) g_outs b_ops b_opA b_opB b_counts b_roles b_list b_places b_symbols b_image b_stays b_wide b_memory b_reg b_out := by
  have hva : vp_in (nI a) 8 := vp_in_nI ha (by omega)
  have hca : (nI a).toNatClampNeg = a := nI_clamp (by omega)
  unfold wY_step_187
  exact nm_r (nI_1 c) (br_f (by decide) (br_f (by decide) (br_t (by decide) (And.intro hva (nm_r (e' := upd b_reg a v) (by rw [hca]) (br_f (by decide) (br_f (by decide) (br_f (by decide) (br_f (by decide) (br_f (by decide) (br_f (by decide) (br_f (by decide) (br_f (by decide) (br_f (by decide) (br_f (by decide) (br_t (by decide) (br_f (by decide) (br_f (by decide) hp))))))))))))))))))
theorem ly_ys2 {nx : Int32} (ha : a < 8) (hp : post 0 (g_origin, g_strip, g_many, g_culprit, g_textEnd, g_end, g_made, g_rounds, g_entry, g_linked, g_ran, nx, nI (c + 1), g_outs, b_ops, b_opA, b_opB, b_counts, b_roles, b_list, b_places, b_symbols, b_image, b_stays, b_wide, b_memory, upd b_reg a (b_reg a + b_reg b), b_out)) : wY_step_187 post (nI 2) (nI a) n nx (ly_b two) v (b_reg a) (b_reg b) g_origin g_strip g_many g_culprit g_textEnd g_end g_made g_rounds g_entry g_linked g_ran (nI p) (nI c) g_outs b_ops b_opA b_opB b_counts b_roles b_list b_places b_symbols b_image b_stays b_wide b_memory b_reg b_out := by
  have hva : vp_in (nI a) 8 := vp_in_nI ha (by omega)
  have hca : (nI a).toNatClampNeg = a := nI_clamp (by omega)
  unfold wY_step_187
  exact nm_r (nI_1 c) (br_f (by decide) (br_f (by decide) (br_f (by decide) (br_t (by decide) (And.intro hva (nm_r (e' := upd b_reg a (b_reg a + b_reg b)) (by rw [hca]) (br_f (by decide) (br_f (by decide) (br_f (by decide) (br_f (by decide) (br_f (by decide) (br_f (by decide) (br_f (by decide) (br_f (by decide) (br_f (by decide) (br_t (by decide) (br_f (by decide) (br_f (by decide) hp))))))))))))))))))
theorem ly_ys3 {nx : Int32} (ha : a < 8) (hp : post 0 (g_origin, g_strip, g_many, g_culprit, g_textEnd, g_end, g_made, g_rounds, g_entry, g_linked, g_ran, nx, nI (c + 1), g_outs, b_ops, b_opA, b_opB, b_counts, b_roles, b_list, b_places, b_symbols, b_image, b_stays, b_wide, b_memory, upd b_reg a (b_reg a - b_reg b), b_out)) : wY_step_187 post (nI 3) (nI a) n nx (ly_b two) v (b_reg a) (b_reg b) g_origin g_strip g_many g_culprit g_textEnd g_end g_made g_rounds g_entry g_linked g_ran (nI p) (nI c) g_outs b_ops b_opA b_opB b_counts b_roles b_list b_places b_symbols b_image b_stays b_wide b_memory b_reg b_out := by
  have hva : vp_in (nI a) 8 := vp_in_nI ha (by omega)
  have hca : (nI a).toNatClampNeg = a := nI_clamp (by omega)
  unfold wY_step_187
  exact nm_r (nI_1 c) (br_f (by decide) (br_f (by decide) (br_f (by decide) (br_f (by decide) (br_t (by decide) (And.intro hva (nm_r (e' := upd b_reg a (b_reg a - b_reg b)) (by rw [hca]) (br_f (by decide) (br_f (by decide) (br_f (by decide) (br_f (by decide) (br_f (by decide) (br_f (by decide) (br_f (by decide) (br_f (by decide) (br_t (by decide) (br_f (by decide) (br_f (by decide) hp))))))))))))))))))
theorem ly_ys4 {nx : Int32} (ha : a < 8) (hp : post 0 (g_origin, g_strip, g_many, g_culprit, g_textEnd, g_end, g_made, g_rounds, g_entry, g_linked, g_ran, nx, nI (c + 1), g_outs, b_ops, b_opA, b_opB, b_counts, b_roles, b_list, b_places, b_symbols, b_image, b_stays, b_wide, b_memory, upd b_reg a (b_reg a * b_reg b), b_out)) : wY_step_187 post (nI 4) (nI a) n nx (ly_b two) v (b_reg a) (b_reg b) g_origin g_strip g_many g_culprit g_textEnd g_end g_made g_rounds g_entry g_linked g_ran (nI p) (nI c) g_outs b_ops b_opA b_opB b_counts b_roles b_list b_places b_symbols b_image b_stays b_wide b_memory b_reg b_out := by
  have hva : vp_in (nI a) 8 := vp_in_nI ha (by omega)
  have hca : (nI a).toNatClampNeg = a := nI_clamp (by omega)
  unfold wY_step_187
  exact nm_r (nI_1 c) (br_f (by decide) (br_f (by decide) (br_f (by decide) (br_f (by decide) (br_f (by decide) (br_t (by decide) (And.intro hva (nm_r (e' := upd b_reg a (b_reg a * b_reg b)) (by rw [hca]) (br_f (by decide) (br_f (by decide) (br_f (by decide) (br_f (by decide) (br_f (by decide) (br_f (by decide) (br_f (by decide) (br_t (by decide) (br_f (by decide) (br_f (by decide) hp))))))))))))))))))
theorem ly_ys5 {nx : Int32} (ha : a < 8) (hp : post 0 (g_origin, g_strip, g_many, g_culprit, g_textEnd, g_end, g_made, g_rounds, g_entry, g_linked, g_ran, nx, nI (c + 1), g_outs, b_ops, b_opA, b_opB, b_counts, b_roles, b_list, b_places, b_symbols, b_image, b_stays, b_wide, b_memory, upd b_reg a (if b_reg b ≤ b_reg a then 0 else 1), b_out)) : wY_step_187 post (nI 5) (nI a) n nx (ly_b two) v (b_reg a) (b_reg b) g_origin g_strip g_many g_culprit g_textEnd g_end g_made g_rounds g_entry g_linked g_ran (nI p) (nI c) g_outs b_ops b_opA b_opB b_counts b_roles b_list b_places b_symbols b_image b_stays b_wide b_memory b_reg b_out := by
  have hva : vp_in (nI a) 8 := vp_in_nI ha (by omega)
  have hca : (nI a).toNatClampNeg = a := nI_clamp (by omega)
  unfold wY_step_187
  exact nm_r (nI_1 c) (br_f (by decide) (br_f (by decide) (br_f (by decide) (br_f (by decide) (br_f (by decide) (br_f (by decide) (br_t (by decide) (br_c (fun z => And.intro hva (nm_r (e' := upd b_reg a (if b_reg b ≤ b_reg a then 0 else 1)) (by rw [hca, if_pos z]) (br_f (by decide) (br_f (by decide) (br_f (by decide) (br_f (by decide) (br_f (by decide) (br_f (by decide) (br_t (by decide) (br_f (by decide) (br_f (by decide) hp))))))))))) (fun z => And.intro hva (nm_r (e' := upd b_reg a (if b_reg b ≤ b_reg a then 0 else 1)) (by rw [hca, if_neg z]) (br_f (by decide) (br_f (by decide) (br_f (by decide) (br_f (by decide) (br_f (by decide) (br_f (by decide) (br_t (by decide) (br_f (by decide) (br_f (by decide) hp)))))))))))))))))))
theorem ly_ys6 {nx : Int32} (ha : a < 8) (hy : b_reg b = nI y) (hy2 : y < 256) (hp : post 0 (g_origin, g_strip, g_many, g_culprit, g_textEnd, g_end, g_made, g_rounds, g_entry, g_linked, g_ran, nx, nI (c + 1), g_outs, b_ops, b_opA, b_opB, b_counts, b_roles, b_list, b_places, b_symbols, b_image, b_stays, b_wide, b_memory, upd b_reg a (b_memory y), b_out)) : wY_step_187 post (nI 6) (nI a) n nx (ly_b two) v (b_reg a) (b_reg b) g_origin g_strip g_many g_culprit g_textEnd g_end g_made g_rounds g_entry g_linked g_ran (nI p) (nI c) g_outs b_ops b_opA b_opB b_counts b_roles b_list b_places b_symbols b_image b_stays b_wide b_memory b_reg b_out := by
  have hva : vp_in (nI a) 8 := vp_in_nI ha (by omega)
  have hca : (nI a).toNatClampNeg = a := nI_clamp (by omega)
  have hvy : vp_in (b_reg b) 256 := by rw [hy]; exact vp_in_nI hy2 (by omega)
  have hcy : (b_reg b).toNatClampNeg = y := by rw [hy]; exact nI_clamp (by omega)
  unfold wY_step_187
  exact nm_r (nI_1 c) (br_f (by decide) (br_f (by decide) (br_f (by decide) (br_f (by decide) (br_f (by decide) (br_f (by decide) (br_f (by decide) (br_t (by decide) (And.intro hvy (And.intro hva (nm_r (e' := upd b_reg a (b_memory y)) (by rw [hca, hcy]) (br_f (by decide) (br_f (by decide) (br_f (by decide) (br_f (by decide) (br_f (by decide) (br_t (by decide) (br_f (by decide) (br_f (by decide) hp)))))))))))))))))))
theorem ly_ys7 {nx : Int32} (ha : a < 8) (hy : b_reg b = nI y) (hy2 : y < 256) (hp : post 0 (g_origin, g_strip, g_many, g_culprit, g_textEnd, g_end, g_made, g_rounds, g_entry, g_linked, g_ran, nx, nI (c + 1), g_outs, b_ops, b_opA, b_opB, b_counts, b_roles, b_list, b_places, b_symbols, b_image, b_stays, b_wide, upd b_memory y (b_reg a), b_reg, b_out)) : wY_step_187 post (nI 7) (nI a) n nx (ly_b two) v (b_reg a) (b_reg b) g_origin g_strip g_many g_culprit g_textEnd g_end g_made g_rounds g_entry g_linked g_ran (nI p) (nI c) g_outs b_ops b_opA b_opB b_counts b_roles b_list b_places b_symbols b_image b_stays b_wide b_memory b_reg b_out := by
  have hva : vp_in (nI a) 8 := vp_in_nI ha (by omega)
  have hca : (nI a).toNatClampNeg = a := nI_clamp (by omega)
  have hvy : vp_in (b_reg b) 256 := by rw [hy]; exact vp_in_nI hy2 (by omega)
  have hcy : (b_reg b).toNatClampNeg = y := by rw [hy]; exact nI_clamp (by omega)
  unfold wY_step_187
  exact nm_r (nI_1 c) (br_f (by decide) (br_f (by decide) (br_f (by decide) (br_f (by decide) (br_f (by decide) (br_f (by decide) (br_f (by decide) (br_f (by decide) (br_t (by decide) (And.intro hvy (nm_r (e' := upd b_memory y (b_reg a)) (by rw [hcy]) (br_f (by decide) (br_f (by decide) (br_f (by decide) (br_f (by decide) (br_t (by decide) (br_f (by decide) (br_f (by decide) hp))))))))))))))))))
theorem ly_ys13 {nx : Int32} (ha : a < 8) (hq : q ≤ 300) (hp : post 0 (g_origin, g_strip, g_many, g_culprit, g_textEnd, g_end, g_made, g_rounds, g_entry, g_linked, g_ran, nx, nI (c + 1), nI (q + 1), b_ops, b_opA, b_opB, b_counts, b_roles, b_list, b_places, b_symbols, b_image, b_stays, b_wide, b_memory, b_reg, if q < 40 then upd b_out q (b_reg a) else b_out)) : wY_step_187 post (nI 13) (nI a) n nx (ly_b two) v (b_reg a) (b_reg b) g_origin g_strip g_many g_culprit g_textEnd g_end g_made g_rounds g_entry g_linked g_ran (nI p) (nI c) (nI q) b_ops b_opA b_opB b_counts b_roles b_list b_places b_symbols b_image b_stays b_wide b_memory b_reg b_out := by
  have hva : vp_in (nI a) 8 := vp_in_nI ha (by omega)
  have hca : (nI a).toNatClampNeg = a := nI_clamp (by omega)
  unfold wY_step_187
  exact nm_r (nI_1 c) (br_f (by decide) (br_f (by decide) (br_f (by decide) (br_f (by decide) (br_f (by decide) (br_f (by decide) (br_f (by decide) (br_f (by decide) (br_f (by decide) (br_t (by decide) (pk_le 40 q (fun h => by rw [if_neg (by omega)] at hp; exact nm_r (nI_1 q) (br_f (by decide) (br_f (by decide) (br_f (by decide) (br_t (by decide) (br_f (by decide) (br_f (by decide) hp))))))) (fun h => by rw [if_pos h] at hp; exact And.intro (vp_in_nI h (by omega)) (nm_r (e' := upd b_out q (b_reg a)) (by rw [nI_clamp (by omega)]) (nm_r (nI_1 q) (br_f (by decide) (br_f (by decide) (br_f (by decide) (br_t (by decide) (br_f (by decide) (br_f (by decide) hp))))))))))))))))))))
theorem ly_ys8 {nx : Int32} (ha : a < 8) (hp : post 0 (g_origin, g_strip, g_many, g_culprit, g_textEnd, g_end, g_made, g_rounds, g_entry, g_linked, g_ran, ly_to p n v two, nI (c + 1), g_outs, b_ops, b_opA, b_opB, b_counts, b_roles, b_list, b_places, b_symbols, b_image, b_stays, b_wide, b_memory, b_reg, b_out)) : wY_step_187 post (nI 8) (nI a) n nx (ly_b two) v (b_reg a) (b_reg b) g_origin g_strip g_many g_culprit g_textEnd g_end g_made g_rounds g_entry g_linked g_ran (nI p) (nI c) g_outs b_ops b_opA b_opB b_counts b_roles b_list b_places b_symbols b_image b_stays b_wide b_memory b_reg b_out := by
  have hva : vp_in (nI a) 8 := vp_in_nI ha (by omega)
  have hca : (nI a).toNatClampNeg = a := nI_clamp (by omega)
  unfold wY_step_187
  exact nm_r (nI_1 c) (br_f (by decide) (br_f (by decide) (br_f (by decide) (br_f (by decide) (br_f (by decide) (br_f (by decide) (br_f (by decide) (br_f (by decide) (br_f (by decide) (br_f (by decide) (br_t (by decide) (br_f (by decide) (ly_br (fun e => by rw [e] at hp; exact (br_f (by decide) (br_f (by decide) hp))) (fun e => by rw [e] at hp; exact (br_f (by decide) (br_f (by decide) hp))))))))))))))))
theorem ly_ys10 {nx : Int32} (ha : a < 8) (hp : post 0 (g_origin, g_strip, g_many, g_culprit, g_textEnd, g_end, g_made, g_rounds, g_entry, g_linked, g_ran, ly_to p n v two, nI (c + 1), g_outs, b_ops, b_opA, b_opB, b_counts, b_roles, b_list, b_places, b_symbols, b_image, b_stays, b_wide, b_memory, upd b_reg 7 nx, b_out)) : wY_step_187 post (nI 10) (nI a) n nx (ly_b two) v (b_reg a) (b_reg b) g_origin g_strip g_many g_culprit g_textEnd g_end g_made g_rounds g_entry g_linked g_ran (nI p) (nI c) g_outs b_ops b_opA b_opB b_counts b_roles b_list b_places b_symbols b_image b_stays b_wide b_memory b_reg b_out := by
  have hva : vp_in (nI a) 8 := vp_in_nI ha (by omega)
  have hca : (nI a).toNatClampNeg = a := nI_clamp (by omega)
  unfold wY_step_187
  exact nm_r (nI_1 c) (br_f (by decide) (br_f (by decide) (br_f (by decide) (br_f (by decide) (br_f (by decide) (br_f (by decide) (br_f (by decide) (br_f (by decide) (br_f (by decide) (br_f (by decide) (br_f (by decide) (br_t (by decide) (br_f (by decide) (ly_br (fun e => by rw [e] at hp; exact (br_f (by decide) (br_t (by decide) (nm_e hp)))) (fun e => by rw [e] at hp; exact (br_f (by decide) (br_t (by decide) (nm_e hp))))))))))))))))))
theorem ly_ys11 {nx : Int32} (ha : a < 8) (hp : post 0 (g_origin, g_strip, g_many, g_culprit, g_textEnd, g_end, g_made, g_rounds, g_entry, g_linked, g_ran, b_reg 7, nI (c + 1), g_outs, b_ops, b_opA, b_opB, b_counts, b_roles, b_list, b_places, b_symbols, b_image, b_stays, b_wide, b_memory, b_reg, b_out)) : wY_step_187 post (nI 11) (nI a) n nx (ly_b two) v (b_reg a) (b_reg b) g_origin g_strip g_many g_culprit g_textEnd g_end g_made g_rounds g_entry g_linked g_ran (nI p) (nI c) g_outs b_ops b_opA b_opB b_counts b_roles b_list b_places b_symbols b_image b_stays b_wide b_memory b_reg b_out := by
  have hva : vp_in (nI a) 8 := vp_in_nI ha (by omega)
  have hca : (nI a).toNatClampNeg = a := nI_clamp (by omega)
  unfold wY_step_187
  exact nm_r (nI_1 c) (br_f (by decide) (br_f (by decide) (br_f (by decide) (br_f (by decide) (br_f (by decide) (br_f (by decide) (br_f (by decide) (br_f (by decide) (br_f (by decide) (br_f (by decide) (br_f (by decide) (br_f (by decide) (br_f (by decide) (br_t (by decide) (br_t (by decide) (nm_e (br_f (by decide) hp)))))))))))))))))
theorem ly_ys9 {nx : Int32} (ha : a < 8) (hp : post 0 (g_origin, g_strip, g_many, g_culprit, g_textEnd, g_end, g_made, g_rounds, g_entry, g_linked, g_ran, if b_reg a = 0 then ly_to p n v two else nx, nI (c + 1), g_outs, b_ops, b_opA, b_opB, b_counts, b_roles, b_list, b_places, b_symbols, b_image, b_stays, b_wide, b_memory, b_reg, b_out)) : wY_step_187 post (nI 9) (nI a) n nx (ly_b two) v (b_reg a) (b_reg b) g_origin g_strip g_many g_culprit g_textEnd g_end g_made g_rounds g_entry g_linked g_ran (nI p) (nI c) g_outs b_ops b_opA b_opB b_counts b_roles b_list b_places b_symbols b_image b_stays b_wide b_memory b_reg b_out := by
  have hva : vp_in (nI a) 8 := vp_in_nI ha (by omega)
  have hca : (nI a).toNatClampNeg = a := nI_clamp (by omega)
  unfold wY_step_187
  exact nm_r (nI_1 c) (br_f (by decide) (br_f (by decide) (br_f (by decide) (br_f (by decide) (br_f (by decide) (br_f (by decide) (br_f (by decide) (br_f (by decide) (br_f (by decide) (br_f (by decide) (br_f (by decide) (br_f (by decide) (br_t (by decide) (br_c (fun z => by rw [if_pos z] at hp; exact (br_f (by decide) (ly_br (fun e => by rw [e] at hp; exact (br_f (by decide) (br_f (by decide) hp))) (fun e => by rw [e] at hp; exact (br_f (by decide) (br_f (by decide) hp)))))) (fun z => by rw [if_neg z] at hp; exact (br_t (by decide) (br_f (by decide) (br_f (by decide) hp))))))))))))))))))
theorem ly_ys14 {nx : Int32} (hp : post 5 (g_origin, g_strip, g_many, g_culprit, g_textEnd, g_end, g_made, g_rounds, g_entry, g_linked, g_ran, nI p, nI (c + 1), g_outs, b_ops, b_opA, b_opB, b_counts, b_roles, b_list, b_places, b_symbols, b_image, b_stays, b_wide, b_memory, b_reg, b_out)) : wY_step_187 post (nI 14) (nI a) n nx (ly_b two) v (b_reg a) (b_reg b) g_origin g_strip g_many g_culprit g_textEnd g_end g_made g_rounds g_entry g_linked g_ran (nI p) (nI c) g_outs b_ops b_opA b_opB b_counts b_roles b_list b_places b_symbols b_image b_stays b_wide b_memory b_reg b_out := by
  unfold wY_step_187
  exact nm_r (nI_1 c) (br_t rfl hp)
theorem ly_ys139 {j : Nat} (ha : a < 8) (hb : b < 8) (hp2 : p < 256) (ht : two = true → p ≠ 255)
    (hp : wY_step_187 post (nI j) (nI a) n (nI (ly_nx p two)) (ly_b two) (ly_vv b_memory p n two) (b_reg a) (b_reg b) g_origin g_strip g_many g_culprit g_textEnd g_end g_made g_rounds g_entry g_linked g_ran (nI p) g_steps g_outs b_ops b_opA b_opB b_counts b_roles b_list b_places b_symbols b_image b_stays b_wide b_memory b_reg b_out) : wY_step_139 post (nI j) (nI a) n (nI b) (nI (p + 1)) (ly_b two) g_origin g_strip g_many g_culprit g_textEnd g_end g_made g_rounds g_entry g_linked g_ran (nI p) g_steps g_outs b_ops b_opA b_opB b_counts b_roles b_list b_places b_symbols b_image b_stays b_wide b_memory b_reg b_out := by
  have hva : vp_in (nI a) 8 := vp_in_nI ha (by omega)
  have hca : (nI a).toNatClampNeg = a := nI_clamp (by omega)
  have hvb : vp_in (nI b) 8 := vp_in_nI hb (by omega)
  have hcb : (nI b).toNatClampNeg = b := nI_clamp (by omega)
  unfold wY_step_139
  cases two with
  | false => exact br_t rfl (And.intro hva (nm_r (e' := b_reg a) (congrArg b_reg hca) (And.intro hvb (nm_r (e' := b_reg b) (congrArg b_reg hcb) (br_t rfl hp)))))
  | true =>
    have h1 := ht rfl
    refine br_f (by decide) ?_
    rw [nI_1]
    refine ⟨vp_in_nI (by omega) (by omega), ?_⟩
    rw [nI_clamp (by omega : p + 1 < 2 ^ 31)]
    exact And.intro hva (nm_r (e' := b_reg a) (congrArg b_reg hca) (And.intro hvb (nm_r (e' := b_reg b) (congrArg b_reg hcb) (br_f (by decide) (nm_r (nI_1 (p + 1)) hp)))))
theorem ly_ys77 {j : Nat} (hj : 1 ≤ j) (hj2 : j ≤ 14) (hb : b < 8) (hp2 : p < 256) (ht : two = true → p ≠ 255) (hy : j = 6 ∨ j = 7 → ly_in (b_reg b) 0 255 = true)
    (hp : wY_step_139 post (nI j) (nI a) n (nI b) (nI (p + 1)) (ly_b two) g_origin g_strip g_many g_culprit g_textEnd g_end g_made g_rounds g_entry g_linked g_ran (nI p) g_steps g_outs b_ops b_opA b_opB b_counts b_roles b_list b_places b_symbols b_image b_stays b_wide b_memory b_reg b_out) : wY_step_77 post (nI j) (nI a) n (nI b) (nI (p + 1)) (ly_b two) g_origin g_strip g_many g_culprit g_textEnd g_end g_made g_rounds g_entry g_linked g_ran (nI p) g_steps g_outs b_ops b_opA b_opB b_counts b_roles b_list b_places b_symbols b_image b_stays b_wide b_memory b_reg b_out := by
  have hvb : vp_in (nI b) 8 := vp_in_nI hb (by omega)
  have hcb : (nI b).toNatClampNeg = b := nI_clamp (by omega)
  have hi : ly_in (nI j) 1 14 = true := ly_inab (a := 1) (b := 14) hj hj2 (by omega)
  have h107 : wY_step_107 post (nI j) (nI a) n (nI b) (nI (p + 1)) (ly_b two) g_origin g_strip g_many g_culprit g_textEnd g_end g_made g_rounds g_entry g_linked g_ran (nI p) g_steps g_outs b_ops b_opA b_opB b_counts b_roles b_list b_places b_symbols b_image b_stays b_wide b_memory b_reg b_out := by
    have h119 : (j = 6 ∨ j = 7) → wY_step_119 post (nI j) (nI a) n (nI b) (nI (p + 1)) (ly_b two) g_origin g_strip g_many g_culprit g_textEnd g_end g_made g_rounds g_entry g_linked g_ran (nI p) g_steps g_outs b_ops b_opA b_opB b_counts b_roles b_list b_places b_symbols b_image b_stays b_wide b_memory b_reg b_out := by
      intro h
      unfold wY_step_119
      refine ⟨hvb, ?_⟩
      rw [hcb]
      exact ly_yin (ly_br (fun e => by rw [hy h] at e; cases e) (fun _ => hp))
    unfold wY_step_107
    by_cases h6 : j = 6
    · exact br_t (by rw [h6]; rfl) (h119 (Or.inl h6))
    · refine br_f (by rw [show (6 : Int32) = nI 6 from rfl, nI_eq (by omega) (by omega)]; exact h6) ?_
      by_cases h7 : j = 7
      · exact br_t (by rw [h7]; rfl) (h119 (Or.inr h7))
      · exact br_f (by rw [show (7 : Int32) = nI 7 from rfl, nI_eq (by omega) (by omega)]; exact h7) hp
  unfold wY_step_77
  refine ly_yin (ly_br (fun e => by rw [hi] at e; cases e) (fun _ => ly_br (fun _ => h107) (fun e => br_f ?_ h107)))
  rw [show (255 : Int32) = nI 255 from rfl, nI_eq (by omega) (by omega)]
  exact ht e
theorem ly_ystep (hp2 : p < 256) (hw : b_memory p = v) (hb : ly_wn v &&& 7 = nI b) (hp : wY_step_77 post (ly_wo v) (ly_wa v) (ly_wn v) (nI b) (nI (p + 1)) (ly_b (ly_wt v)) g_origin g_strip g_many g_culprit g_textEnd g_end g_made g_rounds g_entry g_linked g_ran (nI p) g_steps g_outs b_ops b_opA b_opB b_counts b_roles b_list b_places b_symbols b_image b_stays b_wide b_memory b_reg b_out) : wpY_step post (g_origin, g_strip, g_many, g_culprit, g_textEnd, g_end, g_made, g_rounds, g_entry, g_linked, g_ran, nI p, g_steps, g_outs, b_ops, b_opA, b_opB, b_counts, b_roles, b_list, b_places, b_symbols, b_image, b_stays, b_wide, b_memory, b_reg, b_out) := by
  have hv : vp_in (nI p) 256 := vp_in_nI hp2 (by omega)
  have hc : (nI p).toNatClampNeg = p := nI_clamp (by omega)
  have hi : ly_in (nI p) 0 255 = true := ly_in_f (n := 255) (j := p) (by omega) (by omega) rfl
  unfold wpY_step
  refine ly_yin (ly_br (fun e => by rw [hi] at e; cases e) (fun _ => ⟨hv, nm_r (e' := v) (by rw [hc]; exact hw) (nm_r (e' := ly_wo v) rfl (nm_r (e' := ly_wa v) rfl (nm_r (e' := nI b) hb (nm_r (nI_1 p) ?_))))⟩))
  cases e : ly_wt v with
  | true => rw [e] at hp; exact br_t ((ly_wt_1 v).mpr e) hp
  | false => rw [e] at hp; exact br_f (fun z => by rw [(ly_wt_1 v).mp z] at e; cases e) hp
theorem ly_ystepw (h : ly_in g_pc 0 255 = false) (hp : post 7 (g_origin, g_strip, g_many, g_culprit, g_textEnd, g_end, g_made, g_rounds, g_entry, g_linked, g_ran, g_pc, g_steps, g_outs, b_ops, b_opA, b_opB, b_counts, b_roles, b_list, b_places, b_symbols, b_image, b_stays, b_wide, b_memory, b_reg, b_out)) : wpY_step post (g_origin, g_strip, g_many, g_culprit, g_textEnd, g_end, g_made, g_rounds, g_entry, g_linked, g_ran, g_pc, g_steps, g_outs, b_ops, b_opA, b_opB, b_counts, b_roles, b_list, b_places, b_symbols, b_image, b_stays, b_wide, b_memory, b_reg, b_out) := by
  unfold wpY_step
  exact ly_yin (ly_br (fun _ => hp) (fun e => by rw [h] at e; cases e))
theorem ly_ys77i {o : Int32} (h : ly_in o 1 14 = false) {x3 x4 x5 x6 x7 : Int32} (hp : post 8 (g_origin, g_strip, g_many, g_culprit, g_textEnd, g_end, g_made, g_rounds, g_entry, g_linked, g_ran, g_pc, g_steps, g_outs, b_ops, b_opA, b_opB, b_counts, b_roles, b_list, b_places, b_symbols, b_image, b_stays, b_wide, b_memory, b_reg, b_out)) : wY_step_77 post o x3 x4 x5 x6 x7 g_origin g_strip g_many g_culprit g_textEnd g_end g_made g_rounds g_entry g_linked g_ran g_pc g_steps g_outs b_ops b_opA b_opB b_counts b_roles b_list b_places b_symbols b_image b_stays b_wide b_memory b_reg b_out := by
  unfold wY_step_77
  exact ly_yin (ly_br (fun _ => hp) (fun e => by rw [h] at e; cases e))
theorem ly_ys77w {o : Int32} (h : ly_in o 1 14 = true) {x3 x4 x5 x6 : Int32} (h2 : g_pc = 255) (hp : post 7 (g_origin, g_strip, g_many, g_culprit, g_textEnd, g_end, g_made, g_rounds, g_entry, g_linked, g_ran, g_pc, g_steps, g_outs, b_ops, b_opA, b_opB, b_counts, b_roles, b_list, b_places, b_symbols, b_image, b_stays, b_wide, b_memory, b_reg, b_out)) : wY_step_77 post o x3 x4 x5 x6 (ly_b true) g_origin g_strip g_many g_culprit g_textEnd g_end g_made g_rounds g_entry g_linked g_ran g_pc g_steps g_outs b_ops b_opA b_opB b_counts b_roles b_list b_places b_symbols b_image b_stays b_wide b_memory b_reg b_out := by
  unfold wY_step_77
  exact ly_yin (ly_br (fun e => by rw [h] at e; cases e) (fun _ => br_f (by decide) (br_t h2 hp)))
theorem ly_ys77f {j : Nat} (hj : j = 6 ∨ j = 7) (hb : b < 8) (hp2 : p < 256) (ht : two = true → p ≠ 255) (hy : ly_in (b_reg b) 0 255 = false) {x3 x4 x6 : Int32} (hp : post 7 (g_origin, g_strip, g_many, g_culprit, g_textEnd, g_end, g_made, g_rounds, g_entry, g_linked, g_ran, nI p, g_steps, g_outs, b_ops, b_opA, b_opB, b_counts, b_roles, b_list, b_places, b_symbols, b_image, b_stays, b_wide, b_memory, b_reg, b_out)) : wY_step_77 post (nI j) x3 x4 (nI b) x6 (ly_b two) g_origin g_strip g_many g_culprit g_textEnd g_end g_made g_rounds g_entry g_linked g_ran (nI p) g_steps g_outs b_ops b_opA b_opB b_counts b_roles b_list b_places b_symbols b_image b_stays b_wide b_memory b_reg b_out := by
  have hvb : vp_in (nI b) 8 := vp_in_nI hb (by omega)
  have hcb : (nI b).toNatClampNeg = b := nI_clamp (by omega)
  have h119 : wY_step_119 post (nI j) x3 x4 (nI b) x6 (ly_b two) g_origin g_strip g_many g_culprit g_textEnd g_end g_made g_rounds g_entry g_linked g_ran (nI p) g_steps g_outs b_ops b_opA b_opB b_counts b_roles b_list b_places b_symbols b_image b_stays b_wide b_memory b_reg b_out := by
    unfold wY_step_119
    refine ⟨hvb, ?_⟩
    rw [hcb]
    exact ly_yin (ly_br (fun _ => hp) (fun e => by rw [hy] at e; cases e))
  have h107 : wY_step_107 post (nI j) x3 x4 (nI b) x6 (ly_b two) g_origin g_strip g_many g_culprit g_textEnd g_end g_made g_rounds g_entry g_linked g_ran (nI p) g_steps g_outs b_ops b_opA b_opB b_counts b_roles b_list b_places b_symbols b_image b_stays b_wide b_memory b_reg b_out := by
    unfold wY_step_107
    rcases hj with rfl | rfl
    · exact br_t rfl h119
    · exact br_f (by decide) (br_t rfl h119)
  unfold wY_step_77
  refine ly_yin (ly_br (fun e => ?_) (fun _ => ly_br (fun _ => h107) (fun e => br_f ?_ h107)))
  · rcases hj with rfl | rfl <;> exact absurd e (by decide)
  · rw [show (255 : Int32) = nI 255 from rfl, nI_eq (by omega) (by omega)]
    exact ht e
end sy
end
section
/-! a whole run, in lockstep -/
section kx
variable {f_origin f_culprit f_strip f_listed f_units f_ordered f_textEnd f_end f_longs f_rounds f_keptListed f_entry f_linked f_pc f_steps f_outs f_ran : Int32} {a_op a_opA a_opB a_section a_length a_role a_labelAt a_used a_local a_global a_weak a_faulty a_list a_chosen a_order a_lengthened a_at a_keptAt a_keptSymbol a_keptList a_image a_sizes a_words a_apart a_partA a_partN a_wide a_r a_output : Nat → Int32} {p a b j c q : Nat} {n w : Int32} {two : Bool}
theorem ly_xk {post : Int32 → SX → Prop} (hp2 : p < 256) (hw : a_words p = w) (hj : ly_wo w = nI j) (h1 : 1 ≤ j) (h14 : j ≤ 14) (hA : ly_wa w = nI a) (hn : ly_wn w = n) (h2 : ly_wt w = two) (ht : two = true → p ≠ 255)
    (hC : ly_CA a_words a_apart a_partA a_partN a_wide)
    (hp : ∀ ap pA pN wi, ly_CA a_words ap pA pN wi → pA p = nI a → wi p = ly_b two → wX_step_117 post (nI j) n (nI (ly_nx p two)) (ly_vv a_words p n two) f_origin f_culprit f_strip f_listed f_units f_ordered f_textEnd f_end f_longs f_rounds f_keptListed f_entry f_linked (nI p) f_steps f_outs f_ran a_op a_opA a_opB a_section a_length a_role a_labelAt a_used a_local a_global a_weak a_faulty a_list a_chosen a_order a_lengthened a_at a_keptAt a_keptSymbol a_keptList a_image a_sizes a_words ap pA pN wi a_r a_output) : wpX_step post (f_origin, f_culprit, f_strip, f_listed, f_units, f_ordered, f_textEnd, f_end, f_longs, f_rounds, f_keptListed, f_entry, f_linked, nI p, f_steps, f_outs, f_ran, a_op, a_opA, a_opB, a_section, a_length, a_role, a_labelAt, a_used, a_local, a_global, a_weak, a_faulty, a_list, a_chosen, a_order, a_lengthened, a_at, a_keptAt, a_keptSymbol, a_keptList, a_image, a_sizes, a_words, a_apart, a_partA, a_partN, a_wide, a_r, a_output) := by
  refine ly_xstep hp2 hC (fun ap pA pN wi hC' h => ?_)
  obtain ⟨g1, g2, g3, g4⟩ := h
  rw [hw] at g1 g2 g3 g4
  have hi : ly_in (nI j) 1 14 = true := ly_inab (a := 1) (b := 14) h1 h14 (by omega)
  rw [hj, hi, if_pos rfl] at g1
  exact ly_xs37 hp2 g1 h1 h14 (g3.trans hn) (by rw [g4, h2]) ht (hp ap pA pN wi hC' (g2.trans hA) (by rw [g4, h2]))
end kx
section ky
variable {g_origin g_strip g_many g_culprit g_textEnd g_end g_made g_rounds g_entry g_linked g_ran g_pc g_steps g_outs : Int32} {b_ops b_opA b_opB b_counts b_roles b_list b_places b_symbols b_image b_stays b_wide b_memory b_reg b_out : Nat → Int32} {p a b j : Nat} {n w : Int32} {two : Bool}
theorem ly_yk {post : Int32 → SY → Prop} (hp2 : p < 256) (hw : b_memory p = w) (hj : ly_wo w = nI j) (h1 : 1 ≤ j) (h14 : j ≤ 14) (hA : ly_wa w = nI a) (hn : ly_wn w = n) (h2 : ly_wt w = two) (ht : two = true → p ≠ 255)
    (ha : a < 8) (hb : b < 8) (hB : n &&& 7 = nI b) (hy : j = 6 ∨ j = 7 → ly_in (b_reg b) 0 255 = true)
    (hp : wY_step_187 post (nI j) (nI a) n (nI (ly_nx p two)) (ly_b two) (ly_vv b_memory p n two) (b_reg a) (b_reg b) g_origin g_strip g_many g_culprit g_textEnd g_end g_made g_rounds g_entry g_linked g_ran (nI p) g_steps g_outs b_ops b_opA b_opB b_counts b_roles b_list b_places b_symbols b_image b_stays b_wide b_memory b_reg b_out) : wpY_step post (g_origin, g_strip, g_many, g_culprit, g_textEnd, g_end, g_made, g_rounds, g_entry, g_linked, g_ran, nI p, g_steps, g_outs, b_ops, b_opA, b_opB, b_counts, b_roles, b_list, b_places, b_symbols, b_image, b_stays, b_wide, b_memory, b_reg, b_out) := by
  refine ly_ystep hp2 hw (b := b) (by rw [hn]; exact hB) ?_
  rw [hj, hA, hn, h2]
  exact ly_ys77 h1 h14 hb hp2 ht hy (ly_ys139 ha hb hp2 ht hp)
end ky
def ly_SO (pc : Int32) (c q : Nat) (mem reg ou : Nat → Int32) (r pc' : Int32) (c' q' : Nat) (mem' reg' ou' : Nat → Int32) : Prop :=
  (∀ (f_origin f_culprit f_strip f_listed f_units f_ordered f_textEnd f_end f_longs f_rounds f_keptListed f_entry f_linked f_pc f_steps f_outs f_ran : Int32) (a_op a_opA a_opB a_section a_length a_role a_labelAt a_used a_local a_global a_weak a_faulty a_list a_chosen a_order a_lengthened a_at a_keptAt a_keptSymbol a_keptList a_image a_sizes a_words a_apart a_partA a_partN a_wide a_r a_output : Nat → Int32) (post : Int32 → SX → Prop), ly_CA mem a_apart a_partA a_partN a_wide →
    (∀ ap pA pN wi, ly_CA mem' ap pA pN wi → post r (f_origin, f_culprit, f_strip, f_listed, f_units, f_ordered, f_textEnd, f_end, f_longs, f_rounds, f_keptListed, f_entry, f_linked, pc', nI c', nI q', f_ran, a_op, a_opA, a_opB, a_section, a_length, a_role, a_labelAt, a_used, a_local, a_global, a_weak, a_faulty, a_list, a_chosen, a_order, a_lengthened, a_at, a_keptAt, a_keptSymbol, a_keptList, a_image, a_sizes, mem', ap, pA, pN, wi, reg', ou')) →
    wpX_step post (f_origin, f_culprit, f_strip, f_listed, f_units, f_ordered, f_textEnd, f_end, f_longs, f_rounds, f_keptListed, f_entry, f_linked, pc, nI c, nI q, f_ran, a_op, a_opA, a_opB, a_section, a_length, a_role, a_labelAt, a_used, a_local, a_global, a_weak, a_faulty, a_list, a_chosen, a_order, a_lengthened, a_at, a_keptAt, a_keptSymbol, a_keptList, a_image, a_sizes, mem, a_apart, a_partA, a_partN, a_wide, reg, ou)) ∧
  (∀ (g_origin g_strip g_many g_culprit g_textEnd g_end g_made g_rounds g_entry g_linked g_ran : Int32) (b_ops b_opA b_opB b_counts b_roles b_list b_places b_symbols b_image b_stays b_wide : Nat → Int32) (post : Int32 → SY → Prop),
    post r (g_origin, g_strip, g_many, g_culprit, g_textEnd, g_end, g_made, g_rounds, g_entry, g_linked, g_ran, pc', nI c', nI q', b_ops, b_opA, b_opB, b_counts, b_roles, b_list, b_places, b_symbols, b_image, b_stays, b_wide, mem', reg', ou') →
    wpY_step post (g_origin, g_strip, g_many, g_culprit, g_textEnd, g_end, g_made, g_rounds, g_entry, g_linked, g_ran, pc, nI c, nI q, b_ops, b_opA, b_opB, b_counts, b_roles, b_list, b_places, b_symbols, b_image, b_stays, b_wide, mem, reg, ou))
section so
variable {c q : Nat} {mem reg ou : Nat → Int32}
theorem ly_so1 {p a b : Nat} {n w : Int32} {two : Bool} (hp2 : p < 256) (hw : mem p = w) (hj : ly_wo w = nI 1) (hA : ly_wa w = nI a) (hn : ly_wn w = n) (h2 : ly_wt w = two) (ht : two = true → p ≠ 255) (ha : a < 8) (hb : b < 8) (hB : n &&& 7 = nI b) : ly_SO (nI p) c q mem reg ou 0 (nI (ly_nx p two)) (c + 1) q mem (upd reg a ((ly_vv mem p n two))) ou :=
  ⟨fun f_origin f_culprit f_strip f_listed f_units f_ordered f_textEnd f_end f_longs f_rounds f_keptListed f_entry f_linked f_pc f_steps f_outs f_ran a_op a_opA a_opB a_section a_length a_role a_labelAt a_used a_local a_global a_weak a_faulty a_list a_chosen a_order a_lengthened a_at a_keptAt a_keptSymbol a_keptList a_image a_sizes a_words a_apart a_partA a_partN a_wide a_r a_output post hC hp => ly_xk hp2 hw hj (by omega) (by omega) hA hn h2 ht hC (fun ap pA pN wi hC' gA gW => ly_xs1 hp2 gA ha hb hB (hp ap pA pN wi hC')),
   fun g_origin g_strip g_many g_culprit g_textEnd g_end g_made g_rounds g_entry g_linked g_ran b_ops b_opA b_opB b_counts b_roles b_list b_places b_symbols b_image b_stays b_wide post hp => ly_yk hp2 hw hj (by omega) (by omega) hA hn h2 ht ha hb hB (fun z => absurd z (by omega)) (ly_ys1 ha hp)⟩
theorem ly_so12 {p a b : Nat} {n w : Int32} {two : Bool} (hp2 : p < 256) (hw : mem p = w) (hj : ly_wo w = nI 12) (hA : ly_wa w = nI a) (hn : ly_wn w = n) (h2 : ly_wt w = two) (ht : two = true → p ≠ 255) (ha : a < 8) (hb : b < 8) (hB : n &&& 7 = nI b) : ly_SO (nI p) c q mem reg ou 0 (nI (ly_nx p two)) (c + 1) q mem (upd reg a ((ly_vv mem p n two))) ou :=
  ⟨fun f_origin f_culprit f_strip f_listed f_units f_ordered f_textEnd f_end f_longs f_rounds f_keptListed f_entry f_linked f_pc f_steps f_outs f_ran a_op a_opA a_opB a_section a_length a_role a_labelAt a_used a_local a_global a_weak a_faulty a_list a_chosen a_order a_lengthened a_at a_keptAt a_keptSymbol a_keptList a_image a_sizes a_words a_apart a_partA a_partN a_wide a_r a_output post hC hp => ly_xk hp2 hw hj (by omega) (by omega) hA hn h2 ht hC (fun ap pA pN wi hC' gA gW => ly_xs12 hp2 gA ha hb hB (hp ap pA pN wi hC')),
   fun g_origin g_strip g_many g_culprit g_textEnd g_end g_made g_rounds g_entry g_linked g_ran b_ops b_opA b_opB b_counts b_roles b_list b_places b_symbols b_image b_stays b_wide post hp => ly_yk hp2 hw hj (by omega) (by omega) hA hn h2 ht ha hb hB (fun z => absurd z (by omega)) (ly_ys12 ha hp)⟩
theorem ly_so2 {p a b : Nat} {n w : Int32} {two : Bool} (hp2 : p < 256) (hw : mem p = w) (hj : ly_wo w = nI 2) (hA : ly_wa w = nI a) (hn : ly_wn w = n) (h2 : ly_wt w = two) (ht : two = true → p ≠ 255) (ha : a < 8) (hb : b < 8) (hB : n &&& 7 = nI b) : ly_SO (nI p) c q mem reg ou 0 (nI (ly_nx p two)) (c + 1) q mem (upd reg a (reg a + reg b)) ou :=
  ⟨fun f_origin f_culprit f_strip f_listed f_units f_ordered f_textEnd f_end f_longs f_rounds f_keptListed f_entry f_linked f_pc f_steps f_outs f_ran a_op a_opA a_opB a_section a_length a_role a_labelAt a_used a_local a_global a_weak a_faulty a_list a_chosen a_order a_lengthened a_at a_keptAt a_keptSymbol a_keptList a_image a_sizes a_words a_apart a_partA a_partN a_wide a_r a_output post hC hp => ly_xk hp2 hw hj (by omega) (by omega) hA hn h2 ht hC (fun ap pA pN wi hC' gA gW => ly_xs2 hp2 gA ha hb hB (hp ap pA pN wi hC')),
   fun g_origin g_strip g_many g_culprit g_textEnd g_end g_made g_rounds g_entry g_linked g_ran b_ops b_opA b_opB b_counts b_roles b_list b_places b_symbols b_image b_stays b_wide post hp => ly_yk hp2 hw hj (by omega) (by omega) hA hn h2 ht ha hb hB (fun z => absurd z (by omega)) (ly_ys2 ha hp)⟩
theorem ly_so3 {p a b : Nat} {n w : Int32} {two : Bool} (hp2 : p < 256) (hw : mem p = w) (hj : ly_wo w = nI 3) (hA : ly_wa w = nI a) (hn : ly_wn w = n) (h2 : ly_wt w = two) (ht : two = true → p ≠ 255) (ha : a < 8) (hb : b < 8) (hB : n &&& 7 = nI b) : ly_SO (nI p) c q mem reg ou 0 (nI (ly_nx p two)) (c + 1) q mem (upd reg a (reg a - reg b)) ou :=
  ⟨fun f_origin f_culprit f_strip f_listed f_units f_ordered f_textEnd f_end f_longs f_rounds f_keptListed f_entry f_linked f_pc f_steps f_outs f_ran a_op a_opA a_opB a_section a_length a_role a_labelAt a_used a_local a_global a_weak a_faulty a_list a_chosen a_order a_lengthened a_at a_keptAt a_keptSymbol a_keptList a_image a_sizes a_words a_apart a_partA a_partN a_wide a_r a_output post hC hp => ly_xk hp2 hw hj (by omega) (by omega) hA hn h2 ht hC (fun ap pA pN wi hC' gA gW => ly_xs3 hp2 gA ha hb hB (hp ap pA pN wi hC')),
   fun g_origin g_strip g_many g_culprit g_textEnd g_end g_made g_rounds g_entry g_linked g_ran b_ops b_opA b_opB b_counts b_roles b_list b_places b_symbols b_image b_stays b_wide post hp => ly_yk hp2 hw hj (by omega) (by omega) hA hn h2 ht ha hb hB (fun z => absurd z (by omega)) (ly_ys3 ha hp)⟩
theorem ly_so4 {p a b : Nat} {n w : Int32} {two : Bool} (hp2 : p < 256) (hw : mem p = w) (hj : ly_wo w = nI 4) (hA : ly_wa w = nI a) (hn : ly_wn w = n) (h2 : ly_wt w = two) (ht : two = true → p ≠ 255) (ha : a < 8) (hb : b < 8) (hB : n &&& 7 = nI b) : ly_SO (nI p) c q mem reg ou 0 (nI (ly_nx p two)) (c + 1) q mem (upd reg a (reg a * reg b)) ou :=
  ⟨fun f_origin f_culprit f_strip f_listed f_units f_ordered f_textEnd f_end f_longs f_rounds f_keptListed f_entry f_linked f_pc f_steps f_outs f_ran a_op a_opA a_opB a_section a_length a_role a_labelAt a_used a_local a_global a_weak a_faulty a_list a_chosen a_order a_lengthened a_at a_keptAt a_keptSymbol a_keptList a_image a_sizes a_words a_apart a_partA a_partN a_wide a_r a_output post hC hp => ly_xk hp2 hw hj (by omega) (by omega) hA hn h2 ht hC (fun ap pA pN wi hC' gA gW => ly_xs4 hp2 gA ha hb hB (hp ap pA pN wi hC')),
   fun g_origin g_strip g_many g_culprit g_textEnd g_end g_made g_rounds g_entry g_linked g_ran b_ops b_opA b_opB b_counts b_roles b_list b_places b_symbols b_image b_stays b_wide post hp => ly_yk hp2 hw hj (by omega) (by omega) hA hn h2 ht ha hb hB (fun z => absurd z (by omega)) (ly_ys4 ha hp)⟩
theorem ly_so5 {p a b : Nat} {n w : Int32} {two : Bool} (hp2 : p < 256) (hw : mem p = w) (hj : ly_wo w = nI 5) (hA : ly_wa w = nI a) (hn : ly_wn w = n) (h2 : ly_wt w = two) (ht : two = true → p ≠ 255) (ha : a < 8) (hb : b < 8) (hB : n &&& 7 = nI b) : ly_SO (nI p) c q mem reg ou 0 (nI (ly_nx p two)) (c + 1) q mem (upd reg a (if reg b ≤ reg a then 0 else 1)) ou :=
  ⟨fun f_origin f_culprit f_strip f_listed f_units f_ordered f_textEnd f_end f_longs f_rounds f_keptListed f_entry f_linked f_pc f_steps f_outs f_ran a_op a_opA a_opB a_section a_length a_role a_labelAt a_used a_local a_global a_weak a_faulty a_list a_chosen a_order a_lengthened a_at a_keptAt a_keptSymbol a_keptList a_image a_sizes a_words a_apart a_partA a_partN a_wide a_r a_output post hC hp => ly_xk hp2 hw hj (by omega) (by omega) hA hn h2 ht hC (fun ap pA pN wi hC' gA gW => ly_xs5 hp2 gA ha hb hB (hp ap pA pN wi hC')),
   fun g_origin g_strip g_many g_culprit g_textEnd g_end g_made g_rounds g_entry g_linked g_ran b_ops b_opA b_opB b_counts b_roles b_list b_places b_symbols b_image b_stays b_wide post hp => ly_yk hp2 hw hj (by omega) (by omega) hA hn h2 ht ha hb hB (fun z => absurd z (by omega)) (ly_ys5 ha hp)⟩
theorem ly_so6 {p a b : Nat} {n w : Int32} {two : Bool} (hp2 : p < 256) (hw : mem p = w) (hj : ly_wo w = nI 6) (hA : ly_wa w = nI a) (hn : ly_wn w = n) (h2 : ly_wt w = two) (ht : two = true → p ≠ 255) (ha : a < 8) (hb : b < 8) (hB : n &&& 7 = nI b) {y : Nat} (hy : reg b = nI y) (hy2 : y < 256) : ly_SO (nI p) c q mem reg ou 0 (nI (ly_nx p two)) (c + 1) q mem (upd reg a (mem y)) ou :=
  ⟨fun f_origin f_culprit f_strip f_listed f_units f_ordered f_textEnd f_end f_longs f_rounds f_keptListed f_entry f_linked f_pc f_steps f_outs f_ran a_op a_opA a_opB a_section a_length a_role a_labelAt a_used a_local a_global a_weak a_faulty a_list a_chosen a_order a_lengthened a_at a_keptAt a_keptSymbol a_keptList a_image a_sizes a_words a_apart a_partA a_partN a_wide a_r a_output post hC hp => ly_xk hp2 hw hj (by omega) (by omega) hA hn h2 ht hC (fun ap pA pN wi hC' gA gW => ly_xs6 hp2 gA ha hb hB hy hy2 (hp ap pA pN wi hC')),
   fun g_origin g_strip g_many g_culprit g_textEnd g_end g_made g_rounds g_entry g_linked g_ran b_ops b_opA b_opB b_counts b_roles b_list b_places b_symbols b_image b_stays b_wide post hp => ly_yk hp2 hw hj (by omega) (by omega) hA hn h2 ht ha hb hB (fun _ => ly_in_f (n := 255) (j := y) (by omega) (by omega) hy) (ly_ys6 ha hy hy2 hp)⟩
theorem ly_so7 {p a b : Nat} {n w : Int32} {two : Bool} (hp2 : p < 256) (hw : mem p = w) (hj : ly_wo w = nI 7) (hA : ly_wa w = nI a) (hn : ly_wn w = n) (h2 : ly_wt w = two) (ht : two = true → p ≠ 255) (ha : a < 8) (hb : b < 8) (hB : n &&& 7 = nI b) {y : Nat} (hy : reg b = nI y) (hy2 : y < 256) : ly_SO (nI p) c q mem reg ou 0 (nI (ly_nx p two)) (c + 1) q (upd mem y (reg a)) reg ou :=
  ⟨fun f_origin f_culprit f_strip f_listed f_units f_ordered f_textEnd f_end f_longs f_rounds f_keptListed f_entry f_linked f_pc f_steps f_outs f_ran a_op a_opA a_opB a_section a_length a_role a_labelAt a_used a_local a_global a_weak a_faulty a_list a_chosen a_order a_lengthened a_at a_keptAt a_keptSymbol a_keptList a_image a_sizes a_words a_apart a_partA a_partN a_wide a_r a_output post hC hp => ly_xk hp2 hw hj (by omega) (by omega) hA hn h2 ht hC (fun ap pA pN wi hC' gA gW => ly_xs7 hp2 gA ha hb hB hy hy2 (hp _ pA pN wi (fun k hk => by
     by_cases z : k = y
     · rw [z, pk_us]; exact Or.inl rfl
     · rw [pk_un z, pk_un z]; exact hC' k hk))),
   fun g_origin g_strip g_many g_culprit g_textEnd g_end g_made g_rounds g_entry g_linked g_ran b_ops b_opA b_opB b_counts b_roles b_list b_places b_symbols b_image b_stays b_wide post hp => ly_yk hp2 hw hj (by omega) (by omega) hA hn h2 ht ha hb hB (fun _ => ly_in_f (n := 255) (j := y) (by omega) (by omega) hy) (ly_ys7 ha hy hy2 hp)⟩
theorem ly_so6f {p a b : Nat} {n w : Int32} {two : Bool} (hp2 : p < 256) (hw : mem p = w) (hj : ly_wo w = nI 6) (hA : ly_wa w = nI a) (hn : ly_wn w = n) (h2 : ly_wt w = two) (ht : two = true → p ≠ 255) (ha : a < 8) (hb : b < 8) (hB : n &&& 7 = nI b) (hy : ly_in (reg b) 0 255 = false) : ly_SO (nI p) c q mem reg ou 7 (nI p) c q mem reg ou := by
  refine ⟨fun f_origin f_culprit f_strip f_listed f_units f_ordered f_textEnd f_end f_longs f_rounds f_keptListed f_entry f_linked f_pc f_steps f_outs f_ran a_op a_opA a_opB a_section a_length a_role a_labelAt a_used a_local a_global a_weak a_faulty a_list a_chosen a_order a_lengthened a_at a_keptAt a_keptSymbol a_keptList a_image a_sizes a_words a_apart a_partA a_partN a_wide a_r a_output post hC hp => ly_xk hp2 hw hj (by omega) (by omega) hA hn h2 ht hC (fun ap pA pN wi hC' gA gW => ly_xs6f hp2 gA ha hb hB hy (hp ap pA pN wi hC')),
   fun g_origin g_strip g_many g_culprit g_textEnd g_end g_made g_rounds g_entry g_linked g_ran b_ops b_opA b_opB b_counts b_roles b_list b_places b_symbols b_image b_stays b_wide post hp => ly_ystep hp2 hw (by rw [hn]; exact hB) ?_⟩
  rw [hj, hA, hn, h2]
  exact ly_ys77f (by omega) hb hp2 ht hy hp
theorem ly_so7f {p a b : Nat} {n w : Int32} {two : Bool} (hp2 : p < 256) (hw : mem p = w) (hj : ly_wo w = nI 7) (hA : ly_wa w = nI a) (hn : ly_wn w = n) (h2 : ly_wt w = two) (ht : two = true → p ≠ 255) (ha : a < 8) (hb : b < 8) (hB : n &&& 7 = nI b) (hy : ly_in (reg b) 0 255 = false) : ly_SO (nI p) c q mem reg ou 7 (nI p) c q mem reg ou := by
  refine ⟨fun f_origin f_culprit f_strip f_listed f_units f_ordered f_textEnd f_end f_longs f_rounds f_keptListed f_entry f_linked f_pc f_steps f_outs f_ran a_op a_opA a_opB a_section a_length a_role a_labelAt a_used a_local a_global a_weak a_faulty a_list a_chosen a_order a_lengthened a_at a_keptAt a_keptSymbol a_keptList a_image a_sizes a_words a_apart a_partA a_partN a_wide a_r a_output post hC hp => ly_xk hp2 hw hj (by omega) (by omega) hA hn h2 ht hC (fun ap pA pN wi hC' gA gW => ly_xs7f hp2 gA ha hb hB hy (hp ap pA pN wi hC')),
   fun g_origin g_strip g_many g_culprit g_textEnd g_end g_made g_rounds g_entry g_linked g_ran b_ops b_opA b_opB b_counts b_roles b_list b_places b_symbols b_image b_stays b_wide post hp => ly_ystep hp2 hw (by rw [hn]; exact hB) ?_⟩
  rw [hj, hA, hn, h2]
  exact ly_ys77f (by omega) hb hp2 ht hy hp
theorem ly_so13 {p a b : Nat} {n w : Int32} {two : Bool} (hp2 : p < 256) (hw : mem p = w) (hj : ly_wo w = nI 13) (hA : ly_wa w = nI a) (hn : ly_wn w = n) (h2 : ly_wt w = two) (ht : two = true → p ≠ 255) (ha : a < 8) (hb : b < 8) (hB : n &&& 7 = nI b) (hq : q ≤ 300) : ly_SO (nI p) c q mem reg ou 0 (nI (ly_nx p two)) (c + 1) (q + 1) mem reg (if q < 40 then upd ou q (reg a) else ou) :=
  ⟨fun f_origin f_culprit f_strip f_listed f_units f_ordered f_textEnd f_end f_longs f_rounds f_keptListed f_entry f_linked f_pc f_steps f_outs f_ran a_op a_opA a_opB a_section a_length a_role a_labelAt a_used a_local a_global a_weak a_faulty a_list a_chosen a_order a_lengthened a_at a_keptAt a_keptSymbol a_keptList a_image a_sizes a_words a_apart a_partA a_partN a_wide a_r a_output post hC hp => ly_xk hp2 hw hj (by omega) (by omega) hA hn h2 ht hC (fun ap pA pN wi hC' gA gW => ly_xs13 hp2 gA ha hb hB hq (hp ap pA pN wi hC')),
   fun g_origin g_strip g_many g_culprit g_textEnd g_end g_made g_rounds g_entry g_linked g_ran b_ops b_opA b_opB b_counts b_roles b_list b_places b_symbols b_image b_stays b_wide post hp => ly_yk hp2 hw hj (by omega) (by omega) hA hn h2 ht ha hb hB (fun z => absurd z (by omega)) (ly_ys13 ha hq hp)⟩
theorem ly_so8 {p a b : Nat} {n w : Int32} {two : Bool} (hp2 : p < 256) (hw : mem p = w) (hj : ly_wo w = nI 8) (hA : ly_wa w = nI a) (hn : ly_wn w = n) (h2 : ly_wt w = two) (ht : two = true → p ≠ 255) (ha : a < 8) (hb : b < 8) (hB : n &&& 7 = nI b) : ly_SO (nI p) c q mem reg ou 0 (ly_to p n (ly_vv mem p n two) two) (c + 1) q mem reg ou :=
  ⟨fun f_origin f_culprit f_strip f_listed f_units f_ordered f_textEnd f_end f_longs f_rounds f_keptListed f_entry f_linked f_pc f_steps f_outs f_ran a_op a_opA a_opB a_section a_length a_role a_labelAt a_used a_local a_global a_weak a_faulty a_list a_chosen a_order a_lengthened a_at a_keptAt a_keptSymbol a_keptList a_image a_sizes a_words a_apart a_partA a_partN a_wide a_r a_output post hC hp => ly_xk hp2 hw hj (by omega) (by omega) hA hn h2 ht hC (fun ap pA pN wi hC' gA gW => ly_xs8 hp2 gA gW (hp ap pA pN wi hC')),
   fun g_origin g_strip g_many g_culprit g_textEnd g_end g_made g_rounds g_entry g_linked g_ran b_ops b_opA b_opB b_counts b_roles b_list b_places b_symbols b_image b_stays b_wide post hp => ly_yk hp2 hw hj (by omega) (by omega) hA hn h2 ht ha hb hB (fun z => absurd z (by omega)) (ly_ys8 ha hp)⟩
theorem ly_so10 {p a b : Nat} {n w : Int32} {two : Bool} (hp2 : p < 256) (hw : mem p = w) (hj : ly_wo w = nI 10) (hA : ly_wa w = nI a) (hn : ly_wn w = n) (h2 : ly_wt w = two) (ht : two = true → p ≠ 255) (ha : a < 8) (hb : b < 8) (hB : n &&& 7 = nI b) : ly_SO (nI p) c q mem reg ou 0 (ly_to p n (ly_vv mem p n two) two) (c + 1) q mem (upd reg 7 (nI (ly_nx p two))) ou :=
  ⟨fun f_origin f_culprit f_strip f_listed f_units f_ordered f_textEnd f_end f_longs f_rounds f_keptListed f_entry f_linked f_pc f_steps f_outs f_ran a_op a_opA a_opB a_section a_length a_role a_labelAt a_used a_local a_global a_weak a_faulty a_list a_chosen a_order a_lengthened a_at a_keptAt a_keptSymbol a_keptList a_image a_sizes a_words a_apart a_partA a_partN a_wide a_r a_output post hC hp => ly_xk hp2 hw hj (by omega) (by omega) hA hn h2 ht hC (fun ap pA pN wi hC' gA gW => ly_xs10 hp2 gA gW (hp ap pA pN wi hC')),
   fun g_origin g_strip g_many g_culprit g_textEnd g_end g_made g_rounds g_entry g_linked g_ran b_ops b_opA b_opB b_counts b_roles b_list b_places b_symbols b_image b_stays b_wide post hp => ly_yk hp2 hw hj (by omega) (by omega) hA hn h2 ht ha hb hB (fun z => absurd z (by omega)) (ly_ys10 ha hp)⟩
theorem ly_so11 {p a b : Nat} {n w : Int32} {two : Bool} (hp2 : p < 256) (hw : mem p = w) (hj : ly_wo w = nI 11) (hA : ly_wa w = nI a) (hn : ly_wn w = n) (h2 : ly_wt w = two) (ht : two = true → p ≠ 255) (ha : a < 8) (hb : b < 8) (hB : n &&& 7 = nI b) : ly_SO (nI p) c q mem reg ou 0 (reg 7) (c + 1) q mem reg ou :=
  ⟨fun f_origin f_culprit f_strip f_listed f_units f_ordered f_textEnd f_end f_longs f_rounds f_keptListed f_entry f_linked f_pc f_steps f_outs f_ran a_op a_opA a_opB a_section a_length a_role a_labelAt a_used a_local a_global a_weak a_faulty a_list a_chosen a_order a_lengthened a_at a_keptAt a_keptSymbol a_keptList a_image a_sizes a_words a_apart a_partA a_partN a_wide a_r a_output post hC hp => ly_xk hp2 hw hj (by omega) (by omega) hA hn h2 ht hC (fun ap pA pN wi hC' gA gW => ly_xs11 hp2 gA gW (hp ap pA pN wi hC')),
   fun g_origin g_strip g_many g_culprit g_textEnd g_end g_made g_rounds g_entry g_linked g_ran b_ops b_opA b_opB b_counts b_roles b_list b_places b_symbols b_image b_stays b_wide post hp => ly_yk hp2 hw hj (by omega) (by omega) hA hn h2 ht ha hb hB (fun z => absurd z (by omega)) (ly_ys11 ha hp)⟩
theorem ly_so9 {p a b : Nat} {n w : Int32} {two : Bool} (hp2 : p < 256) (hw : mem p = w) (hj : ly_wo w = nI 9) (hA : ly_wa w = nI a) (hn : ly_wn w = n) (h2 : ly_wt w = two) (ht : two = true → p ≠ 255) (ha : a < 8) (hb : b < 8) (hB : n &&& 7 = nI b) : ly_SO (nI p) c q mem reg ou 0 (if reg a = 0 then (ly_to p n (ly_vv mem p n two) two) else (nI (ly_nx p two))) (c + 1) q mem reg ou :=
  ⟨fun f_origin f_culprit f_strip f_listed f_units f_ordered f_textEnd f_end f_longs f_rounds f_keptListed f_entry f_linked f_pc f_steps f_outs f_ran a_op a_opA a_opB a_section a_length a_role a_labelAt a_used a_local a_global a_weak a_faulty a_list a_chosen a_order a_lengthened a_at a_keptAt a_keptSymbol a_keptList a_image a_sizes a_words a_apart a_partA a_partN a_wide a_r a_output post hC hp => ly_xk hp2 hw hj (by omega) (by omega) hA hn h2 ht hC (fun ap pA pN wi hC' gA gW => ly_xs9 hp2 gA ha gW (hp ap pA pN wi hC')),
   fun g_origin g_strip g_many g_culprit g_textEnd g_end g_made g_rounds g_entry g_linked g_ran b_ops b_opA b_opB b_counts b_roles b_list b_places b_symbols b_image b_stays b_wide post hp => ly_yk hp2 hw hj (by omega) (by omega) hA hn h2 ht ha hb hB (fun z => absurd z (by omega)) (ly_ys9 ha hp)⟩
theorem ly_so14 {p a b : Nat} {n w : Int32} {two : Bool} (hp2 : p < 256) (hw : mem p = w) (hj : ly_wo w = nI 14) (hA : ly_wa w = nI a) (hn : ly_wn w = n) (h2 : ly_wt w = two) (ht : two = true → p ≠ 255) (ha : a < 8) (hb : b < 8) (hB : n &&& 7 = nI b) : ly_SO (nI p) c q mem reg ou 5 (nI p) (c + 1) q mem reg ou :=
  ⟨fun f_origin f_culprit f_strip f_listed f_units f_ordered f_textEnd f_end f_longs f_rounds f_keptListed f_entry f_linked f_pc f_steps f_outs f_ran a_op a_opA a_opB a_section a_length a_role a_labelAt a_used a_local a_global a_weak a_faulty a_list a_chosen a_order a_lengthened a_at a_keptAt a_keptSymbol a_keptList a_image a_sizes a_words a_apart a_partA a_partN a_wide a_r a_output post hC hp => ly_xk hp2 hw hj (by omega) (by omega) hA hn h2 ht hC (fun ap pA pN wi hC' gA gW => ly_xs14 hp2 (hp ap pA pN wi hC')),
   fun g_origin g_strip g_many g_culprit g_textEnd g_end g_made g_rounds g_entry g_linked g_ran b_ops b_opA b_opB b_counts b_roles b_list b_places b_symbols b_image b_stays b_wide post hp => ly_yk hp2 hw hj (by omega) (by omega) hA hn h2 ht ha hb hB (fun z => absurd z (by omega)) (ly_ys14 hp)⟩
theorem ly_so {pc : Int32} (hq : q ≤ 300) : ∃ r pc' c' q' mem' reg' ou', ly_SO pc c q mem reg ou r pc' c' q' mem' reg' ou' ∧ (r = 0 → c' = c + 1 ∧ q' ≤ q + 1) := by
  cases e : ly_in pc 0 255 with
  | false =>
    exact ⟨7, pc, c, q, mem, reg, ou, ⟨fun f_origin f_culprit f_strip f_listed f_units f_ordered f_textEnd f_end f_longs f_rounds f_keptListed f_entry f_linked f_pc f_steps f_outs f_ran a_op a_opA a_opB a_section a_length a_role a_labelAt a_used a_local a_global a_weak a_faulty a_list a_chosen a_order a_lengthened a_at a_keptAt a_keptSymbol a_keptList a_image a_sizes a_words a_apart a_partA a_partN a_wide a_r a_output post hC hp => ly_xstepw e (hp _ _ _ _ hC), fun g_origin g_strip g_many g_culprit g_textEnd g_end g_made g_rounds g_entry g_linked g_ran b_ops b_opA b_opB b_counts b_roles b_list b_places b_symbols b_image b_stays b_wide post hp => ly_ystepw e hp⟩, fun h => absurd h (by decide)⟩
  | true =>
  obtain ⟨p, hp2, rfl⟩ := ly_in_n (n := 255) (by omega) e
  have hp2 : p < 256 := hp2
  obtain ⟨j, hj, ej⟩ := ly_wo_n (mem p)
  obtain ⟨a, ha, ea⟩ := ly_wa_n (mem p)
  obtain ⟨b, hb, eb⟩ := ly_wb_n (mem p)
  cases hl : ly_in (nI j) 1 14 with
  | false =>
    refine ⟨8, nI p, c, q, mem, reg, ou, ⟨fun f_origin f_culprit f_strip f_listed f_units f_ordered f_textEnd f_end f_longs f_rounds f_keptListed f_entry f_linked f_pc f_steps f_outs f_ran a_op a_opA a_opB a_section a_length a_role a_labelAt a_used a_local a_global a_weak a_faulty a_list a_chosen a_order a_lengthened a_at a_keptAt a_keptSymbol a_keptList a_image a_sizes a_words a_apart a_partA a_partN a_wide a_r a_output post hC hp => ?_, fun g_origin g_strip g_many g_culprit g_textEnd g_end g_made g_rounds g_entry g_linked g_ran b_ops b_opA b_opB b_counts b_roles b_list b_places b_symbols b_image b_stays b_wide post hp => ?_⟩, fun h => absurd h (by decide)⟩
    · refine ly_xstep hp2 hC (fun ap pA pN wi hC' h => ly_xs37i hp2 ?_ (hp ap pA pN wi hC'))
      rw [h.1, ej, hl, if_neg (by decide)]
    · refine ly_ystep hp2 rfl eb ?_
      rw [ej]
      exact ly_ys77i hl hp
  | true =>
  obtain ⟨l1, l2⟩ := ly_in_t hl
  have h1 : 1 ≤ j := (nI_leI (a := 1) (by omega) (by omega)).mp l1
  have h14 : j ≤ 14 := (nI_leI (b := 14) (by omega) (by omega)).mp l2
  by_cases hw : ly_wt (mem p) = true ∧ p = 255
  · refine ⟨7, nI p, c, q, mem, reg, ou, ⟨fun f_origin f_culprit f_strip f_listed f_units f_ordered f_textEnd f_end f_longs f_rounds f_keptListed f_entry f_linked f_pc f_steps f_outs f_ran a_op a_opA a_opB a_section a_length a_role a_labelAt a_used a_local a_global a_weak a_faulty a_list a_chosen a_order a_lengthened a_at a_keptAt a_keptSymbol a_keptList a_image a_sizes a_words a_apart a_partA a_partN a_wide a_r a_output post hC hp => ?_, fun g_origin g_strip g_many g_culprit g_textEnd g_end g_made g_rounds g_entry g_linked g_ran b_ops b_opA b_opB b_counts b_roles b_list b_places b_symbols b_image b_stays b_wide post hp => ?_⟩, fun h => absurd h (by decide)⟩
    · refine ly_xstep hp2 hC (fun ap pA pN wi hC' h => ly_xs37w hp2 (j := j) ?_ h1 h14 ?_ hw.2 (hp ap pA pN wi hC'))
      · rw [h.1, ej, hl, if_pos rfl]
      · rw [h.2.2.2, hw.1]; rfl
    · refine ly_ystep hp2 rfl eb ?_
      rw [ej, hw.1]
      exact ly_ys77w hl (by rw [hw.2]; rfl) hp
  have ht : ly_wt (mem p) = true → p ≠ 255 := fun h1 h2 => hw ⟨h1, h2⟩
  rcases (by omega : j = 1 ∨ j = 2 ∨ j = 3 ∨ j = 4 ∨ j = 5 ∨ j = 6 ∨ j = 7 ∨ j = 8 ∨ j = 9 ∨ j = 10 ∨ j = 11 ∨ j = 12 ∨ j = 13 ∨ j = 14) with rfl | rfl | rfl | rfl | rfl | rfl | rfl | rfl | rfl | rfl | rfl | rfl | rfl | rfl
  · exact ⟨_, _, _, _, _, _, _, ly_so1 hp2 rfl ej ea rfl rfl ht ha hb eb, fun _ => ⟨rfl, by omega⟩⟩
  · exact ⟨_, _, _, _, _, _, _, ly_so2 hp2 rfl ej ea rfl rfl ht ha hb eb, fun _ => ⟨rfl, by omega⟩⟩
  · exact ⟨_, _, _, _, _, _, _, ly_so3 hp2 rfl ej ea rfl rfl ht ha hb eb, fun _ => ⟨rfl, by omega⟩⟩
  · exact ⟨_, _, _, _, _, _, _, ly_so4 hp2 rfl ej ea rfl rfl ht ha hb eb, fun _ => ⟨rfl, by omega⟩⟩
  · exact ⟨_, _, _, _, _, _, _, ly_so5 hp2 rfl ej ea rfl rfl ht ha hb eb, fun _ => ⟨rfl, by omega⟩⟩
  · cases hy : ly_in (reg b) 0 255 with
    | false => exact ⟨_, _, _, _, _, _, _, ly_so6f hp2 rfl ej ea rfl rfl ht ha hb eb hy, fun h => absurd h (by decide)⟩
    | true =>
      obtain ⟨y, hy2, ey⟩ := ly_in_n (n := 255) (by omega) hy
      exact ⟨_, _, _, _, _, _, _, ly_so6 hp2 rfl ej ea rfl rfl ht ha hb eb ey hy2, fun _ => ⟨rfl, by omega⟩⟩
  · cases hy : ly_in (reg b) 0 255 with
    | false => exact ⟨_, _, _, _, _, _, _, ly_so7f hp2 rfl ej ea rfl rfl ht ha hb eb hy, fun h => absurd h (by decide)⟩
    | true =>
      obtain ⟨y, hy2, ey⟩ := ly_in_n (n := 255) (by omega) hy
      exact ⟨_, _, _, _, _, _, _, ly_so7 hp2 rfl ej ea rfl rfl ht ha hb eb ey hy2, fun _ => ⟨rfl, by omega⟩⟩
  · exact ⟨_, _, _, _, _, _, _, ly_so8 hp2 rfl ej ea rfl rfl ht ha hb eb, fun _ => ⟨rfl, by omega⟩⟩
  · exact ⟨_, _, _, _, _, _, _, ly_so9 hp2 rfl ej ea rfl rfl ht ha hb eb, fun _ => ⟨rfl, by omega⟩⟩
  · exact ⟨_, _, _, _, _, _, _, ly_so10 hp2 rfl ej ea rfl rfl ht ha hb eb, fun _ => ⟨rfl, by omega⟩⟩
  · exact ⟨_, _, _, _, _, _, _, ly_so11 hp2 rfl ej ea rfl rfl ht ha hb eb, fun _ => ⟨rfl, by omega⟩⟩
  · exact ⟨_, _, _, _, _, _, _, ly_so12 hp2 rfl ej ea rfl rfl ht ha hb eb, fun _ => ⟨rfl, by omega⟩⟩
  · exact ⟨_, _, _, _, _, _, _, ly_so13 hp2 rfl ej ea rfl rfl ht ha hb eb hq, fun _ => ⟨rfl, by omega⟩⟩
  · exact ⟨_, _, _, _, _, _, _, ly_so14 hp2 rfl ej ea rfl rfl ht ha hb eb, fun h => absurd h (by decide)⟩
end so
def ly_RO (pc : Int32) (c q : Nat) (mem reg ou : Nat → Int32) (d : Nat) (r pc' : Int32) (c' q' : Nat) (mem' reg' ou' : Nat → Int32) : Prop :=
  (∀ (f_origin f_culprit f_strip f_listed f_units f_ordered f_textEnd f_end f_longs f_rounds f_keptListed f_entry f_linked f_pc f_steps f_outs f_ran : Int32) (a_op a_opA a_opB a_section a_length a_role a_labelAt a_used a_local a_global a_weak a_faulty a_list a_chosen a_order a_lengthened a_at a_keptAt a_keptSymbol a_keptList a_image a_sizes a_words a_apart a_partA a_partN a_wide a_r a_output : Nat → Int32) (post : Int32 → SX → Prop), ly_CA mem a_apart a_partA a_partN a_wide →
    (∀ ap pA pN wi, post r (f_origin, f_culprit, f_strip, f_listed, f_units, f_ordered, f_textEnd, f_end, f_longs, f_rounds, f_keptListed, f_entry, f_linked, pc', nI c', nI q', f_ran, a_op, a_opA, a_opB, a_section, a_length, a_role, a_labelAt, a_used, a_local, a_global, a_weak, a_faulty, a_list, a_chosen, a_order, a_lengthened, a_at, a_keptAt, a_keptSymbol, a_keptList, a_image, a_sizes, mem', ap, pA, pN, wi, reg', ou')) →
    ∀ n, d + 3 ≤ n → wX_run_89 post n 0 f_origin f_culprit f_strip f_listed f_units f_ordered f_textEnd f_end f_longs f_rounds f_keptListed f_entry f_linked pc (nI c) (nI q) f_ran a_op a_opA a_opB a_section a_length a_role a_labelAt a_used a_local a_global a_weak a_faulty a_list a_chosen a_order a_lengthened a_at a_keptAt a_keptSymbol a_keptList a_image a_sizes mem a_apart a_partA a_partN a_wide reg ou) ∧
  (∀ (g_origin g_strip g_many g_culprit g_textEnd g_end g_made g_rounds g_entry g_linked g_ran : Int32) (b_ops b_opA b_opB b_counts b_roles b_list b_places b_symbols b_image b_stays b_wide : Nat → Int32) (post : Int32 → SY → Prop),
    post r (g_origin, g_strip, g_many, g_culprit, g_textEnd, g_end, g_made, g_rounds, g_entry, g_linked, g_ran, pc', nI c', nI q', b_ops, b_opA, b_opB, b_counts, b_roles, b_list, b_places, b_symbols, b_image, b_stays, b_wide, mem', reg', ou') →
    ∀ n, d + 3 ≤ n → wY_run_82 post n 0 g_origin g_strip g_many g_culprit g_textEnd g_end g_made g_rounds g_entry g_linked g_ran pc (nI c) (nI q) b_ops b_opA b_opB b_counts b_roles b_list b_places b_symbols b_image b_stays b_wide mem reg ou)
theorem ly_ro : ∀ (d c q : Nat) (pc : Int32) (mem reg ou : Nat → Int32), c + d = 300 → q ≤ c → ∃ r pc' c' q' mem' reg' ou', ly_RO pc c q mem reg ou d r pc' c' q' mem' reg' ou' := by
  intro d
  induction d with
  | zero =>
    intro c q pc mem reg ou hc hq
    refine ⟨6, pc, c, q, mem, reg, ou, ⟨fun f_origin f_culprit f_strip f_listed f_units f_ordered f_textEnd f_end f_longs f_rounds f_keptListed f_entry f_linked f_pc f_steps f_outs f_ran a_op a_opA a_opB a_section a_length a_role a_labelAt a_used a_local a_global a_weak a_faulty a_list a_chosen a_order a_lengthened a_at a_keptAt a_keptSymbol a_keptList a_image a_sizes a_words a_apart a_partA a_partN a_wide a_r a_output post hC hp n hn => ?_, fun g_origin g_strip g_many g_culprit g_textEnd g_end g_made g_rounds g_entry g_linked g_ran b_ops b_opA b_opB b_counts b_roles b_list b_places b_symbols b_image b_stays b_wide post hp n hn => ?_⟩⟩
    · obtain ⟨n, rfl⟩ : ∃ n', n = n' + 2 := ⟨n - 2, by omega⟩
      exact br_t rfl (br_t (by rw [show c = 300 by omega]; rfl) (br_f (by decide) (hp _ _ _ _)))
    · obtain ⟨n, rfl⟩ : ∃ n', n = n' + 2 := ⟨n - 2, by omega⟩
      exact br_t rfl (br_t (by rw [show c = 300 by omega]; rfl) (br_f (by decide) hp))
  | succ d ih =>
    intro c q pc mem reg ou hc hq
    obtain ⟨r, pc1, c1, q1, mem1, reg1, ou1, ⟨sX, sY⟩, s0⟩ := ly_so (pc := pc) (c := c) (q := q) (mem := mem) (reg := reg) (ou := ou) (by omega)
    have h300 : ¬ nI c = 300 := by rw [show (300 : Int32) = nI 300 from rfl, nI_eq (by omega) (by omega)]; omega
    by_cases z : r = 0
    · obtain ⟨e1, e2⟩ := s0 z
      obtain ⟨r2, pc2, c2, q2, mem2, reg2, ou2, ⟨tX, tY⟩⟩ := ih c1 q1 pc1 mem1 reg1 ou1 (by omega) (by omega)
      refine ⟨r2, pc2, c2, q2, mem2, reg2, ou2, ⟨fun f_origin f_culprit f_strip f_listed f_units f_ordered f_textEnd f_end f_longs f_rounds f_keptListed f_entry f_linked f_pc f_steps f_outs f_ran a_op a_opA a_opB a_section a_length a_role a_labelAt a_used a_local a_global a_weak a_faulty a_list a_chosen a_order a_lengthened a_at a_keptAt a_keptSymbol a_keptList a_image a_sizes a_words a_apart a_partA a_partN a_wide a_r a_output post hC hp n hn => ?_, fun g_origin g_strip g_many g_culprit g_textEnd g_end g_made g_rounds g_entry g_linked g_ran b_ops b_opA b_opB b_counts b_roles b_list b_places b_symbols b_image b_stays b_wide post hp n hn => ?_⟩⟩
      · obtain ⟨n, rfl⟩ : ∃ n', n = n' + 1 := ⟨n - 1, by omega⟩
        refine br_t rfl (br_f h300 (sX f_origin f_culprit f_strip f_listed f_units f_ordered f_textEnd f_end f_longs f_rounds f_keptListed f_entry f_linked f_pc f_steps f_outs f_ran a_op a_opA a_opB a_section a_length a_role a_labelAt a_used a_local a_global a_weak a_faulty a_list a_chosen a_order a_lengthened a_at a_keptAt a_keptSymbol a_keptList a_image a_sizes a_words a_apart a_partA a_partN a_wide a_r a_output _ hC (fun ap pA pN wi hC' => ?_)))
        rw [z]
        exact tX f_origin f_culprit f_strip f_listed f_units f_ordered f_textEnd f_end f_longs f_rounds f_keptListed f_entry f_linked f_pc f_steps f_outs f_ran a_op a_opA a_opB a_section a_length a_role a_labelAt a_used a_local a_global a_weak a_faulty a_list a_chosen a_order a_lengthened a_at a_keptAt a_keptSymbol a_keptList a_image a_sizes a_words ap pA pN wi a_r a_output post hC' hp n (by omega)
      · obtain ⟨n, rfl⟩ : ∃ n', n = n' + 1 := ⟨n - 1, by omega⟩
        refine br_t rfl (br_f h300 (sY g_origin g_strip g_many g_culprit g_textEnd g_end g_made g_rounds g_entry g_linked g_ran b_ops b_opA b_opB b_counts b_roles b_list b_places b_symbols b_image b_stays b_wide _ ?_))
        rw [z]
        exact tY g_origin g_strip g_many g_culprit g_textEnd g_end g_made g_rounds g_entry g_linked g_ran b_ops b_opA b_opB b_counts b_roles b_list b_places b_symbols b_image b_stays b_wide post hp n (by omega)
    · refine ⟨r, pc1, c1, q1, mem1, reg1, ou1, ⟨fun f_origin f_culprit f_strip f_listed f_units f_ordered f_textEnd f_end f_longs f_rounds f_keptListed f_entry f_linked f_pc f_steps f_outs f_ran a_op a_opA a_opB a_section a_length a_role a_labelAt a_used a_local a_global a_weak a_faulty a_list a_chosen a_order a_lengthened a_at a_keptAt a_keptSymbol a_keptList a_image a_sizes a_words a_apart a_partA a_partN a_wide a_r a_output post hC hp n hn => ?_, fun g_origin g_strip g_many g_culprit g_textEnd g_end g_made g_rounds g_entry g_linked g_ran b_ops b_opA b_opB b_counts b_roles b_list b_places b_symbols b_image b_stays b_wide post hp n hn => ?_⟩⟩
      · obtain ⟨n, rfl⟩ : ∃ n', n = n' + 2 := ⟨n - 2, by omega⟩
        exact br_t rfl (br_f h300 (sX f_origin f_culprit f_strip f_listed f_units f_ordered f_textEnd f_end f_longs f_rounds f_keptListed f_entry f_linked f_pc f_steps f_outs f_ran a_op a_opA a_opB a_section a_length a_role a_labelAt a_used a_local a_global a_weak a_faulty a_list a_chosen a_order a_lengthened a_at a_keptAt a_keptSymbol a_keptList a_image a_sizes a_words a_apart a_partA a_partN a_wide a_r a_output _ hC (fun ap pA pN wi hC' => br_f z (hp _ _ _ _))))
      · obtain ⟨n, rfl⟩ : ∃ n', n = n' + 2 := ⟨n - 2, by omega⟩
        exact br_t rfl (br_f h300 (sY g_origin g_strip g_many g_culprit g_textEnd g_end g_made g_rounds g_entry g_linked g_ran b_ops b_opA b_opB b_counts b_roles b_list b_places b_symbols b_image b_stays b_wide _ (br_f z hp)))
def ly_cp (s f : Nat → Int32) (i : Nat) : Nat → Int32 := fun j => if j < i then s j else f j
theorem ly_cp0 (s f : Nat → Int32) : ly_cp s f 0 = f := by funext j; unfold ly_cp; rw [if_neg (by omega)]
theorem ly_cps {s f : Nat → Int32} {i : Nat} {x : Int32} (h : x = s i) : upd (ly_cp s f i) i x = ly_cp s f (i + 1) := by
  funext j
  unfold upd ly_cp
  by_cases z : j = i
  · rw [if_pos z, if_pos (by omega), h, z]
  · rw [if_neg z]
    by_cases y : j < i
    · rw [if_pos y, if_pos (by omega)]
    · rw [if_neg y, if_neg (by omega)]
section rl
variable {f_origin f_culprit f_strip f_listed f_units f_ordered f_textEnd f_end f_longs f_rounds f_keptListed f_entry f_linked f_pc f_steps f_outs f_ran : Int32} {a_op a_opA a_opB a_section a_length a_role a_labelAt a_used a_local a_global a_weak a_faulty a_list a_chosen a_order a_lengthened a_at a_keptAt a_keptSymbol a_keptList a_image a_sizes a_words a_apart a_partA a_partN a_wide a_r a_output : Nat → Int32} {g_origin g_strip g_many g_culprit g_textEnd g_end g_made g_rounds g_entry g_linked g_ran g_pc g_steps g_outs : Int32} {b_ops b_opA b_opB b_counts b_roles b_list b_places b_symbols b_image b_stays b_wide b_memory b_reg b_out : Nat → Int32}
theorem ly_xr45 {post : Int32 → SX → Prop} (hp : ∃ n, wX_run_89 post n 0 f_origin f_culprit f_strip f_listed f_units f_ordered f_textEnd f_end f_longs f_rounds f_keptListed f_entry f_linked f_entry 0 0 1 a_op a_opA a_opB a_section a_length a_role a_labelAt a_used a_local a_global a_weak a_faulty a_list a_chosen a_order a_lengthened a_at a_keptAt a_keptSymbol a_keptList a_image a_sizes a_words a_apart a_partA a_partN a_wide (ly_cp (fun _ => 0) a_r 8) a_output) :
    ∀ n i, i ≤ 8 → 8 < n + i → wX_run_45 post f_origin f_culprit f_strip f_listed f_units f_ordered f_textEnd f_end f_longs f_rounds f_keptListed f_entry f_linked f_pc f_steps f_outs f_ran n (nI i) a_op a_opA a_opB a_section a_length a_role a_labelAt a_used a_local a_global a_weak a_faulty a_list a_chosen a_order a_lengthened a_at a_keptAt a_keptSymbol a_keptList a_image a_sizes a_words a_apart a_partA a_partN a_wide (ly_cp (fun _ => 0) a_r i) a_output := by
  intro n
  induction n with
  | zero => intro i h1 h2; omega
  | succ n ih =>
    intro i h1 h2
    by_cases z : i = 8
    · subst z
      exact br_t (Int32.le_refl _) hp
    · refine br_f (nI_ge (b := 8) (by omega) (by omega)) (And.intro (vp_in_nI (by omega) (by omega)) (nm_r (e' := ly_cp (fun _ => 0) a_r (i + 1)) ?_ (nm_r (nI_1 i) (ih (i + 1) (by omega) (by omega)))))
      rw [nI_clamp (by omega)]
      exact ly_cps rfl
theorem ly_xr11 {post : Int32 → SX → Prop} (hp : ∀ ap, (∀ j, j < 256 → ap j = 0) → ∃ n, wX_run_45 post f_origin f_culprit f_strip f_listed f_units f_ordered f_textEnd f_end f_longs f_rounds f_keptListed f_entry f_linked f_pc f_steps f_outs f_ran n 0 a_op a_opA a_opB a_section a_length a_role a_labelAt a_used a_local a_global a_weak a_faulty a_list a_chosen a_order a_lengthened a_at a_keptAt a_keptSymbol a_keptList a_image a_sizes (ly_cp a_image a_words 256) ap a_partA a_partN a_wide a_r a_output) :
    ∀ n i ap, i ≤ 256 → 256 < n + i → (∀ j, j < i → ap j = 0) → wX_run_11 post f_origin f_culprit f_strip f_listed f_units f_ordered f_textEnd f_end f_longs f_rounds f_keptListed f_entry f_linked f_pc f_steps f_outs f_ran n (nI i) a_op a_opA a_opB a_section a_length a_role a_labelAt a_used a_local a_global a_weak a_faulty a_list a_chosen a_order a_lengthened a_at a_keptAt a_keptSymbol a_keptList a_image a_sizes (ly_cp a_image a_words i) ap a_partA a_partN a_wide a_r a_output := by
  intro n
  induction n with
  | zero => intro i ap h1 h2; omega
  | succ n ih =>
    intro i ap h1 h2 h3
    by_cases z : i = 256
    · subst z
      exact br_t (Int32.le_refl _) (hp ap h3)
    · have hv : vp_in (nI i) 256 := vp_in_nI (by omega) (by omega)
      refine br_f (nI_ge (b := 256) (by omega) (by omega)) (And.intro hv (And.intro hv (nm_r (e' := ly_cp a_image a_words (i + 1)) ?_ (And.intro hv (nm_r (e' := upd ap i 0) ?_ (nm_r (nI_1 i) (ih (i + 1) _ (by omega) (by omega) (fun j hj => ?_))))))))
      · rw [nI_clamp (by omega)]
        exact ly_cps rfl
      · rw [nI_clamp (by omega)]; rfl
      · by_cases y : j = i
        · rw [y, pk_us]
        · rw [pk_un y]; exact h3 j (by omega)
theorem ly_yr43 {post : Int32 → SY → Prop} (hp : ∃ n, wY_run_82 post n 0 g_origin g_strip g_many g_culprit g_textEnd g_end g_made g_rounds g_entry g_linked g_ran g_entry 0 0 b_ops b_opA b_opB b_counts b_roles b_list b_places b_symbols b_image b_stays b_wide b_memory (ly_cp (fun _ => 0) b_reg 8) b_out) :
    ∀ n i, i ≤ 8 → 8 < n + i → wY_run_43 post g_origin g_strip g_many g_culprit g_textEnd g_end g_made g_rounds g_entry g_linked g_ran g_pc g_steps g_outs n (nI i) b_ops b_opA b_opB b_counts b_roles b_list b_places b_symbols b_image b_stays b_wide b_memory (ly_cp (fun _ => 0) b_reg i) b_out := by
  intro n
  induction n with
  | zero => intro i h1 h2; omega
  | succ n ih =>
    intro i h1 h2
    by_cases z : i = 8
    · subst z
      exact br_t (Int32.le_refl _) hp
    · refine br_f (nI_ge (b := 8) (by omega) (by omega)) (And.intro (vp_in_nI (by omega) (by omega)) (nm_r (e' := ly_cp (fun _ => 0) b_reg (i + 1)) ?_ (nm_r (nI_1 i) (ih (i + 1) (by omega) (by omega)))))
      rw [nI_clamp (by omega)]
      exact ly_cps rfl
theorem ly_yr16 {post : Int32 → SY → Prop} (hp : ∃ n, wY_run_43 post g_origin g_strip g_many g_culprit g_textEnd g_end g_made g_rounds g_entry g_linked g_ran g_pc g_steps g_outs n 0 b_ops b_opA b_opB b_counts b_roles b_list b_places b_symbols b_image b_stays b_wide (ly_cp b_image b_memory 256) b_reg b_out) :
    ∀ n i, i ≤ 256 → 256 < n + i → wY_run_16 post g_origin g_strip g_many g_culprit g_textEnd g_end g_made g_rounds g_entry g_linked g_ran g_pc g_steps g_outs n (nI i) b_ops b_opA b_opB b_counts b_roles b_list b_places b_symbols b_image b_stays b_wide (ly_cp b_image b_memory i) b_reg b_out := by
  intro n
  induction n with
  | zero => intro i h1 h2; omega
  | succ n ih =>
    intro i h1 h2
    by_cases z : i = 256
    · subst z
      exact br_t (Int32.le_refl _) hp
    · have hv : vp_in (nI i) 256 := vp_in_nI (by omega) (by omega)
      refine br_f (nI_ge (b := 256) (by omega) (by omega)) (And.intro hv (And.intro hv (nm_r (e' := ly_cp b_image b_memory (i + 1)) ?_ (nm_r (nI_1 i) (ih (i + 1) (by omega) (by omega))))))
      rw [nI_clamp (by omega)]
      exact ly_cps rfl
theorem ly_xr45s {post : Int32 → SX → Prop} (hp : ∃ n, wX_run_89 post n 0 f_origin f_culprit f_strip f_listed f_units f_ordered f_textEnd f_end f_longs f_rounds f_keptListed f_entry f_linked f_entry 0 0 1 a_op a_opA a_opB a_section a_length a_role a_labelAt a_used a_local a_global a_weak a_faulty a_list a_chosen a_order a_lengthened a_at a_keptAt a_keptSymbol a_keptList a_image a_sizes a_words a_apart a_partA a_partN a_wide (ly_cp (fun _ => 0) a_r 8) a_output) :
    wX_run_45 post f_origin f_culprit f_strip f_listed f_units f_ordered f_textEnd f_end f_longs f_rounds f_keptListed f_entry f_linked f_pc f_steps f_outs f_ran 9 0 a_op a_opA a_opB a_section a_length a_role a_labelAt a_used a_local a_global a_weak a_faulty a_list a_chosen a_order a_lengthened a_at a_keptAt a_keptSymbol a_keptList a_image a_sizes a_words a_apart a_partA a_partN a_wide a_r a_output := by
  have h := ly_xr45 (f_pc := f_pc) (f_steps := f_steps) (f_outs := f_outs) (f_ran := f_ran) hp 9 0 (by omega) (by omega)
  rw [ly_cp0] at h
  exact h
theorem ly_xr11s {post : Int32 → SX → Prop} (hp : ∀ ap, (∀ j, j < 256 → ap j = 0) → ∃ n, wX_run_45 post f_origin f_culprit f_strip f_listed f_units f_ordered f_textEnd f_end f_longs f_rounds f_keptListed f_entry f_linked f_pc f_steps f_outs f_ran n 0 a_op a_opA a_opB a_section a_length a_role a_labelAt a_used a_local a_global a_weak a_faulty a_list a_chosen a_order a_lengthened a_at a_keptAt a_keptSymbol a_keptList a_image a_sizes (ly_cp a_image a_words 256) ap a_partA a_partN a_wide a_r a_output) :
    wX_run_11 post f_origin f_culprit f_strip f_listed f_units f_ordered f_textEnd f_end f_longs f_rounds f_keptListed f_entry f_linked f_pc f_steps f_outs f_ran 257 0 a_op a_opA a_opB a_section a_length a_role a_labelAt a_used a_local a_global a_weak a_faulty a_list a_chosen a_order a_lengthened a_at a_keptAt a_keptSymbol a_keptList a_image a_sizes a_words a_apart a_partA a_partN a_wide a_r a_output := by
  have h := ly_xr11 hp 257 0 a_apart (by omega) (by omega) (fun j hj => absurd hj (by omega))
  rw [ly_cp0] at h
  exact h
theorem ly_yr43s {post : Int32 → SY → Prop} (hp : ∃ n, wY_run_82 post n 0 g_origin g_strip g_many g_culprit g_textEnd g_end g_made g_rounds g_entry g_linked g_ran g_entry 0 0 b_ops b_opA b_opB b_counts b_roles b_list b_places b_symbols b_image b_stays b_wide b_memory (ly_cp (fun _ => 0) b_reg 8) b_out) :
    wY_run_43 post g_origin g_strip g_many g_culprit g_textEnd g_end g_made g_rounds g_entry g_linked g_ran g_pc g_steps g_outs 9 0 b_ops b_opA b_opB b_counts b_roles b_list b_places b_symbols b_image b_stays b_wide b_memory b_reg b_out := by
  have h := ly_yr43 (g_pc := g_pc) (g_steps := g_steps) (g_outs := g_outs) hp 9 0 (by omega) (by omega)
  rw [ly_cp0] at h
  exact h
theorem ly_yr16s {post : Int32 → SY → Prop} (hp : ∃ n, wY_run_43 post g_origin g_strip g_many g_culprit g_textEnd g_end g_made g_rounds g_entry g_linked g_ran g_pc g_steps g_outs n 0 b_ops b_opA b_opB b_counts b_roles b_list b_places b_symbols b_image b_stays b_wide (ly_cp b_image b_memory 256) b_reg b_out) :
    wY_run_16 post g_origin g_strip g_many g_culprit g_textEnd g_end g_made g_rounds g_entry g_linked g_ran g_pc g_steps g_outs 257 0 b_ops b_opA b_opB b_counts b_roles b_list b_places b_symbols b_image b_stays b_wide b_memory b_reg b_out := by
  have h := ly_yr16 hp 257 0 (by omega) (by omega)
  rw [ly_cp0] at h
  exact h
end rl
theorem i_vc_run {k : Nat} {u : SX} {v : SY} (I : i_Rel k u v) (hk : k + 5 ≤ 2560) : wpX_run (fun r u' => wpY_run (fun r' v' => r' = r ∧ i_Rel (k + 5) u' v') v) u := by
  refine ly_el (P := fun u v => wpX_run (fun r u' => wpY_run (fun r' v' => r' = r ∧ i_Rel (k + 5) u' v') v) u) I ?_
  intro f_origin f_culprit f_strip f_listed f_units f_ordered f_textEnd f_end f_longs f_rounds f_keptListed f_entry f_linked f_pc f_steps f_outs f_ran a_op a_opA a_opB a_section a_length a_role a_labelAt a_used a_local a_global a_weak a_faulty a_list a_chosen a_order a_lengthened a_at a_keptAt a_keptSymbol a_keptList a_image a_sizes a_words a_apart a_partA a_partN a_wide a_r a_output g_many g_textEnd g_end g_made g_rounds b_list b_places b_symbols b_stays b_wide hO hJ hK
  have J : i_Rel (k + 5) (f_origin, f_culprit, f_strip, f_listed, f_units, f_ordered, f_textEnd, f_end, f_longs, f_rounds, f_keptListed, f_entry, f_linked, f_pc, f_steps, f_outs, f_ran, a_op, a_opA, a_opB, a_section, a_length, a_role, a_labelAt, a_used, a_local, a_global, a_weak, a_faulty, a_list, a_chosen, a_order, a_lengthened, a_at, a_keptAt, a_keptSymbol, a_keptList, a_image, a_sizes, a_words, a_apart, a_partA, a_partN, a_wide, a_r, a_output) (f_origin, f_strip, g_many, f_culprit, g_textEnd, g_end, g_made, g_rounds, f_entry, f_linked, f_ran, f_pc, f_steps, f_outs, a_op, a_opA, a_opB, a_length, a_role, b_list, b_places, b_symbols, a_image, b_stays, b_wide, a_words, a_r, a_output) := ly_mk hO hJ hK
  by_cases z : f_linked = 0
  · exact br_t z (br_t z ⟨rfl, J⟩)
  obtain ⟨r, pc, c, q, mem, reg, ou, ⟨hX, hY⟩⟩ := ly_ro 300 0 0 f_entry (ly_cp a_image a_words 256) (ly_cp (fun _ => 0) a_r 8) a_output (by omega) (by omega)
  refine br_f z ⟨257, ly_xr11s (fun ap hap => ⟨9, ly_xr45s ⟨303, ?_⟩⟩)⟩
  refine hX f_origin f_culprit f_strip f_listed f_units f_ordered f_textEnd f_end f_longs f_rounds f_keptListed f_entry f_linked f_pc f_steps f_outs 1 a_op a_opA a_opB a_section a_length a_role a_labelAt a_used a_local a_global a_weak a_faulty a_list a_chosen a_order a_lengthened a_at a_keptAt a_keptSymbol a_keptList a_image a_sizes a_words ap a_partA a_partN a_wide a_r a_output _ (fun j hj => Or.inl (hap j hj)) (fun ap' pA pN wi => ?_) 303 (by omega)
  refine br_f z ⟨257, ly_yr16s ⟨9, ly_yr43s ⟨303, ?_⟩⟩⟩
  exact hY _ _ _ _ _ _ _ _ _ _ _ _ _ _ _ _ _ _ _ _ _ _ _ ⟨rfl, ly_mk hO hJ hK⟩ 303 (by omega)
end
section
/-! the list of modules: plain -/
section lkd
variable (o a b : Nat → Int32) (L : Nat → Nat) (role : Nat → Int32)
def lk_wd (ms : List Nat) (s : Int32) : Bool := decide (s = 0) || ms.any (fun m => ly_ak o a b m (L m) s)
def lk_dd (ms : List Nat) (s : Int32) : Bool := ms.any (fun m => ly_df o a b m (L m) s)
def lk_f2 (ms : List Nat) (s : Int32) : Option Nat := ly_ff (fun m => decide (role m = 2) && (!decide (m ∈ ms) && ly_df o a b m (L m) s)) 0 6
def lk_fe (ms : List Nat) : Nat → Nat → Option Nat
  | _, 0 => none
  | s, d + 1 => if (lk_wd o a b L ms (nI s) && !lk_dd o a b L ms (nI s)) = true then (match lk_f2 o a b L role ms (nI s) with
      | some m => some m
      | none => lk_fe ms (s + 1) d) else lk_fe ms (s + 1) d
def lk_go : Nat → List Nat → Sum Nat (List Nat)
  | 0, ms => .inr ms
  | d + 1, ms => match lk_fe o a b L role ms 0 16 with
    | none => .inr ms
    | some m => if ly_fl o a m (L m) = true then .inl m else lk_go d (ms ++ [m])
def lk_m0 (i : Nat) : List Nat := (List.range i).filter (fun m => decide (role m = 1))
def lk_f1 (i d : Nat) : Option Nat := ly_ff (fun m => decide (role m = 1) && ly_fl o a m (L m)) i d
end lkd
def lk_Gd (o a : Nat → Int32) (L : Nat → Nat) (ms : List Nat) : Prop := ms.Nodup ∧ (∀ m, m ∈ ms → m < 6) ∧ ∀ m, m ∈ ms → ly_fl o a m (L m) = false
def lk_LS (ms : List Nat) (n : Int32) (l : Nat → Int32) : Prop := n = nI ms.length ∧ ms.length ≤ 6 ∧ (∀ m, m ∈ ms → m < 6) ∧ ∀ i, i < ms.length → l i = nI (ms.getD i 0)
theorem lk_LS_at {ms pre rest : List Nat} {m : Nat} {n : Int32} {l : Nat → Int32} (h : lk_LS ms n l) (e : ms = pre ++ m :: rest) : l pre.length = nI m ∧ m < 6 ∧ pre.length < ms.length ∧ pre.length < 6 := by
  subst e
  have hl : pre.length < (pre ++ m :: rest).length := by rw [List.length_append, List.length_cons]; omega
  refine ⟨?_, h.2.2.1 m (by simp), hl, by have := h.2.1; omega⟩
  rw [h.2.2.2 _ hl]
  simp [List.getD_eq_getElem?_getD]
theorem lk_LS_snoc {ms : List Nat} {m : Nat} {n : Int32} {l : Nat → Int32} (h : lk_LS ms n l) (hm : m < 6) (hl : ms.length < 6) : lk_LS (ms ++ [m]) (nI (ms.length + 1)) (upd l ms.length (nI m)) := by
  obtain ⟨h1, h2, h3, h4⟩ := h
  refine ⟨by rw [List.length_append]; rfl, by rw [List.length_append, List.length_singleton]; omega, fun q hq => ?_, fun i hi => ?_⟩
  · rcases List.mem_append.mp hq with z | z
    · exact h3 q z
    · rw [List.mem_singleton.mp z]; exact hm
  · rw [List.length_append, List.length_singleton] at hi
    by_cases z : i = ms.length
    · rw [z, pk_us]
      simp [List.getD_eq_getElem?_getD]
    · rw [pk_un z, h4 i (by omega)]
      simp [List.getD_eq_getElem?_getD, List.getElem?_append_left (show i < ms.length by omega)]
theorem lk_LS_nil {l : Nat → Int32} : lk_LS [] 0 l := ⟨rfl, by simp, (fun m h => nomatch h), (fun i hi => absurd hi (Nat.not_lt_zero i))⟩
section gd
variable {o a b : Nat → Int32} {L : Nat → Nat} {role : Nat → Int32}
theorem lk_fe_some {ms : List Nat} {m : Nat} : ∀ {d s : Nat}, lk_fe o a b L role ms s d = some m → m < 6 ∧ m ∉ ms
  | 0, s, h => nomatch h
  | d + 1, s, h => by
    unfold lk_fe at h
    by_cases z : (lk_wd o a b L ms (nI s) && !lk_dd o a b L ms (nI s)) = true
    · rw [if_pos z] at h
      cases e : lk_f2 o a b L role ms (nI s) with
      | none => rw [e] at h; exact lk_fe_some h
      | some q =>
        rw [e] at h
        cases h
        obtain ⟨h1, h2, h3, h4⟩ := ly_ff_some e
        rw [Bool.and_eq_true, Bool.and_eq_true, Bool.not_eq_true', decide_eq_false_iff_not] at h3
        exact ⟨by omega, h3.2.1⟩
    · rw [if_neg z] at h; exact lk_fe_some h
theorem lk_Gd_len {ms : List Nat} (h : lk_Gd o a L ms) : ms.length ≤ 6 := ly_pig h.1 h.2.1
theorem lk_Gd_snoc {ms : List Nat} {m : Nat} (h : lk_Gd o a L ms) (hm : m < 6) (hn : m ∉ ms) (hf : ly_fl o a m (L m) = false) : lk_Gd o a L (ms ++ [m]) := by
  refine ⟨?_, fun q hq => ?_, fun q hq => ?_⟩
  · rw [List.nodup_append]
    refine ⟨h.1, by simp, fun x hx y hy => ?_⟩
    rw [List.mem_singleton.mp hy]
    exact fun e => hn (e ▸ hx)
  · rcases List.mem_append.mp hq with z | z
    · exact h.2.1 q z
    · rw [List.mem_singleton.mp z]; exact hm
  · rcases List.mem_append.mp hq with z | z
    · exact h.2.2 q z
    · rw [List.mem_singleton.mp z]; exact hf
theorem lk_len_lt {ms : List Nat} {m : Nat} (h : ms.Nodup) (h2 : ∀ m, m ∈ ms → m < 6) (hm : m < 6) (hn : m ∉ ms) : ms.length < 6 := by
  have h3 : (m :: ms).Nodup := List.nodup_cons.mpr ⟨hn, h⟩
  have := ly_pig (n := 6) h3 (fun x hx => by
    rcases List.mem_cons.mp hx with e | e
    · rw [e]; exact hm
    · exact h2 x e)
  rw [List.length_cons] at this
  omega
theorem lk_go_good : ∀ {d : Nat} {ms ms' : List Nat}, lk_go o a b L role d ms = .inr ms' → lk_Gd o a L ms → lk_Gd o a L ms'
  | 0, ms, ms', h, g => by cases h; exact g
  | d + 1, ms, ms', h, g => by
    unfold lk_go at h
    cases e : lk_fe o a b L role ms 0 16 with
    | none => rw [e] at h; cases h; exact g
    | some m =>
      rw [e] at h
      obtain ⟨hm, hn⟩ := lk_fe_some e
      dsimp only at h
      cases f : ly_fl o a m (L m) with
      | true => rw [f, if_pos rfl] at h; cases h
      | false =>
        rw [f, if_neg (by decide)] at h
        exact lk_go_good h (lk_Gd_snoc g hm hn f)
theorem lk_m0_s {i : Nat} : lk_m0 role (i + 1) = lk_m0 role i ++ (if role i = 1 then [i] else []) := by
  unfold lk_m0
  rw [List.range_succ, List.filter_append]
  congr 1
  by_cases z : role i = 1 <;> simp [z]
theorem lk_m0_mem {i m : Nat} : m ∈ lk_m0 role i ↔ m < i ∧ role m = 1 := by
  unfold lk_m0
  rw [List.mem_filter, List.mem_range, decide_eq_true_eq]
theorem lk_m0_nd {i : Nat} : (lk_m0 role i).Nodup := List.Nodup.sublist List.filter_sublist List.nodup_range
theorem lk_m0_len {i : Nat} : (lk_m0 role i).length ≤ i := by
  have := List.length_filter_le (fun m => decide (role m = 1)) (List.range i)
  rw [List.length_range] at this
  exact this
theorem lk_r6 {p : Nat → Bool} : (List.range 6).find? p = ly_ff p 0 6 := by
  have h : ∀ n s : Nat, (List.range' s n).find? p = ly_ff p s n := by
    intro n
    induction n with
    | zero => intro s; rfl
    | succ n ih =>
      intro s
      rw [List.range'_succ, List.find?_cons]
      cases e : p s with
      | true => rw [ly_ff_s e]
      | false => rw [ly_ff_n e]; exact ih (s + 1)
  rw [List.range_eq_range']
  exact h 6 0
theorem lk_f1_find : (lk_m0 role 6).find? (fun m => ly_fl o a m (L m)) = lk_f1 o a L role 0 6 := by
  unfold lk_m0 lk_f1
  rw [List.find?_filter, lk_r6]
  refine ly_ff_congr (fun j _ _ => ?_)
  apply ly_beq
  rw [decide_eq_true_eq, Bool.and_eq_true]
theorem lk_f1_good (h : lk_f1 o a L role 0 6 = none) : lk_Gd o a L (lk_m0 role 6) := by
  refine ⟨lk_m0_nd, fun m hm => (lk_m0_mem.mp hm).1, fun m hm => ?_⟩
  obtain ⟨h1, h2⟩ := lk_m0_mem.mp hm
  have := ly_ff_none h m (by omega) (by omega)
  rw [decide_eq_true h2, Bool.true_and] at this
  exact this
end gd
end
section
/-! Y: the questions that only read -/
section yr
variable {g_origin g_strip g_many g_culprit g_textEnd g_end g_made g_rounds g_entry g_linked g_ran g_pc g_steps g_outs : Int32} {b_ops b_opA b_opB b_counts b_roles b_list b_places b_symbols b_image b_stays b_wide b_memory b_reg b_out : Nat → Int32} {L : Nat → Nat} {ms : List Nat}
theorem ly_ylast {post : Int32 → Prop} {m n : Nat} (hm : m < 6) (hn : b_counts m = nI n) (hp : post (nI (24 * m + n))) : wpY_last post (g_origin, g_strip, g_many, g_culprit, g_textEnd, g_end, g_made, g_rounds, g_entry, g_linked, g_ran, g_pc, g_steps, g_outs, b_ops, b_opA, b_opB, b_counts, b_roles, b_list, b_places, b_symbols, b_image, b_stays, b_wide, b_memory, b_reg, b_out) (nI m) := by
  refine And.intro (vp_in_nI hm (by omega)) ?_
  rw [nI_clamp (by omega), hn, ly_24]
  exact hp
theorem ly_ylb5 {post : Int32 → Prop} {m n : Nat} {s : Int32} (hm : m < 6) (hn : b_counts m = nI n) (h24 : n ≤ 24) : ∀ d k f, k + d = 24 * m + n → d < f → post (ly_oi (ly_ff (fun k => decide (b_ops k = 0) && decide (b_opA k = s)) k d)) → wY_labelIn_5 post (nI m) s g_origin g_strip g_many g_culprit g_textEnd g_end g_made g_rounds g_entry g_linked g_ran g_pc g_steps g_outs b_ops b_opA b_opB b_counts b_roles b_list b_places b_symbols b_image b_stays b_wide b_memory b_reg b_out f (nI k) := by
  intro d
  induction d with
  | zero =>
    intro k f hk hf hp
    obtain ⟨f, rfl⟩ : ∃ f', f = f' + 1 := ⟨f - 1, by omega⟩
    unfold wY_labelIn_5
    refine ly_ylast hm hn ?_
    exact (br_t (nI_le (by omega) (by omega)) hp)
  | succ d ih =>
    intro k f hk hf hp
    obtain ⟨f, rfl⟩ : ∃ f', f = f' + 1 := ⟨f - 1, by omega⟩
    have hv : vp_in (nI k) 144 := vp_in_nI (by omega) (by omega)
    have hc : (nI k).toNatClampNeg = k := nI_clamp (by omega)
    unfold wY_labelIn_5
    refine ly_ylast hm hn ?_
    refine (br_f (nI_ge (by omega) (by omega)) (And.intro hv ?_))
    rw [hc]
    by_cases h0 : b_ops k = 0
    · refine br_t h0 ⟨hv, ?_⟩
      by_cases h1 : b_opA k = s
      · rw [ly_ff_s (by rw [decide_eq_true h0, decide_eq_true h1]; rfl)] at hp
        exact br_t h1 hp
      · rw [ly_ff_n (by rw [decide_eq_false h1, Bool.and_false])] at hp
        exact br_f h1 (nm_r (nI_1 k) (ih (k + 1) f (by omega) (by omega) hp))
    · rw [ly_ff_n (by rw [decide_eq_false h0, Bool.false_and])] at hp
      exact br_f h0 (nm_r (nI_1 k) (ih (k + 1) f (by omega) (by omega) hp))
theorem ly_ylb {post : Int32 → Prop} {m n : Nat} {s : Int32} (hm : m < 6) (hn : b_counts m = nI n) (h24 : n ≤ 24) (hp : post (ly_oi (ly_lb b_ops b_opA m n s))) : wpY_labelIn post (g_origin, g_strip, g_many, g_culprit, g_textEnd, g_end, g_made, g_rounds, g_entry, g_linked, g_ran, g_pc, g_steps, g_outs, b_ops, b_opA, b_opB, b_counts, b_roles, b_list, b_places, b_symbols, b_image, b_stays, b_wide, b_memory, b_reg, b_out) (nI m) s :=
  nm_r (ly_24' m) ⟨n + 1, ly_ylb5 hm hn h24 n (24 * m) (n + 1) rfl (by omega) hp⟩
theorem ly_yloc {post : Int32 → Prop} {x : Option Nat} (hx : ∀ k, x = some k → k < 144) (hp : post (ly_b (ly_lo b_opB x))) : wpY_isLocal post (g_origin, g_strip, g_many, g_culprit, g_textEnd, g_end, g_made, g_rounds, g_entry, g_linked, g_ran, g_pc, g_steps, g_outs, b_ops, b_opA, b_opB, b_counts, b_roles, b_list, b_places, b_symbols, b_image, b_stays, b_wide, b_memory, b_reg, b_out) (ly_oi x) := by
  cases x with
  | none => exact br_t (by decide) hp
  | some k =>
    have hk := hx k rfl
    rw [show ly_oi (some k) = nI k from rfl]
    refine br_f (nI_pos (by omega)) (And.intro (vp_in_nI hk (by omega)) ?_)
    rw [nI_clamp (by omega)]
    unfold ly_lo at hp
    dsimp only at hp
    by_cases z : b_opB k = 0
    · rw [decide_eq_true z] at hp; exact br_t z hp
    · rw [decide_eq_false z] at hp; exact br_f z hp
theorem ly_yfl5 {post : Int32 → Prop} {m n : Nat} (hm : m < 6) (hn : b_counts m = nI n) (h24 : n ≤ 24) : ∀ d k f, k + d = 24 * m + n → d < f → post (ly_b (ly_ex (fun k => decide (b_ops k = 0) && !decide (ly_lb b_ops b_opA m n (b_opA k) = some k)) k d)) → wY_faulty_5 post (nI m) g_origin g_strip g_many g_culprit g_textEnd g_end g_made g_rounds g_entry g_linked g_ran g_pc g_steps g_outs b_ops b_opA b_opB b_counts b_roles b_list b_places b_symbols b_image b_stays b_wide b_memory b_reg b_out f (nI k) := by
  intro d
  induction d with
  | zero =>
    intro k f hk hf hp
    obtain ⟨f, rfl⟩ : ∃ f', f = f' + 1 := ⟨f - 1, by omega⟩
    unfold wY_faulty_5
    refine ly_ylast hm hn ?_
    exact (br_t (nI_le (by omega) (by omega)) hp)
  | succ d ih =>
    intro k f hk hf hp
    obtain ⟨f, rfl⟩ : ∃ f', f = f' + 1 := ⟨f - 1, by omega⟩
    have hv : vp_in (nI k) 144 := vp_in_nI (by omega) (by omega)
    have hc : (nI k).toNatClampNeg = k := nI_clamp (by omega)
    unfold wY_faulty_5
    refine ly_ylast hm hn ?_
    refine (br_f (nI_ge (by omega) (by omega)) (And.intro hv ?_))
    rw [hc]
    unfold ly_ex at hp
    by_cases h0 : b_ops k = 0
    · refine br_t h0 ⟨hv, ly_ylb hm hn h24 ?_⟩
      by_cases h1 : ly_lb b_ops b_opA m n (b_opA k) = some k
      · rw [h1]
        rw [decide_eq_true h1, decide_eq_true h0, Bool.not_true, Bool.and_false, Bool.false_or] at hp
        exact br_t rfl (nm_r (nI_1 k) (ih (k + 1) f (by omega) (by omega) hp))
      · rw [decide_eq_false h1, decide_eq_true h0, Bool.not_false, Bool.and_true, Bool.true_or] at hp
        refine br_f (fun e => h1 ?_) hp
        cases e2 : ly_lb b_ops b_opA m n (b_opA k) with
        | none => rw [e2] at e; exact absurd e.symm (ly_mm k (by omega))
        | some q =>
          rw [e2] at e
          have := (ly_lb_some e2).2.1
          rw [(nI_eq (by omega) (by omega)).mp e]
    · rw [decide_eq_false h0, Bool.false_and, Bool.false_or] at hp
      exact br_f h0 (nm_r (nI_1 k) (ih (k + 1) f (by omega) (by omega) hp))
theorem ly_yfl {post : Int32 → Prop} {m n : Nat} (hm : m < 6) (hn : b_counts m = nI n) (h24 : n ≤ 24) (hp : post (ly_b (ly_fl b_ops b_opA m n))) : wpY_faulty post (g_origin, g_strip, g_many, g_culprit, g_textEnd, g_end, g_made, g_rounds, g_entry, g_linked, g_ran, g_pc, g_steps, g_outs, b_ops, b_opA, b_opB, b_counts, b_roles, b_list, b_places, b_symbols, b_image, b_stays, b_wide, b_memory, b_reg, b_out) (nI m) :=
  nm_r (ly_24' m) ⟨n + 1, ly_yfl5 hm hn h24 n (24 * m) (n + 1) rfl (by omega) hp⟩
theorem ly_ydf5 {post : Int32 → Prop} {m n : Nat} {s : Int32} (hm : m < 6) (hn : b_counts m = nI n) (h24 : n ≤ 24) : ∀ d k f, k + d = 24 * m + n → d < f → post (ly_b (ly_ex (fun k => (decide (b_ops k = 0) && decide (b_opA k = s)) && !decide (b_opB k ≤ 0)) k d)) → wY_defines_5 post (nI m) s g_origin g_strip g_many g_culprit g_textEnd g_end g_made g_rounds g_entry g_linked g_ran g_pc g_steps g_outs b_ops b_opA b_opB b_counts b_roles b_list b_places b_symbols b_image b_stays b_wide b_memory b_reg b_out f (nI k) := by
  intro d
  induction d with
  | zero =>
    intro k f hk hf hp
    obtain ⟨f, rfl⟩ : ∃ f', f = f' + 1 := ⟨f - 1, by omega⟩
    unfold wY_defines_5
    refine ly_ylast hm hn ?_
    exact (br_t (nI_le (by omega) (by omega)) hp)
  | succ d ih =>
    intro k f hk hf hp
    obtain ⟨f, rfl⟩ : ∃ f', f = f' + 1 := ⟨f - 1, by omega⟩
    have hv : vp_in (nI k) 144 := vp_in_nI (by omega) (by omega)
    have hc : (nI k).toNatClampNeg = k := nI_clamp (by omega)
    unfold wY_defines_5
    refine ly_ylast hm hn ?_
    refine (br_f (nI_ge (by omega) (by omega)) (And.intro hv ?_))
    rw [hc]
    unfold ly_ex at hp
    by_cases h0 : b_ops k = 0
    · refine br_t h0 ⟨hv, ?_⟩
      by_cases h1 : b_opA k = s
      · refine br_t h1 ⟨hv, ?_⟩
        by_cases h2 : b_opB k ≤ 0
        · rw [decide_eq_true h2, Bool.not_true, Bool.and_false, Bool.false_or] at hp
          exact br_t h2 (nm_r (nI_1 k) (ih (k + 1) f (by omega) (by omega) hp))
        · rw [decide_eq_true h0, decide_eq_true h1, decide_eq_false h2] at hp
          exact br_f h2 hp
      · rw [decide_eq_false h1, Bool.and_false, Bool.false_and, Bool.false_or] at hp
        exact br_f h1 (nm_r (nI_1 k) (ih (k + 1) f (by omega) (by omega) hp))
    · rw [decide_eq_false h0, Bool.false_and, Bool.false_and, Bool.false_or] at hp
      exact br_f h0 (nm_r (nI_1 k) (ih (k + 1) f (by omega) (by omega) hp))
theorem ly_ydf {post : Int32 → Prop} {m n : Nat} {s : Int32} (hm : m < 6) (hn : b_counts m = nI n) (h24 : n ≤ 24) (hp : post (ly_b (ly_df b_ops b_opA b_opB m n s))) : wpY_defines post (g_origin, g_strip, g_many, g_culprit, g_textEnd, g_end, g_made, g_rounds, g_entry, g_linked, g_ran, g_pc, g_steps, g_outs, b_ops, b_opA, b_opB, b_counts, b_roles, b_list, b_places, b_symbols, b_image, b_stays, b_wide, b_memory, b_reg, b_out) (nI m) s :=
  nm_r (ly_24' m) ⟨n + 1, ly_ydf5 hm hn h24 n (24 * m) (n + 1) rfl (by omega) hp⟩
theorem ly_ysy {post : Int32 → Prop} {k : Nat} (hk : k < 144) (hp : post (ly_sy b_ops b_opA b_opB k)) : wpY_symbolOf post (g_origin, g_strip, g_many, g_culprit, g_textEnd, g_end, g_made, g_rounds, g_entry, g_linked, g_ran, g_pc, g_steps, g_outs, b_ops, b_opA, b_opB, b_counts, b_roles, b_list, b_places, b_symbols, b_image, b_stays, b_wide, b_memory, b_reg, b_out) (nI k) := by
  have hv : vp_in (nI k) 144 := vp_in_nI (by omega) (by omega)
  have hc : (nI k).toNatClampNeg = k := nI_clamp (by omega)
  refine And.intro hv ?_
  rw [hc]
  unfold ly_sy at hp
  by_cases z : b_ops k = 16
  · rw [if_pos z] at hp; exact br_t z ⟨hv, hp⟩
  · rw [if_neg z] at hp; exact br_f z ⟨hv, hp⟩
theorem ly_yak5 {post : Int32 → Prop} {m n : Nat} {s : Int32} (hm : m < 6) (hn : b_counts m = nI n) (h24 : n ≤ 24) : ∀ d k f, k + d = 24 * m + n → d < f → post (ly_b (ly_ex (fun k => ly_us (b_ops k) && decide (ly_sy b_ops b_opA b_opB k = s)) k d)) → wY_asks_20 post (nI m) s g_origin g_strip g_many g_culprit g_textEnd g_end g_made g_rounds g_entry g_linked g_ran g_pc g_steps g_outs b_ops b_opA b_opB b_counts b_roles b_list b_places b_symbols b_image b_stays b_wide b_memory b_reg b_out f (nI k) := by
  intro d
  induction d with
  | zero =>
    intro k f hk hf hp
    obtain ⟨f, rfl⟩ : ∃ f', f = f' + 1 := ⟨f - 1, by omega⟩
    unfold wY_asks_20
    refine ly_ylast hm hn ?_
    exact (br_t (nI_le (by omega) (by omega)) hp)
  | succ d ih =>
    intro k f hk hf hp
    obtain ⟨f, rfl⟩ : ∃ f', f = f' + 1 := ⟨f - 1, by omega⟩
    have hv : vp_in (nI k) 144 := vp_in_nI (by omega) (by omega)
    have hc : (nI k).toNatClampNeg = k := nI_clamp (by omega)
    unfold wY_asks_20
    refine ly_ylast hm hn ?_
    refine (br_f (nI_ge (by omega) (by omega)) (And.intro hv ?_))
    rw [hc]
    unfold ly_ex at hp
    refine ly_yus (ly_br (fun e => ?_) (fun e => ly_ysy (by omega) ?_))
    · rw [e, Bool.false_and, Bool.false_or] at hp
      exact nm_r (nI_1 k) (ih (k + 1) f (by omega) (by omega) hp)
    · rw [e, Bool.true_and] at hp
      by_cases z : ly_sy b_ops b_opA b_opB k = s
      · rw [decide_eq_true z, Bool.true_or] at hp; exact br_t z hp
      · rw [decide_eq_false z, Bool.false_or] at hp
        exact br_f z (nm_r (nI_1 k) (ih (k + 1) f (by omega) (by omega) hp))
theorem ly_lb_144 {o a : Nat → Int32} {m n k : Nat} {s : Int32} (hm : m < 6) (h24 : n ≤ 24) (h : ly_lb o a m n s = some k) : k < 144 := by
  have := (ly_lb_some h).2.1
  omega
theorem ly_yak {post : Int32 → Prop} {m n : Nat} {s : Int32} (hm : m < 6) (hn : b_counts m = nI n) (h24 : n ≤ 24) (hp : post (ly_b (ly_ak b_ops b_opA b_opB m n s))) : wpY_asks post (g_origin, g_strip, g_many, g_culprit, g_textEnd, g_end, g_made, g_rounds, g_entry, g_linked, g_ran, g_pc, g_steps, g_outs, b_ops, b_opA, b_opB, b_counts, b_roles, b_list, b_places, b_symbols, b_image, b_stays, b_wide, b_memory, b_reg, b_out) (nI m) s := by
  unfold wpY_asks
  refine ly_ylb hm hn h24 (ly_yloc (fun k hk => ly_lb_144 hm h24 hk) (ly_br (fun e => ?_) (fun e => ?_)))
  · unfold ly_ak at hp
    rw [e, Bool.not_false, Bool.true_and] at hp
    exact nm_r (ly_24' m) ⟨n + 1, ly_yak5 hm hn h24 n (24 * m) (n + 1) rfl (by omega) hp⟩
  · unfold ly_ak at hp
    rw [e, Bool.not_true, Bool.false_and] at hp
    exact hp
theorem ly_ywd12 {post : Int32 → Prop} {s : Int32} (hC : ∀ m, m < 6 → b_counts m = nI (L m) ∧ L m ≤ 24) (hL : lk_LS ms g_many b_list) : ∀ rest pre f c, ms = pre ++ rest → rest.length < f →
    post (ly_b (c || rest.any (fun m => ly_ak b_ops b_opA b_opB m (L m) s))) → wY_wanted_12 post s g_origin g_strip g_many g_culprit g_textEnd g_end g_made g_rounds g_entry g_linked g_ran g_pc g_steps g_outs b_ops b_opA b_opB b_counts b_roles b_list b_places b_symbols b_image b_stays b_wide b_memory b_reg b_out f (ly_b c) (nI pre.length) := by
  intro rest
  induction rest with
  | nil =>
    intro pre f c e hf hp
    obtain ⟨f, rfl⟩ : ∃ f', f = f' + 1 := ⟨f - 1, by omega⟩
    rw [List.any_nil, Bool.or_false] at hp
    refine br_t ?_ (And.intro (ly_bn c) hp)
    rw [hL.1, e, List.append_nil]
    exact Int32.le_refl _
  | cons m rest ih =>
    intro pre f c e hf hp
    rw [List.length_cons] at hf
    obtain ⟨f, rfl⟩ : ∃ f', f = f' + 1 := ⟨f - 1, by omega⟩
    obtain ⟨h1, h2, h3, h4⟩ := lk_LS_at hL e
    refine br_f ?_ (And.intro (vp_in_nI h4 (by omega)) ?_)
    · rw [hL.1]; exact nI_ge h3 (by have := hL.2.1; omega)
    rw [nI_clamp (by omega), h1]
    refine ly_yak h2 (hC m h2).1 (hC m h2).2 (nm_r (ly_bor _ _) (nm_r (nI_1 _) ?_))
    have := ih (pre ++ [m]) f (c || ly_ak b_ops b_opA b_opB m (L m) s) (by rw [e, List.append_assoc]; rfl) (by omega) (by rw [List.any_cons, ← Bool.or_assoc] at hp; exact hp)
    rw [List.length_append] at this
    exact this
theorem ly_ywd {post : Int32 → Prop} {s : Int32} (hC : ∀ m, m < 6 → b_counts m = nI (L m) ∧ L m ≤ 24) (hL : lk_LS ms g_many b_list) (hp : post (ly_b (lk_wd b_ops b_opA b_opB L ms s))) : wpY_wanted post (g_origin, g_strip, g_many, g_culprit, g_textEnd, g_end, g_made, g_rounds, g_entry, g_linked, g_ran, g_pc, g_steps, g_outs, b_ops, b_opA, b_opB, b_counts, b_roles, b_list, b_places, b_symbols, b_image, b_stays, b_wide, b_memory, b_reg, b_out) s := by
  unfold lk_wd at hp
  by_cases z : s = 0
  · rw [decide_eq_true z] at hp
    exact br_t z ⟨ms.length + 1, ly_ywd12 hC hL ms [] _ true rfl (by omega) hp⟩
  · rw [decide_eq_false z] at hp
    exact br_f z ⟨ms.length + 1, ly_ywd12 hC hL ms [] _ false rfl (by omega) hp⟩
theorem ly_ydd4 {post : Int32 → Prop} {s : Int32} (hC : ∀ m, m < 6 → b_counts m = nI (L m) ∧ L m ≤ 24) (hL : lk_LS ms g_many b_list) : ∀ rest pre f c, ms = pre ++ rest → rest.length < f →
    post (ly_b (c || rest.any (fun m => ly_df b_ops b_opA b_opB m (L m) s))) → wY_defined_4 post s g_origin g_strip g_many g_culprit g_textEnd g_end g_made g_rounds g_entry g_linked g_ran g_pc g_steps g_outs b_ops b_opA b_opB b_counts b_roles b_list b_places b_symbols b_image b_stays b_wide b_memory b_reg b_out f (ly_b c) (nI pre.length) := by
  intro rest
  induction rest with
  | nil =>
    intro pre f c e hf hp
    obtain ⟨f, rfl⟩ : ∃ f', f = f' + 1 := ⟨f - 1, by omega⟩
    rw [List.any_nil, Bool.or_false] at hp
    refine br_t ?_ (And.intro (ly_bn c) hp)
    rw [hL.1, e, List.append_nil]
    exact Int32.le_refl _
  | cons m rest ih =>
    intro pre f c e hf hp
    rw [List.length_cons] at hf
    obtain ⟨f, rfl⟩ : ∃ f', f = f' + 1 := ⟨f - 1, by omega⟩
    obtain ⟨h1, h2, h3, h4⟩ := lk_LS_at hL e
    refine br_f ?_ (And.intro (vp_in_nI h4 (by omega)) ?_)
    · rw [hL.1]; exact nI_ge h3 (by have := hL.2.1; omega)
    rw [nI_clamp (by omega), h1]
    refine ly_ydf h2 (hC m h2).1 (hC m h2).2 (nm_r (ly_bor _ _) (nm_r (nI_1 _) ?_))
    have := ih (pre ++ [m]) f (c || ly_df b_ops b_opA b_opB m (L m) s) (by rw [e, List.append_assoc]; rfl) (by omega) (by rw [List.any_cons, ← Bool.or_assoc] at hp; exact hp)
    rw [List.length_append] at this
    exact this
theorem ly_ydd {post : Int32 → Prop} {s : Int32} (hC : ∀ m, m < 6 → b_counts m = nI (L m) ∧ L m ≤ 24) (hL : lk_LS ms g_many b_list) (hp : post (ly_b (lk_dd b_ops b_opA b_opB L ms s))) : wpY_defined post (g_origin, g_strip, g_many, g_culprit, g_textEnd, g_end, g_made, g_rounds, g_entry, g_linked, g_ran, g_pc, g_steps, g_outs, b_ops, b_opA, b_opB, b_counts, b_roles, b_list, b_places, b_symbols, b_image, b_stays, b_wide, b_memory, b_reg, b_out) s :=
  ⟨ms.length + 1, ly_ydd4 hC hL ms [] _ false rfl (by omega) hp⟩
theorem ly_yln4 {post : Int32 → Prop} {q : Nat} (hq : q < 6) (hL : lk_LS ms g_many b_list) : ∀ rest pre f c, ms = pre ++ rest → rest.length < f →
    post (ly_b (c || decide (q ∈ rest))) → wY_listedNow_4 post (nI q) g_origin g_strip g_many g_culprit g_textEnd g_end g_made g_rounds g_entry g_linked g_ran g_pc g_steps g_outs b_ops b_opA b_opB b_counts b_roles b_list b_places b_symbols b_image b_stays b_wide b_memory b_reg b_out f (ly_b c) (nI pre.length) := by
  intro rest
  induction rest with
  | nil =>
    intro pre f c e hf hp
    obtain ⟨f, rfl⟩ : ∃ f', f = f' + 1 := ⟨f - 1, by omega⟩
    rw [decide_eq_false (by simp), Bool.or_false] at hp
    refine br_t ?_ (And.intro (ly_bn c) hp)
    rw [hL.1, e, List.append_nil]
    exact Int32.le_refl _
  | cons m rest ih =>
    intro pre f c e hf hp
    rw [List.length_cons] at hf
    obtain ⟨f, rfl⟩ : ∃ f', f = f' + 1 := ⟨f - 1, by omega⟩
    obtain ⟨h1, h2, h3, h4⟩ := lk_LS_at hL e
    refine br_f ?_ (And.intro (vp_in_nI h4 (by omega)) ?_)
    · rw [hL.1]; exact nI_ge h3 (by have := hL.2.1; omega)
    rw [nI_clamp (by omega), h1]
    have ih' := fun c' => ih (pre ++ [m]) f c' (by rw [e, List.append_assoc]; rfl) (by omega)
    rw [List.length_append] at ih'
    by_cases z : m = q
    · refine br_t (by rw [z]) (nm_r (e' := ly_b true) (ly_bor c true |>.trans (by rw [Bool.or_true])) (nm_r (nI_1 _) (ih' true ?_)))
      rw [decide_eq_true (by rw [z]; exact List.mem_cons_self), Bool.or_true] at hp
      exact hp
    · refine br_f (by rw [nI_eq (by omega) (by omega)]; exact z) (nm_r (e' := ly_b c) (ly_bor c false |>.trans (by rw [Bool.or_false])) (nm_r (nI_1 _) (ih' c ?_)))
      have : (q ∈ m :: rest) ↔ q ∈ rest := by rw [List.mem_cons]; exact ⟨fun h => h.resolve_left (fun e => z e.symm), Or.inr⟩
      rw [decide_eq_decide.mpr this] at hp
      exact hp
theorem ly_yln {post : Int32 → Prop} {q : Nat} (hq : q < 6) (hL : lk_LS ms g_many b_list) (hp : post (ly_b (decide (q ∈ ms)))) : wpY_listedNow post (g_origin, g_strip, g_many, g_culprit, g_textEnd, g_end, g_made, g_rounds, g_entry, g_linked, g_ran, g_pc, g_steps, g_outs, b_ops, b_opA, b_opB, b_counts, b_roles, b_list, b_places, b_symbols, b_image, b_stays, b_wide, b_memory, b_reg, b_out) (nI q) :=
  ⟨ms.length + 1, ly_yln4 hq hL ms [] _ false rfl (by omega) (by rw [Bool.false_or]; exact hp)⟩
theorem ly_yf29 {post J2 : Int32 → Prop} {s : Nat} (hC : ∀ m, m < 6 → b_counts m = nI (L m) ∧ L m ≤ 24) (hL : lk_LS ms g_many b_list)
    (hJ : J2 (nI s + 1) ∨ ∃ m, lk_f2 b_ops b_opA b_opB L b_roles ms (nI s) = some m) :
    ∀ d m f, m + d = 6 → d < f → lk_f2 b_ops b_opA b_opB L b_roles ms (nI s) = ly_ff (fun m => decide (b_roles m = 2) && (!decide (m ∈ ms) && ly_df b_ops b_opA b_opB m (L m) (nI s))) m d →
    (∀ m, lk_f2 b_ops b_opA b_opB L b_roles ms (nI s) = some m → post (nI m)) → wY_fetched_29 post J2 (nI s) g_origin g_strip g_many g_culprit g_textEnd g_end g_made g_rounds g_entry g_linked g_ran g_pc g_steps g_outs b_ops b_opA b_opB b_counts b_roles b_list b_places b_symbols b_image b_stays b_wide b_memory b_reg b_out f (nI m) := by
  intro d
  induction d with
  | zero =>
    intro m f hm hf e hp
    obtain ⟨f, rfl⟩ : ∃ f', f = f' + 1 := ⟨f - 1, by omega⟩
    refine br_t (by rw [show m = 6 by omega]; exact Int32.le_refl _) (nm_e ?_)
    rcases hJ with h | ⟨q, h⟩
    · exact h
    · rw [h] at e; cases e
  | succ d ih =>
    intro m f hm hf e hp
    obtain ⟨f, rfl⟩ : ∃ f', f = f' + 1 := ⟨f - 1, by omega⟩
    refine br_f (nI_ge (b := 6) (by omega) (by omega)) (And.intro (vp_in_nI (by omega) (by omega)) ?_)
    rw [nI_clamp (by omega)]
    by_cases h2 : b_roles m = 2
    · refine br_t h2 (ly_yln (by omega) hL (ly_br (fun e1 => ly_ydf (by omega) (hC m (by omega)).1 (hC m (by omega)).2 (ly_br (fun e2 => ?_) (fun e2 => ?_))) (fun e1 => ?_)))
      · rw [ly_ff_n (by rw [e2, Bool.and_false, Bool.and_false])] at e
        exact nm_r (nI_1 m) (ih (m + 1) f (by omega) (by omega) e hp)
      · rw [ly_ff_s (by rw [decide_eq_true h2, e1, e2]; rfl)] at e
        exact hp m e
      · rw [ly_ff_n (by rw [e1, Bool.not_true, Bool.false_and, Bool.and_false])] at e
        exact nm_r (nI_1 m) (ih (m + 1) f (by omega) (by omega) e hp)
    · rw [ly_ff_n (by rw [decide_eq_false h2, Bool.false_and])] at e
      exact br_f h2 (nm_r (nI_1 m) (ih (m + 1) f (by omega) (by omega) e hp))
theorem ly_yfe2 {post : Int32 → Prop} (hC : ∀ m, m < 6 → b_counts m = nI (L m) ∧ L m ≤ 24) (hL : lk_LS ms g_many b_list) : ∀ d s f, s + d = 16 → d < f →
    post (ly_oi (lk_fe b_ops b_opA b_opB L b_roles ms s d)) → wY_fetched_2 post g_origin g_strip g_many g_culprit g_textEnd g_end g_made g_rounds g_entry g_linked g_ran g_pc g_steps g_outs b_ops b_opA b_opB b_counts b_roles b_list b_places b_symbols b_image b_stays b_wide b_memory b_reg b_out f (nI s) := by
  intro d
  induction d with
  | zero =>
    intro s f hs hf hp
    obtain ⟨f, rfl⟩ : ∃ f', f = f' + 1 := ⟨f - 1, by omega⟩
    exact br_t (by rw [show s = 16 by omega]; exact Int32.le_refl _) hp
  | succ d ih =>
    intro s f hs hf hp
    obtain ⟨f, rfl⟩ : ∃ f', f = f' + 1 := ⟨f - 1, by omega⟩
    unfold lk_fe at hp
    refine br_f (nI_ge (b := 16) (by omega) (by omega)) (ly_ywd hC hL (ly_br (fun e1 => ?_) (fun e1 => ly_ydd hC hL (ly_br (fun e2 => ?_) (fun e2 => ?_)))))
    · rw [e1, Bool.false_and, if_neg (by decide)] at hp
      exact nm_r (nI_1 s) (ih (s + 1) f (by omega) (by omega) hp)
    · rw [e1, e2, if_pos (by decide)] at hp
      refine ⟨7, ly_yf29 hC hL ?_ 6 0 7 rfl (by omega) rfl (fun m e => ?_)⟩
      · cases e : lk_f2 b_ops b_opA b_opB L b_roles ms (nI s) with
        | none =>
          rw [e] at hp
          rw [nI_1]
          exact Or.inl (ih (s + 1) f (by omega) (by omega) hp)
        | some m => exact Or.inr ⟨m, rfl⟩
      · rw [e] at hp; exact hp
    · rw [e1, e2, if_neg (by decide)] at hp
      exact nm_r (nI_1 s) (ih (s + 1) f (by omega) (by omega) hp)
theorem ly_yfe {post : Int32 → Prop} (hC : ∀ m, m < 6 → b_counts m = nI (L m) ∧ L m ≤ 24) (hL : lk_LS ms g_many b_list) (hp : post (ly_oi (lk_fe b_ops b_opA b_opB L b_roles ms 0 16))) : wpY_fetched post (g_origin, g_strip, g_many, g_culprit, g_textEnd, g_end, g_made, g_rounds, g_entry, g_linked, g_ran, g_pc, g_steps, g_outs, b_ops, b_opA, b_opB, b_counts, b_roles, b_list, b_places, b_symbols, b_image, b_stays, b_wide, b_memory, b_reg, b_out) :=
  ⟨17, ly_yfe2 hC hL 16 0 17 rfl (by omega) hp⟩
end yr
end
section
/-! Y: the list -/
section yl
variable {g_origin g_strip g_many g_culprit g_textEnd g_end g_made g_rounds g_entry g_linked g_ran g_pc g_steps g_outs : Int32} {b_ops b_opA b_opB b_counts b_roles b_list b_places b_symbols b_image b_stays b_wide b_memory b_reg b_out : Nat → Int32} {L : Nat → Nat}
theorem lk_y22 {post : Int32 → SY → Prop} (hp : ∀ gm l, lk_LS (lk_m0 b_roles 6) gm l → ∃ n, wY_link_69 post g_origin g_strip gm g_culprit g_textEnd g_end g_made g_rounds g_entry g_linked g_ran g_pc g_steps g_outs b_ops b_opA b_opB b_counts b_roles l b_places b_symbols b_image b_stays b_wide b_memory b_reg b_out n 0) :
    ∀ d i f gm l, i + d = 6 → d < f → lk_LS (lk_m0 b_roles i) gm l → wY_link_22 post g_origin g_strip g_culprit g_textEnd g_end g_made g_rounds g_entry g_linked g_ran g_pc g_steps g_outs f (nI i) gm b_ops b_opA b_opB b_counts b_roles l b_places b_symbols b_image b_stays b_wide b_memory b_reg b_out := by
  intro d
  induction d with
  | zero =>
    intro i f gm l hi hf hL
    obtain ⟨f, rfl⟩ : ∃ f', f = f' + 1 := ⟨f - 1, by omega⟩
    have : i = 6 := by omega
    subst this
    exact br_t (Int32.le_refl _) (hp gm l hL)
  | succ d ih =>
    intro i f gm l hi hf hL
    obtain ⟨f, rfl⟩ : ∃ f', f = f' + 1 := ⟨f - 1, by omega⟩
    have hl := lk_m0_len (role := b_roles) (i := i)
    have e1 := hL.1
    subst e1
    refine br_f (nI_ge (b := 6) (by omega) (by omega)) (And.intro (vp_in_nI (by omega) (by omega)) ?_)
    rw [nI_clamp (by omega : i < 2 ^ 31)]
    have hs := lk_m0_s (role := b_roles) (i := i)
    by_cases z : b_roles i = 1
    · rw [if_pos z] at hs
      refine br_t z ⟨vp_in_nI (by omega) (by omega), nm_r (e' := upd l (lk_m0 b_roles i).length (nI i)) (by rw [nI_clamp (by omega)]) (nm_r (nI_1 _) (nm_r (nI_1 i) ?_))⟩
      refine ih (i + 1) f _ _ (by omega) (by omega) ?_
      rw [hs]
      exact lk_LS_snoc hL (by omega) (by omega)
    · rw [if_neg z, List.append_nil] at hs
      refine br_f z (nm_r (nI_1 i) ?_)
      refine ih (i + 1) f _ _ (by omega) (by omega) ?_
      rw [hs]
      exact hL
theorem lk_y69 {post : Int32 → SY → Prop} {ms : List Nat} (hC : ∀ m, m < 6 → b_counts m = nI (L m) ∧ L m ≤ 24) (hL : lk_LS ms g_many b_list)
    (hN : ms.find? (fun m => ly_fl b_ops b_opA m (L m)) = none → ∃ n, wY_link_113 post g_origin g_strip g_culprit g_textEnd g_end g_made g_rounds g_entry g_linked g_ran g_pc g_steps g_outs n (ly_oi (lk_fe b_ops b_opA b_opB L b_roles ms 0 16)) g_many b_ops b_opA b_opB b_counts b_roles b_list b_places b_symbols b_image b_stays b_wide b_memory b_reg b_out)
    (hF : ∀ q, ms.find? (fun m => ly_fl b_ops b_opA m (L m)) = some q → post 1 (g_origin, g_strip, g_many, nI q, g_textEnd, g_end, g_made, g_rounds, g_entry, g_linked, g_ran, g_pc, g_steps, g_outs, b_ops, b_opA, b_opB, b_counts, b_roles, b_list, b_places, b_symbols, b_image, b_stays, b_wide, b_memory, b_reg, b_out)) :
    ∀ rest pre f, ms = pre ++ rest → rest.length < f → ms.find? (fun m => ly_fl b_ops b_opA m (L m)) = rest.find? (fun m => ly_fl b_ops b_opA m (L m)) → wY_link_69 post g_origin g_strip g_many g_culprit g_textEnd g_end g_made g_rounds g_entry g_linked g_ran g_pc g_steps g_outs b_ops b_opA b_opB b_counts b_roles b_list b_places b_symbols b_image b_stays b_wide b_memory b_reg b_out f (nI pre.length) := by
  intro rest
  induction rest with
  | nil =>
    intro pre f e hf hq
    obtain ⟨f, rfl⟩ : ∃ f', f = f' + 1 := ⟨f - 1, by omega⟩
    refine br_t ?_ (ly_yfe hC hL (hN hq))
    rw [hL.1, e, List.append_nil]
    exact Int32.le_refl _
  | cons m rest ih =>
    intro pre f e hf hq
    rw [List.length_cons] at hf
    obtain ⟨f, rfl⟩ : ∃ f', f = f' + 1 := ⟨f - 1, by omega⟩
    obtain ⟨h1, h2, h3, h4⟩ := lk_LS_at hL e
    have hv : vp_in (nI pre.length) 6 := vp_in_nI h4 (by omega)
    refine br_f ?_ (And.intro hv ?_)
    · rw [hL.1]; exact nI_ge h3 (by have := hL.2.1; omega)
    rw [nI_clamp (by omega), h1]
    refine ly_yfl h2 (hC m h2).1 (hC m h2).2 (ly_br (fun e1 => nm_r (nI_1 _) ?_) (fun e1 => And.intro hv ?_))
    · rw [List.find?_cons_of_neg (by rw [e1]; decide)] at hq
      have := ih (pre ++ [m]) f (by rw [e, List.append_assoc]; rfl) (by omega) hq
      rw [List.length_append] at this
      exact this
    · rw [List.find?_cons_of_pos (p := fun m => ly_fl b_ops b_opA m (L m)) e1] at hq
      exact hF m hq
theorem lk_y113 {post : Int32 → SY → Prop} (hC : ∀ m, m < 6 → b_counts m = nI (L m) ∧ L m ≤ 24) :
    ∀ d ms f gm l, lk_LS ms gm l → ms.Nodup → 6 < d + ms.length → d ≤ f → 
    (∀ m gm' l', lk_go b_ops b_opA b_opB L b_roles d ms = .inl m → post 1 (g_origin, g_strip, gm', nI m, g_textEnd, g_end, g_made, g_rounds, g_entry, g_linked, g_ran, g_pc, g_steps, g_outs, b_ops, b_opA, b_opB, b_counts, b_roles, l', b_places, b_symbols, b_image, b_stays, b_wide, b_memory, b_reg, b_out)) →
    (∀ ms' gm' l', lk_go b_ops b_opA b_opB L b_roles d ms = .inr ms' → lk_LS ms' gm' l' → ∃ n, wY_link_162 post g_origin g_strip gm' g_culprit g_textEnd g_end g_made g_rounds g_entry g_linked g_ran g_pc g_steps g_outs b_ops b_opA b_opB b_counts b_roles l' b_places b_symbols b_image b_stays b_wide b_memory b_reg b_out n 0) →
    wY_link_113 post g_origin g_strip g_culprit g_textEnd g_end g_made g_rounds g_entry g_linked g_ran g_pc g_steps g_outs f (ly_oi (lk_fe b_ops b_opA b_opB L b_roles ms 0 16)) gm b_ops b_opA b_opB b_counts b_roles l b_places b_symbols b_image b_stays b_wide b_memory b_reg b_out := by
  intro d
  induction d with
  | zero => intro ms f gm l hL _ h; have := hL.2.1; omega
  | succ d ih =>
    intro ms f gm l hL hnd hd hf h1 h2
    obtain ⟨f, rfl⟩ : ∃ f', f = f' + 1 := ⟨f - 1, by omega⟩
    unfold lk_go at h1 h2
    cases e : lk_fe b_ops b_opA b_opB L b_roles ms 0 16 with
    | none =>
      rw [e] at h2
      exact br_t (by decide) (h2 ms gm l rfl hL)
    | some m =>
      rw [e] at h1 h2
      dsimp only at h1 h2
      obtain ⟨hm, hn⟩ := lk_fe_some e
      have hl := lk_len_lt hnd hL.2.2.1 hm hn
      have e1 := hL.1
      subst e1
      have hL' := lk_LS_snoc hL hm hl
      refine br_f (nI_pos (by omega)) (And.intro (vp_in_nI hl (by omega)) (nm_r (e' := upd l ms.length (nI m)) (by rw [nI_clamp (by omega)]; rfl) (nm_r (nI_1 _) ?_)))
      refine ly_yfl hm (hC m hm).1 (hC m hm).2 (ly_br (fun e1 => ?_) (fun e1 => ?_))
      · rw [if_neg (by rw [e1]; decide)] at h1 h2
        refine ly_yfe hC hL' ?_
        exact ih (ms ++ [m]) f _ _ hL' (by rw [List.nodup_append]; exact ⟨hnd, by simp, fun x hx y hy => by rw [List.mem_singleton.mp hy]; exact fun q => hn (q ▸ hx)⟩) (by rw [List.length_append, List.length_singleton]; omega) (by omega) h1 h2
      · rw [if_pos e1] at h1
        exact h1 m _ _ rfl
/-- the list as a whole: faulty, or a list -/
theorem lk_ylist {post : Int32 → SY → Prop} (hC : ∀ m, m < 6 → b_counts m = nI (L m) ∧ L m ≤ 24)
    (h1 : ∀ m gm' l', lk_f1 b_ops b_opA L b_roles 0 6 = some m → post 1 (g_origin, g_strip, gm', nI m, g_textEnd, g_end, g_made, g_rounds, g_entry, 0, 0, g_pc, g_steps, g_outs, b_ops, b_opA, b_opB, b_counts, b_roles, l', b_places, b_symbols, b_image, b_stays, b_wide, b_memory, b_reg, b_out))
    (h2 : ∀ m gm' l', lk_f1 b_ops b_opA L b_roles 0 6 = none → lk_go b_ops b_opA b_opB L b_roles 7 (lk_m0 b_roles 6) = .inl m → post 1 (g_origin, g_strip, gm', nI m, g_textEnd, g_end, g_made, g_rounds, g_entry, 0, 0, g_pc, g_steps, g_outs, b_ops, b_opA, b_opB, b_counts, b_roles, l', b_places, b_symbols, b_image, b_stays, b_wide, b_memory, b_reg, b_out))
    (h3 : ∀ ms' gm' l', lk_f1 b_ops b_opA L b_roles 0 6 = none → lk_go b_ops b_opA b_opB L b_roles 7 (lk_m0 b_roles 6) = .inr ms' → lk_LS ms' gm' l' → ∃ n, wY_link_162 post g_origin g_strip gm' (-1) g_textEnd g_end g_made g_rounds g_entry 0 0 g_pc g_steps g_outs b_ops b_opA b_opB b_counts b_roles l' b_places b_symbols b_image b_stays b_wide b_memory b_reg b_out n 0) :
    wpY_link post (g_origin, g_strip, g_many, g_culprit, g_textEnd, g_end, g_made, g_rounds, g_entry, g_linked, g_ran, g_pc, g_steps, g_outs, b_ops, b_opA, b_opB, b_counts, b_roles, b_list, b_places, b_symbols, b_image, b_stays, b_wide, b_memory, b_reg, b_out) := by
  refine ⟨7, lk_y22 (fun gm l hL => ⟨7, ?_⟩) 6 0 7 0 b_list rfl (by omega) lk_LS_nil⟩
  have hf := lk_f1_find (o := b_ops) (a := b_opA) (L := L) (role := b_roles)
  refine lk_y69 hC hL (fun e => ⟨7, ?_⟩) (fun q e => ?_) (lk_m0 b_roles 6) [] 7 rfl (by have := lk_m0_len (role := b_roles) (i := 6); omega) rfl
  · rw [hf] at e
    exact lk_y113 hC 7 _ 7 _ _ hL lk_m0_nd (by omega) (by omega) (fun m gm' l' => h2 m gm' l' e) (fun ms' gm' l' => h3 ms' gm' l' e)
  · rw [hf] at e
    exact h1 q _ _ e
end yl
end
section
/-! X: the list -/
section xl
variable {f_origin f_culprit f_strip f_listed f_units f_ordered f_textEnd f_end f_longs f_rounds f_keptListed f_entry f_linked f_pc f_steps f_outs f_ran : Int32} {a_op a_opA a_opB a_section a_length a_role a_labelAt a_used a_local a_global a_weak a_faulty a_list a_chosen a_order a_lengthened a_at a_keptAt a_keptSymbol a_keptList a_image a_sizes a_words a_apart a_partA a_partN a_wide a_r a_output : Nat → Int32} {L : Nat → Nat} {ms : List Nat}
theorem lk_xin4 {post : Int32 → Prop} {q : Nat} (hq : q < 6) (hL : lk_LS ms f_listed a_list) : ∀ rest pre f, ms = pre ++ rest → rest.length < f →
    post (ly_b (decide (q ∈ rest))) → wX_inList_2 post (nI q) f_origin f_culprit f_strip f_listed f_units f_ordered f_textEnd f_end f_longs f_rounds f_keptListed f_entry f_linked f_pc f_steps f_outs f_ran a_op a_opA a_opB a_section a_length a_role a_labelAt a_used a_local a_global a_weak a_faulty a_list a_chosen a_order a_lengthened a_at a_keptAt a_keptSymbol a_keptList a_image a_sizes a_words a_apart a_partA a_partN a_wide a_r a_output f (nI pre.length) := by
  intro rest
  induction rest with
  | nil =>
    intro pre f e hf hp
    obtain ⟨f, rfl⟩ : ∃ f', f = f' + 1 := ⟨f - 1, by omega⟩
    rw [decide_eq_false (by simp)] at hp
    refine br_t ?_ hp
    rw [hL.1, e, List.append_nil]
    exact Int32.le_refl _
  | cons m rest ih =>
    intro pre f e hf hp
    rw [List.length_cons] at hf
    obtain ⟨f, rfl⟩ : ∃ f', f = f' + 1 := ⟨f - 1, by omega⟩
    obtain ⟨h1, h2, h3, h4⟩ := lk_LS_at hL e
    refine br_f ?_ (And.intro (vp_in_nI h4 (by omega)) ?_)
    · rw [hL.1]; exact nI_ge h3 (by have := hL.2.1; omega)
    rw [nI_clamp (by omega), h1]
    by_cases z : m = q
    · refine br_t (by rw [z]) ?_
      rw [decide_eq_true (by rw [z]; exact List.mem_cons_self)] at hp
      exact hp
    · refine br_f (by rw [nI_eq (by omega) (by omega)]; exact z) (nm_r (nI_1 _) ?_)
      have hm : (q ∈ m :: rest) ↔ q ∈ rest := by rw [List.mem_cons]; exact ⟨fun h => h.resolve_left (fun e => z e.symm), Or.inr⟩
      rw [decide_eq_decide.mpr hm] at hp
      have := ih (pre ++ [m]) f (by rw [e, List.append_assoc]; rfl) (by omega) hp
      rw [List.length_append] at this
      exact this
theorem lk_xin {post : Int32 → Prop} {q : Nat} (hq : q < 6) (hL : lk_LS ms f_listed a_list) (hp : post (ly_b (decide (q ∈ ms)))) : wpX_inList post (f_origin, f_culprit, f_strip, f_listed, f_units, f_ordered, f_textEnd, f_end, f_longs, f_rounds, f_keptListed, f_entry, f_linked, f_pc, f_steps, f_outs, f_ran, a_op, a_opA, a_opB, a_section, a_length, a_role, a_labelAt, a_used, a_local, a_global, a_weak, a_faulty, a_list, a_chosen, a_order, a_lengthened, a_at, a_keptAt, a_keptSymbol, a_keptList, a_image, a_sizes, a_words, a_apart, a_partA, a_partN, a_wide, a_r, a_output) (nI q) :=
  ⟨ms.length + 1, lk_xin4 hq hL ms [] _ rfl (by omega) hp⟩
def lk_XJ (o a b len sec lab us lo gl we fa : Nat → Int32) (L : Nat → Nat) : Prop := ∀ m, m < 6 → len m = nI (L m) ∧ ly_Mo o a b m (L m) sec lab (us m) (lo m) (gl m) (we m) (fa m)
theorem lk_xf14 {post J2 : Int32 → Prop} {s : Nat} {x2 x3 : Int32} (hs : s < 32) (hx : ∀ i, i < 32 → bt x3 i = decide (i = s)) (hJ : lk_XJ a_op a_opA a_opB a_length a_section a_labelAt a_used a_local a_global a_weak a_faulty L) (hL : lk_LS ms f_listed a_list)
    (hN : J2 (x2 &&& (x2 - 1)) ∨ ∃ m, lk_f2 a_op a_opA a_opB L a_role ms (nI s) = some m) :
    ∀ d m f, m + d = 6 → d < f → lk_f2 a_op a_opA a_opB L a_role ms (nI s) = ly_ff (fun m => decide (a_role m = 2) && (!decide (m ∈ ms) && ly_df a_op a_opA a_opB m (L m) (nI s))) m d →
    (∀ m, lk_f2 a_op a_opA a_opB L a_role ms (nI s) = some m → post (nI m)) → wX_fromArchive_14 post J2 x2 x3 f_origin f_culprit f_strip f_listed f_units f_ordered f_textEnd f_end f_longs f_rounds f_keptListed f_entry f_linked f_pc f_steps f_outs f_ran a_op a_opA a_opB a_section a_length a_role a_labelAt a_used a_local a_global a_weak a_faulty a_list a_chosen a_order a_lengthened a_at a_keptAt a_keptSymbol a_keptList a_image a_sizes a_words a_apart a_partA a_partN a_wide a_r a_output f (nI m) := by
  intro d
  induction d with
  | zero =>
    intro m f hm hf e hp
    obtain ⟨f, rfl⟩ : ∃ f', f = f' + 1 := ⟨f - 1, by omega⟩
    refine br_t (by rw [show m = 6 by omega]; exact Int32.le_refl _) (nm_e ?_)
    rcases hN with h | ⟨q, h⟩
    · exact h
    · rw [h] at e; cases e
  | succ d ih =>
    intro m f hm hf e hp
    obtain ⟨f, rfl⟩ : ∃ f', f = f' + 1 := ⟨f - 1, by omega⟩
    have hv : vp_in (nI m) 6 := vp_in_nI (by omega) (by omega)
    refine br_f (nI_ge (b := 6) (by omega) (by omega)) (And.intro hv ?_)
    rw [nI_clamp (by omega)]
    obtain ⟨hlen, h24, hok, -, -, -, -, hg, hw, -⟩ := hJ m (by omega)
    have hd : (((a_global m) ||| (a_weak m)) &&& x3) = 0 ↔ ly_df a_op a_opA a_opB m (L m) (nI s) = false := by
      rw [ly_hit hs hx, b_or, hg s hs, hw s hs, ly_df_sl hok]
    by_cases h2 : a_role m = 2
    · refine br_t h2 ⟨hv, hv, ?_⟩
      by_cases h3 : (((a_global m) ||| (a_weak m)) &&& x3) = 0
      · rw [ly_ff_n (by rw [hd.mp h3, Bool.and_false, Bool.and_false])] at e
        exact br_t h3 (nm_r (nI_1 m) (ih (m + 1) f (by omega) (by omega) e hp))
      · have hdt : ly_df a_op a_opA a_opB m (L m) (nI s) = true := by
          cases e2 : ly_df a_op a_opA a_opB m (L m) (nI s) with
          | true => rfl
          | false => exact absurd (hd.mpr e2) h3
        refine br_f h3 (lk_xin (by omega) hL (ly_br (fun e1 => ?_) (fun e1 => ?_)))
        · rw [ly_ff_s (by rw [decide_eq_true h2, e1, hdt]; rfl)] at e
          exact hp m e
        · rw [ly_ff_n (by rw [e1, Bool.not_true, Bool.false_and, Bool.and_false])] at e
          exact nm_r (nI_1 m) (ih (m + 1) f (by omega) (by omega) e hp)
    · rw [ly_ff_n (by rw [decide_eq_false h2, Bool.false_and])] at e
      exact br_f h2 (nm_r (nI_1 m) (ih (m + 1) f (by omega) (by omega) e hp))
theorem lk_xf2 {post : Int32 → Prop} (hJ : lk_XJ a_op a_opA a_opB a_length a_section a_labelAt a_used a_local a_global a_weak a_faulty L) (hL : lk_LS ms f_listed a_list) :
    ∀ d s f x, s + d = 16 → d < f → (∀ i, i < 32 → bt x i = (decide (s ≤ i) && (decide (i < 16) && (lk_wd a_op a_opA a_opB L ms (nI i) && !lk_dd a_op a_opA a_opB L ms (nI i))))) →
    post (ly_oi (lk_fe a_op a_opA a_opB L a_role ms s d)) → wX_fromArchive_2 post f_origin f_culprit f_strip f_listed f_units f_ordered f_textEnd f_end f_longs f_rounds f_keptListed f_entry f_linked f_pc f_steps f_outs f_ran a_op a_opA a_opB a_section a_length a_role a_labelAt a_used a_local a_global a_weak a_faulty a_list a_chosen a_order a_lengthened a_at a_keptAt a_keptSymbol a_keptList a_image a_sizes a_words a_apart a_partA a_partN a_wide a_r a_output f x := by
  intro d
  induction d with
  | zero =>
    intro s f x hs hf hb hp
    obtain ⟨f, rfl⟩ : ∃ f', f = f' + 1 := ⟨f - 1, by omega⟩
    refine br_t (ly_zero.mpr (fun i hi => ?_)) hp
    rw [hb i hi]
    by_cases z : i < 16
    · rw [decide_eq_false (by omega), Bool.false_and]
    · rw [decide_eq_false z, Bool.false_and, Bool.and_false]
  | succ d ih =>
    intro s f x hs hf hb hp
    unfold lk_fe at hp
    by_cases z : (lk_wd a_op a_opA a_opB L ms (nI s) && !lk_dd a_op a_opA a_opB L ms (nI s)) = true
    · rw [if_pos z] at hp
      obtain ⟨f, rfl⟩ : ∃ f', f = f' + 1 := ⟨f - 1, by omega⟩
      have hbs : bt x s = true := by rw [hb s (by omega), z, decide_eq_true (by omega), decide_eq_true (by omega)]; rfl
      have hlow : ∀ j, j < s → bt x j = false := fun j hj => by rw [hb j (by omega), decide_eq_false (by omega), Bool.false_and]
      obtain ⟨k1, k2⟩ := ly_low hbs hlow
      have hx0 : ¬ x = 0 := fun e => by rw [e, b_0] at hbs; cases hbs
      refine br_f hx0 (nm_e ⟨7, lk_xf14 (by omega) k1 hJ hL ?_ 6 0 7 rfl (by omega) rfl (fun m e => ?_)⟩)
      · cases e : lk_f2 a_op a_opA a_opB L a_role ms (nI s) with
        | none =>
          rw [e] at hp
          refine Or.inl (ih (s + 1) f _ (by omega) (by omega) (fun i hi => ?_) hp)
          rw [k2 i hi, hb i hi]
          by_cases y : i = s
          · rw [decide_eq_false (p := i ≠ s) (by omega), decide_eq_false (p := s + 1 ≤ i) (by omega), Bool.and_false, Bool.false_and]
          · rw [decide_eq_true (p := i ≠ s) y, Bool.and_true, decide_eq_decide.mpr (show s ≤ i ↔ s + 1 ≤ i by omega)]
        | some m => exact Or.inr ⟨m, rfl⟩
      · rw [e] at hp; exact hp
    · rw [if_neg z] at hp
      refine ih (s + 1) f x (by omega) (by omega) (fun i hi => ?_) hp
      rw [hb i hi]
      by_cases y : i = s
      · rw [y, Bool.not_eq_true _ |>.mp z, Bool.and_false, Bool.and_false, Bool.and_false]
      · rw [decide_eq_decide.mpr (show s ≤ i ↔ s + 1 ≤ i by omega)]
/-- the sets of what is there and what is wanted -/
theorem lk_dd16 (hJ : lk_XJ a_op a_opA a_opB a_length a_section a_labelAt a_used a_local a_global a_weak a_faulty L) (h6 : ∀ m, m ∈ ms → m < 6) {i : Nat} (h1 : 16 ≤ i) (h2 : i < 32) : lk_wd a_op a_opA a_opB L ms (nI i) = false := by
  unfold lk_wd
  rw [decide_eq_false (nI_ne0 (by omega) (by omega)), Bool.false_or]
  cases e : ms.any (fun m => ly_ak a_op a_opA a_opB m (L m) (nI i)) with
  | false => rfl
  | true =>
    obtain ⟨m, hm, h⟩ := List.any_eq_true.mp e
    unfold ly_ak at h
    rw [ly_ud_16 (hJ m (h6 m hm)).2.2.1 h1 h2, Bool.and_false] at h
    cases h
theorem lk_xfe {post : Int32 → Prop} {x1 x2 : Int32} (hJ : lk_XJ a_op a_opA a_opB a_length a_section a_labelAt a_used a_local a_global a_weak a_faulty L) (hL : lk_LS ms f_listed a_list)
    (h1 : ∀ i, i < 32 → bt x1 i = lk_dd a_op a_opA a_opB L ms (nI i)) (h2 : ∀ i, i < 32 → bt x2 i = lk_wd a_op a_opA a_opB L ms (nI i))
    (hp : post (ly_oi (lk_fe a_op a_opA a_opB L a_role ms 0 16))) : wpX_fromArchive post (f_origin, f_culprit, f_strip, f_listed, f_units, f_ordered, f_textEnd, f_end, f_longs, f_rounds, f_keptListed, f_entry, f_linked, f_pc, f_steps, f_outs, f_ran, a_op, a_opA, a_opB, a_section, a_length, a_role, a_labelAt, a_used, a_local, a_global, a_weak, a_faulty, a_list, a_chosen, a_order, a_lengthened, a_at, a_keptAt, a_keptSymbol, a_keptList, a_image, a_sizes, a_words, a_apart, a_partA, a_partN, a_wide, a_r, a_output) (x2 &&& (x1 ^^^ (-1))) := by
  refine ⟨17, lk_xf2 hJ hL 16 0 17 _ rfl (by omega) (fun i hi => ?_) hp⟩
  rw [b_and, ly_not _ hi, h1 i hi, h2 i hi, decide_eq_true (Nat.zero_le i), Bool.true_and]
  by_cases z : i < 16
  · rw [decide_eq_true z, Bool.true_and]
  · rw [lk_dd16 hJ hL.2.2.1 (by omega) hi, decide_eq_false z, Bool.false_and, Bool.false_and]
theorem lk_th {x1 : Int32} {m : Nat} (hJ : lk_XJ a_op a_opA a_opB a_length a_section a_labelAt a_used a_local a_global a_weak a_faulty L) (hm : m < 6)
    (h1 : ∀ i, i < 32 → bt x1 i = lk_dd a_op a_opA a_opB L ms (nI i)) : ∀ i, i < 32 → bt (x1 ||| ((a_global m) ||| (a_weak m))) i = lk_dd a_op a_opA a_opB L (ms ++ [m]) (nI i) := by
  intro i hi
  obtain ⟨hlen, h24, hok, -, -, -, -, hg, hw, -⟩ := hJ m hm
  unfold lk_dd
  rw [b_or, b_or, h1 i hi, hg i hi, hw i hi, List.any_append, ← ly_df_sl hok]
  unfold lk_dd
  simp
theorem lk_wh {x2 : Int32} {m : Nat} (hJ : lk_XJ a_op a_opA a_opB a_length a_section a_labelAt a_used a_local a_global a_weak a_faulty L) (hm : m < 6) (hf : ly_fl a_op a_opA m (L m) = false)
    (h2 : ∀ i, i < 32 → bt x2 i = lk_wd a_op a_opA a_opB L ms (nI i)) : ∀ i, i < 32 → bt (x2 ||| ((a_used m) &&& ((a_local m) ^^^ (-1)))) i = lk_wd a_op a_opA a_opB L (ms ++ [m]) (nI i) := by
  intro i hi
  obtain ⟨hlen, h24, hok, -, -, hu, hl, -⟩ := hJ m hm
  unfold lk_wd
  rw [b_or, b_and, ly_not _ hi, h2 i hi, hu i hi, hl i hi, List.any_append, ← Bool.or_assoc]
  unfold lk_wd
  rw [← ly_ak_nf hf]
  simp
theorem lk_x114 {post : Int32 → SX → Prop} (hJ : lk_XJ a_op a_opA a_opB a_length a_section a_labelAt a_used a_local a_global a_weak a_faulty L) :
    ∀ d ms f x1 x2 fl l, lk_LS ms fl l → ms.Nodup → 6 < d + ms.length → d ≤ f →
    (∀ i, i < 32 → bt x1 i = lk_dd a_op a_opA a_opB L ms (nI i)) → (∀ i, i < 32 → bt x2 i = lk_wd a_op a_opA a_opB L ms (nI i)) →
    (∀ m fl' l', lk_go a_op a_opA a_opB L a_role d ms = .inl m → post 1 (f_origin, nI m, f_strip, fl', f_units, f_ordered, f_textEnd, f_end, f_longs, f_rounds, f_keptListed, f_entry, f_linked, f_pc, f_steps, f_outs, f_ran, a_op, a_opA, a_opB, a_section, a_length, a_role, a_labelAt, a_used, a_local, a_global, a_weak, a_faulty, l', a_chosen, a_order, a_lengthened, a_at, a_keptAt, a_keptSymbol, a_keptList, a_image, a_sizes, a_words, a_apart, a_partA, a_partN, a_wide, a_r, a_output)) →
    (∀ ms' fl' l', lk_go a_op a_opA a_opB L a_role d ms = .inr ms' → lk_LS ms' fl' l' → post 0 (f_origin, f_culprit, f_strip, fl', f_units, f_ordered, f_textEnd, f_end, f_longs, f_rounds, f_keptListed, f_entry, f_linked, f_pc, f_steps, f_outs, f_ran, a_op, a_opA, a_opB, a_section, a_length, a_role, a_labelAt, a_used, a_local, a_global, a_weak, a_faulty, l', a_chosen, a_order, a_lengthened, a_at, a_keptAt, a_keptSymbol, a_keptList, a_image, a_sizes, a_words, a_apart, a_partA, a_partN, a_wide, a_r, a_output)) →
    wX_collect_114 post f_origin f_culprit f_strip f_units f_ordered f_textEnd f_end f_longs f_rounds f_keptListed f_entry f_linked f_pc f_steps f_outs f_ran f x1 x2 (ly_oi (lk_fe a_op a_opA a_opB L a_role ms 0 16)) fl a_op a_opA a_opB a_section a_length a_role a_labelAt a_used a_local a_global a_weak a_faulty l a_chosen a_order a_lengthened a_at a_keptAt a_keptSymbol a_keptList a_image a_sizes a_words a_apart a_partA a_partN a_wide a_r a_output := by
  intro d
  induction d with
  | zero => intro ms f x1 x2 fl l hL _ h; have := hL.2.1; omega
  | succ d ih =>
    intro ms f x1 x2 fl l hL hnd hd hf t1 t2 h1 h2
    obtain ⟨f, rfl⟩ : ∃ f', f = f' + 1 := ⟨f - 1, by omega⟩
    unfold lk_go at h1 h2
    cases e : lk_fe a_op a_opA a_opB L a_role ms 0 16 with
    | none =>
      rw [e] at h2
      exact br_t (by decide) (h2 ms fl l rfl hL)
    | some m =>
      rw [e] at h1 h2
      dsimp only at h1 h2
      obtain ⟨hm, hn⟩ := lk_fe_some e
      have hl := lk_len_lt hnd hL.2.2.1 hm hn
      have e1 := hL.1
      subst e1
      have hL' := lk_LS_snoc hL hm hl
      have hv : vp_in (nI m) 6 := vp_in_nI hm (by omega)
      have hc : (nI m).toNatClampNeg = m := nI_clamp (by omega)
      rw [show ly_oi (some m) = nI m from rfl]
      refine br_f (nI_pos (by omega)) (And.intro hv ?_)
      rw [hc]
      have hfa := (hJ m hm).2.2.2.2.2.2.2.2.2
      cases ef : ly_fl a_op a_opA m (L m) with
      | false =>
        rw [ef] at hfa
        rw [if_neg (by rw [ef]; decide)] at h1 h2
        refine br_t hfa (nm_r (nI_1 _) (And.intro (vp_in_nI hl (by omega)) (nm_r (e' := upd l ms.length (nI m)) (by rw [nI_clamp (by omega), ly_nb m (by omega)]) (And.intro hv (And.intro hv (nm_e (And.intro hv (And.intro hv (nm_e ?_)))))))))
        have t1' := lk_th hJ hm t1
        have t2' := lk_wh hJ hm ef t2
        refine lk_xfe hJ hL' t1' t2' ?_
        exact ih (ms ++ [m]) f _ _ _ _ hL' (by rw [List.nodup_append]; exact ⟨hnd, by simp, fun x hx y hy => by rw [List.mem_singleton.mp hy]; exact fun q => hn (q ▸ hx)⟩) (by rw [List.length_append, List.length_singleton]; omega) (by omega) t1' t2' h1 h2
      | true =>
        rw [ef] at hfa
        rw [if_pos ef] at h1
        exact br_f (by rw [hfa]; decide) (h1 m _ _ rfl)
theorem lk_x11 {post : Int32 → SX → Prop} (hJ : lk_XJ a_op a_opA a_opB a_length a_section a_labelAt a_used a_local a_global a_weak a_faulty L) :
    ∀ d i f x1 x2 fl l, i + d = 6 → d < f → lk_LS (lk_m0 a_role i) fl l →
    (∀ s, s < 32 → bt x1 s = lk_dd a_op a_opA a_opB L (lk_m0 a_role i) (nI s)) → (∀ s, s < 32 → bt x2 s = lk_wd a_op a_opA a_opB L (lk_m0 a_role i) (nI s)) →
    (∀ m fl' l', lk_f1 a_op a_opA L a_role i d = some m → post 1 (f_origin, nI m, f_strip, fl', f_units, f_ordered, f_textEnd, f_end, f_longs, f_rounds, f_keptListed, f_entry, f_linked, f_pc, f_steps, f_outs, f_ran, a_op, a_opA, a_opB, a_section, a_length, a_role, a_labelAt, a_used, a_local, a_global, a_weak, a_faulty, l', a_chosen, a_order, a_lengthened, a_at, a_keptAt, a_keptSymbol, a_keptList, a_image, a_sizes, a_words, a_apart, a_partA, a_partN, a_wide, a_r, a_output)) →
    (∀ x1' x2' fl' l', lk_f1 a_op a_opA L a_role i d = none → lk_LS (lk_m0 a_role 6) fl' l' → (∀ s, s < 32 → bt x1' s = lk_dd a_op a_opA a_opB L (lk_m0 a_role 6) (nI s)) → (∀ s, s < 32 → bt x2' s = lk_wd a_op a_opA a_opB L (lk_m0 a_role 6) (nI s)) →
      ∃ n, wX_collect_114 post f_origin f_culprit f_strip f_units f_ordered f_textEnd f_end f_longs f_rounds f_keptListed f_entry f_linked f_pc f_steps f_outs f_ran n x1' x2' (ly_oi (lk_fe a_op a_opA a_opB L a_role (lk_m0 a_role 6) 0 16)) fl' a_op a_opA a_opB a_section a_length a_role a_labelAt a_used a_local a_global a_weak a_faulty l' a_chosen a_order a_lengthened a_at a_keptAt a_keptSymbol a_keptList a_image a_sizes a_words a_apart a_partA a_partN a_wide a_r a_output) →
    wX_collect_11 post f_origin f_culprit f_strip f_units f_ordered f_textEnd f_end f_longs f_rounds f_keptListed f_entry f_linked f_pc f_steps f_outs f_ran f x1 x2 (nI i) fl a_op a_opA a_opB a_section a_length a_role a_labelAt a_used a_local a_global a_weak a_faulty l a_chosen a_order a_lengthened a_at a_keptAt a_keptSymbol a_keptList a_image a_sizes a_words a_apart a_partA a_partN a_wide a_r a_output := by
  intro d
  induction d with
  | zero =>
    intro i f x1 x2 fl l hi hf hL t1 t2 h1 h2
    obtain ⟨f, rfl⟩ : ∃ f', f = f' + 1 := ⟨f - 1, by omega⟩
    have : i = 6 := by omega
    subst this
    refine br_t (Int32.le_refl _) ?_
    exact lk_xfe hJ hL t1 t2 (h2 x1 x2 fl l rfl hL t1 t2)
  | succ d ih =>
    intro i f x1 x2 fl l hi hf hL t1 t2 h1 h2
    obtain ⟨f, rfl⟩ : ∃ f', f = f' + 1 := ⟨f - 1, by omega⟩
    have hl := lk_m0_len (role := a_role) (i := i)
    have e1 := hL.1
    subst e1
    have hv : vp_in (nI i) 6 := vp_in_nI (by omega) (by omega)
    refine br_f (nI_ge (b := 6) (by omega) (by omega)) (And.intro hv ?_)
    rw [nI_clamp (by omega : i < 2 ^ 31)]
    have hs := lk_m0_s (role := a_role) (i := i)
    unfold lk_f1 at h1 h2
    by_cases z : a_role i = 1
    · rw [if_pos z] at hs
      have hfa := (hJ i (by omega)).2.2.2.2.2.2.2.2.2
      refine br_t z ⟨hv, ?_⟩
      cases ef : ly_fl a_op a_opA i (L i) with
      | true =>
        rw [ef] at hfa
        rw [ly_ff_s (by rw [decide_eq_true z, ef]; rfl)] at h1
        exact br_f (by rw [hfa]; decide) (h1 i _ _ rfl)
      | false =>
        rw [ef] at hfa
        rw [ly_ff_n (by rw [ef, Bool.and_false])] at h1 h2
        have hL' := lk_LS_snoc hL (m := i) (by omega) (by omega)
        have t1' := lk_th hJ (by omega : i < 6) t1
        have t2' := lk_wh hJ (by omega : i < 6) ef t2
        rw [← hs] at hL' t1' t2'
        refine br_t hfa (nm_r (nI_1 _) (And.intro (vp_in_nI (by omega) (by omega)) (nm_r (e' := upd l (lk_m0 a_role i).length (nI i)) (by rw [nI_clamp (by omega), ly_nb i (by omega)]) (And.intro hv (And.intro hv (nm_e (And.intro hv (And.intro hv (nm_e (nm_r (nI_1 i) ?_))))))))))
        exact ih (i + 1) f _ _ _ _ (by omega) (by omega) hL' t1' t2' h1 h2
    · rw [if_neg z, List.append_nil] at hs
      rw [ly_ff_n (by rw [decide_eq_false z, Bool.false_and])] at h1 h2
      refine br_f z (nm_r (nI_1 i) ?_)
      exact ih (i + 1) f _ _ _ _ (by omega) (by omega) (by rw [hs]; exact hL) (by rw [hs]; exact t1) (by rw [hs]; exact t2) h1 h2
theorem lk_xlist {post : Int32 → SX → Prop} (hJ : lk_XJ a_op a_opA a_opB a_length a_section a_labelAt a_used a_local a_global a_weak a_faulty L)
    (h1 : ∀ m fl' l', lk_f1 a_op a_opA L a_role 0 6 = some m → post 1 (f_origin, nI m, f_strip, fl', f_units, f_ordered, f_textEnd, f_end, f_longs, f_rounds, f_keptListed, f_entry, f_linked, f_pc, f_steps, f_outs, f_ran, a_op, a_opA, a_opB, a_section, a_length, a_role, a_labelAt, a_used, a_local, a_global, a_weak, a_faulty, l', a_chosen, a_order, a_lengthened, a_at, a_keptAt, a_keptSymbol, a_keptList, a_image, a_sizes, a_words, a_apart, a_partA, a_partN, a_wide, a_r, a_output))
    (h2 : ∀ m fl' l', lk_f1 a_op a_opA L a_role 0 6 = none → lk_go a_op a_opA a_opB L a_role 7 (lk_m0 a_role 6) = .inl m → post 1 (f_origin, nI m, f_strip, fl', f_units, f_ordered, f_textEnd, f_end, f_longs, f_rounds, f_keptListed, f_entry, f_linked, f_pc, f_steps, f_outs, f_ran, a_op, a_opA, a_opB, a_section, a_length, a_role, a_labelAt, a_used, a_local, a_global, a_weak, a_faulty, l', a_chosen, a_order, a_lengthened, a_at, a_keptAt, a_keptSymbol, a_keptList, a_image, a_sizes, a_words, a_apart, a_partA, a_partN, a_wide, a_r, a_output))
    (h3 : ∀ ms' fl' l', lk_f1 a_op a_opA L a_role 0 6 = none → lk_go a_op a_opA a_opB L a_role 7 (lk_m0 a_role 6) = .inr ms' → lk_LS ms' fl' l' → post 0 (f_origin, f_culprit, f_strip, fl', f_units, f_ordered, f_textEnd, f_end, f_longs, f_rounds, f_keptListed, f_entry, f_linked, f_pc, f_steps, f_outs, f_ran, a_op, a_opA, a_opB, a_section, a_length, a_role, a_labelAt, a_used, a_local, a_global, a_weak, a_faulty, l', a_chosen, a_order, a_lengthened, a_at, a_keptAt, a_keptSymbol, a_keptList, a_image, a_sizes, a_words, a_apart, a_partA, a_partN, a_wide, a_r, a_output)) :
    wpX_collect post (f_origin, f_culprit, f_strip, f_listed, f_units, f_ordered, f_textEnd, f_end, f_longs, f_rounds, f_keptListed, f_entry, f_linked, f_pc, f_steps, f_outs, f_ran, a_op, a_opA, a_opB, a_section, a_length, a_role, a_labelAt, a_used, a_local, a_global, a_weak, a_faulty, a_list, a_chosen, a_order, a_lengthened, a_at, a_keptAt, a_keptSymbol, a_keptList, a_image, a_sizes, a_words, a_apart, a_partA, a_partN, a_wide, a_r, a_output) := by
  refine ⟨7, lk_x11 hJ 6 0 7 0 1 0 a_list rfl (by omega) lk_LS_nil (fun s hs => b_0 s) (fun s hs => ?_) h1 (fun x1 x2 fl l e hL t1 t2 => ⟨7, ?_⟩)⟩
  · rw [ly_1 s hs]
    unfold lk_wd
    rw [show (lk_m0 a_role 0) = [] from rfl, List.any_nil, Bool.or_false]
    apply ly_beq
    rw [decide_eq_true_eq, decide_eq_true_eq, show (0 : Int32) = nI 0 from rfl, nI_eq (by omega) (by omega)]
  · exact lk_x114 hJ 7 _ 7 _ _ _ _ hL lk_m0_nd (by omega) (by omega) t1 t2 (fun m fl' l' => h2 m fl' l' e) (fun ms' fl' l' => h3 ms' fl' l' e)
end xl
end
section
/-! the chosen labels: plain -/
section chd
variable (o a b : Nat → Int32) (L : Nat → Nat) (s : Int32)
def lk_G (m : Nat) : Bool := match ly_lb o a m (L m) s with
  | none => false
  | some k => decide (b k = 1)
def lk_W (m : Nat) : Bool := match ly_lb o a m (L m) s with
  | none => false
  | some k => !decide (b k = 0) && !decide (b k = 1)
def lk_lab (m : Nat) : Nat := (ly_lb o a m (L m) s).getD 0
def lk_c2 : List Nat → Int32
  | [] => -1
  | [m] => nI (lk_lab o a L s m)
  | _ :: _ :: _ => -2
def lk_c3 : List Nat → Int32
  | [] => -1
  | m :: _ => nI (lk_lab o a L s m)
def lk_ch (ms : List Nat) : Int32 := if lk_c2 o a L s (ms.filter (lk_G o a b L s)) = -1 then lk_c3 o a L s (ms.filter (lk_W o a b L s)) else lk_c2 o a L s (ms.filter (lk_G o a b L s))
def lk_cG (ms : List Nat) : Nat := (ms.filter (lk_G o a b L s)).length
def lk_xc (O : Bool) (rest : List Nat) : Int32 := match rest.find? (fun m => lk_G o a b L s m || (lk_W o a b L s m && !O)) with
  | none => 144
  | some m => nI (lk_lab o a L s m)
end chd
section chp
variable {o a b : Nat → Int32} {L : Nat → Nat} {s : Int32} {ms : List Nat}
theorem lk_lab_lt {m : Nat} (hm : m < 6) (h24 : L m ≤ 24) : lk_lab o a L s m < 144 := by
  unfold lk_lab
  cases e : ly_lb o a m (L m) s with
  | none => exact (by decide : 0 < 144)
  | some k => exact ly_lb_144 hm h24 e
theorem lk_c2_m1 {l : List Nat} (h6 : ∀ m, m ∈ l → m < 6) (hC : ∀ m, m < 6 → L m ≤ 24) : lk_c2 o a L s l = -1 ↔ l = [] := by
  match l, h6 with
  | [], _ => exact ⟨fun _ => rfl, fun _ => rfl⟩
  | [m], h6 =>
    have hm := h6 m (by simp)
    have := lk_lab_lt (o := o) (a := a) (s := s) hm (hC m hm)
    exact ⟨fun h => absurd h (ly_mm _ (by omega)), fun h => nomatch h⟩
  | _ :: _ :: _, _ => exact ⟨fun h => absurd h (by show ¬ (-2 : Int32) = -1; decide), fun h => nomatch h⟩
theorem lk_c2_m2 {l : List Nat} (h6 : ∀ m, m ∈ l → m < 6) (hC : ∀ m, m < 6 → L m ≤ 24) : lk_c2 o a L s l = -2 ↔ 2 ≤ l.length := by
  match l, h6 with
  | [], _ => exact ⟨fun h => absurd h (by show ¬ (-1 : Int32) = -2; decide), fun h => absurd h (by simp)⟩
  | [m], h6 =>
    have hm := h6 m (by simp)
    have := lk_lab_lt (o := o) (a := a) (s := s) hm (hC m hm)
    exact ⟨fun h => absurd h (ly_m2 _ (by omega)), fun h => absurd h (by simp)⟩
  | _ :: _ :: _, _ => exact ⟨fun _ => by simp, fun _ => rfl⟩
theorem lk_c3_nn {l : List Nat} (h6 : ∀ m, m ∈ l → m < 6) (hC : ∀ m, m < 6 → L m ≤ 24) : (0 ≤ lk_c3 o a L s l) ↔ l ≠ [] := by
  match l, h6 with
  | [], _ => exact ⟨fun h => absurd h (by show ¬ (0 : Int32) ≤ -1; decide), fun h => absurd rfl h⟩
  | m :: _, h6 =>
    have hm := h6 m (by simp)
    have := lk_lab_lt (o := o) (a := a) (s := s) hm (hC m hm)
    exact ⟨(fun _ h => nomatch h), fun _ => nI_pos' (by omega)⟩
theorem lk_c3_m1 {l : List Nat} (h6 : ∀ m, m ∈ l → m < 6) (hC : ∀ m, m < 6 → L m ≤ 24) : lk_c3 o a L s l = -1 ↔ l = [] := by
  match l, h6 with
  | [], _ => exact ⟨fun _ => rfl, fun _ => rfl⟩
  | m :: _, h6 =>
    have hm := h6 m (by simp)
    have := lk_lab_lt (o := o) (a := a) (s := s) hm (hC m hm)
    exact ⟨fun h => absurd h (ly_mm _ (by omega)), fun h => nomatch h⟩
theorem lk_mf {p : Nat → Bool} {ms : List Nat} (h6 : ∀ m, m ∈ ms → m < 6) : ∀ m, m ∈ ms.filter p → m < 6 := fun m h => h6 m (List.mem_filter.mp h).1
theorem lk_ch_m2 (h6 : ∀ m, m ∈ ms → m < 6) (hC : ∀ m, m < 6 → L m ≤ 24) : lk_ch o a b L s ms = -2 ↔ 2 ≤ lk_cG o a b L s ms := by
  unfold lk_ch lk_cG
  by_cases z : lk_c2 o a L s (ms.filter (lk_G o a b L s)) = -1
  · rw [if_pos z, (lk_c2_m1 (lk_mf h6) hC).mp z]
    constructor
    · intro h
      by_cases y : ms.filter (lk_W o a b L s) = []
      · rw [y] at h; exact absurd h (by show ¬ (-1 : Int32) = -2; decide)
      · have := (lk_c3_nn (o := o) (a := a) (s := s) (lk_mf h6) hC).mpr y
        rw [h] at this
        exact absurd this (by decide)
    · intro h; exact absurd h (by simp)
  · rw [if_neg z]; exact lk_c2_m2 (lk_mf h6) hC
/-- where no symbol has two, X's choice is Y's -/
theorem lk_xc_ch (h6 : ∀ m, m ∈ ms → m < 6) (hC : ∀ m, m < 6 → L m ≤ 24) (h1 : lk_cG o a b L s ms ≤ 1) : lk_xc o a b L s (decide (1 ≤ lk_cG o a b L s ms)) ms = if lk_ch o a b L s ms = -1 then 144 else lk_ch o a b L s ms := by
  unfold lk_cG at h1
  have hcases : (ms.filter (lk_G o a b L s) = []) ∨ ∃ m, ms.filter (lk_G o a b L s) = [m] := by
    match e : ms.filter (lk_G o a b L s) with
    | [] => exact Or.inl rfl
    | [m] => exact Or.inr ⟨m, rfl⟩
    | _ :: _ :: _ => rw [e] at h1; simp at h1
  rcases hcases with e | ⟨m, e⟩
  · have hO : decide (1 ≤ lk_cG o a b L s ms) = false := by unfold lk_cG; rw [e]; decide
    have hf : ms.find? (fun m => lk_G o a b L s m || (lk_W o a b L s m && !false)) = (ms.filter (lk_W o a b L s)).head? := by
      rw [List.head?_filter]
      have hg : ∀ m, m ∈ ms → lk_G o a b L s m = false := fun m hm => by
        cases e2 : lk_G o a b L s m with
        | false => rfl
        | true =>
          have : m ∈ ms.filter (lk_G o a b L s) := List.mem_filter.mpr ⟨hm, e2⟩
          rw [e] at this; cases this
      clear e h1 hO h6
      induction ms with
      | nil => rfl
      | cons q r ih =>
        rw [List.find?_cons, List.find?_cons, hg q (by simp), Bool.false_or, Bool.not_false, Bool.and_true]
        cases lk_W o a b L s q with
        | true => rfl
        | false => exact ih (fun m hm => hg m (by simp [hm]))
    unfold lk_xc lk_ch
    rw [hO, hf, e, show lk_c2 o a L s [] = -1 from rfl, if_pos rfl]
    cases e3 : ms.filter (lk_W o a b L s) with
    | nil => rw [show lk_c3 o a L s [] = -1 from rfl, if_pos rfl]; rfl
    | cons q r =>
      have hq : q < 6 := lk_mf h6 q (by rw [e3]; simp)
      have := lk_lab_lt (o := o) (a := a) (s := s) hq (hC q hq)
      have hn : ¬ lk_c3 o a L s (q :: r) = -1 := ly_mm (lk_lab o a L s q) (by omega)
      rw [if_neg hn]
      rfl
  · have hO : decide (1 ≤ lk_cG o a b L s ms) = true := by unfold lk_cG; rw [e]; rfl
    have hm : m < 6 := lk_mf h6 m (by rw [e]; simp)
    have hl := lk_lab_lt (o := o) (a := a) (s := s) hm (hC m hm)
    have hf : ms.find? (fun m => lk_G o a b L s m || (lk_W o a b L s m && !true)) = some m := by
      have : (fun m => lk_G o a b L s m || (lk_W o a b L s m && !true)) = lk_G o a b L s := by
        funext q; rw [Bool.not_true, Bool.and_false, Bool.or_false]
      rw [this, ← List.head?_filter, e]
      rfl
    have hn : ¬ lk_c2 o a L s [m] = -1 := ly_mm _ (by omega)
    unfold lk_xc lk_ch
    rw [hO, hf, e, if_neg hn, if_neg hn]
    rfl
theorem lk_ch_val (h6 : ∀ m, m ∈ ms → m < 6) (hC : ∀ m, m < 6 → L m ≤ 24) (h2 : ¬ lk_ch o a b L s ms = -2) (h1 : ¬ lk_ch o a b L s ms = -1) : ∃ m k, m ∈ ms ∧ ly_lb o a m (L m) s = some k ∧ lk_ch o a b L s ms = nI k := by
  have key : ∀ m, m ∈ ms → (lk_G o a b L s m = true ∨ lk_W o a b L s m = true) → ∃ k, ly_lb o a m (L m) s = some k ∧ lk_lab o a L s m = k := by
    intro m _ h
    unfold lk_G lk_W at h
    unfold lk_lab
    cases e : ly_lb o a m (L m) s with
    | none => rw [e] at h; rcases h with h | h <;> cases h
    | some k => exact ⟨k, rfl, rfl⟩
  have hcG := mt (lk_ch_m2 (b := b) h6 hC).mpr h2
  unfold lk_cG at hcG
  unfold lk_ch at h1 ⊢
  match e : ms.filter (lk_G o a b L s) with
  | [] =>
    rw [e, show lk_c2 o a L s [] = -1 from rfl] at h1
    rw [show lk_c2 o a L s [] = -1 from rfl]
    rw [if_pos rfl] at h1 ⊢
    match e2 : ms.filter (lk_W o a b L s) with
    | [] => rw [e2] at h1; exact absurd rfl h1
    | m :: r =>
      have hm : m ∈ ms.filter (lk_W o a b L s) := by rw [e2]; simp
      obtain ⟨g1, g2⟩ := List.mem_filter.mp hm
      obtain ⟨k, k1, k2⟩ := key m g1 (Or.inr g2)
      exact ⟨m, k, g1, k1, congrArg nI k2⟩
  | [m] =>
    have hm : m ∈ ms.filter (lk_G o a b L s) := by rw [e]; simp
    obtain ⟨g1, g2⟩ := List.mem_filter.mp hm
    obtain ⟨k, k1, k2⟩ := key m g1 (Or.inl g2)
    have hm6 := h6 m g1
    have := lk_lab_lt (o := o) (a := a) (s := s) hm6 (hC m hm6)
    have hn : ¬ lk_c2 o a L s [m] = -1 := ly_mm _ (by omega)
    rw [if_neg hn]
    exact ⟨m, k, g1, k1, congrArg nI k2⟩
  | _ :: _ :: _ => rw [e] at hcG; simp at hcG
end chp
section ych
variable {g_origin g_strip g_many g_culprit g_textEnd g_end g_made g_rounds g_entry g_linked g_ran g_pc g_steps g_outs : Int32} {b_ops b_opA b_opB b_counts b_roles b_list b_places b_symbols b_image b_stays b_wide b_memory b_reg b_out : Nat → Int32} {L : Nat → Nat} {ms : List Nat} {s : Int32}
theorem lk_ych7 {post : Int32 → Prop} (hC : ∀ m, m < 6 → b_counts m = nI (L m) ∧ L m ≤ 24) (hL : lk_LS ms g_many b_list) (hp : post (lk_ch b_ops b_opA b_opB L s ms)) : ∀ rest pre f, ms = pre ++ rest → rest.length < f →
    wY_chosen_7 post s g_origin g_strip g_many g_culprit g_textEnd g_end g_made g_rounds g_entry g_linked g_ran g_pc g_steps g_outs b_ops b_opA b_opB b_counts b_roles b_list b_places b_symbols b_image b_stays b_wide b_memory b_reg b_out f (lk_c2 b_ops b_opA L s (pre.filter (lk_G b_ops b_opA b_opB L s))) (lk_c3 b_ops b_opA L s (pre.filter (lk_W b_ops b_opA b_opB L s))) (nI pre.length) := by
  have hC' : ∀ m, m < 6 → L m ≤ 24 := fun m hm => (hC m hm).2
  intro rest
  induction rest with
  | nil =>
    intro pre f e hf
    obtain ⟨f, rfl⟩ : ∃ f', f = f' + 1 := ⟨f - 1, by omega⟩
    rw [List.append_nil] at e
    subst e
    refine br_t (by rw [hL.1]; exact Int32.le_refl _) ?_
    unfold lk_ch at hp
    by_cases z : lk_c2 b_ops b_opA L s (ms.filter (lk_G b_ops b_opA b_opB L s)) = -1
    · rw [if_pos z] at hp; exact br_t z hp
    · rw [if_neg z] at hp; exact br_f z hp
  | cons m rest ih =>
    intro pre f e hf
    rw [List.length_cons] at hf
    obtain ⟨f, rfl⟩ : ∃ f', f = f' + 1 := ⟨f - 1, by omega⟩
    obtain ⟨h1, h2, h3, h4⟩ := lk_LS_at hL e
    have h6 : ∀ m, m ∈ pre → m < 6 := fun q hq => hL.2.2.1 q (by rw [e]; simp [hq])
    have ih' := ih (pre ++ [m]) f (by rw [e, List.append_assoc]; rfl) (by omega)
    rw [List.length_append, List.filter_append, List.filter_append] at ih'
    refine br_f ?_ (And.intro (vp_in_nI h4 (by omega)) ?_)
    · rw [hL.1]; exact nI_ge h3 (by have := hL.2.1; omega)
    rw [nI_clamp (by omega), h1]
    refine ly_ylb h2 (hC m h2).1 (hC m h2).2 ?_
    cases el : ly_lb b_ops b_opA m (L m) s with
    | none =>
      have eG : lk_G b_ops b_opA b_opB L s m = false := by unfold lk_G; rw [el]
      have eW : lk_W b_ops b_opA b_opB L s m = false := by unfold lk_W; rw [el]
      rw [List.filter_cons_of_neg (by rw [eG]; decide), List.filter_cons_of_neg (by rw [eW]; decide), List.filter_nil, List.filter_nil, List.append_nil, List.append_nil] at ih'
      exact br_t (by decide) (nm_r (nI_1 _) ih')
    | some k =>
      have hk := ly_lb_144 h2 (hC m h2).2 el
      have eLk : lk_lab b_ops b_opA L s m = k := by unfold lk_lab; rw [el]; rfl
      have hv : vp_in (nI k) 144 := vp_in_nI hk (by omega)
      rw [show ly_oi (some k) = nI k from rfl]
      refine br_f (nI_pos (by omega)) ⟨hv, ?_⟩
      rw [nI_clamp (by omega)]
      by_cases z0 : b_opB k = 0
      · have eG : lk_G b_ops b_opA b_opB L s m = false := by unfold lk_G; rw [el]; simp only []; rw [z0]; decide
        have eW : lk_W b_ops b_opA b_opB L s m = false := by unfold lk_W; rw [el]; simp only []; rw [z0]; decide
        rw [List.filter_cons_of_neg (by rw [eG]; decide), List.filter_cons_of_neg (by rw [eW]; decide), List.filter_nil, List.filter_nil, List.append_nil, List.append_nil] at ih'
        exact br_t z0 (nm_r (nI_1 _) ih')
      · refine br_f z0 ⟨hv, ?_⟩
        by_cases z1 : b_opB k = 1
        · have eG : lk_G b_ops b_opA b_opB L s m = true := by unfold lk_G; rw [el]; exact decide_eq_true z1
          have eW : lk_W b_ops b_opA b_opB L s m = false := by unfold lk_W; rw [el]; simp only []; rw [z1]; decide
          rw [List.filter_cons_of_pos eG, List.filter_cons_of_neg (by rw [eW]; decide), List.filter_nil, List.filter_nil, List.append_nil] at ih'
          refine br_t z1 ?_
          by_cases y : pre.filter (lk_G b_ops b_opA b_opB L s) = []
          · rw [y] at ih' ⊢
            refine br_t rfl (nm_r (nI_1 _) ?_)
            rw [← eLk]
            exact ih'
          · refine br_f (mt (lk_c2_m1 (lk_mf h6) hC').mp y) (nm_r (nI_1 _) ?_)
            have : lk_c2 b_ops b_opA L s (pre.filter (lk_G b_ops b_opA b_opB L s) ++ [m]) = -2 := by
              have hl6 : ∀ q, q ∈ pre.filter (lk_G b_ops b_opA b_opB L s) ++ [m] → q < 6 := fun q hq => by
                rcases List.mem_append.mp hq with w | w
                · exact lk_mf h6 q w
                · rw [List.mem_singleton.mp w]; exact h2
              rw [lk_c2_m2 hl6 hC', List.length_append, List.length_singleton]
              have := List.length_pos_iff.mpr y
              omega
            rw [this] at ih'
            exact ih'
        · have eG : lk_G b_ops b_opA b_opB L s m = false := by unfold lk_G; rw [el]; exact decide_eq_false z1
          have eW : lk_W b_ops b_opA b_opB L s m = true := by unfold lk_W; rw [el]; simp only []; rw [decide_eq_false z0, decide_eq_false z1]; rfl
          rw [List.filter_cons_of_neg (by rw [eG]; decide), List.filter_cons_of_pos eW, List.filter_nil, List.filter_nil, List.append_nil] at ih'
          refine br_f z1 ?_
          by_cases y : pre.filter (lk_W b_ops b_opA b_opB L s) = []
          · rw [y] at ih' ⊢
            refine br_f (by show ¬ (0 : Int32) ≤ -1; decide) (nm_r (nI_1 _) ?_)
            rw [← eLk]
            exact ih'
          · refine br_t ((lk_c3_nn (lk_mf h6) hC').mpr y) (nm_r (nI_1 _) ?_)
            have : lk_c3 b_ops b_opA L s (pre.filter (lk_W b_ops b_opA b_opB L s) ++ [m]) = lk_c3 b_ops b_opA L s (pre.filter (lk_W b_ops b_opA b_opB L s)) := by
              cases e5 : pre.filter (lk_W b_ops b_opA b_opB L s) with
              | nil => exact absurd e5 y
              | cons q r => rfl
            rw [this] at ih'
            exact ih'
theorem lk_ych {post : Int32 → Prop} (hC : ∀ m, m < 6 → b_counts m = nI (L m) ∧ L m ≤ 24) (hL : lk_LS ms g_many b_list) (hp : post (lk_ch b_ops b_opA b_opB L s ms)) : wpY_chosen post (g_origin, g_strip, g_many, g_culprit, g_textEnd, g_end, g_made, g_rounds, g_entry, g_linked, g_ran, g_pc, g_steps, g_outs, b_ops, b_opA, b_opB, b_counts, b_roles, b_list, b_places, b_symbols, b_image, b_stays, b_wide, b_memory, b_reg, b_out) s :=
  ⟨ms.length + 1, lk_ych7 hC hL hp ms [] _ rfl (by omega)⟩
theorem lk_y193 {post : Int32 → SY → Prop} (hC : ∀ m, m < 6 → b_counts m = nI (L m) ∧ L m ≤ 24) (hL : lk_LS ms g_many b_list)
    (hU : ∀ t, t < 16 → lk_wd b_ops b_opA b_opB L ms (nI t) = true → lk_ch b_ops b_opA b_opB L (nI t) ms = -1 → (∀ j, j < t → ¬ (lk_wd b_ops b_opA b_opB L ms (nI j) = true ∧ lk_ch b_ops b_opA b_opB L (nI j) ms = -1)) → post 3 (g_origin, g_strip, g_many, nI t, g_textEnd, g_end, g_made, g_rounds, g_entry, g_linked, g_ran, g_pc, g_steps, g_outs, b_ops, b_opA, b_opB, b_counts, b_roles, b_list, b_places, b_symbols, b_image, b_stays, b_wide, b_memory, b_reg, b_out))
    (hA : (∀ j, j < 16 → ¬ (lk_wd b_ops b_opA b_opB L ms (nI j) = true ∧ lk_ch b_ops b_opA b_opB L (nI j) ms = -1)) → wpY_arrange post (g_origin, g_strip, g_many, g_culprit, g_textEnd, g_end, g_made, g_rounds, g_entry, g_linked, g_ran, g_pc, g_steps, g_outs, b_ops, b_opA, b_opB, b_counts, b_roles, b_list, b_places, b_symbols, b_image, b_stays, b_wide, b_memory, b_reg, b_out)) :
    ∀ d t f, t + d = 16 → d < f → (∀ j, j < t → ¬ (lk_wd b_ops b_opA b_opB L ms (nI j) = true ∧ lk_ch b_ops b_opA b_opB L (nI j) ms = -1)) → wY_link_193 post g_origin g_strip g_many g_culprit g_textEnd g_end g_made g_rounds g_entry g_linked g_ran g_pc g_steps g_outs b_ops b_opA b_opB b_counts b_roles b_list b_places b_symbols b_image b_stays b_wide b_memory b_reg b_out f (nI t) := by
  intro d
  induction d with
  | zero =>
    intro t f ht hf h
    obtain ⟨f, rfl⟩ : ∃ f', f = f' + 1 := ⟨f - 1, by omega⟩
    have : t = 16 := by omega
    subst this
    exact br_t (Int32.le_refl _) (hA h)
  | succ d ih =>
    intro t f ht hf h
    obtain ⟨f, rfl⟩ : ∃ f', f = f' + 1 := ⟨f - 1, by omega⟩
    refine br_f (nI_ge (b := 16) (by omega) (by omega)) (ly_ywd hC hL (ly_br (fun e => ?_) (fun e => lk_ych hC hL ?_)))
    · refine nm_r (nI_1 t) (ih (t + 1) f (by omega) (by omega) (fun j hj => ?_))
      by_cases z : j = t
      · rw [z, e]; exact fun h => nomatch h.1
      · exact h j (by omega)
    · by_cases y : lk_ch b_ops b_opA b_opB L (nI t) ms = -1
      · exact br_t y (hU t (by omega) e y h)
      · refine br_f y (nm_r (nI_1 t) (ih (t + 1) f (by omega) (by omega) (fun j hj => ?_)))
        by_cases z : j = t
        · rw [z]; exact fun h => y h.2
        · exact h j (by omega)
theorem lk_y162 {post : Int32 → SY → Prop} (hC : ∀ m, m < 6 → b_counts m = nI (L m) ∧ L m ≤ 24) (hL : lk_LS ms g_many b_list)
    (hD : ∀ t, t < 16 → lk_ch b_ops b_opA b_opB L (nI t) ms = -2 → (∀ j, j < t → ¬ lk_ch b_ops b_opA b_opB L (nI j) ms = -2) → post 2 (g_origin, g_strip, g_many, nI t, g_textEnd, g_end, g_made, g_rounds, g_entry, g_linked, g_ran, g_pc, g_steps, g_outs, b_ops, b_opA, b_opB, b_counts, b_roles, b_list, b_places, b_symbols, b_image, b_stays, b_wide, b_memory, b_reg, b_out))
    (hU : (∀ j, j < 16 → ¬ lk_ch b_ops b_opA b_opB L (nI j) ms = -2) → ∀ t, t < 16 → lk_wd b_ops b_opA b_opB L ms (nI t) = true → lk_ch b_ops b_opA b_opB L (nI t) ms = -1 → (∀ j, j < t → ¬ (lk_wd b_ops b_opA b_opB L ms (nI j) = true ∧ lk_ch b_ops b_opA b_opB L (nI j) ms = -1)) → post 3 (g_origin, g_strip, g_many, nI t, g_textEnd, g_end, g_made, g_rounds, g_entry, g_linked, g_ran, g_pc, g_steps, g_outs, b_ops, b_opA, b_opB, b_counts, b_roles, b_list, b_places, b_symbols, b_image, b_stays, b_wide, b_memory, b_reg, b_out))
    (hA : (∀ j, j < 16 → ¬ lk_ch b_ops b_opA b_opB L (nI j) ms = -2) → (∀ j, j < 16 → ¬ (lk_wd b_ops b_opA b_opB L ms (nI j) = true ∧ lk_ch b_ops b_opA b_opB L (nI j) ms = -1)) → wpY_arrange post (g_origin, g_strip, g_many, g_culprit, g_textEnd, g_end, g_made, g_rounds, g_entry, g_linked, g_ran, g_pc, g_steps, g_outs, b_ops, b_opA, b_opB, b_counts, b_roles, b_list, b_places, b_symbols, b_image, b_stays, b_wide, b_memory, b_reg, b_out)) :
    ∀ d t f, t + d = 16 → d < f → (∀ j, j < t → ¬ lk_ch b_ops b_opA b_opB L (nI j) ms = -2) → wY_link_162 post g_origin g_strip g_many g_culprit g_textEnd g_end g_made g_rounds g_entry g_linked g_ran g_pc g_steps g_outs b_ops b_opA b_opB b_counts b_roles b_list b_places b_symbols b_image b_stays b_wide b_memory b_reg b_out f (nI t) := by
  intro d
  induction d with
  | zero =>
    intro t f ht hf h
    obtain ⟨f, rfl⟩ : ∃ f', f = f' + 1 := ⟨f - 1, by omega⟩
    have : t = 16 := by omega
    subst this
    exact br_t (Int32.le_refl _) ⟨17, lk_y193 hC hL (hU h) (hA h) 16 0 17 rfl (by omega) (fun j hj => absurd hj (by omega))⟩
  | succ d ih =>
    intro t f ht hf h
    obtain ⟨f, rfl⟩ : ∃ f', f = f' + 1 := ⟨f - 1, by omega⟩
    refine br_f (nI_ge (b := 16) (by omega) (by omega)) (lk_ych hC hL ?_)
    by_cases y : lk_ch b_ops b_opA b_opB L (nI t) ms = -2
    · exact br_t y (hD t (by omega) y h)
    · refine br_f y (nm_r (nI_1 t) (ih (t + 1) f (by omega) (by omega) (fun j hj => ?_)))
      by_cases z : j = t
      · rw [z]; exact y
      · exact h j (by omega)
end ych
end
section
/-! X: the chosen labels -/
section xc
variable {f_origin f_culprit f_strip f_listed f_units f_ordered f_textEnd f_end f_longs f_rounds f_keptListed f_entry f_linked f_pc f_steps f_outs f_ran : Int32} {a_op a_opA a_opB a_section a_length a_role a_labelAt a_used a_local a_global a_weak a_faulty a_list a_chosen a_order a_lengthened a_at a_keptAt a_keptSymbol a_keptList a_image a_sizes a_words a_apart a_partA a_partN a_wide a_r a_output : Nat → Int32} {L : Nat → Nat} {ms : List Nat}
theorem lk_xlow5 {post : Int32 → SX → Prop} {x ans : Int32} {t : Nat} (ht : t < 32) (hb : bt x t = true) (hl : ∀ j, j < t → bt x j = false) (hp : post ans (f_origin, nI t, f_strip, f_listed, f_units, f_ordered, f_textEnd, f_end, f_longs, f_rounds, f_keptListed, f_entry, f_linked, f_pc, f_steps, f_outs, f_ran, a_op, a_opA, a_opB, a_section, a_length, a_role, a_labelAt, a_used, a_local, a_global, a_weak, a_faulty, a_list, a_chosen, a_order, a_lengthened, a_at, a_keptAt, a_keptSymbol, a_keptList, a_image, a_sizes, a_words, a_apart, a_partA, a_partN, a_wide, a_r, a_output)) :
    ∀ d i f, i + d = t → d < f → wX_lowest_5 post x ans f_origin f_strip f_listed f_units f_ordered f_textEnd f_end f_longs f_rounds f_keptListed f_entry f_linked f_pc f_steps f_outs f_ran a_op a_opA a_opB a_section a_length a_role a_labelAt a_used a_local a_global a_weak a_faulty a_list a_chosen a_order a_lengthened a_at a_keptAt a_keptSymbol a_keptList a_image a_sizes a_words a_apart a_partA a_partN a_wide a_r a_output f (nI i) := by
  intro d
  induction d with
  | zero =>
    intro i f hi hf
    obtain ⟨f, rfl⟩ : ∃ f', f = f' + 1 := ⟨f - 1, by omega⟩
    have : i = t := by omega
    subst this
    refine br_f (fun e => ?_) hp
    rw [(ly_bit x ht).mp e] at hb; cases hb
  | succ d ih =>
    intro i f hi hf
    obtain ⟨f, rfl⟩ : ∃ f', f = f' + 1 := ⟨f - 1, by omega⟩
    exact br_t ((ly_bit x (by omega)).mpr (hl i (by omega))) (nm_r (nI_1 i) (ih (i + 1) f (by omega) (by omega)))
theorem lk_xlow {post : Int32 → SX → Prop} {x ans : Int32} {t : Nat} (ht : t < 32) (hb : bt x t = true) (hl : ∀ j, j < t → bt x j = false) (hp : post ans (f_origin, nI t, f_strip, f_listed, f_units, f_ordered, f_textEnd, f_end, f_longs, f_rounds, f_keptListed, f_entry, f_linked, f_pc, f_steps, f_outs, f_ran, a_op, a_opA, a_opB, a_section, a_length, a_role, a_labelAt, a_used, a_local, a_global, a_weak, a_faulty, a_list, a_chosen, a_order, a_lengthened, a_at, a_keptAt, a_keptSymbol, a_keptList, a_image, a_sizes, a_words, a_apart, a_partA, a_partN, a_wide, a_r, a_output)) : wpX_lowest post (f_origin, f_culprit, f_strip, f_listed, f_units, f_ordered, f_textEnd, f_end, f_longs, f_rounds, f_keptListed, f_entry, f_linked, f_pc, f_steps, f_outs, f_ran, a_op, a_opA, a_opB, a_section, a_length, a_role, a_labelAt, a_used, a_local, a_global, a_weak, a_faulty, a_list, a_chosen, a_order, a_lengthened, a_at, a_keptAt, a_keptSymbol, a_keptList, a_image, a_sizes, a_words, a_apart, a_partA, a_partN, a_wide, a_r, a_output) x ans :=
  ⟨t + 1, lk_xlow5 ht hb hl hp t 0 (t + 1) (by omega) (by omega)⟩
theorem lk_gb (hJ : lk_XJ a_op a_opA a_opB a_length a_section a_labelAt a_used a_local a_global a_weak a_faulty L) {m : Nat} (hm : m < 6) (hf : ly_fl a_op a_opA m (L m) = false) {i : Nat} (hi : i < 32) : bt (a_global m) i = lk_G a_op a_opA a_opB L (nI i) m := by
  obtain ⟨hlen, h24, hok, -, -, -, -, hg, hw, -⟩ := hJ m hm
  rw [hg i hi, ly_sl_nf hf]
  rfl
theorem lk_wb (hJ : lk_XJ a_op a_opA a_opB a_length a_section a_labelAt a_used a_local a_global a_weak a_faulty L) {m : Nat} (hm : m < 6) (hf : ly_fl a_op a_opA m (L m) = false) {i : Nat} (hi : i < 32) : bt (a_weak m) i = lk_W a_op a_opA a_opB L (nI i) m := by
  obtain ⟨hlen, h24, hok, -, -, -, -, hg, hw, -⟩ := hJ m hm
  rw [hw i hi, ly_sl_nf hf]
  unfold lk_W
  cases e : ly_lb a_op a_opA m (L m) (nI i) with
  | none => rfl
  | some k =>
    obtain ⟨g1, g2, g3, -⟩ := ly_lb_some e
    dsimp only
    rcases ((hok k g1 g2).2.1 g3).2 with e | e | e <;> rw [e] <;> decide
theorem lk_x40 {post : Int32 → SX → Prop} (hJ : lk_XJ a_op a_opA a_opB a_length a_section a_labelAt a_used a_local a_global a_weak a_faulty L) (hG : lk_Gd a_op a_opA L ms) (hL : lk_LS ms f_listed a_list)
    (hK : ∀ f x1 x2 x3, (∀ i, i < 32 → bt x1 i = decide (1 ≤ lk_cG a_op a_opA a_opB L (nI i) ms)) → (∀ i, i < 32 → bt x2 i = decide (2 ≤ lk_cG a_op a_opA a_opB L (nI i) ms)) → (∀ i, i < 32 → bt x3 i = lk_wd a_op a_opA a_opB L ms (nI i)) →
      wX_choose_40 post f_origin f_culprit f_strip f_listed f_units f_ordered f_textEnd f_end f_longs f_rounds f_keptListed f_entry f_linked f_pc f_steps f_outs f_ran a_op a_opA a_opB a_section a_length a_role a_labelAt a_used a_local a_global a_weak a_faulty a_list a_chosen a_order a_lengthened a_at a_keptAt a_keptSymbol a_keptList a_image a_sizes a_words a_apart a_partA a_partN a_wide a_r a_output (f + 1) x1 x2 x3 (nI 0 + (-1))) :
    ∀ (q rest : List Nat) f x1 x2 x3, ms = q.reverse ++ rest → q.length < f → (∀ i, i < 32 → bt x1 i = decide (1 ≤ lk_cG a_op a_opA a_opB L (nI i) rest)) → (∀ i, i < 32 → bt x2 i = decide (2 ≤ lk_cG a_op a_opA a_opB L (nI i) rest)) → (∀ i, i < 32 → bt x3 i = lk_wd a_op a_opA a_opB L rest (nI i)) →
    wX_choose_40 post f_origin f_culprit f_strip f_listed f_units f_ordered f_textEnd f_end f_longs f_rounds f_keptListed f_entry f_linked f_pc f_steps f_outs f_ran a_op a_opA a_opB a_section a_length a_role a_labelAt a_used a_local a_global a_weak a_faulty a_list a_chosen a_order a_lengthened a_at a_keptAt a_keptSymbol a_keptList a_image a_sizes a_words a_apart a_partA a_partN a_wide a_r a_output f x1 x2 x3 (nI q.length + (-1)) := by
  intro q
  induction q with
  | nil =>
    intro rest f x1 x2 x3 e hf b1 b2 b3
    obtain ⟨f, rfl⟩ : ∃ f', f = f' + 1 := ⟨f - 1, by omega⟩
    rw [List.reverse_nil, List.nil_append] at e
    subst e
    exact hK f x1 x2 x3 b1 b2 b3
  | cons m q ih =>
    intro rest f x1 x2 x3 e hf b1 b2 b3
    rw [List.length_cons] at hf
    obtain ⟨f, rfl⟩ : ∃ f', f = f' + 1 := ⟨f - 1, by omega⟩
    have e' : ms = q.reverse ++ m :: rest := by rw [e, List.reverse_cons, List.append_assoc]; rfl
    obtain ⟨h1, h2, h3, h4⟩ := lk_LS_at hL e'
    rw [List.length_reverse] at h1 h3 h4
    have hmm : m ∈ ms := by rw [e']; simp
    have hf' := hG.2.2 m hmm
    have hv : vp_in (nI m) 6 := vp_in_nI h2 (by omega)
    have hc : (nI m).toNatClampNeg = m := nI_clamp (by omega)
    rw [List.length_cons, pk_m1]
    refine br_f (nI_pos (by omega)) (And.intro (vp_in_nI h4 (by omega)) (nm_r (e' := nI m) (by rw [nI_clamp (by omega)]; exact h1) ?_))
    rw [hc]
    refine ⟨hv, nm_e ⟨hv, nm_e ⟨hv, hv, nm_e (nm_e ?_)⟩⟩⟩
    have hcG : ∀ i, i < 32 → lk_cG a_op a_opA a_opB L (nI i) (m :: rest) = lk_cG a_op a_opA a_opB L (nI i) rest + (if bt (a_global m) i = true then 1 else 0) := by
      intro i hi
      unfold lk_cG
      rw [lk_gb hJ h2 hf' hi]
      by_cases z : lk_G a_op a_opA a_opB L (nI i) m = true
      · rw [List.filter_cons_of_pos z, if_pos z, List.length_cons]
      · rw [List.filter_cons_of_neg z, if_neg z]; rfl
    refine ih (m :: rest) f _ _ _ e' (by omega) (fun i hi => ?_) (fun i hi => ?_) (fun i hi => ?_)
    · rw [b_or, b1 i hi, hcG i hi]
      cases bt (a_global m) i with
      | true => rw [if_pos rfl, Bool.or_true, decide_eq_true (by omega)]
      | false => rw [if_neg (by decide), Bool.or_false, Nat.add_zero]
    · rw [b_or, b_and, b1 i hi, b2 i hi, hcG i hi]
      cases bt (a_global m) i with
      | true =>
        rw [if_pos rfl, Bool.and_true]
        apply ly_beq
        rw [Bool.or_eq_true, decide_eq_true_eq, decide_eq_true_eq, decide_eq_true_eq]
        omega
      | false => rw [if_neg (by decide), Bool.and_false, Bool.or_false, Nat.add_zero]
    · obtain ⟨hlen, h24, hok, -, -, hu, hl, -⟩ := hJ m h2
      rw [b_or, b_and, ly_not _ hi, b3 i hi, hu i hi, hl i hi, ← ly_ak_nf hf']
      unfold lk_wd
      rw [List.any_cons, Bool.or_assoc, Bool.or_comm (rest.any _)]
theorem lk_x138 {post : Int32 → SX → Prop} {J121 : Int32 → (Nat → Int32) → (Nat → Int32) → (Nat → Int32) → (Nat → Int32) → (Nat → Int32) → (Nat → Int32) → (Nat → Int32) → (Nat → Int32) → (Nat → Int32) → (Nat → Int32) → (Nat → Int32) → (Nat → Int32) → (Nat → Int32) → (Nat → Int32) → (Nat → Int32) → (Nat → Int32) → (Nat → Int32) → (Nat → Int32) → (Nat → Int32) → (Nat → Int32) → (Nat → Int32) → (Nat → Int32) → (Nat → Int32) → (Nat → Int32) → (Nat → Int32) → (Nat → Int32) → (Nat → Int32) → (Nat → Int32) → (Nat → Int32) → Prop}
    {x1 x3 x4 : Int32} {m : Nat} {rest : List Nat} {O : Nat → Bool} (hJ : lk_XJ a_op a_opA a_opB a_length a_section a_labelAt a_used a_local a_global a_weak a_faulty L) (hm : m < 6) (hf : ly_fl a_op a_opA m (L m) = false)
    (h1 : ∀ i, i < 32 → bt x1 i = O i) (hK : ∀ ch, (∀ t, t < 16 → ch t = lk_xc a_op a_opA a_opB L (nI t) (O t) (m :: rest)) → J121 (x4 + (-1)) a_op a_opA a_opB a_section a_length a_role a_labelAt a_used a_local a_global a_weak a_faulty a_list ch a_order a_lengthened a_at a_keptAt a_keptSymbol a_keptList a_image a_sizes a_words a_apart a_partA a_partN a_wide a_r a_output) :
    ∀ d s f ch, s + d = 16 → d < f → (∀ t, t < 16 → ch t = if t < s then lk_xc a_op a_opA a_opB L (nI t) (O t) (m :: rest) else lk_xc a_op a_opA a_opB L (nI t) (O t) rest) →
    wX_choose_138 post J121 x1 x3 x4 (nI m) f_origin f_culprit f_strip f_listed f_units f_ordered f_textEnd f_end f_longs f_rounds f_keptListed f_entry f_linked f_pc f_steps f_outs f_ran f (nI s) a_op a_opA a_opB a_section a_length a_role a_labelAt a_used a_local a_global a_weak a_faulty a_list ch a_order a_lengthened a_at a_keptAt a_keptSymbol a_keptList a_image a_sizes a_words a_apart a_partA a_partN a_wide a_r a_output := by
  intro d
  induction d with
  | zero =>
    intro s f ch hs hf' h
    obtain ⟨f, rfl⟩ : ∃ f', f = f' + 1 := ⟨f - 1, by omega⟩
    have : s = 16 := by omega
    subst this
    refine br_t (Int32.le_refl _) (nm_e (hK ch (fun t ht => ?_)))
    rw [h t ht, if_pos ht]
  | succ d ih =>
    intro s f ch hs hf' h
    obtain ⟨f, rfl⟩ : ∃ f', f = f' + 1 := ⟨f - 1, by omega⟩
    have hv : vp_in (nI m) 6 := vp_in_nI hm (by omega)
    have hc : (nI m).toNatClampNeg = m := nI_clamp (by omega)
    refine br_f (nI_ge (b := 16) (by omega) (by omega)) (And.intro hv (And.intro hv ?_))
    rw [hc]
    have hbit : (((((a_global m) ||| ((a_weak m) &&& (x1 ^^^ (-1)))) >>> (nI s &&& 31)) &&& 1) = 0) ↔ (lk_G a_op a_opA a_opB L (nI s) m || (lk_W a_op a_opA a_opB L (nI s) m && !O s)) = false := by
      rw [ly_bit _ (by omega : s < 32), b_or, b_and, ly_not _ (by omega), h1 s (by omega), lk_gb hJ hm hf (by omega), lk_wb hJ hm hf (by omega)]
    by_cases z : ((((a_global m) ||| ((a_weak m) &&& (x1 ^^^ (-1)))) >>> (nI s &&& 31)) &&& 1) = 0
    · refine br_t z ?_
      unfold wX_choose_177
      refine br_t rfl (nm_r (nI_1 s) (ih (s + 1) f ch (by omega) (by omega) (fun t ht => ?_)))
      rw [h t ht]
      by_cases y : t = s
      · rw [y, if_neg (by omega), if_pos (by omega)]
        unfold lk_xc
        rw [List.find?_cons_of_neg (by rw [hbit.mp z]; decide)]
      · by_cases w : t < s
        · rw [if_pos w, if_pos (by omega)]
        · rw [if_neg w, if_neg (by omega)]
    · refine br_f z ?_
      unfold wX_choose_177
      have hbt : (lk_G a_op a_opA a_opB L (nI s) m || (lk_W a_op a_opA a_opB L (nI s) m && !O s)) = true := by
        cases e : (lk_G a_op a_opA a_opB L (nI s) m || (lk_W a_op a_opA a_opB L (nI s) m && !O s)) with
        | true => rfl
        | false => exact absurd (hbit.mpr e) z
      obtain ⟨hlen, h24, hok, -, hla, -⟩ := hJ m hm
      have hlk : ∃ k, ly_lb a_op a_opA m (L m) (nI s) = some k := by
        unfold lk_G lk_W at hbt
        cases e : ly_lb a_op a_opA m (L m) (nI s) with
        | none => rw [e] at hbt; cases hbt
        | some k => exact ⟨k, rfl⟩
      obtain ⟨k, ek⟩ := hlk
      obtain ⟨g1, g2, -⟩ := ly_lb_some ek
      have hla' : a_labelAt (16 * m + s) = nI (k - 24 * m + 1) := by rw [hla s (by omega), ek]; rfl
      have hv2 : vp_in (16 * nI m + nI s) 96 := by rw [ly_16]; exact vp_in_nI (by omega) (by omega)
      have hc2 : (16 * nI m + nI s).toNatClampNeg = 16 * m + s := by rw [ly_16]; exact nI_clamp (by omega)
      have hval : vp_nar .short ((((24 * nI m) + (a_labelAt (16 * nI m + nI s).toNatClampNeg)) - 1).toInt16.toInt32) = nI k := by
        rw [hc2, hla', ly_24, show 24 * m + (k - 24 * m + 1) = k + 1 by omega, nI_pred]
        exact ly_ns k (by omega)
      refine br_f (by decide) ⟨hv2, vp_in_nI (by omega) (by omega), nm_r (e' := upd ch s (nI k)) (by rw [hval, nI_clamp (by omega)]) (nm_r (nI_1 s) (ih (s + 1) f _ (by omega) (by omega) (fun t ht => ?_)))⟩
      by_cases y : t = s
      · rw [y, pk_us, if_pos (by omega)]
        unfold lk_xc
        rw [List.find?_cons_of_pos (p := fun m => lk_G a_op a_opA a_opB L (nI s) m || (lk_W a_op a_opA a_opB L (nI s) m && !O s)) hbt]
        unfold lk_lab
        dsimp only
        rw [ek]
        rfl
      · rw [pk_un y, h t ht]
        by_cases w : t < s
        · rw [if_pos w, if_pos (by omega)]
        · rw [if_neg w, if_neg (by omega)]
theorem lk_x121 {post : Int32 → SX → Prop} {x1 x3 : Int32} {O : Nat → Bool} (hJ : lk_XJ a_op a_opA a_opB a_length a_section a_labelAt a_used a_local a_global a_weak a_faulty L) (hG : lk_Gd a_op a_opA L ms) (hL : lk_LS ms f_listed a_list)
    (h1 : ∀ i, i < 32 → bt x1 i = O i) (hK : ∀ ch, (∀ t, t < 16 → ch t = lk_xc a_op a_opA a_opB L (nI t) (O t) ms) → ∃ n, wX_choose_228 post f_origin f_culprit f_strip f_listed f_units f_ordered f_textEnd f_end f_longs f_rounds f_keptListed f_entry f_linked f_pc f_steps f_outs f_ran a_op a_opA a_opB a_section a_length a_role a_labelAt a_used a_local a_global a_weak a_faulty a_list ch a_order a_lengthened a_at a_keptAt a_keptSymbol a_keptList a_image a_sizes a_words a_apart a_partA a_partN a_wide a_r a_output n x3 0) :
    ∀ (q rest : List Nat) f ch, ms = q.reverse ++ rest → q.length < f → (∀ t, t < 16 → ch t = lk_xc a_op a_opA a_opB L (nI t) (O t) rest) → wX_choose_121 post x1 x3 f_origin f_culprit f_strip f_listed f_units f_ordered f_textEnd f_end f_longs f_rounds f_keptListed f_entry f_linked f_pc f_steps f_outs f_ran f (nI q.length + (-1)) a_op a_opA a_opB a_section a_length a_role a_labelAt a_used a_local a_global a_weak a_faulty a_list ch a_order a_lengthened a_at a_keptAt a_keptSymbol a_keptList a_image a_sizes a_words a_apart a_partA a_partN a_wide a_r a_output := by
  intro q
  induction q with
  | nil =>
    intro rest f ch e hf h
    obtain ⟨f, rfl⟩ : ∃ f', f = f' + 1 := ⟨f - 1, by omega⟩
    rw [List.reverse_nil, List.nil_append] at e
    subst e
    exact br_t (by show nI 0 + (-1) < 0; decide) (hK ch h)
  | cons m q ih =>
    intro rest f ch e hf h
    rw [List.length_cons] at hf
    obtain ⟨f, rfl⟩ : ∃ f', f = f' + 1 := ⟨f - 1, by omega⟩
    have e' : ms = q.reverse ++ m :: rest := by rw [e, List.reverse_cons, List.append_assoc]; rfl
    obtain ⟨h1', h2, h3, h4⟩ := lk_LS_at hL e'
    rw [List.length_reverse] at h1' h3 h4
    have hmm : m ∈ ms := by rw [e']; simp
    rw [List.length_cons, pk_m1]
    refine br_f (nI_pos (by omega)) (And.intro (vp_in_nI h4 (by omega)) (nm_r (e' := nI m) (by rw [nI_clamp (by omega)]; exact h1') ⟨17, ?_⟩))
    refine lk_x138 (rest := rest) hJ h2 (hG.2.2 m hmm) h1 (fun ch' h' => ?_) 16 0 17 ch rfl (by omega) (fun t ht => by rw [if_neg (by omega)]; exact h t ht)
    exact ih (m :: rest) f ch' e' (by omega) h'
theorem lk_x228 {post : Int32 → SX → Prop} (hch : ∀ t, t < 16 → a_chosen t = 144 ∨ ∃ k, k < 144 ∧ a_chosen t = nI k) (hwd : ∀ i, 16 ≤ i → i < 32 → lk_wd a_op a_opA a_opB L ms (nI i) = false)
    (hU : ∀ t, t < 16 → lk_wd a_op a_opA a_opB L ms (nI t) = true → a_chosen t = 144 → (∀ j, j < t → ¬ (lk_wd a_op a_opA a_opB L ms (nI j) = true ∧ a_chosen j = 144)) → post 3 (f_origin, nI t, f_strip, f_listed, f_units, f_ordered, f_textEnd, f_end, f_longs, f_rounds, f_keptListed, f_entry, f_linked, f_pc, f_steps, f_outs, f_ran, a_op, a_opA, a_opB, a_section, a_length, a_role, a_labelAt, a_used, a_local, a_global, a_weak, a_faulty, a_list, a_chosen, a_order, a_lengthened, a_at, a_keptAt, a_keptSymbol, a_keptList, a_image, a_sizes, a_words, a_apart, a_partA, a_partN, a_wide, a_r, a_output))
    (hA : (∀ j, j < 16 → ¬ (lk_wd a_op a_opA a_opB L ms (nI j) = true ∧ a_chosen j = 144)) → post 0 (f_origin, f_culprit, f_strip, f_listed, f_units, f_ordered, f_textEnd, f_end, f_longs, f_rounds, f_keptListed, f_entry, f_linked, f_pc, f_steps, f_outs, f_ran, a_op, a_opA, a_opB, a_section, a_length, a_role, a_labelAt, a_used, a_local, a_global, a_weak, a_faulty, a_list, a_chosen, a_order, a_lengthened, a_at, a_keptAt, a_keptSymbol, a_keptList, a_image, a_sizes, a_words, a_apart, a_partA, a_partN, a_wide, a_r, a_output)) :
    ∀ d s f x3, s + d = 16 → d < f → (∀ i, i < 32 → bt x3 i = (lk_wd a_op a_opA a_opB L ms (nI i) && !(decide (i < s) && !decide (a_chosen i = 144)))) → wX_choose_228 post f_origin f_culprit f_strip f_listed f_units f_ordered f_textEnd f_end f_longs f_rounds f_keptListed f_entry f_linked f_pc f_steps f_outs f_ran a_op a_opA a_opB a_section a_length a_role a_labelAt a_used a_local a_global a_weak a_faulty a_list a_chosen a_order a_lengthened a_at a_keptAt a_keptSymbol a_keptList a_image a_sizes a_words a_apart a_partA a_partN a_wide a_r a_output f x3 (nI s) := by
  intro d
  induction d with
  | zero =>
    intro s f x3 hs hf hb
    obtain ⟨f, rfl⟩ : ∃ f', f = f' + 1 := ⟨f - 1, by omega⟩
    have : s = 16 := by omega
    subst this
    have hb' : ∀ i, i < 16 → (bt x3 i = true ↔ lk_wd a_op a_opA a_opB L ms (nI i) = true ∧ a_chosen i = 144) := by
      intro i hi
      rw [hb i (by omega), decide_eq_true hi, Bool.true_and, Bool.not_not, Bool.and_eq_true, decide_eq_true_eq]
    refine br_t (Int32.le_refl _) ?_
    by_cases z : x3 = 0
    · refine br_t z (hA (fun j hj h => ?_))
      have := (hb' j hj).mpr h
      rw [z, b_0] at this; cases this
    · refine br_f z ?_
      obtain ⟨t, ht, h1, h2⟩ := ly_nz z
      have ht16 : t < 16 := by
        rcases Nat.lt_or_ge t 16 with w | w
        · exact w
        · rw [hb t ht, hwd t w ht, Bool.false_and] at h1; cases h1
      obtain ⟨k1, k2⟩ := (hb' t ht16).mp h1
      refine lk_xlow ht h1 h2 (hU t ht16 k1 k2 (fun j hj h => ?_))
      have := (hb' j (by omega)).mpr h
      rw [h2 j hj] at this; cases this
  | succ d ih =>
    intro s f x3 hs hf hb
    obtain ⟨f, rfl⟩ : ∃ f', f = f' + 1 := ⟨f - 1, by omega⟩
    refine br_f (nI_ge (b := 16) (by omega) (by omega)) (And.intro (vp_in_nI (by omega) (by omega)) ?_)
    rw [nI_clamp (by omega)]
    rcases hch s (by omega) with z | ⟨k, hk, z⟩
    · refine br_t (by rw [z]; decide) (nm_r (nI_1 s) (ih (s + 1) f x3 (by omega) (by omega) (fun i hi => ?_)))
      rw [hb i hi]
      by_cases y : i = s
      · rw [y, z, decide_eq_true rfl, Bool.not_true, Bool.and_false, Bool.and_false]
      · rw [decide_eq_decide.mpr (show i < s ↔ i < s + 1 by omega)]
    · have hne : ¬ (144 : Int32) ≤ a_chosen s := by rw [z]; exact nI_ge (b := 144) hk (by omega)
      have hne2 : ¬ a_chosen s = 144 := by rw [z, show (144 : Int32) = nI 144 from rfl, nI_eq (by omega) (by omega)]; omega
      refine br_f hne (nm_e (nm_r (nI_1 s) (ih (s + 1) f _ (by omega) (by omega) (fun i hi => ?_))))
      rw [b_and, ly_not _ hi, ly_one (by omega) hi, hb i hi]
      by_cases y : i = s
      · rw [y, decide_eq_true rfl, decide_eq_true (Nat.lt_succ_self s), decide_eq_false hne2, Bool.not_true, Bool.and_false, Bool.not_false, Bool.and_true, Bool.not_true, Bool.and_false]
      · rw [decide_eq_false y, Bool.not_false, Bool.and_true, decide_eq_decide.mpr (show i < s ↔ i < s + 1 by omega)]
theorem lk_x9 {post : Int32 → SX → Prop} {x1 x2 x3 : Int32} (hK : ∀ ch, (∀ t, t < 16 → ch t = 144) → ∃ n, wX_choose_40 post f_origin f_culprit f_strip f_listed f_units f_ordered f_textEnd f_end f_longs f_rounds f_keptListed f_entry f_linked f_pc f_steps f_outs f_ran a_op a_opA a_opB a_section a_length a_role a_labelAt a_used a_local a_global a_weak a_faulty a_list ch a_order a_lengthened a_at a_keptAt a_keptSymbol a_keptList a_image a_sizes a_words a_apart a_partA a_partN a_wide a_r a_output n x1 x2 x3 (f_listed - 1)) :
    ∀ d s f ch, s + d = 16 → d < f → (∀ t, t < s → ch t = 144) → wX_choose_9 post x1 x2 x3 f_origin f_culprit f_strip f_listed f_units f_ordered f_textEnd f_end f_longs f_rounds f_keptListed f_entry f_linked f_pc f_steps f_outs f_ran f (nI s) a_op a_opA a_opB a_section a_length a_role a_labelAt a_used a_local a_global a_weak a_faulty a_list ch a_order a_lengthened a_at a_keptAt a_keptSymbol a_keptList a_image a_sizes a_words a_apart a_partA a_partN a_wide a_r a_output := by
  intro d
  induction d with
  | zero =>
    intro s f ch hs hf h
    obtain ⟨f, rfl⟩ : ∃ f', f = f' + 1 := ⟨f - 1, by omega⟩
    have : s = 16 := by omega
    subst this
    exact br_t (Int32.le_refl _) (nm_e (hK ch h))
  | succ d ih =>
    intro s f ch hs hf h
    obtain ⟨f, rfl⟩ : ∃ f', f = f' + 1 := ⟨f - 1, by omega⟩
    have h144 : vp_nar .short 144 = 144 := by rw [vp_nar_short]; decide
    refine br_f (nI_ge (b := 16) (by omega) (by omega)) (And.intro (vp_in_nI (by omega) (by omega)) (nm_r (e' := upd ch s 144) (by rw [nI_clamp (by omega), h144]) (nm_r (nI_1 s) (ih (s + 1) f _ (by omega) (by omega) (fun t ht => ?_)))))
    by_cases y : t = s
    · rw [y, pk_us]
    · rw [pk_un y]; exact h t (by omega)
/-- choose as a whole -/
theorem lk_xchoose {post : Int32 → SX → Prop} (hJ : lk_XJ a_op a_opA a_opB a_length a_section a_labelAt a_used a_local a_global a_weak a_faulty L) (hG : lk_Gd a_op a_opA L ms) (hL : lk_LS ms f_listed a_list)
    (hD : ∀ t ch, t < 16 → lk_ch a_op a_opA a_opB L (nI t) ms = -2 → (∀ j, j < t → ¬ lk_ch a_op a_opA a_opB L (nI j) ms = -2) → post 2 (f_origin, nI t, f_strip, f_listed, f_units, f_ordered, f_textEnd, f_end, f_longs, f_rounds, f_keptListed, f_entry, f_linked, f_pc, f_steps, f_outs, f_ran, a_op, a_opA, a_opB, a_section, a_length, a_role, a_labelAt, a_used, a_local, a_global, a_weak, a_faulty, a_list, ch, a_order, a_lengthened, a_at, a_keptAt, a_keptSymbol, a_keptList, a_image, a_sizes, a_words, a_apart, a_partA, a_partN, a_wide, a_r, a_output))
    (hU : ∀ t ch, (∀ j, j < 16 → ¬ lk_ch a_op a_opA a_opB L (nI j) ms = -2) → t < 16 → lk_wd a_op a_opA a_opB L ms (nI t) = true → lk_ch a_op a_opA a_opB L (nI t) ms = -1 → (∀ j, j < t → ¬ (lk_wd a_op a_opA a_opB L ms (nI j) = true ∧ lk_ch a_op a_opA a_opB L (nI j) ms = -1)) → post 3 (f_origin, nI t, f_strip, f_listed, f_units, f_ordered, f_textEnd, f_end, f_longs, f_rounds, f_keptListed, f_entry, f_linked, f_pc, f_steps, f_outs, f_ran, a_op, a_opA, a_opB, a_section, a_length, a_role, a_labelAt, a_used, a_local, a_global, a_weak, a_faulty, a_list, ch, a_order, a_lengthened, a_at, a_keptAt, a_keptSymbol, a_keptList, a_image, a_sizes, a_words, a_apart, a_partA, a_partN, a_wide, a_r, a_output))
    (hA : ∀ ch, (∀ j, j < 16 → ¬ lk_ch a_op a_opA a_opB L (nI j) ms = -2) → (∀ j, j < 16 → ¬ (lk_wd a_op a_opA a_opB L ms (nI j) = true ∧ lk_ch a_op a_opA a_opB L (nI j) ms = -1)) →
      (∀ s, s < 16 → ch s = if lk_ch a_op a_opA a_opB L (nI s) ms = -1 then 144 else lk_ch a_op a_opA a_opB L (nI s) ms) → post 0 (f_origin, f_culprit, f_strip, f_listed, f_units, f_ordered, f_textEnd, f_end, f_longs, f_rounds, f_keptListed, f_entry, f_linked, f_pc, f_steps, f_outs, f_ran, a_op, a_opA, a_opB, a_section, a_length, a_role, a_labelAt, a_used, a_local, a_global, a_weak, a_faulty, a_list, ch, a_order, a_lengthened, a_at, a_keptAt, a_keptSymbol, a_keptList, a_image, a_sizes, a_words, a_apart, a_partA, a_partN, a_wide, a_r, a_output)) :
    wpX_choose post (f_origin, f_culprit, f_strip, f_listed, f_units, f_ordered, f_textEnd, f_end, f_longs, f_rounds, f_keptListed, f_entry, f_linked, f_pc, f_steps, f_outs, f_ran, a_op, a_opA, a_opB, a_section, a_length, a_role, a_labelAt, a_used, a_local, a_global, a_weak, a_faulty, a_list, a_chosen, a_order, a_lengthened, a_at, a_keptAt, a_keptSymbol, a_keptList, a_image, a_sizes, a_words, a_apart, a_partA, a_partN, a_wide, a_r, a_output) := by
  have hC : ∀ m, m < 6 → L m ≤ 24 := fun m hm => (hJ m hm).2.1
  have h6 := hG.2.1
  have e1 : f_listed - 1 = nI ms.length + (-1) := by rw [hL.1, Int32.sub_eq_add_neg]
  refine ⟨17, lk_x9 (fun ch0 h0 => ⟨ms.length + 1, ?_⟩) 16 0 17 a_chosen rfl (by omega) (fun t ht => absurd ht (by omega))⟩
  rw [e1, ← List.length_reverse]
  refine lk_x40 (a_chosen := ch0) hJ hG hL (fun _ x1 x2 x3 b1 b2 b3 => ?_) ms.reverse [] _ 0 0 1 (by rw [List.reverse_reverse, List.append_nil]) (by rw [List.length_reverse]; omega) (fun i hi => b_0 i) (fun i hi => b_0 i) (fun i hi => ?_)
  · refine br_t (by decide) ?_
    by_cases z : x2 = 0
    · have hno : ∀ j, j < 16 → ¬ 2 ≤ lk_cG a_op a_opA a_opB L (nI j) ms := fun j hj h => by
        have := b2 j (by omega)
        rw [z, b_0, decide_eq_true h] at this; cases this
      have hno' : ∀ j, j < 16 → ¬ lk_ch a_op a_opA a_opB L (nI j) ms = -2 := fun j hj => mt (lk_ch_m2 h6 hC).mp (hno j hj)
      refine br_t z (nm_r e1 ⟨ms.length + 1, ?_⟩)
      rw [← List.length_reverse]
      refine lk_x121 (O := fun i => decide (1 ≤ lk_cG a_op a_opA a_opB L (nI i) ms)) hJ hG hL b1 (fun ch hch => ⟨17, ?_⟩) ms.reverse [] _ ch0 (by rw [List.reverse_reverse, List.append_nil]) (by rw [List.length_reverse]; omega) (fun t ht => h0 t ht)
      have hval : ∀ t, t < 16 → ch t = if lk_ch a_op a_opA a_opB L (nI t) ms = -1 then 144 else lk_ch a_op a_opA a_opB L (nI t) ms := fun t ht => by
        rw [hch t ht]
        exact lk_xc_ch h6 hC (by have := hno t ht; omega)
      have h144 : ∀ t, t < 16 → (ch t = 144 ↔ lk_ch a_op a_opA a_opB L (nI t) ms = -1) := fun t ht => by
        rw [hval t ht]
        by_cases y : lk_ch a_op a_opA a_opB L (nI t) ms = -1
        · rw [if_pos y]; exact ⟨fun _ => y, fun _ => rfl⟩
        · rw [if_neg y]
          obtain ⟨m, k, hm, ek, e⟩ := lk_ch_val h6 hC (hno' t ht) y
          have := ly_lb_144 (h6 m hm) (hC m (h6 m hm)) ek
          rw [e, show (144 : Int32) = nI 144 from rfl, nI_eq (by omega) (by omega)]
          exact ⟨fun h => by omega, fun h => absurd h (ly_mm k (by omega))⟩
      have hcases : ∀ t, t < 16 → ch t = 144 ∨ ∃ k, k < 144 ∧ ch t = nI k := fun t ht => by
        by_cases y : lk_ch a_op a_opA a_opB L (nI t) ms = -1
        · exact Or.inl ((h144 t ht).mpr y)
        · obtain ⟨m, k, hm, ek, e⟩ := lk_ch_val h6 hC (hno' t ht) y
          exact Or.inr ⟨k, ly_lb_144 (h6 m hm) (hC m (h6 m hm)) ek, by rw [hval t ht, if_neg y, e]⟩
      refine lk_x228 (a_chosen := ch) (L := L) (ms := ms) hcases (fun i h1 h2 => lk_dd16 hJ h6 h1 h2) (fun t ht g1 g2 g3 => ?_) (fun g => ?_) 16 0 17 x3 rfl (by omega) (fun i hi => ?_)
      · exact hU t ch hno' ht g1 ((h144 t ht).mp g2) (fun j hj h => g3 j hj ⟨h.1, (h144 j (by omega)).mpr h.2⟩)
      · exact hA ch hno' (fun j hj h => g j hj ⟨h.1, (h144 j hj).mpr h.2⟩) hval
      · rw [b3 i hi, decide_eq_false (Nat.not_lt_zero i), Bool.false_and, Bool.not_false, Bool.and_true]
    · obtain ⟨t, ht, g1, g2⟩ := ly_nz z
      have hcg : 2 ≤ lk_cG a_op a_opA a_opB L (nI t) ms := by rw [b2 t ht] at g1; exact of_decide_eq_true g1
      have ht16 : t < 16 := by
        rcases Nat.lt_or_ge t 16 with w | w
        · exact w
        · exfalso
          have : ms.filter (lk_G a_op a_opA a_opB L (nI t)) = [] := by
            rw [List.filter_eq_nil_iff]
            intro m hm hg
            rw [← lk_gb hJ (h6 m hm) (hG.2.2 m hm) ht, (hJ m (h6 m hm)).2.2.2.2.2.2.2.1 t ht, ly_sl_16 (hJ m (h6 m hm)).2.2.1 _ w ht] at hg
            cases hg
          unfold lk_cG at hcg
          rw [this] at hcg
          simp at hcg
      refine br_f z (lk_xlow ht g1 g2 (hD t ch0 ht16 ((lk_ch_m2 h6 hC).mpr hcg) (fun j hj h => ?_)))
      have h2 := (lk_ch_m2 h6 hC).mp h
      have := g2 j hj
      rw [b2 j (by omega), decide_eq_true h2] at this; cases this
  · rw [ly_1 i hi]
    unfold lk_wd
    rw [List.any_nil, Bool.or_false]
    apply ly_beq
    rw [decide_eq_true_eq, decide_eq_true_eq, show (0 : Int32) = nI 0 from rfl, nI_eq (by omega) (by omega)]
end xc
end
section
/-! targets of uses, units, what is reached: plain -/
def lk_ct (p : Nat → Bool) : Nat → Nat
  | 0 => 0
  | n + 1 => lk_ct p n + (if p n = true then 1 else 0)
theorem lk_ct_le (p : Nat → Bool) : ∀ n, lk_ct p n ≤ n
  | 0 => Nat.le_refl _
  | n + 1 => by
    have := lk_ct_le p n
    unfold lk_ct
    split <;> omega
theorem lk_ct_mono {p q : Nat → Bool} : ∀ {n : Nat}, (∀ i, i < n → p i = true → q i = true) → lk_ct p n ≤ lk_ct q n
  | 0, _ => Nat.le_refl _
  | n + 1, h => by
    have ih := lk_ct_mono (p := p) (q := q) (n := n) (fun i hi => h i (by omega))
    have hn := h n (by omega)
    unfold lk_ct
    by_cases z : p n = true
    · rw [if_pos z, if_pos (hn z)]; omega
    · rw [if_neg z]; split <;> omega
theorem lk_ct_eq {p q : Nat → Bool} : ∀ {n : Nat}, (∀ i, i < n → p i = true → q i = true) → lk_ct q n ≤ lk_ct p n → ∀ i, i < n → p i = q i
  | 0, _, _ => fun i hi => absurd hi (by omega)
  | n + 1, h, he => by
    have hm := lk_ct_mono (p := p) (q := q) (n := n) (fun i hi => h i (by omega))
    have hn := h n (by omega)
    unfold lk_ct at he
    have h2 : p n = q n := by
      cases e : p n with
      | true => exact (hn e).symm
      | false =>
        cases e2 : q n with
        | false => rfl
        | true => rw [e, e2, if_pos rfl, if_neg (by decide)] at he; omega
    have he' : lk_ct q n ≤ lk_ct p n := by rw [h2] at he; omega
    have ih := lk_ct_eq (p := p) (q := q) (n := n) (fun i hi => h i (by omega)) he'
    intro i hi
    by_cases z : i = n
    · rw [z]; exact h2
    · exact ih i (by omega)
theorem lk_ct_lt {p q : Nat → Bool} {n i : Nat} (h : ∀ i, i < n → p i = true → q i = true) (hi : i < n) (h1 : p i = false) (h2 : q i = true) : lk_ct p n < lk_ct q n := by
  rcases Nat.lt_or_ge (lk_ct p n) (lk_ct q n) with z | z
  · exact z
  · have := lk_ct_eq h z i hi
    rw [h1, h2] at this; cases this
theorem lk_ct_pos {p : Nat → Bool} {n i : Nat} (hi : i < n) (h : p i = true) : 1 ≤ lk_ct p n := by
  have := lk_ct_lt (p := fun _ => false) (q := p) (n := n) (fun _ _ h => nomatch h) hi rfl h
  omega
section und
variable (o a b : Nat → Int32) (L : Nat → Nat) (ms : List Nat)
def lk_in (k : Nat) : Prop := k / 24 ∈ ms ∧ k % 24 < L (k / 24)
def lk_tg (k : Nat) : Nat := match ly_lb o a (k / 24) (L (k / 24)) (ly_sy o a b k) with
  | some q => if b q = 0 then q else (lk_ch o a b L (ly_sy o a b k) ms).toNatClampNeg
  | none => (lk_ch o a b L (ly_sy o a b k) ms).toNatClampNeg
def lk_sk (k : Nat) : Nat := ly_sc o a (k / 24) (k % 24)
def lk_un (k : Nat) : Nat := 2 * (k / 24) + lk_sk o a k
def lk_ed (u w : Nat) : Prop := ∃ k, lk_in L ms k ∧ ly_us (o k) = true ∧ lk_un o a k = u ∧ lk_un o a (lk_tg o a b L ms k) = w
def lk_c0 : Nat := (lk_ch o a b L 0 ms).toNatClampNeg
def lk_R (u : Nat) : Prop := ∀ S : Nat → Prop, S (lk_un o a (lk_c0 o a b L ms)) → (∀ u w, S u → lk_ed o a b L ms u w → S w) → S u
noncomputable def lk_st (strip : Int32) (u : Nat) : Bool := if strip = 0 then decide (u / 2 ∈ ms) else @decide (lk_R o a b L ms u) (Classical.propDecidable _)
def lk_E : Prop := lk_Gd o a L ms ∧ (∀ m, m < 6 → L m ≤ 24 ∧ ∀ k, 24 * m ≤ k → k < 24 * m + L m → ly_ok (o k) (a k) (b k)) ∧
  (∀ j, j < 16 → ¬ lk_ch o a b L (nI j) ms = -2) ∧ ∀ j, j < 16 → ¬ (lk_wd o a b L ms (nI j) = true ∧ lk_ch o a b L (nI j) ms = -1)
end und
section unp
variable {o a b : Nat → Int32} {L : Nat → Nat} {ms : List Nat}
theorem lk_in_144 (E : lk_E o a b L ms) {k : Nat} (h : lk_in L ms k) : k < 144 ∧ k / 24 < 6 ∧ 24 * (k / 24) ≤ k ∧ k < 24 * (k / 24) + L (k / 24) := by
  have h6 := E.1.2.1 _ h.1
  have h2 := h.2
  have h24 := (E.2.1 _ h6).1
  refine ⟨by omega, h6, by omega, by omega⟩
theorem lk_in_mk {m k : Nat} (hm : m ∈ ms) (h24 : L m ≤ 24) (h1 : 24 * m ≤ k) (h2 : k < 24 * m + L m) : lk_in L ms k ∧ k / 24 = m := by
  have e : k / 24 = m := by omega
  refine ⟨⟨by rw [e]; exact hm, by rw [e]; omega⟩, e⟩
theorem lk_ok_in (E : lk_E o a b L ms) {k : Nat} (h : lk_in L ms k) : ly_ok (o k) (a k) (b k) := by
  obtain ⟨h1, h2, h3, h4⟩ := lk_in_144 E h
  exact (E.2.1 _ h2).2 k h3 h4
theorem lk_ch_in (E : lk_E o a b L ms) {s : Nat} (hs : s < 16) (hw : lk_wd o a b L ms (nI s) = true) : ∃ q, lk_in L ms q ∧ lk_ch o a b L (nI s) ms = nI q := by
  have h1 : ¬ lk_ch o a b L (nI s) ms = -1 := fun h => E.2.2.2 s hs ⟨hw, h⟩
  obtain ⟨m, q, hm, e1, e2⟩ := lk_ch_val E.1.2.1 (fun m hm => (E.2.1 m hm).1) (E.2.2.1 s hs) h1
  obtain ⟨g1, g2, -⟩ := ly_lb_some e1
  exact ⟨q, (lk_in_mk hm (E.2.1 m (E.1.2.1 m hm)).1 g1 g2).1, e2⟩
theorem lk_c0_in (E : lk_E o a b L ms) : lk_in L ms (lk_c0 o a b L ms) ∧ lk_ch o a b L 0 ms = nI (lk_c0 o a b L ms) := by
  obtain ⟨q, h1, h2⟩ := lk_ch_in E (s := 0) (by omega) (by unfold lk_wd; rw [decide_eq_true (show nI 0 = 0 from rfl), Bool.true_or])
  have hq := (lk_in_144 E h1).1
  have h2' : lk_ch o a b L 0 ms = nI q := h2
  unfold lk_c0
  rw [h2', nI_clamp (by omega)]
  exact ⟨h1, rfl⟩
theorem lk_sy_in (E : lk_E o a b L ms) {k : Nat} (h : lk_in L ms k) (hu : ly_us (o k) = true) : ∃ t, t < 16 ∧ ly_sy o a b k = nI t := (lk_ok_in E h).2.2.1 hu
/-- the target, case by case -/
theorem lk_tg_cases (E : lk_E o a b L ms) {k : Nat} (h : lk_in L ms k) (hu : ly_us (o k) = true) :
    (∃ q, ly_lb o a (k / 24) (L (k / 24)) (ly_sy o a b k) = some q ∧ b q = 0 ∧ lk_tg o a b L ms k = q ∧ lk_in L ms q) ∨
    (ly_lo b (ly_lb o a (k / 24) (L (k / 24)) (ly_sy o a b k)) = false ∧ lk_in L ms (lk_tg o a b L ms k) ∧ lk_ch o a b L (ly_sy o a b k) ms = nI (lk_tg o a b L ms k)) := by
  obtain ⟨t, ht, et⟩ := lk_sy_in E h hu
  obtain ⟨g1, g2, g3, g4⟩ := lk_in_144 E h
  have other : ly_lo b (ly_lb o a (k / 24) (L (k / 24)) (ly_sy o a b k)) = false → lk_tg o a b L ms k = (lk_ch o a b L (ly_sy o a b k) ms).toNatClampNeg →
      lk_in L ms (lk_tg o a b L ms k) ∧ lk_ch o a b L (ly_sy o a b k) ms = nI (lk_tg o a b L ms k) := by
    intro hl e
    have hak : ly_ak o a b (k / 24) (L (k / 24)) (ly_sy o a b k) = true := by
      unfold ly_ak
      rw [hl, Bool.not_false, Bool.true_and]
      exact ly_ex_iff.mpr ⟨k, g3, g4, by rw [hu, decide_eq_true rfl]; rfl⟩
    have hw : lk_wd o a b L ms (nI t) = true := by
      unfold lk_wd
      rw [Bool.or_eq_true]
      exact Or.inr (List.any_eq_true.mpr ⟨k / 24, h.1, by rw [← et]; exact hak⟩)
    obtain ⟨q, k1, k2⟩ := lk_ch_in E ht hw
    have hq := (lk_in_144 E k1).1
    rw [e, et, k2, nI_clamp (by omega)]
    exact ⟨k1, rfl⟩
  cases e : ly_lb o a (k / 24) (L (k / 24)) (ly_sy o a b k) with
  | none =>
    right
    have h0 : ly_lo b (none : Option Nat) = false := rfl
    exact ⟨h0, other (by rw [e]; rfl) (by unfold lk_tg; rw [e])⟩
  | some q =>
    obtain ⟨l1, l2, l3, -⟩ := ly_lb_some e
    by_cases z : b q = 0
    · left
      exact ⟨q, rfl, z, by unfold lk_tg; rw [e]; exact if_pos z, (lk_in_mk h.1 (E.2.1 _ g2).1 l1 l2).1⟩
    · right
      have h0 : ly_lo b (some q) = false := decide_eq_false z
      exact ⟨h0, other (by rw [e]; exact h0) (by unfold lk_tg; rw [e]; exact if_neg z)⟩
theorem lk_tg_in (E : lk_E o a b L ms) {k : Nat} (h : lk_in L ms k) (hu : ly_us (o k) = true) : lk_in L ms (lk_tg o a b L ms k) := by
  rcases lk_tg_cases E h hu with ⟨q, -, -, e, h⟩ | ⟨-, h, -⟩
  · rw [e]; exact h
  · exact h
theorem lk_sk_lt (k : Nat) : lk_sk o a k < 2 := ly_sc_le _
theorem lk_un_12 (E : lk_E o a b L ms) {k : Nat} (h : lk_in L ms k) : lk_un o a k < 12 ∧ lk_un o a k / 2 = k / 24 ∧ lk_un o a k % 2 = lk_sk o a k := by
  have h6 := (lk_in_144 E h).2.1
  have := lk_sk_lt (o := o) (a := a) k
  unfold lk_un
  refine ⟨by omega, by omega, by omega⟩
theorem lk_R_0 : lk_R o a b L ms (lk_un o a (lk_c0 o a b L ms)) := fun S h _ => h
theorem lk_R_s {u w : Nat} (h : lk_R o a b L ms u) (e : lk_ed o a b L ms u w) : lk_R o a b L ms w := fun S h0 hs => hs u w (h S h0 hs) e
theorem lk_R_in (E : lk_E o a b L ms) {u : Nat} (h : lk_R o a b L ms u) : u < 12 ∧ u / 2 ∈ ms := by
  refine h (fun u => u < 12 ∧ u / 2 ∈ ms) ?_ ?_
  · have h0 := (lk_c0_in E).1
    obtain ⟨h1, h2, -⟩ := lk_un_12 E h0
    exact ⟨h1, by rw [h2]; exact h0.1⟩
  · rintro u w - ⟨k, hk, hu, -, e⟩
    have ht := lk_tg_in E hk hu
    obtain ⟨h1, h2, -⟩ := lk_un_12 E ht
    rw [← e]
    exact ⟨h1, by rw [h2]; exact ht.1⟩
theorem lk_st_1 {strip : Int32} (h : ¬ strip = 0) {u : Nat} : lk_st o a b L ms strip u = true ↔ lk_R o a b L ms u := by
  unfold lk_st
  rw [if_neg h]
  exact @decide_eq_true_iff (lk_R o a b L ms u) (Classical.propDecidable _)
theorem lk_st_0 {u : Nat} : lk_st o a b L ms 0 u = decide (u / 2 ∈ ms) := by
  unfold lk_st
  rw [if_pos rfl]
theorem lk_ed_bd (E : lk_E o a b L ms) {u w : Nat} (h : lk_ed o a b L ms u w) : w < 12 ∧ w / 2 ∈ ms := by
  obtain ⟨k, hk, hu, -, e⟩ := h
  have ht := lk_tg_in E hk hu
  obtain ⟨h1, h2, -⟩ := lk_un_12 E ht
  rw [← e]
  exact ⟨h1, by rw [h2]; exact ht.1⟩
/-- a set between nothing and what is reached, with the start and closed, is what is reached -/
theorem lk_R_eq {S : Nat → Prop} (h1 : ∀ u, S u → lk_R o a b L ms u) (h2 : S (lk_un o a (lk_c0 o a b L ms))) (h3 : ∀ u w, S u → lk_ed o a b L ms u w → S w) (u : Nat) : S u ↔ lk_R o a b L ms u :=
  ⟨h1 u, fun h => h S h2 h3⟩
end unp
end
section
/-! X: targets and units -/
section xu
variable {f_origin f_culprit f_strip f_listed f_units f_ordered f_textEnd f_end f_longs f_rounds f_keptListed f_entry f_linked f_pc f_steps f_outs f_ran : Int32} {a_op a_opA a_opB a_section a_length a_role a_labelAt a_used a_local a_global a_weak a_faulty a_list a_chosen a_order a_lengthened a_at a_keptAt a_keptSymbol a_keptList a_image a_sizes a_words a_apart a_partA a_partN a_wide a_r a_output : Nat → Int32} {L : Nat → Nat} {ms : List Nat}
def lk_XC (o a b : Nat → Int32) (L : Nat → Nat) (ms : List Nat) (chosen : Nat → Int32) : Prop := ∀ s, s < 16 → chosen s = if lk_ch o a b L (nI s) ms = -1 then 144 else lk_ch o a b L (nI s) ms
theorem lk_xlf {post : Int32 → Prop} {k : Nat} (hJ : lk_XJ a_op a_opA a_opB a_length a_section a_labelAt a_used a_local a_global a_weak a_faulty L) (E : lk_E a_op a_opA a_opB L ms) (hX : lk_XC a_op a_opA a_opB L ms a_chosen)
    (hk : lk_in L ms k) (hu : ly_us (a_op k) = true) (hp : post (nI (lk_tg a_op a_opA a_opB L ms k))) : wpX_labelFor post (f_origin, f_culprit, f_strip, f_listed, f_units, f_ordered, f_textEnd, f_end, f_longs, f_rounds, f_keptListed, f_entry, f_linked, f_pc, f_steps, f_outs, f_ran, a_op, a_opA, a_opB, a_section, a_length, a_role, a_labelAt, a_used, a_local, a_global, a_weak, a_faulty, a_list, a_chosen, a_order, a_lengthened, a_at, a_keptAt, a_keptSymbol, a_keptList, a_image, a_sizes, a_words, a_apart, a_partA, a_partN, a_wide, a_r, a_output) (nI (k / 24)) (ly_sy a_op a_opA a_opB k) := by
  obtain ⟨t, ht, et⟩ := lk_sy_in E hk hu
  obtain ⟨g1, g2, g3, g4⟩ := lk_in_144 E hk
  have hv : vp_in (nI (k / 24)) 6 := vp_in_nI g2 (by omega)
  obtain ⟨hlen, h24, hok, -, hla, -, hlo, -⟩ := hJ _ g2
  have hnf := E.1.2.2 _ hk.1
  have hbit : ((((a_local (k / 24)) >>> (nI t &&& 31)) &&& 1) = 0) ↔ ly_lo a_opB (ly_lb a_op a_opA (k / 24) (L (k / 24)) (nI t)) = false := by
    rw [ly_bit _ (by omega : t < 32), hlo t (by omega), ly_sl_nf hnf]
    unfold ly_lo
    exact Iff.rfl
  refine And.intro hv ?_
  rw [nI_clamp (by omega : k / 24 < 2 ^ 31)]
  rcases lk_tg_cases E hk hu with ⟨q, e1, e2, e3, e4⟩ | ⟨e1, e2, e3⟩
  · rw [et] at e1 ⊢
    have hz : ¬ (((a_local (k / 24)) >>> (nI t &&& 31)) &&& 1) = 0 := by
      rw [hbit, e1]
      show ¬ decide (a_opB q = 0) = false
      rw [decide_eq_true e2]; decide
    obtain ⟨l1, l2, -⟩ := ly_lb_some e1
    have hv2 : vp_in (16 * nI (k / 24) + nI t) 96 := by rw [ly_16]; exact vp_in_nI (by omega) (by omega)
    have hc2 : (16 * nI (k / 24) + nI t).toNatClampNeg = 16 * (k / 24) + t := by rw [ly_16]; exact nI_clamp (by omega)
    refine br_f hz ⟨hv2, ?_⟩
    rw [hc2, hla t ht, e1, show ly_la (k / 24) (some q) = nI (q - 24 * (k / 24) + 1) from rfl, ly_24, show 24 * (k / 24) + (q - 24 * (k / 24) + 1) = q + 1 by omega, nI_pred, ← e3]
    exact hp
  · rw [et] at e1 e3 ⊢
    refine br_t (hbit.mpr e1) ⟨vp_in_nI ht (by omega), ?_⟩
    have := (lk_in_144 E e2).1
    rw [nI_clamp (by omega), hX t ht, e3, if_neg (ly_mm _ (by omega))]
    exact hp
theorem lk_xun {post : Int32 → Prop} {k : Nat} (hJ : lk_XJ a_op a_opA a_opB a_length a_section a_labelAt a_used a_local a_global a_weak a_faulty L) (E : lk_E a_op a_opA a_opB L ms)
    (hk : lk_in L ms k) (hp : post (nI (lk_un a_op a_opA k))) : wpX_unitOf post (f_origin, f_culprit, f_strip, f_listed, f_units, f_ordered, f_textEnd, f_end, f_longs, f_rounds, f_keptListed, f_entry, f_linked, f_pc, f_steps, f_outs, f_ran, a_op, a_opA, a_opB, a_section, a_length, a_role, a_labelAt, a_used, a_local, a_global, a_weak, a_faulty, a_list, a_chosen, a_order, a_lengthened, a_at, a_keptAt, a_keptSymbol, a_keptList, a_image, a_sizes, a_words, a_apart, a_partA, a_partN, a_wide, a_r, a_output) (nI k) := by
  obtain ⟨g1, g2, g3, g4⟩ := lk_in_144 E hk
  obtain ⟨hlen, h24, hok, hse, -⟩ := hJ _ g2
  refine And.intro (by decide) (And.intro (vp_in_nI g1 (by omega)) ?_)
  have hs := hse (k % 24) hk.2
  rw [show 24 * (k / 24) + k % 24 = k by omega] at hs
  rw [nI_clamp (by omega), ly_d24 (by omega), hs, ly_2]
  exact hp
theorem lk_xsec (hJ : lk_XJ a_op a_opA a_opB a_length a_section a_labelAt a_used a_local a_global a_weak a_faulty L) (E : lk_E a_op a_opA a_opB L ms) {k : Nat} (hk : lk_in L ms k) : a_section k = nI (lk_sk a_op a_opA k) := by
  obtain ⟨g1, g2, g3, g4⟩ := lk_in_144 E hk
  obtain ⟨hlen, h24, hok, hse, -⟩ := hJ _ g2
  have hs := hse (k % 24) hk.2
  rw [show 24 * (k / 24) + k % 24 = k by omega] at hs
  exact hs
theorem lk_xt12 {post : Int32 → Prop} {u m : Nat} (hJ : lk_XJ a_op a_opA a_opB a_length a_section a_labelAt a_used a_local a_global a_weak a_faulty L) (E : lk_E a_op a_opA a_opB L ms) (hX : lk_XC a_op a_opA a_opB L ms a_chosen)
    (hm : m ∈ ms) (hu : u / 2 = m) (hu12 : u < 12) (hp : ∀ T, (∀ w, w < 32 → (bt T w = true ↔ lk_ed a_op a_opA a_opB L ms u w)) → post T) :
    ∀ d k f x, k + d = 24 * m + L m → 24 * m ≤ k → d < f → (∀ w, w < 32 → (bt x w = true ↔ ∃ j, 24 * m ≤ j ∧ j < k ∧ ly_us (a_op j) = true ∧ lk_un a_op a_opA j = u ∧ lk_un a_op a_opA (lk_tg a_op a_opA a_opB L ms j) = w)) →
    wX_targets_12 post (nI u) (nI m) f_origin f_culprit f_strip f_listed f_units f_ordered f_textEnd f_end f_longs f_rounds f_keptListed f_entry f_linked f_pc f_steps f_outs f_ran a_op a_opA a_opB a_section a_length a_role a_labelAt a_used a_local a_global a_weak a_faulty a_list a_chosen a_order a_lengthened a_at a_keptAt a_keptSymbol a_keptList a_image a_sizes a_words a_apart a_partA a_partN a_wide a_r a_output f x (nI k) := by
  have h6 := E.1.2.1 m hm
  have h24 := (E.2.1 m h6).1
  have hv : vp_in (nI m) 6 := vp_in_nI h6 (by omega)
  have hlen := (hJ m h6).1
  intro d
  induction d with
  | zero =>
    intro k f x hk hk2 hf hb
    obtain ⟨f, rfl⟩ : ∃ f', f = f' + 1 := ⟨f - 1, by omega⟩
    refine And.intro hv ?_
    rw [nI_clamp (by omega), hlen, ly_24]
    refine br_t (nI_le (by omega) (by omega)) (hp x (fun w hw => ?_))
    rw [hb w hw]
    constructor
    · rintro ⟨j, h1, h2, h3, h4, h5⟩
      exact ⟨j, (lk_in_mk hm h24 h1 (by omega)).1, h3, h4, h5⟩
    · rintro ⟨j, h1, h3, h4, h5⟩
      obtain ⟨g1, g2, g3, g4⟩ := lk_in_144 E h1
      have := (lk_un_12 E h1).2.1
      have e : j / 24 = m := by rw [← this, h4]; exact hu
      rw [e] at g3 g4
      exact ⟨j, g3, by omega, h3, h4, h5⟩
  | succ d ih =>
    intro k f x hk hk2 hf hb
    obtain ⟨f, rfl⟩ : ∃ f', f = f' + 1 := ⟨f - 1, by omega⟩
    obtain ⟨hin, ek⟩ := lk_in_mk hm h24 hk2 (show k < 24 * m + L m by omega)
    have hsec := lk_xsec hJ E hin
    have hsk := lk_sk_lt (o := a_op) (a := a_opA) k
    have hunk : lk_un a_op a_opA k = 2 * m + lk_sk a_op a_opA k := by unfold lk_un; rw [ek]
    refine And.intro hv ?_
    rw [nI_clamp (by omega : m < 2 ^ 31), hlen, ly_24]
    refine br_f (nI_ge (by omega) (by omega)) ⟨vp_in_nI (by omega) (by omega), ?_⟩
    rw [nI_clamp (by omega : k < 2 ^ 31), hsec, pk_andN (by omega : u < 2 ^ 32) (m := 1) 1 (by decide)]
    have skip : (ly_us (a_op k) = false ∨ ¬ lk_un a_op a_opA k = u) → wX_targets_51 post (wX_targets_12 post (nI u) (nI m) f_origin f_culprit f_strip f_listed f_units f_ordered f_textEnd f_end f_longs f_rounds f_keptListed f_entry f_linked f_pc f_steps f_outs f_ran a_op a_opA a_opB a_section a_length a_role a_labelAt a_used a_local a_global a_weak a_faulty a_list a_chosen a_order a_lengthened a_at a_keptAt a_keptSymbol a_keptList a_image a_sizes a_words a_apart a_partA a_partN a_wide a_r a_output f) (nI u) (nI m) x (nI k) (-1) f_origin f_culprit f_strip f_listed f_units f_ordered f_textEnd f_end f_longs f_rounds f_keptListed f_entry f_linked f_pc f_steps f_outs f_ran a_op a_opA a_opB a_section a_length a_role a_labelAt a_used a_local a_global a_weak a_faulty a_list a_chosen a_order a_lengthened a_at a_keptAt a_keptSymbol a_keptList a_image a_sizes a_words a_apart a_partA a_partN a_wide a_r a_output := by
      intro hno
      unfold wX_targets_51
      refine br_t (by decide) (nm_r (nI_1 k) (ih (k + 1) f x (by omega) (by omega) (by omega) (fun w hw => ?_)))
      rw [hb w hw]
      constructor
      · rintro ⟨j, h1, h2, h3⟩; exact ⟨j, h1, by omega, h3⟩
      · rintro ⟨j, h1, h2, h3, h4, h5⟩
        by_cases z : j = k
        · subst z
          rcases hno with y | y
          · rw [y] at h3; cases h3
          · exact absurd h4 y
        · exact ⟨j, h1, by omega, h3, h4, h5⟩
    by_cases z : lk_sk a_op a_opA k = u % 2
    · refine br_t (by rw [z]) (ly_xsym (by omega) ?_)
      by_cases y : ly_us (a_op k) = true
      · rw [if_pos y]
        obtain ⟨t, ht, et⟩ := lk_sy_in E hin y
        have htg := lk_tg_in E hin y
        have hu12' := (lk_un_12 E htg).1
        unfold wX_targets_51
        refine br_f (by rw [et]; exact nI_pos (by omega)) ?_
        rw [← ek]
        refine lk_xlf hJ E hX hin y (lk_xun hJ E htg (nm_e (nm_r (nI_1 k) ?_)))
        rw [ek]
        refine ih (k + 1) f _ (by omega) (by omega) (by omega) (fun w hw => ?_)
        rw [b_or, Bool.or_eq_true, hb w hw, ly_one (by omega) hw, decide_eq_true_eq]
        constructor
        · rintro (⟨j, h1, h2, h3⟩ | h)
          · exact ⟨j, h1, by omega, h3⟩
          · exact ⟨k, hk2, by omega, y, by omega, h.symm⟩
        · rintro ⟨j, h1, h2, h3, h4, h5⟩
          by_cases e : j = k
          · subst e; exact Or.inr h5.symm
          · exact Or.inl ⟨j, h1, by omega, h3, h4, h5⟩
      · rw [if_neg y]
        exact skip (Or.inl (Bool.not_eq_true _ |>.mp y))
    · refine br_f ?_ (skip (Or.inr (by omega)))
      rw [show u % 2 ^ 1 = u % 2 from rfl, nI_eq (by omega) (by omega)]
      exact z
theorem lk_xtargets {post : Int32 → Prop} {u : Nat} (hJ : lk_XJ a_op a_opA a_opB a_length a_section a_labelAt a_used a_local a_global a_weak a_faulty L) (E : lk_E a_op a_opA a_opB L ms) (hX : lk_XC a_op a_opA a_opB L ms a_chosen)
    (hu : u / 2 ∈ ms) (hu12 : u < 12) (hp : ∀ T, (∀ w, w < 32 → (bt T w = true ↔ lk_ed a_op a_opA a_opB L ms u w)) → post T) : wpX_targets post (f_origin, f_culprit, f_strip, f_listed, f_units, f_ordered, f_textEnd, f_end, f_longs, f_rounds, f_keptListed, f_entry, f_linked, f_pc, f_steps, f_outs, f_ran, a_op, a_opA, a_opB, a_section, a_length, a_role, a_labelAt, a_used, a_local, a_global, a_weak, a_faulty, a_list, a_chosen, a_order, a_lengthened, a_at, a_keptAt, a_keptSymbol, a_keptList, a_image, a_sizes, a_words, a_apart, a_partA, a_partN, a_wide, a_r, a_output) (nI u) := by
  refine And.intro (by decide) (nm_r (ly_d2 (by omega)) (nm_r (ly_24' _) ⟨L (u / 2) + 1, ?_⟩))
  refine lk_xt12 hJ E hX hu rfl hu12 hp (L (u / 2)) (24 * (u / 2)) _ 0 rfl (Nat.le_refl _) (by omega) (fun w hw => ?_)
  rw [b_0]
  exact ⟨(fun h => nomatch h), (fun ⟨j, h1, h2, _⟩ => absurd h1 (by omega))⟩
theorem lk_x74 {post : SX → Prop} {J68 : Int32 → Int32 → Prop} {x1 : Int32} {t : Nat} (hJ : lk_XJ a_op a_opA a_opB a_length a_section a_labelAt a_used a_local a_global a_weak a_faulty L) (E : lk_E a_op a_opA a_opB L ms) (hX : lk_XC a_op a_opA a_opB L ms a_chosen)
    (hb : bt x1 t = true) (hl : ∀ j, j < t → bt x1 j = false) (ht : t < 12) (htm : t / 2 ∈ ms)
    (hp : ∀ T, (∀ w, w < 32 → (bt T w = true ↔ lk_ed a_op a_opA a_opB L ms t w)) → J68 ((x1 ||| T) &&& ((f_units ||| ((1 : Int32) <<< (nI t &&& 31))) ^^^ (-1))) (f_units ||| ((1 : Int32) <<< (nI t &&& 31)))) :
    ∀ d i f, i + d = t → d < f → wX_stay_74 post J68 x1 f_origin f_culprit f_strip f_listed f_units f_ordered f_textEnd f_end f_longs f_rounds f_keptListed f_entry f_linked f_pc f_steps f_outs f_ran a_op a_opA a_opB a_section a_length a_role a_labelAt a_used a_local a_global a_weak a_faulty a_list a_chosen a_order a_lengthened a_at a_keptAt a_keptSymbol a_keptList a_image a_sizes a_words a_apart a_partA a_partN a_wide a_r a_output f (nI i) := by
  intro d
  induction d with
  | zero =>
    intro i f hi hf
    obtain ⟨f, rfl⟩ : ∃ f', f = f' + 1 := ⟨f - 1, by omega⟩
    have : i = t := by omega
    subst this
    refine br_f (fun e => ?_) (nm_e (lk_xtargets hJ E hX htm ht (fun T hT => nm_e (hp T hT))))
    rw [(ly_bit x1 (by omega)).mp e] at hb; cases hb
  | succ d ih =>
    intro i f hi hf
    obtain ⟨f, rfl⟩ : ∃ f', f = f' + 1 := ⟨f - 1, by omega⟩
    exact br_t ((ly_bit x1 (by omega)).mpr (hl i (by omega))) (nm_r (nI_1 i) (ih (i + 1) f (by omega) (by omega)))
theorem lk_x68 {post : SX → Prop} (hJ : lk_XJ a_op a_opA a_opB a_length a_section a_labelAt a_used a_local a_global a_weak a_faulty L) (E : lk_E a_op a_opA a_opB L ms) (hX : lk_XC a_op a_opA a_opB L ms a_chosen)
    (hp : ∀ U, (∀ u, u < 32 → (bt U u = true ↔ lk_R a_op a_opA a_opB L ms u)) → post (f_origin, f_culprit, f_strip, f_listed, U, f_ordered, f_textEnd, f_end, f_longs, f_rounds, f_keptListed, f_entry, f_linked, f_pc, f_steps, f_outs, f_ran, a_op, a_opA, a_opB, a_section, a_length, a_role, a_labelAt, a_used, a_local, a_global, a_weak, a_faulty, a_list, a_chosen, a_order, a_lengthened, a_at, a_keptAt, a_keptSymbol, a_keptList, a_image, a_sizes, a_words, a_apart, a_partA, a_partN, a_wide, a_r, a_output)) :
    ∀ n f x U, 12 ≤ n + lk_ct (bt U) 12 → n < f →
    (∀ w, w < 32 → bt U w = true ∨ bt x w = true → lk_R a_op a_opA a_opB L ms w) → (∀ w, w < 32 → bt x w = true → bt U w = false) →
    (∀ u w, bt U u = true → lk_ed a_op a_opA a_opB L ms u w → bt U w = true ∨ bt x w = true) →
    (bt U (lk_un a_op a_opA (lk_c0 a_op a_opA a_opB L ms)) = true ∨ bt x (lk_un a_op a_opA (lk_c0 a_op a_opA a_opB L ms)) = true) →
    wX_stay_68 post f_origin f_culprit f_strip f_listed f_ordered f_textEnd f_end f_longs f_rounds f_keptListed f_entry f_linked f_pc f_steps f_outs f_ran a_op a_opA a_opB a_section a_length a_role a_labelAt a_used a_local a_global a_weak a_faulty a_list a_chosen a_order a_lengthened a_at a_keptAt a_keptSymbol a_keptList a_image a_sizes a_words a_apart a_partA a_partN a_wide a_r a_output f x U := by
  intro n
  induction n with
  | zero =>
    intro f x U hn hf h1 h2 h3 h4
    obtain ⟨f, rfl⟩ : ∃ f', f = f' + 1 := ⟨f - 1, by omega⟩
    have hall : ∀ i, i < 12 → bt U i = true := fun i hi => by
      have hm : ∀ i, i < 12 → bt U i = true → (fun _ => true) i = true := fun _ _ _ => rfl
      have h := lk_ct_eq (p := bt U) (q := fun _ => true) (n := 12) hm (Nat.le_trans (lk_ct_le _ 12) (by omega)) i hi
      exact h
    have hx : x = 0 := ly_zero.mpr (fun i hi => by
      cases e : bt x i with
      | false => rfl
      | true =>
        have := (lk_R_in E (h1 i hi (Or.inr e))).1
        have h := h2 i hi e
        rw [hall i this] at h; cases h)
    subst hx
    refine br_t rfl (hp U (fun u hu => ?_))
    refine lk_R_eq (S := fun u => bt U u = true) (fun w hw => ?_) ?_ (fun u w g1 g2 => ?_) u
    · refine h1 w ?_ (Or.inl hw)
      rcases Nat.lt_or_ge w 32 with y | y
      · exact y
      · rw [b_big y] at hw; cases hw
    · rcases h4 with g | g
      · exact g
      · rw [b_0] at g; cases g
    · rcases h3 u w g1 g2 with g | g
      · exact g
      · rw [b_0] at g; cases g
  | succ n ih =>
    intro f x U hn hf h1 h2 h3 h4
    obtain ⟨f, rfl⟩ : ∃ f', f = f' + 1 := ⟨f - 1, by omega⟩
    by_cases hx : x = 0
    · subst hx
      refine br_t rfl (hp U (fun u hu => ?_))
      refine lk_R_eq (S := fun u => bt U u = true) (fun w hw => ?_) ?_ (fun u w g1 g2 => ?_) u
      · refine h1 w ?_ (Or.inl hw)
        rcases Nat.lt_or_ge w 32 with y | y
        · exact y
        · rw [b_big y] at hw; cases hw
      · rcases h4 with g | g
        · exact g
        · rw [b_0] at g; cases g
      · rcases h3 u w g1 g2 with g | g
        · exact g
        · rw [b_0] at g; cases g
    · obtain ⟨t, ht, hb, hl⟩ := ly_nz hx
      have hR := h1 t ht (Or.inr hb)
      obtain ⟨ht12, htm⟩ := lk_R_in E hR
      have hUt := h2 t ht hb
      refine br_f hx ⟨t + 1, lk_x74 hJ E hX hb hl ht12 htm (fun T hT => ?_) t 0 (t + 1) (by omega) (by omega)⟩
      have bU : ∀ w, w < 32 → bt (U ||| ((1 : Int32) <<< (nI t &&& 31))) w = (bt U w || decide (w = t)) := fun w hw => by
        rw [b_or, ly_one ht hw]
      have bX : ∀ w, w < 32 → bt ((x ||| T) &&& ((U ||| ((1 : Int32) <<< (nI t &&& 31))) ^^^ (-1))) w = ((bt x w || bt T w) && !(bt U w || decide (w = t))) := fun w hw => by
        rw [b_and, b_or, ly_not _ hw, bU w hw]
      have w32 : ∀ {y : Int32} {w : Nat}, bt y w = true → w < 32 := fun {y w} h => by
        rcases Nat.lt_or_ge w 32 with q | q
        · exact q
        · rw [b_big q] at h; cases h
      refine ih f _ _ ?_ (by omega) (fun w hw h => ?_) (fun w hw h => ?_) (fun u w g1 g2 => ?_) ?_
      · have hlt := lk_ct_lt (p := bt U) (q := bt (U ||| ((1 : Int32) <<< (nI t &&& 31)))) (n := 12) (i := t) (fun i hi h => by rw [bU i (by omega), h]; rfl) ht12 hUt (by rw [bU t ht, decide_eq_true rfl, Bool.or_true])
        omega
      · rw [bU w hw, bX w hw] at h
        cases eU : bt U w with
        | true => exact h1 w hw (Or.inl eU)
        | false =>
          cases ex : bt x w with
          | true => exact h1 w hw (Or.inr ex)
          | false =>
            by_cases z : w = t
            · rw [z]; exact hR
            · rw [eU, ex, decide_eq_false z] at h
              cases eT : bt T w with
              | true => exact lk_R_s hR ((hT w hw).mp eT)
              | false => rw [eT] at h; rcases h with h | h <;> cases h
      · rw [bX w hw, Bool.and_eq_true, Bool.not_eq_true'] at h
        rw [bU w hw]; exact h.2
      · have hu32 := w32 g1
        have hw32 : w < 32 := by have := (lk_ed_bd E g2).1; omega
        rw [bU u hu32, Bool.or_eq_true, decide_eq_true_eq] at g1
        rw [bU w hw32, bX w hw32]
        have hin : bt U w = true ∨ bt x w = true ∨ bt T w = true := by
          rcases g1 with g | g
          · rcases h3 u w g g2 with k | k
            · exact Or.inl k
            · exact Or.inr (Or.inl k)
          · subst g; exact Or.inr (Or.inr ((hT w hw32).mpr g2))
        cases eU : (bt U w || decide (w = t)) with
        | true => exact Or.inl rfl
        | false =>
          right
          rw [Bool.or_eq_false_iff] at eU
          rcases hin with k | k | k
          · rw [eU.1] at k; cases k
          · rw [k]; rfl
          · rw [k, Bool.or_true]; rfl
      · have hu0 : lk_un a_op a_opA (lk_c0 a_op a_opA a_opB L ms) < 32 := by have := (lk_un_12 E (lk_c0_in E).1).1; omega
        rw [bU _ hu0, bX _ hu0]
        cases eU : (bt U (lk_un a_op a_opA (lk_c0 a_op a_opA a_opB L ms)) || decide (lk_un a_op a_opA (lk_c0 a_op a_opA a_opB L ms) = t)) with
        | true => exact Or.inl rfl
        | false =>
          right
          rw [Bool.or_eq_false_iff] at eU
          rcases h4 with k | k
          · rw [eU.1] at k; cases k
          · rw [k]; rfl
theorem lk_x7 {post : SX → Prop} (hs : f_strip = 0) (E : lk_E a_op a_opA a_opB L ms) (hL : lk_LS ms f_listed a_list) (hp : ∀ U, (∀ u, u < 32 → bt U u = decide (u / 2 ∈ ms)) → post (f_origin, f_culprit, f_strip, f_listed, U, f_ordered, f_textEnd, f_end, f_longs, f_rounds, f_keptListed, f_entry, f_linked, f_pc, f_steps, f_outs, f_ran, a_op, a_opA, a_opB, a_section, a_length, a_role, a_labelAt, a_used, a_local, a_global, a_weak, a_faulty, a_list, a_chosen, a_order, a_lengthened, a_at, a_keptAt, a_keptSymbol, a_keptList, a_image, a_sizes, a_words, a_apart, a_partA, a_partN, a_wide, a_r, a_output)) :
    ∀ rest pre f U, ms = pre ++ rest → rest.length < f → (∀ u, u < 32 → bt U u = decide (u / 2 ∈ pre)) → wX_stay_7 post f_origin f_culprit f_strip f_listed f_ordered f_textEnd f_end f_longs f_rounds f_keptListed f_entry f_linked f_pc f_steps f_outs f_ran a_op a_opA a_opB a_section a_length a_role a_labelAt a_used a_local a_global a_weak a_faulty a_list a_chosen a_order a_lengthened a_at a_keptAt a_keptSymbol a_keptList a_image a_sizes a_words a_apart a_partA a_partN a_wide a_r a_output f (nI pre.length) U := by
  intro rest
  induction rest with
  | nil =>
    intro pre f U e hf hb
    obtain ⟨f, rfl⟩ : ∃ f', f = f' + 1 := ⟨f - 1, by omega⟩
    rw [List.append_nil] at e
    subst e
    refine br_t (by rw [hL.1]; exact Int32.le_refl _) ?_
    unfold wX_stay_47
    exact br_t hs (hp U hb)
  | cons m rest ih =>
    intro pre f U e hf hb
    rw [List.length_cons] at hf
    obtain ⟨f, rfl⟩ : ∃ f', f = f' + 1 := ⟨f - 1, by omega⟩
    obtain ⟨h1, h2, h3, h4⟩ := lk_LS_at hL e
    refine br_f ?_ (br_t hs (And.intro (vp_in_nI h4 (by omega)) ?_))
    · rw [hL.1]; exact nI_ge h3 (by have := hL.2.1; omega)
    rw [nI_clamp (by omega), h1, ly_2']
    refine nm_e (nm_r (nI_1 _) ?_)
    have := ih (pre ++ [m]) f (U ||| ((3 : Int32) <<< (nI (2 * m) &&& 31))) (by rw [e, List.append_assoc]; rfl) (by omega) (fun u hu => by
      rw [b_or, hb u hu, ly_tri m h2 u hu]
      apply ly_beq
      rw [Bool.or_eq_true, decide_eq_true_eq, decide_eq_true_eq, decide_eq_true_eq, List.mem_append, List.mem_singleton])
    rw [List.length_append] at this
    exact this
theorem lk_xstay {post : SX → Prop} (hJ : lk_XJ a_op a_opA a_opB a_length a_section a_labelAt a_used a_local a_global a_weak a_faulty L) (E : lk_E a_op a_opA a_opB L ms) (hX : lk_XC a_op a_opA a_opB L ms a_chosen) (hL : lk_LS ms f_listed a_list)
    (hp : ∀ U, (∀ u, u < 32 → bt U u = lk_st a_op a_opA a_opB L ms f_strip u) → post (f_origin, f_culprit, f_strip, f_listed, U, f_ordered, f_textEnd, f_end, f_longs, f_rounds, f_keptListed, f_entry, f_linked, f_pc, f_steps, f_outs, f_ran, a_op, a_opA, a_opB, a_section, a_length, a_role, a_labelAt, a_used, a_local, a_global, a_weak, a_faulty, a_list, a_chosen, a_order, a_lengthened, a_at, a_keptAt, a_keptSymbol, a_keptList, a_image, a_sizes, a_words, a_apart, a_partA, a_partN, a_wide, a_r, a_output)) : wpX_stay post (f_origin, f_culprit, f_strip, f_listed, f_units, f_ordered, f_textEnd, f_end, f_longs, f_rounds, f_keptListed, f_entry, f_linked, f_pc, f_steps, f_outs, f_ran, a_op, a_opA, a_opB, a_section, a_length, a_role, a_labelAt, a_used, a_local, a_global, a_weak, a_faulty, a_list, a_chosen, a_order, a_lengthened, a_at, a_keptAt, a_keptSymbol, a_keptList, a_image, a_sizes, a_words, a_apart, a_partA, a_partN, a_wide, a_r, a_output) := by
  by_cases z : f_strip = 0
  · exact ⟨ms.length + 1, lk_x7 z E hL (fun U hU => hp U (fun u hu => by rw [hU u hu, z, lk_st_0])) ms [] _ 0 rfl (by omega) (fun u hu => by rw [b_0, decide_eq_false (by simp)])⟩
  · have h47 : wX_stay_47 post f_origin f_culprit f_strip f_listed 0 f_ordered f_textEnd f_end f_longs f_rounds f_keptListed f_entry f_linked f_pc f_steps f_outs f_ran a_op a_opA a_opB a_section a_length a_role a_labelAt a_used a_local a_global a_weak a_faulty a_list a_chosen a_order a_lengthened a_at a_keptAt a_keptSymbol a_keptList a_image a_sizes a_words a_apart a_partA a_partN a_wide a_r a_output := by
      unfold wX_stay_47
      obtain ⟨c1, c2⟩ := lk_c0_in E
      have hc := (lk_in_144 E c1).1
      have h12 := (lk_un_12 E c1).1
      have e0 : a_chosen 0 = nI (lk_c0 a_op a_opA a_opB L ms) := by
        have h := hX 0 (by omega)
        rw [show nI 0 = 0 from rfl, c2, if_neg (ly_mm _ (by omega))] at h
        exact h
      rw [e0]
      refine br_f z (lk_xun hJ E c1 (nm_e ⟨13, ?_⟩))
      have b1 : ∀ w, w < 32 → bt ((1 : Int32) <<< (nI (lk_un a_op a_opA (lk_c0 a_op a_opA a_opB L ms)) &&& 31)) w = decide (w = lk_un a_op a_opA (lk_c0 a_op a_opA a_opB L ms)) := fun w hw => ly_one (by omega) hw
      refine lk_x68 hJ E hX (fun U hU => hp U (fun u hu => ly_beq ((hU u hu).trans (lk_st_1 z).symm))) 12 13 _ 0 (by omega) (by omega) (fun w hw h => ?_) (fun w hw h => b_0 w) (fun u w g => ?_) (Or.inr (by rw [b1 _ (by omega), decide_eq_true rfl]))
      · rw [b_0, b1 w hw, decide_eq_true_eq] at h
        rcases h with h | h
        · cases h
        · rw [h]; exact lk_R_0
      · rw [b_0] at g; cases g
    refine ⟨1, ?_⟩
    by_cases y : f_listed ≤ 0
    · exact br_t y h47
    · exact br_f y (br_f z h47)
end xu
end
section
/-! Y: targets and units -/
section yu
variable {g_origin g_strip g_many g_culprit g_textEnd g_end g_made g_rounds g_entry g_linked g_ran g_pc g_steps g_outs : Int32} {b_ops b_opA b_opB b_counts b_roles b_list b_places b_symbols b_image b_stays b_wide b_memory b_reg b_out : Nat → Int32} {L : Nat → Nat} {ms : List Nat}
theorem lk_ytg {post : Int32 → Prop} {k : Nat} (hC : ∀ m, m < 6 → b_counts m = nI (L m) ∧ L m ≤ 24) (hL : lk_LS ms g_many b_list) (E : lk_E b_ops b_opA b_opB L ms)
    (hk : lk_in L ms k) (hu : ly_us (b_ops k) = true) (hp : post (nI (lk_tg b_ops b_opA b_opB L ms k))) : wpY_target post (g_origin, g_strip, g_many, g_culprit, g_textEnd, g_end, g_made, g_rounds, g_entry, g_linked, g_ran, g_pc, g_steps, g_outs, b_ops, b_opA, b_opB, b_counts, b_roles, b_list, b_places, b_symbols, b_image, b_stays, b_wide, b_memory, b_reg, b_out) (nI k) := by
  obtain ⟨g1, g2, g3, g4⟩ := lk_in_144 E hk
  unfold wpY_target
  refine ly_ysy g1 (And.intro (by decide) ?_)
  rw [ly_d24 (by omega)]
  refine ly_ylb g2 (hC _ g2).1 (hC _ g2).2 (ly_yloc (fun q hq => ly_lb_144 g2 (hC _ g2).2 hq) ?_)
  rcases lk_tg_cases E hk hu with ⟨q, e1, e2, e3, e4⟩ | ⟨e1, e2, e3⟩
  · rw [e1]
    have : ly_lo b_opB (some q) = true := decide_eq_true e2
    rw [this]
    refine br_f (by decide) ?_
    rw [e3] at hp
    exact hp
  · rw [e1]
    refine br_t rfl (lk_ych hC hL ?_)
    rw [e3]
    exact hp
theorem lk_ysc10 {post : Int32 → Prop} {m K kk : Nat} (E : lk_E b_ops b_opA b_opB L ms) (hm : m ∈ ms) (hK : K < L m) (hkk : kk = 24 * m + K) (hp : post (nI (ly_sc b_ops b_opA m K))) :
    ∀ d i f x, i + d = K + 1 → d < f → (i = 0 → x = 0) → (∀ j, i = j + 1 → x = nI (ly_sc b_ops b_opA m j)) → wY_sectionOf_10 post (nI kk) g_origin g_strip g_many g_culprit g_textEnd g_end g_made g_rounds g_entry g_linked g_ran g_pc g_steps g_outs b_ops b_opA b_opB b_counts b_roles b_list b_places b_symbols b_image b_stays b_wide b_memory b_reg b_out f x (nI (24 * m + i)) := by
  have h6 := E.1.2.1 m hm
  obtain ⟨h24, hok⟩ := E.2.1 m h6
  intro d
  induction d with
  | zero =>
    intro i f x hi hf h0 h1
    obtain ⟨f, rfl⟩ : ∃ f', f = f' + 1 := ⟨f - 1, by omega⟩
    refine br_t (nI_lt (by omega) (by omega)) ?_
    rw [h1 K (by omega)]
    exact hp
  | succ d ih =>
    intro i f x hi hf h0 h1
    obtain ⟨f, rfl⟩ : ∃ f', f = f' + 1 := ⟨f - 1, by omega⟩
    have hv : vp_in (nI (24 * m + i)) 144 := vp_in_nI (by omega) (by omega)
    refine br_f (nI_nlt (by omega) (by omega)) (And.intro hv ?_)
    rw [nI_clamp (by omega : 24 * m + i < 2 ^ 31)]
    by_cases z : b_ops (24 * m + i) = 19
    · refine br_t z ⟨hv, nm_e (nm_r (nI_1 _) (ih (i + 1) f _ (by omega) (by omega) (fun h => absurd h (by omega)) (fun j hj => ?_)))⟩
      have : j = i := by omega
      subst this
      have e : ly_sc b_ops b_opA m j = ly_sv (b_opA (24 * m + j)) := by
        cases j with
        | zero => unfold ly_sc; exact if_pos z
        | succ j => unfold ly_sc; exact if_pos z
      rw [e]
      exact ly_svv ((hok _ (by omega) (by omega)).2.2.2.2.2.1 z)
    · refine br_f z (nm_r (nI_1 _) (ih (i + 1) f _ (by omega) (by omega) (fun h => absurd h (by omega)) (fun j hj => ?_)))
      have : j = i := by omega
      subst this
      cases j with
      | zero =>
        have z' : ¬ b_ops (24 * m) = 19 := z
        rw [h0 rfl]; unfold ly_sc; rw [if_neg z']; rfl
      | succ j =>
        rw [h1 j rfl]
        conv => rhs; unfold ly_sc
        rw [if_neg z]
theorem lk_ysc {post : Int32 → Prop} {k : Nat} (E : lk_E b_ops b_opA b_opB L ms) (hk : lk_in L ms k) (hp : post (nI (lk_sk b_ops b_opA k))) : wpY_sectionOf post (g_origin, g_strip, g_many, g_culprit, g_textEnd, g_end, g_made, g_rounds, g_entry, g_linked, g_ran, g_pc, g_steps, g_outs, b_ops, b_opA, b_opB, b_counts, b_roles, b_list, b_places, b_symbols, b_image, b_stays, b_wide, b_memory, b_reg, b_out) (nI k) := by
  obtain ⟨g1, g2, g3, g4⟩ := lk_in_144 E hk
  have e : nI k / 24 * 24 = nI (24 * (k / 24) + 0) := by
    rw [ly_d24 (by omega), show (24 : Int32) = nI 24 from rfl, pk_mul]
    exact congrArg nI (by omega)
  refine And.intro (by decide) (nm_r e ⟨k % 24 + 2, ?_⟩)
  exact lk_ysc10 E hk.1 hk.2 (by omega) hp (k % 24 + 1) 0 (k % 24 + 2) 0 (by omega) (by omega) (fun _ => rfl) (fun j hj => absurd hj (by omega))
theorem lk_yun {post : Int32 → Prop} {k : Nat} (E : lk_E b_ops b_opA b_opB L ms) (hk : lk_in L ms k) (hp : post (nI (lk_un b_ops b_opA k))) : wpY_unitOf post (g_origin, g_strip, g_many, g_culprit, g_textEnd, g_end, g_made, g_rounds, g_entry, g_linked, g_ran, g_pc, g_steps, g_outs, b_ops, b_opA, b_opB, b_counts, b_roles, b_list, b_places, b_symbols, b_image, b_stays, b_wide, b_memory, b_reg, b_out) (nI k) := by
  obtain ⟨g1, g2, g3, g4⟩ := lk_in_144 E hk
  refine And.intro (by decide) ?_
  refine lk_ysc E hk ?_
  rw [ly_d24 (by omega), ly_2]
  exact hp
/-- the set that an array of booleans is -/
def lk_BS (S : Nat → Bool) (x : Nat → Int32) : Prop := ∀ u, u < 12 → x u = ly_b (S u)
theorem lk_BS_u {S : Nat → Bool} {x : Nat → Int32} (h : lk_BS S x) (w : Nat) : lk_BS (fun u => S u || decide (u = w)) (upd x w 1) := by
  intro u hu
  by_cases z : u = w
  · rw [z, pk_us]; dsimp only; rw [decide_eq_true rfl, Bool.or_true]; rfl
  · rw [pk_un z, h u hu]; dsimp only; rw [decide_eq_false z, Bool.or_false]
theorem lk_yrf5 {post : SY → Prop} {m : Nat} {S : Nat → Bool} (hC : ∀ m, m < 6 → b_counts m = nI (L m) ∧ L m ≤ 24) (hL : lk_LS ms g_many b_list) (E : lk_E b_ops b_opA b_opB L ms) (hm : m ∈ ms)
    (hp : ∀ S' x, lk_BS S' x → (∀ u, S u = true → S' u = true) → (∀ u, S' u = true → lk_R b_ops b_opA b_opB L ms u) → (∀ k, 24 * m ≤ k → k < 24 * m + L m → ly_us (b_ops k) = true → S (lk_un b_ops b_opA k) = true → S' (lk_un b_ops b_opA (lk_tg b_ops b_opA b_opB L ms k)) = true) → post (g_origin, g_strip, g_many, g_culprit, g_textEnd, g_end, g_made, g_rounds, g_entry, g_linked, g_ran, g_pc, g_steps, g_outs, b_ops, b_opA, b_opB, b_counts, b_roles, b_list, b_places, b_symbols, b_image, x, b_wide, b_memory, b_reg, b_out)) :
    ∀ d k f S' x, k + d = 24 * m + L m → 24 * m ≤ k → d < f → lk_BS S' x → (∀ u, S u = true → S' u = true) → (∀ u, S' u = true → lk_R b_ops b_opA b_opB L ms u) →
    (∀ j, 24 * m ≤ j → j < k → ly_us (b_ops j) = true → S (lk_un b_ops b_opA j) = true → S' (lk_un b_ops b_opA (lk_tg b_ops b_opA b_opB L ms j)) = true) →
    wY_reachFrom_5 post (nI m) g_origin g_strip g_many g_culprit g_textEnd g_end g_made g_rounds g_entry g_linked g_ran g_pc g_steps g_outs f (nI k) b_ops b_opA b_opB b_counts b_roles b_list b_places b_symbols b_image x b_wide b_memory b_reg b_out := by
  have h6 := E.1.2.1 m hm
  obtain ⟨hcm, h24⟩ := hC m h6
  intro d
  induction d with
  | zero =>
    intro k f S' x hk hk2 hf hB h1 h2 h3
    obtain ⟨f, rfl⟩ : ∃ f', f = f' + 1 := ⟨f - 1, by omega⟩
    unfold wY_reachFrom_5
    refine ly_ylast h6 hcm ?_
    refine br_t (nI_le (by omega) (by omega)) (hp S' x hB h1 h2 ?_)
    exact fun j g1 g2 => h3 j g1 (by omega)
  | succ d ih =>
    intro k f S' x hk hk2 hf hB h1 h2 h3
    obtain ⟨f, rfl⟩ : ∃ f', f = f' + 1 := ⟨f - 1, by omega⟩
    obtain ⟨hin, ek⟩ := lk_in_mk hm h24 hk2 (show k < 24 * m + L m by omega)
    have hu12 := (lk_un_12 E hin).1
    unfold wY_reachFrom_5
    refine ly_ylast h6 hcm ?_
    refine br_f (nI_ge (by omega) (by omega)) (And.intro (vp_in_nI (by omega) (by omega)) ?_)
    rw [nI_clamp (by omega : k < 2 ^ 31)]
    refine ly_yus (ly_br (fun e => ?_) (fun e => ?_))
    · refine nm_r (nI_1 k) (ih (k + 1) f S' x (by omega) (by omega) (by omega) hB h1 h2 (fun j g1 g2 g3 => ?_))
      by_cases z : j = k
      · subst z; rw [e] at g3; cases g3
      · exact h3 j g1 (by omega) g3
    · refine lk_yun E hin (And.intro (vp_in_nI hu12 (by omega)) ?_)
      rw [nI_clamp (by omega : lk_un b_ops b_opA k < 2 ^ 31), hB _ hu12]
      refine ly_br (fun e2 => ?_) (fun e2 => ?_)
      · refine nm_r (nI_1 k) (ih (k + 1) f S' x (by omega) (by omega) (by omega) hB h1 h2 (fun j g1 g2 g3 g4 => ?_))
        by_cases z : j = k
        · subst z; have := h1 _ g4; rw [e2] at this; cases this
        · exact h3 j g1 (by omega) g3 g4
      · have htg := lk_tg_in E hin e
        have ht12 := (lk_un_12 E htg).1
        refine lk_ytg hC hL E hin e (lk_yun E htg (And.intro (vp_in_nI ht12 (by omega)) (nm_r (e' := upd x (lk_un b_ops b_opA (lk_tg b_ops b_opA b_opB L ms k)) 1) (by rw [nI_clamp (by omega)]; rfl) (nm_r (nI_1 k) ?_))))
        refine ih (k + 1) f _ _ (by omega) (by omega) (by omega) (lk_BS_u hB _) (fun u hu => ?_) (fun u hu => ?_) (fun j g1 g2 g3 g4 => ?_)
        · rw [h1 u hu]; rfl
        · rw [Bool.or_eq_true, decide_eq_true_eq] at hu
          rcases hu with hu | hu
          · exact h2 u hu
          · rw [hu]; exact lk_R_s (h2 _ e2) ⟨k, hin, e, rfl, rfl⟩
        · by_cases z : j = k
          · rw [z, decide_eq_true rfl, Bool.or_true]
          · rw [h3 j g1 (by omega) g3 g4]; rfl
theorem lk_yrf {post : SY → Prop} {m : Nat} {S : Nat → Bool} (hC : ∀ m, m < 6 → b_counts m = nI (L m) ∧ L m ≤ 24) (hL : lk_LS ms g_many b_list) (E : lk_E b_ops b_opA b_opB L ms) (hm : m ∈ ms) (hB : lk_BS S b_stays) (hR : ∀ u, S u = true → lk_R b_ops b_opA b_opB L ms u)
    (hp : ∀ S' x, lk_BS S' x → (∀ u, S u = true → S' u = true) → (∀ u, S' u = true → lk_R b_ops b_opA b_opB L ms u) → (∀ k, 24 * m ≤ k → k < 24 * m + L m → ly_us (b_ops k) = true → S (lk_un b_ops b_opA k) = true → S' (lk_un b_ops b_opA (lk_tg b_ops b_opA b_opB L ms k)) = true) → post (g_origin, g_strip, g_many, g_culprit, g_textEnd, g_end, g_made, g_rounds, g_entry, g_linked, g_ran, g_pc, g_steps, g_outs, b_ops, b_opA, b_opB, b_counts, b_roles, b_list, b_places, b_symbols, b_image, x, b_wide, b_memory, b_reg, b_out)) :
    wpY_reachFrom post (g_origin, g_strip, g_many, g_culprit, g_textEnd, g_end, g_made, g_rounds, g_entry, g_linked, g_ran, g_pc, g_steps, g_outs, b_ops, b_opA, b_opB, b_counts, b_roles, b_list, b_places, b_symbols, b_image, b_stays, b_wide, b_memory, b_reg, b_out) (nI m) :=
  nm_r (ly_24' m) ⟨L m + 1, lk_yrf5 hC hL E hm hp (L m) (24 * m) _ S b_stays rfl (Nat.le_refl _) (by omega) hB (fun _ h => h) hR (fun j h1 h2 => absurd h1 (by omega))⟩
theorem lk_y112 {post : SY → Prop} {J71 : Int32 → Int32 → Int32 → Int32 → Int32 → Int32 → Int32 → Int32 → Int32 → Int32 → Int32 → Int32 → Int32 → Int32 → Int32 → Int32 → (Nat → Int32) → (Nat → Int32) → (Nat → Int32) → (Nat → Int32) → (Nat → Int32) → (Nat → Int32) → (Nat → Int32) → (Nat → Int32) → (Nat → Int32) → (Nat → Int32) → (Nat → Int32) → (Nat → Int32) → (Nat → Int32) → (Nat → Int32) → Prop} {x2 : Int32} {S : Nat → Bool} (hB : lk_BS S b_stays)
    (hp : J71 x2 (nI (lk_ct S 12)) g_origin g_strip g_many g_culprit g_textEnd g_end g_made g_rounds g_entry g_linked g_ran g_pc g_steps g_outs b_ops b_opA b_opB b_counts b_roles b_list b_places b_symbols b_image b_stays b_wide b_memory b_reg b_out) : ∀ d i f, i + d = 12 → d < f → wY_findUnits_112 post J71 x2 g_origin g_strip g_many g_culprit g_textEnd g_end g_made g_rounds g_entry g_linked g_ran g_pc g_steps g_outs b_ops b_opA b_opB b_counts b_roles b_list b_places b_symbols b_image b_stays b_wide b_memory b_reg b_out f (nI (lk_ct S i)) (nI i) := by
  intro d
  induction d with
  | zero =>
    intro i f hi hf
    obtain ⟨f, rfl⟩ : ∃ f', f = f' + 1 := ⟨f - 1, by omega⟩
    have : i = 12 := by omega
    subst this
    exact br_t (Int32.le_refl _) hp
  | succ d ih =>
    intro i f hi hf
    obtain ⟨f, rfl⟩ : ∃ f', f = f' + 1 := ⟨f - 1, by omega⟩
    have ih' := ih (i + 1) f (by omega) (by omega)
    unfold lk_ct at ih'
    refine br_f (nI_ge (b := 12) (by omega) (by omega)) (And.intro (vp_in_nI (by omega) (by omega)) ?_)
    rw [nI_clamp (by omega), hB i (by omega)]
    refine ly_br (fun e => ?_) (fun e => ?_)
    · rw [if_neg (by rw [e]; decide), Nat.add_zero] at ih'
      exact nm_r (nI_1 i) ih'
    · rw [if_pos e] at ih'
      exact nm_r (nI_1 _) (nm_r (nI_1 i) ih')
theorem lk_y81 {post : SY → Prop} {J71 : Int32 → Int32 → Int32 → Int32 → Int32 → Int32 → Int32 → Int32 → Int32 → Int32 → Int32 → Int32 → Int32 → Int32 → Int32 → Int32 → (Nat → Int32) → (Nat → Int32) → (Nat → Int32) → (Nat → Int32) → (Nat → Int32) → (Nat → Int32) → (Nat → Int32) → (Nat → Int32) → (Nat → Int32) → (Nat → Int32) → (Nat → Int32) → (Nat → Int32) → (Nat → Int32) → (Nat → Int32) → Prop} {x2 : Int32} {S : Nat → Bool}
    (hC : ∀ m, m < 6 → b_counts m = nI (L m) ∧ L m ≤ 24) (hL : lk_LS ms g_many b_list) (E : lk_E b_ops b_opA b_opB L ms)
    (hp : ∀ S' x, lk_BS S' x → (∀ u, S u = true → S' u = true) → (∀ u, S' u = true → lk_R b_ops b_opA b_opB L ms u) → (∀ m, m ∈ ms → ∀ k, 24 * m ≤ k → k < 24 * m + L m → ly_us (b_ops k) = true → S (lk_un b_ops b_opA k) = true → S' (lk_un b_ops b_opA (lk_tg b_ops b_opA b_opB L ms k)) = true) → J71 x2 (nI (lk_ct S' 12)) g_origin g_strip g_many g_culprit g_textEnd g_end g_made g_rounds g_entry g_linked g_ran g_pc g_steps g_outs b_ops b_opA b_opB b_counts b_roles b_list b_places b_symbols b_image x b_wide b_memory b_reg b_out) :
    ∀ rest pre f S' x, ms = pre ++ rest → rest.length < f → lk_BS S' x → (∀ u, S u = true → S' u = true) → (∀ u, S' u = true → lk_R b_ops b_opA b_opB L ms u) →
    (∀ m, m ∈ pre → ∀ k, 24 * m ≤ k → k < 24 * m + L m → ly_us (b_ops k) = true → S (lk_un b_ops b_opA k) = true → S' (lk_un b_ops b_opA (lk_tg b_ops b_opA b_opB L ms k)) = true) →
    wY_findUnits_81 post J71 x2 f (nI pre.length) g_origin g_strip g_many g_culprit g_textEnd g_end g_made g_rounds g_entry g_linked g_ran g_pc g_steps g_outs b_ops b_opA b_opB b_counts b_roles b_list b_places b_symbols b_image x b_wide b_memory b_reg b_out := by
  intro rest
  induction rest with
  | nil =>
    intro pre f S' x e hf hB h1 h2 h3
    obtain ⟨f, rfl⟩ : ∃ f', f = f' + 1 := ⟨f - 1, by omega⟩
    rw [List.append_nil] at e
    subst e
    refine br_t (by rw [hL.1]; exact Int32.le_refl _) ⟨13, ?_⟩
    exact lk_y112 (b_stays := x) hB (hp S' x hB h1 h2 h3) 12 0 13 rfl (by omega)
  | cons m rest ih =>
    intro pre f S' x e hf hB h1 h2 h3
    rw [List.length_cons] at hf
    obtain ⟨f, rfl⟩ : ∃ f', f = f' + 1 := ⟨f - 1, by omega⟩
    obtain ⟨k1, k2, k3, k4⟩ := lk_LS_at hL e
    have hmm : m ∈ ms := by rw [e]; simp
    refine br_f ?_ (And.intro (vp_in_nI k4 (by omega)) ?_)
    · rw [hL.1]; exact nI_ge k3 (by have := hL.2.1; omega)
    rw [nI_clamp (by omega), k1]
    refine lk_yrf (b_stays := x) hC hL E hmm hB h2 (fun S'' x' hB' g1 g2 g3 => nm_r (nI_1 _) ?_)
    have := ih (pre ++ [m]) f S'' x' (by rw [e, List.append_assoc]; rfl) (by omega) hB' (fun u hu => g1 u (h1 u hu)) g2 (fun q hq k l1 l2 l3 l4 => by
      rcases List.mem_append.mp hq with z | z
      · exact g1 _ (h3 q z k l1 l2 l3 l4)
      · rw [List.mem_singleton.mp z] at l1 l2
        exact g3 k l1 l2 l3 (h1 _ l4))
    rw [List.length_append] at this
    exact this
def lk_CL (o a b : Nat → Int32) (L : Nat → Nat) (ms : List Nat) (S : Nat → Bool) : Prop := ∀ u w, S u = true → lk_ed o a b L ms u w → S w = true
theorem lk_y71 {post : SY → Prop} (hC : ∀ m, m < 6 → b_counts m = nI (L m) ∧ L m ≤ 24) (hL : lk_LS ms g_many b_list) (E : lk_E b_ops b_opA b_opB L ms)
    (hp : ∀ S x, lk_BS S x → (∀ u, S u = true → lk_R b_ops b_opA b_opB L ms u) → S (lk_un b_ops b_opA (lk_c0 b_ops b_opA b_opB L ms)) = true → lk_CL b_ops b_opA b_opB L ms S → post (g_origin, g_strip, g_many, g_culprit, g_textEnd, g_end, g_made, g_rounds, g_entry, g_linked, g_ran, g_pc, g_steps, g_outs, b_ops, b_opA, b_opB, b_counts, b_roles, b_list, b_places, b_symbols, b_image, x, b_wide, b_memory, b_reg, b_out)) :
    ∀ n f S x c, 12 ≤ n + lk_ct S 12 → n + 2 ≤ f → c ≤ 12 → lk_BS S x → (∀ u, S u = true → lk_R b_ops b_opA b_opB L ms u) → S (lk_un b_ops b_opA (lk_c0 b_ops b_opA b_opB L ms)) = true →
    (c = lk_ct S 12 → lk_CL b_ops b_opA b_opB L ms S) → wY_findUnits_71 post f (nI c) (nI (lk_ct S 12)) g_origin g_strip g_many g_culprit g_textEnd g_end g_made g_rounds g_entry g_linked g_ran g_pc g_steps g_outs b_ops b_opA b_opB b_counts b_roles b_list b_places b_symbols b_image x b_wide b_memory b_reg b_out := by
  intro n
  induction n with
  | zero =>
    intro f S x c hn hf hc hB h1 h2 h3
    obtain ⟨f, rfl⟩ : ∃ f', f = f' + 2 := ⟨f - 2, by omega⟩
    have hct := lk_ct_le S 12
    by_cases z : c = lk_ct S 12
    · exact br_t (by rw [z]) (hp S x hB h1 h2 (h3 z))
    · refine br_f (by rw [nI_eq (by omega) (by omega)]; omega) ⟨ms.length + 1, ?_⟩
      refine lk_y81 (S := S) hC hL E (fun S' x' hB' g1 g2 g3 => ?_) ms [] _ S x rfl (by omega) hB (fun _ h => h) h1 (fun m hm => nomatch hm)
      have hm := lk_ct_mono (p := S) (q := S') (n := 12) (fun i _ h => g1 i h)
      have hct' := lk_ct_le S' 12
      have he := lk_ct_eq (p := S) (q := S') (n := 12) (fun i _ h => g1 i h) (by omega)
      refine br_t (by rw [show lk_ct S 12 = lk_ct S' 12 by omega]) (hp S' x' hB' g2 (g1 _ h2) ?_)
      rintro u w hu ⟨k, hk, hus, e1, e2⟩
      obtain ⟨q1, q2, q3, q4⟩ := lk_in_144 E hk
      rw [← e2]
      have h12 := (lk_un_12 E hk).1
      exact g3 _ hk.1 k q3 q4 hus (by rw [he _ h12, e1]; exact hu)
  | succ n ih =>
    intro f S x c hn hf hc hB h1 h2 h3
    obtain ⟨f, rfl⟩ : ∃ f', f = f' + 2 := ⟨f - 2, by omega⟩
    have hct := lk_ct_le S 12
    by_cases z : c = lk_ct S 12
    · exact br_t (by rw [z]) (hp S x hB h1 h2 (h3 z))
    · refine br_f (by rw [nI_eq (by omega) (by omega)]; omega) ⟨ms.length + 1, ?_⟩
      refine lk_y81 (S := S) hC hL E (fun S' x' hB' g1 g2 g3 => ?_) ms [] _ S x rfl (by omega) hB (fun _ h => h) h1 (fun m hm => nomatch hm)
      have hm := lk_ct_mono (p := S) (q := S') (n := 12) (fun i _ h => g1 i h)
      have hcl : lk_ct S 12 = lk_ct S' 12 → lk_CL b_ops b_opA b_opB L ms S' := by
        intro heq
        have he := lk_ct_eq (p := S) (q := S') (n := 12) (fun i _ h => g1 i h) (by omega)
        rintro u w hu ⟨k, hk, hus, e1, e2⟩
        obtain ⟨q1, q2, q3, q4⟩ := lk_in_144 E hk
        rw [← e2]
        have h12 := (lk_un_12 E hk).1
        exact g3 _ hk.1 k q3 q4 hus (by rw [he _ h12, e1]; exact hu)
      by_cases y : lk_ct S 12 = lk_ct S' 12
      · exact br_t (by rw [y]) (hp S' x' hB' g2 (g1 _ h2) (hcl y))
      · exact ih (f + 1) S' x' (lk_ct S 12) (by omega) (by omega) hct hB' g2 (g1 _ h2) hcl
theorem lk_y2 {post : SY → Prop} (hL : lk_LS ms g_many b_list) {S : Nat → Bool} (hS : ∀ u, u < 12 → S u = if g_strip = 0 then decide (u / 2 ∈ ms) else false)
    (h0 : g_strip = 0 → ∀ x, lk_BS S x → post (g_origin, g_strip, g_many, g_culprit, g_textEnd, g_end, g_made, g_rounds, g_entry, g_linked, g_ran, g_pc, g_steps, g_outs, b_ops, b_opA, b_opB, b_counts, b_roles, b_list, b_places, b_symbols, b_image, x, b_wide, b_memory, b_reg, b_out))
    (h1 : ¬ g_strip = 0 → ∀ f x, lk_BS S x → wY_findUnits_2 post g_origin g_strip g_many g_culprit g_textEnd g_end g_made g_rounds g_entry g_linked g_ran g_pc g_steps g_outs (f + 1) (nI 12) b_ops b_opA b_opB b_counts b_roles b_list b_places b_symbols b_image x b_wide b_memory b_reg b_out) :
    ∀ d i f x, i + d = 12 → d < f → (∀ u, u < i → x u = ly_b (S u)) → wY_findUnits_2 post g_origin g_strip g_many g_culprit g_textEnd g_end g_made g_rounds g_entry g_linked g_ran g_pc g_steps g_outs f (nI i) b_ops b_opA b_opB b_counts b_roles b_list b_places b_symbols b_image x b_wide b_memory b_reg b_out := by
  intro d
  induction d with
  | zero =>
    intro i f x hi hf h
    obtain ⟨f, rfl⟩ : ∃ f', f = f' + 1 := ⟨f - 1, by omega⟩
    have : i = 12 := by omega
    subst this
    by_cases z : g_strip = 0
    · exact br_t (Int32.le_refl _) (br_t z (h0 z x h))
    · exact h1 z f x h
  | succ d ih =>
    intro i f x hi hf h
    obtain ⟨f, rfl⟩ : ∃ f', f = f' + 1 := ⟨f - 1, by omega⟩
    have hv : vp_in (nI i) 12 := vp_in_nI (by omega) (by omega)
    have nxt : ∀ y : Int32, y = ly_b (S i) → wY_findUnits_2 post g_origin g_strip g_many g_culprit g_textEnd g_end g_made g_rounds g_entry g_linked g_ran g_pc g_steps g_outs f (nI (i + 1)) b_ops b_opA b_opB b_counts b_roles b_list b_places b_symbols b_image (upd x i y) b_wide b_memory b_reg b_out := by
      intro y hy
      refine ih (i + 1) f _ (by omega) (by omega) (fun u hu => ?_)
      by_cases w : u = i
      · rw [w, pk_us, hy]
      · rw [pk_un w]; exact h u (by omega)
    refine br_f (nI_ge (b := 12) (by omega) (by omega)) ?_
    have hSi := hS i (by omega)
    by_cases z : g_strip = 0
    · rw [if_pos z] at hSi
      refine br_t z ⟨by decide, ?_⟩
      rw [ly_d2 (by omega)]
      refine ly_yln (by omega) hL (ly_br (fun e => ?_) (fun e => ?_))
      · rw [e] at hSi
        exact ⟨hv, nm_r (e' := upd x i 0) (by rw [nI_clamp (by omega)]; rfl) (nm_r (nI_1 i) (nxt 0 (by rw [hSi]; rfl)))⟩
      · rw [e] at hSi
        exact ⟨hv, nm_r (e' := upd x i 1) (by rw [nI_clamp (by omega)]; rfl) (nm_r (nI_1 i) (nxt 1 (by rw [hSi]; rfl)))⟩
    · rw [if_neg z] at hSi
      exact br_f z ⟨hv, nm_r (e' := upd x i 0) (by rw [nI_clamp (by omega)]; rfl) (nm_r (nI_1 i) (nxt 0 (by rw [hSi]; rfl)))⟩
theorem lk_yfind {post : SY → Prop} (hC : ∀ m, m < 6 → b_counts m = nI (L m) ∧ L m ≤ 24) (hL : lk_LS ms g_many b_list) (E : lk_E b_ops b_opA b_opB L ms)
    (hp : ∀ x, lk_BS (lk_st b_ops b_opA b_opB L ms g_strip) x → post (g_origin, g_strip, g_many, g_culprit, g_textEnd, g_end, g_made, g_rounds, g_entry, g_linked, g_ran, g_pc, g_steps, g_outs, b_ops, b_opA, b_opB, b_counts, b_roles, b_list, b_places, b_symbols, b_image, x, b_wide, b_memory, b_reg, b_out)) : wpY_findUnits post (g_origin, g_strip, g_many, g_culprit, g_textEnd, g_end, g_made, g_rounds, g_entry, g_linked, g_ran, g_pc, g_steps, g_outs, b_ops, b_opA, b_opB, b_counts, b_roles, b_list, b_places, b_symbols, b_image, b_stays, b_wide, b_memory, b_reg, b_out) := by
  refine ⟨13, lk_y2 (S := fun u => if g_strip = 0 then decide (u / 2 ∈ ms) else false) hL (fun u _ => rfl) (fun z x hx => hp x (fun u hu => ?_)) (fun z f x hx => ?_) 12 0 13 b_stays rfl (by omega) (fun u hu => absurd hu (by omega))⟩
  · rw [hx u hu]; dsimp only; rw [z, if_pos rfl, lk_st_0]
  · obtain ⟨c1, c2⟩ := lk_c0_in E
    have h12 := (lk_un_12 E c1).1
    refine br_t (Int32.le_refl _) (br_f z (lk_ych hC hL ?_))
    rw [c2]
    refine lk_yun E c1 (And.intro (vp_in_nI h12 (by omega)) (nm_r (e' := upd x (lk_un b_ops b_opA (lk_c0 b_ops b_opA b_opB L ms)) 1) (by rw [nI_clamp (by omega)]; rfl) ⟨16, ?_⟩))
    have hx' : lk_BS (fun _ => false) x := fun u hu => by rw [hx u hu]; dsimp only; rw [if_neg z]
    have hB := lk_BS_u hx' (lk_un b_ops b_opA (lk_c0 b_ops b_opA b_opB L ms))
    have fin : ∀ S x, lk_BS S x → (∀ u, S u = true → lk_R b_ops b_opA b_opB L ms u) → S (lk_un b_ops b_opA (lk_c0 b_ops b_opA b_opB L ms)) = true → lk_CL b_ops b_opA b_opB L ms S → post (g_origin, g_strip, g_many, g_culprit, g_textEnd, g_end, g_made, g_rounds, g_entry, g_linked, g_ran, g_pc, g_steps, g_outs, b_ops, b_opA, b_opB, b_counts, b_roles, b_list, b_places, b_symbols, b_image, x, b_wide, b_memory, b_reg, b_out) := by
      intro S x hS g1 g2 g3
      refine hp x (fun u hu => ?_)
      rw [hS u hu]
      exact congrArg ly_b (ly_beq ((lk_R_eq (S := fun u => S u = true) g1 g2 g3 u).trans (lk_st_1 z).symm))
    have hR0 : ∀ u, (fun u => (fun _ => false) u || decide (u = lk_un b_ops b_opA (lk_c0 b_ops b_opA b_opB L ms))) u = true → lk_R b_ops b_opA b_opB L ms u := by
      intro u hu
      dsimp only at hu
      rw [Bool.false_or, decide_eq_true_eq] at hu
      rw [hu]; exact lk_R_0
    refine br_f (by decide) ⟨ms.length + 1, ?_⟩
    refine lk_y81 hC hL E (fun S' x' hB' g1 g2 g3 => ?_) ms [] _ _ _ rfl (by omega) hB (fun _ h => h) hR0 (fun m hm => nomatch hm)
    have h0 : S' (lk_un b_ops b_opA (lk_c0 b_ops b_opA b_opB L ms)) = true := g1 _ (by rw [Bool.false_or, decide_eq_true rfl])
    have hpos := lk_ct_pos (n := 12) h12 h0
    exact lk_y71 hC hL E fin 12 15 S' x' 0 (by omega) (by omega) (by omega) hB' g2 h0 (fun h => absurd h (by omega))
end yu
end
section
/-! the layout: plain -/
def lk_jm (x : Int32) : Bool := ly_in x 8 10 || decide (x = 12)
section lyd
variable (o a b : Nat → Int32) (L : Nat → Nat)
def lk_sz (W : Nat → Bool) (k p : Nat) : Nat :=
  if o k = 0 then 0 else if o k = 1 then (if ly_in (b k) (-128) 127 = true then 1 else 2) else if o k = 17 then (a k).toNatClampNeg
  else if o k = 18 then ((a k).toNatClampNeg - p % (a k).toNatClampNeg) % (a k).toNatClampNeg else if o k = 19 then 0 else if W k = true then 2 else 1
def lk_F (st : Nat → Bool) (s m : Nat) : List Nat := if st (2 * m + s) = true then (List.range' (24 * m) (L m)).filter (fun k => decide (lk_sk o a k = s)) else []
def lk_or (st : Nat → Bool) (s : Nat) : List Nat → List Nat
  | [] => []
  | m :: ms => lk_F o a L st s m ++ lk_or st s ms
def lk_ord (st : Nat → Bool) (ms : List Nat) : List Nat := lk_or o a L st 0 ms ++ lk_or o a L st 1 ms
def lk_pl (W : Nat → Bool) : List Nat → Nat → (Nat → Int32) → (Nat → Int32)
  | [], _, A => A
  | k :: l, p, A => lk_pl W l (p + lk_sz o a b W k p) (upd A k (nI p))
def lk_en (W : Nat → Bool) : List Nat → Nat → Nat
  | [], p => p
  | k :: l, p => lk_en W l (p + lk_sz o a b W k p)
def lk_ad (W : Nat → Bool) : List Nat → Nat → Nat → Int32
  | [], _, _ => -1
  | k :: l, p, j => if j = k then nI p else lk_ad W l (p + lk_sz o a b W k p) j
def lk_fr (ms : List Nat) (P : Nat → Int32) (k : Nat) : Bool := if o k = 12 then !decide (P (lk_tg o a b L ms k) ≤ 63) else !ly_in (P (lk_tg o a b L ms k) - P k) (-16) 15
def lk_nw (ms : List Nat) (W : Nat → Bool) (P : Nat → Int32) (k : Nat) : Bool := lk_jm (o k) && (!W k && lk_fr o a b L ms P k)
def lk_Wn (ms l : List Nat) (g : Nat) (W : Nat → Bool) : Nat → Bool := fun j => W j || (decide (j ∈ l) && lk_nw o a b L ms W (lk_ad o a b W l g) j)
def lk_cn (ms l : List Nat) (g : Nat) (W : Nat → Bool) : Nat := l.countP (lk_nw o a b L ms W (lk_ad o a b W l g))
def lk_lay (ms l : List Nat) (g : Nat) : Nat → (Nat → Bool) → Nat → Nat → Bool × (Nat → Bool) × Nat × Nat
  | 0, W, c, r => (false, W, c, r)
  | f + 1, W, c, r => if 256 < lk_en o a b W l g then (true, W, c, r) else if lk_cn o a b L ms l g W = 0 then (false, W, c, r)
      else lk_lay ms l g f (lk_Wn o a b L ms l g W) (c + lk_cn o a b L ms l g W) (r + 1)
end lyd
section lyp
variable {o a b : Nat → Int32} {L : Nat → Nat} {ms : List Nat} {st : Nat → Bool}
theorem lk_us_jm {x : Int32} : ly_us x = (lk_jm x || decide (x = 16)) := by
  unfold ly_us lk_jm
  rw [Bool.or_assoc]
theorem lk_jm_16 {x : Int32} (h : x = 16) : lk_jm x = false := by rw [h]; decide
theorem lk_or_app {s : Nat} : ∀ (p q : List Nat), lk_or o a L st s (p ++ q) = lk_or o a L st s p ++ lk_or o a L st s q
  | [], q => rfl
  | m :: p, q => by
    show lk_F o a L st s m ++ lk_or o a L st s (p ++ q) = (lk_F o a L st s m ++ lk_or o a L st s p) ++ lk_or o a L st s q
    rw [lk_or_app p q, List.append_assoc]
theorem lk_F_mem {s m k : Nat} : k ∈ lk_F o a L st s m ↔ st (2 * m + s) = true ∧ 24 * m ≤ k ∧ k < 24 * m + L m ∧ lk_sk o a k = s := by
  unfold lk_F
  by_cases z : st (2 * m + s) = true
  · rw [if_pos z, List.mem_filter, List.mem_range'_1, decide_eq_true_eq]
    exact ⟨fun h => ⟨z, h.1.1, h.1.2, h.2⟩, fun h => ⟨⟨h.2.1, h.2.2.1⟩, h.2.2.2⟩⟩
  · rw [if_neg z]
    exact ⟨(fun h => nomatch h), fun h => absurd h.1 z⟩
theorem lk_or_mem {s k : Nat} : ∀ {ms : List Nat}, k ∈ lk_or o a L st s ms ↔ ∃ m, m ∈ ms ∧ k ∈ lk_F o a L st s m
  | [] => ⟨(fun h => nomatch h), fun ⟨m, h, _⟩ => nomatch h⟩
  | m :: ms => by
    show k ∈ lk_F o a L st s m ++ lk_or o a L st s ms ↔ _
    rw [List.mem_append, lk_or_mem]
    constructor
    · rintro (h | ⟨q, h1, h2⟩)
      · exact ⟨m, by simp, h⟩
      · exact ⟨q, by simp [h1], h2⟩
    · rintro ⟨q, h1, h2⟩
      rcases List.mem_cons.mp h1 with e | e
      · rw [e] at h2; exact Or.inl h2
      · exact Or.inr ⟨q, e, h2⟩
theorem lk_F_nd {s m : Nat} : (lk_F o a L st s m).Nodup := by
  unfold lk_F
  split
  · exact List.Nodup.sublist List.filter_sublist (List.nodup_range' (step := 1))
  · exact List.nodup_nil
theorem lk_or_nd (hC : ∀ m, m ∈ ms → L m ≤ 24) {s : Nat} (h : ms.Nodup) : (lk_or o a L st s ms).Nodup := by
  induction ms with
  | nil => exact List.nodup_nil
  | cons m ms ih =>
    show (lk_F o a L st s m ++ lk_or o a L st s ms).Nodup
    rw [List.nodup_append]
    obtain ⟨h1, h2⟩ := List.nodup_cons.mp h
    refine ⟨lk_F_nd, ih (fun q hq => hC q (by simp [hq])) h2, fun x hx y hy e => ?_⟩
    subst e
    obtain ⟨q, q1, q2⟩ := lk_or_mem.mp hy
    obtain ⟨-, a1, a2, -⟩ := lk_F_mem.mp hx
    obtain ⟨-, b1, b2, -⟩ := lk_F_mem.mp q2
    have := hC m (by simp)
    have := hC q (by simp [q1])
    have : m = q := by omega
    subst this
    exact h1 q1
theorem lk_ord_nd (E : lk_E o a b L ms) : (lk_ord o a L st ms).Nodup := by
  have hC : ∀ m, m ∈ ms → L m ≤ 24 := fun m hm => (E.2.1 m (E.1.2.1 m hm)).1
  unfold lk_ord
  rw [List.nodup_append]
  refine ⟨lk_or_nd hC E.1.1, lk_or_nd hC E.1.1, fun x hx y hy e => ?_⟩
  subst e
  obtain ⟨q, q1, q2⟩ := lk_or_mem.mp hy
  obtain ⟨p, p1, p2⟩ := lk_or_mem.mp hx
  have a1 := (lk_F_mem.mp p2).2.2.2
  have b1 := (lk_F_mem.mp q2).2.2.2
  omega
theorem lk_ord_mem (E : lk_E o a b L ms) {k : Nat} : k ∈ lk_ord o a L st ms ↔ lk_in L ms k ∧ st (lk_un o a k) = true := by
  have hC : ∀ m, m ∈ ms → L m ≤ 24 := fun m hm => (E.2.1 m (E.1.2.1 m hm)).1
  unfold lk_ord
  rw [List.mem_append, lk_or_mem, lk_or_mem]
  constructor
  · rintro (⟨m, h1, h2⟩ | ⟨m, h1, h2⟩)
    · obtain ⟨g1, g2, g3, g4⟩ := lk_F_mem.mp h2
      obtain ⟨k1, k2⟩ := lk_in_mk h1 (hC m h1) g2 g3
      refine ⟨k1, ?_⟩
      unfold lk_un
      rw [k2, g4]; exact g1
    · obtain ⟨g1, g2, g3, g4⟩ := lk_F_mem.mp h2
      obtain ⟨k1, k2⟩ := lk_in_mk h1 (hC m h1) g2 g3
      refine ⟨k1, ?_⟩
      unfold lk_un
      rw [k2, g4]; exact g1
  · rintro ⟨h1, h2⟩
    obtain ⟨g1, g2, g3, g4⟩ := lk_in_144 E h1
    have hs := lk_sk_lt (o := o) (a := a) k
    unfold lk_un at h2
    rcases (by omega : lk_sk o a k = 0 ∨ lk_sk o a k = 1) with e | e
    · rw [e] at h2
      exact Or.inl ⟨_, h1.1, lk_F_mem.mpr ⟨h2, g3, g4, e⟩⟩
    · rw [e] at h2
      exact Or.inr ⟨_, h1.1, lk_F_mem.mpr ⟨h2, g3, g4, e⟩⟩
theorem lk_ord_144 (E : lk_E o a b L ms) : (lk_ord o a L st ms).length ≤ 144 :=
  ly_pig (lk_ord_nd E) (fun k hk => (lk_in_144 E ((lk_ord_mem E).mp hk).1).1)
theorem lk_sz_le {W : Nat → Bool} {k : Nat} (h : ly_ok (o k) (a k) (b k)) (p : Nat) : lk_sz o a b W k p ≤ 16 := by
  unfold lk_sz
  by_cases h0 : o k = 0
  · rw [if_pos h0]; omega
  rw [if_neg h0]
  by_cases h1 : o k = 1
  · rw [if_pos h1]; split <;> omega
  rw [if_neg h1]
  by_cases h2 : o k = 17
  · rw [if_pos h2]
    obtain ⟨n, hn, e⟩ := h.2.2.2.1 h2
    rw [e, nI_clamp (by omega)]; omega
  rw [if_neg h2]
  by_cases h3 : o k = 18
  · rw [if_pos h3]
    obtain ⟨n, hn1, hn2, e⟩ := h.2.2.2.2.1 h3
    rw [e, nI_clamp (by omega)]
    have := Nat.mod_lt (n - p % n) (show 0 < n by omega)
    omega
  rw [if_neg h3]
  by_cases h4 : o k = 19
  · rw [if_pos h4]; omega
  rw [if_neg h4]
  split <;> omega
theorem lk_en_le {W : Nat → Bool} : ∀ {l : List Nat} {p : Nat}, (∀ k, k ∈ l → ly_ok (o k) (a k) (b k)) → p ≤ lk_en o a b W l p ∧ lk_en o a b W l p ≤ p + 16 * l.length
  | [], p, _ => ⟨Nat.le_refl _, by unfold lk_en; omega⟩
  | k :: l, p, h => by
    have h1 := lk_sz_le (W := W) (h k (by simp)) p
    obtain ⟨i1, i2⟩ := lk_en_le (W := W) (l := l) (p := p + lk_sz o a b W k p) (fun q hq => h q (by simp [hq]))
    unfold lk_en
    rw [List.length_cons]
    exact ⟨by omega, by omega⟩
theorem lk_en_app {W : Nat → Bool} : ∀ (l q : List Nat) (p : Nat), lk_en o a b W (l ++ q) p = lk_en o a b W q (lk_en o a b W l p)
  | [], q, p => rfl
  | k :: l, q, p => by
    show lk_en o a b W (l ++ q) (p + lk_sz o a b W k p) = _
    rw [lk_en_app l q]; rfl
theorem lk_pl_app {W : Nat → Bool} : ∀ (l q : List Nat) (p : Nat) (A : Nat → Int32), lk_pl o a b W (l ++ q) p A = lk_pl o a b W q (lk_en o a b W l p) (lk_pl o a b W l p A)
  | [], q, p, A => rfl
  | k :: l, q, p, A => by
    show lk_pl o a b W (l ++ q) (p + lk_sz o a b W k p) (upd A k (nI p)) = _
    rw [lk_pl_app l q]; rfl
theorem lk_pl_eq {W : Nat → Bool} : ∀ {l : List Nat} {p : Nat} {A : Nat → Int32}, l.Nodup → ∀ j, lk_pl o a b W l p A j = if j ∈ l then lk_ad o a b W l p j else A j
  | [], p, A, _, j => by rw [if_neg (by simp)]; rfl
  | k :: l, p, A, h, j => by
    obtain ⟨h1, h2⟩ := List.nodup_cons.mp h
    show lk_pl o a b W l (p + lk_sz o a b W k p) (upd A k (nI p)) j = _
    rw [lk_pl_eq h2, show lk_ad o a b W (k :: l) p j = if j = k then nI p else lk_ad o a b W l (p + lk_sz o a b W k p) j from rfl]
    by_cases z : j = k
    · subst z
      rw [if_neg h1, if_pos (by simp), if_pos rfl, pk_us]
    · rw [if_neg z, pk_un z]
      by_cases y : j ∈ l
      · rw [if_pos y, if_pos (by simp [y])]
      · rw [if_neg y, if_neg (by simp [y, z])]
theorem lk_ad_none {W : Nat → Bool} : ∀ {l : List Nat} {p j : Nat}, j ∉ l → lk_ad o a b W l p j = -1
  | [], p, j, _ => rfl
  | k :: l, p, j, h => by
    unfold lk_ad
    rw [if_neg (fun e => h (by simp [e])), lk_ad_none (fun e => h (by simp [e]))]
/-- an item's address: what is ahead of it, and room behind it -/
theorem lk_ad_some {W : Nat → Bool} : ∀ {l : List Nat} {p j : Nat}, (∀ k, k ∈ l → ly_ok (o k) (a k) (b k)) → j ∈ l → ∃ q, lk_ad o a b W l p j = nI q ∧ p ≤ q ∧ q + lk_sz o a b W j q ≤ lk_en o a b W l p
  | [], p, j, _, h => nomatch h
  | k :: l, p, j, hok, h => by
    have hok' : ∀ q, q ∈ l → ly_ok (o q) (a q) (b q) := fun q hq => hok q (by simp [hq])
    unfold lk_ad lk_en
    by_cases z : j = k
    · subst z
      rw [if_pos rfl]
      exact ⟨p, rfl, Nat.le_refl _, (lk_en_le hok').1⟩
    · rw [if_neg z]
      obtain ⟨q, e1, e2, e3⟩ := lk_ad_some (p := p + lk_sz o a b W k p) hok' ((List.mem_cons.mp h).resolve_left z)
      exact ⟨q, e1, by omega, e3⟩
/-- two items don't overlap -/
theorem lk_ad_dis {W : Nat → Bool} : ∀ {l : List Nat} {p i j qi qj : Nat}, (∀ k, k ∈ l → ly_ok (o k) (a k) (b k)) → lk_en o a b W l p < 2 ^ 31 → l.Nodup → i ∈ l → j ∈ l → i ≠ j → qi < 2 ^ 31 → qj < 2 ^ 31 →
    lk_ad o a b W l p i = nI qi → lk_ad o a b W l p j = nI qj → qi + lk_sz o a b W i qi ≤ qj ∨ qj + lk_sz o a b W j qj ≤ qi
  | [], p, i, j, qi, qj, _, _, _, h, _, _, _, _, _, _ => nomatch h
  | k :: l, p, i, j, qi, qj, hok, hen, hnd, hi, hj, hne, h1, h2, e1, e2 => by
    have hok' : ∀ q, q ∈ l → ly_ok (o q) (a q) (b q) := fun q hq => hok q (by simp [hq])
    obtain ⟨hk, hnd'⟩ := List.nodup_cons.mp hnd
    have hen' : lk_en o a b W l (p + lk_sz o a b W k p) < 2 ^ 31 := hen
    have hle := lk_en_le (W := W) (p := p + lk_sz o a b W k p) hok'
    unfold lk_ad at e1 e2
    by_cases zi : i = k
    · subst zi
      rw [if_pos rfl] at e1
      have hp : p = qi := (nI_eq (by omega) h1).mp e1
      rw [if_neg (fun e => hne e.symm)] at e2
      obtain ⟨q, f1, f2, f3⟩ := lk_ad_some (W := W) (p := p + lk_sz o a b W i p) hok' ((List.mem_cons.mp hj).resolve_left (fun e => hne e.symm))
      rw [f1] at e2
      have hq : q = qj := (nI_eq (by omega) h2).mp e2
      left
      rw [← hp, ← hq]; exact f2
    · rw [if_neg zi] at e1
      by_cases zj : j = k
      · subst zj
        rw [if_pos rfl] at e2
        have hp : p = qj := (nI_eq (by omega) h2).mp e2
        obtain ⟨q, f1, f2, f3⟩ := lk_ad_some (W := W) (p := p + lk_sz o a b W j p) hok' ((List.mem_cons.mp hi).resolve_left zi)
        rw [f1] at e1
        have hq : q = qi := (nI_eq (by omega) h1).mp e1
        right
        rw [← hp, ← hq]; exact f2
      · rw [if_neg zj] at e2
        exact lk_ad_dis hok' hen' hnd' ((List.mem_cons.mp hi).resolve_left zi) ((List.mem_cons.mp hj).resolve_left zj) hne h1 h2 e1 e2
/-- counting over the list is counting over the numbers -/
theorem lk_ct_countP {l : List Nat} {p : Nat → Bool} {n : Nat} (h : l.Nodup) (hl : ∀ x, x ∈ l → x < n) : lk_ct (fun j => decide (j ∈ l) && p j) n = l.countP p := by
  have hct : ∀ (q : Nat → Bool) (n : Nat), lk_ct q n = (List.range n).countP q := by
    intro q n
    induction n with
    | zero => rfl
    | succ n ih =>
      unfold lk_ct
      rw [List.range_succ, List.countP_append, ih, List.countP_cons, List.countP_nil, Nat.zero_add]
  rw [hct]
  have hperm : ((List.range n).filter (fun j => decide (j ∈ l))).Perm l := by
    rw [List.perm_ext_iff_of_nodup (List.Nodup.sublist List.filter_sublist List.nodup_range) h]
    intro x
    rw [List.mem_filter, List.mem_range, decide_eq_true_eq]
    exact ⟨fun h => h.2, fun h => ⟨hl x h, h⟩⟩
  rw [← hperm.countP_eq p, List.countP_filter]
  congr 1
  funext j
  rw [Bool.and_comm]
theorem lk_cn_le {g : Nat} {W : Nat → Bool} {l : List Nat} : lk_cn o a b L ms l g W ≤ l.length := List.countP_le_length
theorem lk_Wn_0 {g : Nat} {W : Nat → Bool} {l : List Nat} (h : lk_cn o a b L ms l g W = 0) : lk_Wn o a b L ms l g W = W := by
  funext j
  unfold lk_Wn
  unfold lk_cn at h
  rw [List.countP_eq_zero] at h
  by_cases z : j ∈ l
  · rw [Bool.not_eq_true _ |>.mp (h j z), Bool.and_false, Bool.or_false]
  · rw [decide_eq_false z, Bool.false_and, Bool.or_false]
theorem lk_Wn_lt {g : Nat} {W : Nat → Bool} {l : List Nat} (hl : ∀ x, x ∈ l → x < 144) (h : ¬ lk_cn o a b L ms l g W = 0) : lk_ct (fun j => !lk_Wn o a b L ms l g W j) 144 < lk_ct (fun j => !W j) 144 := by
  unfold lk_cn at h
  obtain ⟨k, hk, h2⟩ := List.countP_pos_iff.mp (Nat.pos_of_ne_zero h)
  have h3 : W k = false := by
    unfold lk_nw at h2
    rw [Bool.and_eq_true, Bool.and_eq_true, Bool.not_eq_true'] at h2
    exact h2.2.1
  refine lk_ct_lt (i := k) (fun i hi hq => ?_) (hl k hk) ?_ ?_
  · unfold lk_Wn at hq
    rw [Bool.not_eq_true', Bool.or_eq_false_iff] at hq
    rw [hq.1]; rfl
  · unfold lk_Wn
    rw [decide_eq_true hk, h2, Bool.true_and, Bool.or_true]; rfl
  · rw [h3]; rfl
theorem lk_Wn_jm {g : Nat} {W : Nat → Bool} {l : List Nat} (h : ∀ k, W k = true → lk_jm (o k) = true) : ∀ k, lk_Wn o a b L ms l g W k = true → lk_jm (o k) = true := by
  intro k hk
  unfold lk_Wn lk_nw at hk
  rw [Bool.or_eq_true, Bool.and_eq_true, Bool.and_eq_true] at hk
  rcases hk with hk | hk
  · exact h k hk
  · exact hk.2.1
end lyp
end
section
/-! X: the order, the addresses, what is made long -/
def lk_OS (l : List Nat) (n : Int32) (r : Nat → Int32) : Prop := n = nI l.length ∧ ∀ i, i < l.length → r i = nI (l.getD i 0)
theorem lk_OS_at {l pre rest : List Nat} {k : Nat} {n : Int32} {r : Nat → Int32} (h : lk_OS l n r) (e : l = pre ++ k :: rest) : r pre.length = nI k ∧ pre.length < l.length := by
  subst e
  have hl : pre.length < (pre ++ k :: rest).length := by rw [List.length_append, List.length_cons]; omega
  refine ⟨?_, hl⟩
  rw [h.2 _ hl]
  simp [List.getD_eq_getElem?_getD]
theorem lk_OS_snoc {l : List Nat} {k : Nat} {n : Int32} {r : Nat → Int32} (h : lk_OS l n r) : lk_OS (l ++ [k]) (nI (l.length + 1)) (upd r l.length (nI k)) := by
  refine ⟨by rw [List.length_append]; rfl, fun i hi => ?_⟩
  rw [List.length_append, List.length_singleton] at hi
  by_cases z : i = l.length
  · rw [z, pk_us]
    simp [List.getD_eq_getElem?_getD]
  · rw [pk_un z, h.2 i (by omega)]
    simp [List.getD_eq_getElem?_getD, List.getElem?_append_left (show i < l.length by omega)]
def lk_LB (W : Nat → Bool) (x : Nat → Int32) : Prop := ∀ j, j < 144 → x j = ly_b (W j)
section xa
variable {f_origin f_culprit f_strip f_listed f_units f_ordered f_textEnd f_end f_longs f_rounds f_keptListed f_entry f_linked f_pc f_steps f_outs f_ran : Int32} {a_op a_opA a_opB a_section a_length a_role a_labelAt a_used a_local a_global a_weak a_faulty a_list a_chosen a_order a_lengthened a_at a_keptAt a_keptSymbol a_keptList a_image a_sizes a_words a_apart a_partA a_partN a_wide a_r a_output : Nat → Int32} {L : Nat → Nat} {ms : List Nat}
theorem lk_xput21 {post : SX → Prop} {m s : Nat} (hJ : lk_XJ a_op a_opA a_opB a_length a_section a_labelAt a_used a_local a_global a_weak a_faulty L) (E : lk_E a_op a_opA a_opB L ms) (hm : m ∈ ms) (hs : s < 2) :
    ∀ d k f pre no ar, k + d = 24 * m + L m → 24 * m ≤ k → d < f → lk_OS pre no ar → (pre ++ (List.range' k d).filter (fun k => decide (lk_sk a_op a_opA k = s))).length ≤ 144 →
    (∀ no' ar', lk_OS (pre ++ (List.range' k d).filter (fun k => decide (lk_sk a_op a_opA k = s))) no' ar' → post (f_origin, f_culprit, f_strip, f_listed, f_units, no', f_textEnd, f_end, f_longs, f_rounds, f_keptListed, f_entry, f_linked, f_pc, f_steps, f_outs, f_ran, a_op, a_opA, a_opB, a_section, a_length, a_role, a_labelAt, a_used, a_local, a_global, a_weak, a_faulty, a_list, a_chosen, ar', a_lengthened, a_at, a_keptAt, a_keptSymbol, a_keptList, a_image, a_sizes, a_words, a_apart, a_partA, a_partN, a_wide, a_r, a_output)) →
    wX_put_21 post (nI m) (nI s) f_origin f_culprit f_strip f_listed f_units f_textEnd f_end f_longs f_rounds f_keptListed f_entry f_linked f_pc f_steps f_outs f_ran f (nI k) no a_op a_opA a_opB a_section a_length a_role a_labelAt a_used a_local a_global a_weak a_faulty a_list a_chosen ar a_lengthened a_at a_keptAt a_keptSymbol a_keptList a_image a_sizes a_words a_apart a_partA a_partN a_wide a_r a_output := by
  have h6 := E.1.2.1 m hm
  have h24 := (E.2.1 m h6).1
  have hv : vp_in (nI m) 6 := vp_in_nI h6 (by omega)
  have hlen := (hJ m h6).1
  intro d
  induction d with
  | zero =>
    intro k f pre no ar hk hk2 hf hO hl hp
    obtain ⟨f, rfl⟩ : ∃ f', f = f' + 1 := ⟨f - 1, by omega⟩
    refine And.intro hv ?_
    rw [nI_clamp (by omega), hlen, ly_24]
    refine br_t (nI_le (by omega) (by omega)) (hp no ar ?_)
    rw [List.range'_zero, List.filter_nil, List.append_nil]
    exact hO
  | succ d ih =>
    intro k f pre no ar hk hk2 hf hO hl hp
    obtain ⟨f, rfl⟩ : ∃ f', f = f' + 1 := ⟨f - 1, by omega⟩
    obtain ⟨hin, ek⟩ := lk_in_mk hm h24 hk2 (show k < 24 * m + L m by omega)
    have hsec := lk_xsec hJ E hin
    have hsk := lk_sk_lt (o := a_op) (a := a_opA) k
    rw [List.range'_succ] at hl hp
    refine And.intro hv ?_
    rw [nI_clamp (by omega : m < 2 ^ 31), hlen, ly_24]
    refine br_f (nI_ge (by omega) (by omega)) ⟨vp_in_nI (by omega) (by omega), ?_⟩
    rw [nI_clamp (by omega : k < 2 ^ 31), hsec]
    by_cases z : lk_sk a_op a_opA k = s
    · rw [List.filter_cons_of_pos (by rw [decide_eq_true z]), ← List.singleton_append, ← List.append_assoc] at hl hp
      have hlt : pre.length < 144 := by
        rw [List.length_append, List.length_append, List.length_singleton] at hl; omega
      have e1 := hO.1
      subst e1
      refine br_t (by rw [z]) (nm_r (nI_1 _) ⟨vp_in_nI hlt (by omega), nm_r (e' := upd ar pre.length (nI k)) (by rw [nI_clamp (by omega), ly_ns k (by omega)]) (nm_r (nI_1 k) ?_)⟩)
      exact ih (k + 1) f _ _ _ (by omega) (by omega) (by omega) (lk_OS_snoc hO) hl hp
    · rw [List.filter_cons_of_neg (by rw [decide_eq_false z]; decide)] at hl hp
      refine br_f (by rw [nI_eq (by omega) (by omega)]; exact z) (nm_r (nI_1 k) ?_)
      exact ih (k + 1) f _ _ _ (by omega) (by omega) (by omega) hO hl hp
theorem lk_xput {post : SX → Prop} {m s : Nat} {st : Nat → Bool} {pre : List Nat} (hJ : lk_XJ a_op a_opA a_opB a_length a_section a_labelAt a_used a_local a_global a_weak a_faulty L) (E : lk_E a_op a_opA a_opB L ms) (hm : m ∈ ms) (hs : s < 2)
    (hU : ∀ u, u < 32 → bt f_units u = st u) (hO : lk_OS pre f_ordered a_order) (hl : (pre ++ lk_F a_op a_opA L st s m).length ≤ 144)
    (hp : ∀ no' ar', lk_OS (pre ++ lk_F a_op a_opA L st s m) no' ar' → post (f_origin, f_culprit, f_strip, f_listed, f_units, no', f_textEnd, f_end, f_longs, f_rounds, f_keptListed, f_entry, f_linked, f_pc, f_steps, f_outs, f_ran, a_op, a_opA, a_opB, a_section, a_length, a_role, a_labelAt, a_used, a_local, a_global, a_weak, a_faulty, a_list, a_chosen, ar', a_lengthened, a_at, a_keptAt, a_keptSymbol, a_keptList, a_image, a_sizes, a_words, a_apart, a_partA, a_partN, a_wide, a_r, a_output)) : wpX_put post (f_origin, f_culprit, f_strip, f_listed, f_units, f_ordered, f_textEnd, f_end, f_longs, f_rounds, f_keptListed, f_entry, f_linked, f_pc, f_steps, f_outs, f_ran, a_op, a_opA, a_opB, a_section, a_length, a_role, a_labelAt, a_used, a_local, a_global, a_weak, a_faulty, a_list, a_chosen, a_order, a_lengthened, a_at, a_keptAt, a_keptSymbol, a_keptList, a_image, a_sizes, a_words, a_apart, a_partA, a_partN, a_wide, a_r, a_output) (nI m) (nI s) := by
  have h6 := E.1.2.1 m hm
  have hbit : ((f_units >>> (((2 * nI m) + nI s) &&& 31)) &&& 1) = 0 ↔ st (2 * m + s) = false := by
    rw [ly_2, ly_bit _ (by omega : 2 * m + s < 32), hU _ (by omega)]
  unfold lk_F at hl hp
  by_cases z : st (2 * m + s) = true
  · rw [if_pos z] at hl hp
    refine br_f (fun e => ?_) (nm_r (ly_24' m) ⟨L m + 1, ?_⟩)
    · rw [hbit.mp e] at z; cases z
    · exact lk_xput21 hJ E hm hs (L m) (24 * m) _ pre _ _ rfl (Nat.le_refl _) (by omega) hO hl hp
  · rw [if_neg z, List.append_nil] at hp
    exact br_t (hbit.mpr (Bool.not_eq_true _ |>.mp z)) (hp _ _ hO)
theorem lk_x48 {post : Int32 → SX → Prop} {J41 : Int32 → Int32 → Int32 → Int32 → Int32 → Int32 → Int32 → Int32 → Int32 → Int32 → Int32 → Int32 → Int32 → Int32 → Int32 → Int32 → Int32 → Int32 → (Nat → Int32) → (Nat → Int32) → (Nat → Int32) → (Nat → Int32) → (Nat → Int32) → (Nat → Int32) → (Nat → Int32) → (Nat → Int32) → (Nat → Int32) → (Nat → Int32) → (Nat → Int32) → (Nat → Int32) → (Nat → Int32) → (Nat → Int32) → (Nat → Int32) → (Nat → Int32) → (Nat → Int32) → (Nat → Int32) → (Nat → Int32) → (Nat → Int32) → (Nat → Int32) → (Nat → Int32) → (Nat → Int32) → (Nat → Int32) → (Nat → Int32) → (Nat → Int32) → (Nat → Int32) → (Nat → Int32) → (Nat → Int32) → Prop} {s : Nat} {st : Nat → Bool} {acc : List Nat} (hJ : lk_XJ a_op a_opA a_opB a_length a_section a_labelAt a_used a_local a_global a_weak a_faulty L) (E : lk_E a_op a_opA a_opB L ms) (hs : s < 2)
    (hU : ∀ u, u < 32 → bt f_units u = st u) (hL : lk_LS ms f_listed a_list) (hl : (acc ++ lk_or a_op a_opA L st s ms).length ≤ 144)
    (h0 : s = 0 → ∀ no ar, lk_OS (acc ++ lk_or a_op a_opA L st s ms) no ar → J41 (nI 1) f_origin f_culprit f_strip f_listed f_units no no f_end f_longs f_rounds f_keptListed f_entry f_linked f_pc f_steps f_outs f_ran a_op a_opA a_opB a_section a_length a_role a_labelAt a_used a_local a_global a_weak a_faulty a_list a_chosen ar a_lengthened a_at a_keptAt a_keptSymbol a_keptList a_image a_sizes a_words a_apart a_partA a_partN a_wide a_r a_output)
    (h1 : s = 1 → ∀ no ar, lk_OS (acc ++ lk_or a_op a_opA L st s ms) no ar → J41 (nI 2) f_origin f_culprit f_strip f_listed f_units no f_textEnd f_end f_longs f_rounds f_keptListed f_entry f_linked f_pc f_steps f_outs f_ran a_op a_opA a_opB a_section a_length a_role a_labelAt a_used a_local a_global a_weak a_faulty a_list a_chosen ar a_lengthened a_at a_keptAt a_keptSymbol a_keptList a_image a_sizes a_words a_apart a_partA a_partN a_wide a_r a_output) :
    ∀ rest pre f no ar, ms = pre ++ rest → rest.length < f → lk_OS (acc ++ lk_or a_op a_opA L st s pre) no ar → wX_arrange_48 post J41 (nI s) f (nI pre.length) f_origin f_culprit f_strip f_listed f_units no f_textEnd f_end f_longs f_rounds f_keptListed f_entry f_linked f_pc f_steps f_outs f_ran a_op a_opA a_opB a_section a_length a_role a_labelAt a_used a_local a_global a_weak a_faulty a_list a_chosen ar a_lengthened a_at a_keptAt a_keptSymbol a_keptList a_image a_sizes a_words a_apart a_partA a_partN a_wide a_r a_output := by
  intro rest
  induction rest with
  | nil =>
    intro pre f no ar e hf hO
    obtain ⟨f, rfl⟩ : ∃ f', f = f' + 1 := ⟨f - 1, by omega⟩
    rw [List.append_nil] at e
    subst e
    refine br_t (by rw [hL.1]; exact Int32.le_refl _) ?_
    rcases (by omega : s = 0 ∨ s = 1) with e | e
    · subst e
      exact br_t rfl (nm_r (nI_1 0) (h0 rfl no ar hO))
    · subst e
      exact br_f (by decide) (nm_r (nI_1 1) (h1 rfl no ar hO))
  | cons m rest ih =>
    intro pre f no ar e hf hO
    rw [List.length_cons] at hf
    obtain ⟨f, rfl⟩ : ∃ f', f = f' + 1 := ⟨f - 1, by omega⟩
    obtain ⟨k1, k2, k3, k4⟩ := lk_LS_at hL e
    have hmm : m ∈ ms := by rw [e]; simp
    refine br_f ?_ (And.intro (vp_in_nI k4 (by omega)) ?_)
    · rw [hL.1]; exact nI_ge k3 (by have := hL.2.1; omega)
    rw [nI_clamp (by omega), k1]
    have e' : ms = (pre ++ [m]) ++ rest := by rw [e, List.append_assoc]; rfl
    have eor : acc ++ lk_or a_op a_opA L st s (pre ++ [m]) = (acc ++ lk_or a_op a_opA L st s pre) ++ lk_F a_op a_opA L st s m := by
      rw [lk_or_app, ← List.append_assoc]
      congr 1
      show lk_F a_op a_opA L st s m ++ [] = _
      rw [List.append_nil]
    refine lk_xput (f_ordered := no) (a_order := ar) hJ E hmm hs hU hO ?_ (fun no' ar' hO' => nm_r (nI_1 _) ?_)
    · rw [← eor]
      rw [e', lk_or_app, ← List.append_assoc, List.length_append] at hl
      omega
    · rw [← eor] at hO'
      have := ih (pre ++ [m]) f no' ar' e' (by omega) hO'
      rw [List.length_append] at this
      exact this
theorem lk_x41 {post : Int32 → SX → Prop} {st : Nat → Bool} (hJ : lk_XJ a_op a_opA a_opB a_length a_section a_labelAt a_used a_local a_global a_weak a_faulty L) (E : lk_E a_op a_opA a_opB L ms)
    (hU : ∀ u, u < 32 → bt f_units u = st u) (hL : lk_LS ms f_listed a_list)
    (hp : ∀ no ar, lk_OS (lk_ord a_op a_opA L st ms) no ar → ∃ n, wX_arrange_108 post (nI (lk_or a_op a_opA L st 0 ms).length) n 1 f_origin f_culprit f_strip f_listed f_units no (nI (lk_or a_op a_opA L st 0 ms).length) f_end 0 0 f_keptListed f_entry f_linked f_pc f_steps f_outs f_ran a_op a_opA a_opB a_section a_length a_role a_labelAt a_used a_local a_global a_weak a_faulty a_list a_chosen ar a_lengthened a_at a_keptAt a_keptSymbol a_keptList a_image a_sizes a_words a_apart a_partA a_partN a_wide a_r a_output) :
    wX_arrange_41 post 3 0 f_origin f_culprit f_strip f_listed f_units 0 f_textEnd f_end f_longs f_rounds f_keptListed f_entry f_linked f_pc f_steps f_outs f_ran a_op a_opA a_opB a_section a_length a_role a_labelAt a_used a_local a_global a_weak a_faulty a_list a_chosen a_order a_lengthened a_at a_keptAt a_keptSymbol a_keptList a_image a_sizes a_words a_apart a_partA a_partN a_wide a_r a_output := by
  have hl := lk_ord_144 (st := st) E
  have hl0 : ([] ++ lk_or a_op a_opA L st 0 ms).length ≤ 144 := by
    unfold lk_ord at hl
    rw [List.length_append] at hl
    rw [List.nil_append]; omega
  refine br_f (by decide) ⟨ms.length + 1, ?_⟩
  refine lk_x48 (s := 0) (acc := []) hJ E (by omega) hU hL hl0 (fun _ no ar hO => ?_) (fun h => nomatch h) ms [] _ 0 a_order rfl (by omega) ⟨rfl, fun i hi => absurd hi (Nat.not_lt_zero i)⟩
  rw [List.nil_append] at hO
  refine br_f (by decide) ⟨ms.length + 1, ?_⟩
  refine lk_x48 (s := 1) (f_textEnd := no) (acc := lk_or a_op a_opA L st 0 ms) hJ E (by omega) hU hL hl (fun h => nomatch h) (fun _ no' ar' hO' => ?_) ms [] _ no ar rfl (by omega) ?_
  · refine br_t (by decide) ?_
    have := hp no' ar' hO'
    rw [hO.1]
    exact this
  · show lk_OS (lk_or a_op a_opA L st 0 ms ++ []) no ar
    rw [List.append_nil]; exact hO
theorem lk_x7i {post : Int32 → SX → Prop} (hp : ∀ le at', lk_LB (fun _ => false) le → (∀ j, j < 144 → at' j = -1) → ∃ n, wX_arrange_41 post n 0 f_origin f_culprit f_strip f_listed f_units f_ordered 0 f_end f_longs f_rounds f_keptListed f_entry f_linked f_pc f_steps f_outs f_ran a_op a_opA a_opB a_section a_length a_role a_labelAt a_used a_local a_global a_weak a_faulty a_list a_chosen a_order le at' a_keptAt a_keptSymbol a_keptList a_image a_sizes a_words a_apart a_partA a_partN a_wide a_r a_output) :
    ∀ d i f le at', i + d = 144 → d < f → (∀ j, j < i → le j = 0) → (∀ j, j < i → at' j = -1) → wX_arrange_7 post f_origin f_culprit f_strip f_listed f_units f_ordered f_textEnd f_end f_longs f_rounds f_keptListed f_entry f_linked f_pc f_steps f_outs f_ran f (nI i) a_op a_opA a_opB a_section a_length a_role a_labelAt a_used a_local a_global a_weak a_faulty a_list a_chosen a_order le at' a_keptAt a_keptSymbol a_keptList a_image a_sizes a_words a_apart a_partA a_partN a_wide a_r a_output := by
  intro d
  induction d with
  | zero =>
    intro i f le at' hi hf h1 h2
    obtain ⟨f, rfl⟩ : ∃ f', f = f' + 1 := ⟨f - 1, by omega⟩
    have : i = 144 := by omega
    subst this
    exact br_t (Int32.le_refl _) (hp le at' h1 h2)
  | succ d ih =>
    intro i f le at' hi hf h1 h2
    obtain ⟨f, rfl⟩ : ∃ f', f = f' + 1 := ⟨f - 1, by omega⟩
    have hv : vp_in (nI i) 144 := vp_in_nI (by omega) (by omega)
    refine br_f (nI_ge (b := 144) (by omega) (by omega)) (And.intro hv (nm_r (e' := upd le i 0) (by rw [nI_clamp (by omega)]; rfl) (And.intro hv (nm_r (e' := upd at' i (-1)) (by rw [nI_clamp (by omega)]) (nm_r (nI_1 i) (ih (i + 1) f _ _ (by omega) (by omega) (fun j hj => ?_) (fun j hj => ?_)))))))
    · by_cases z : j = i
      · rw [z, pk_us]
      · rw [pk_un z]; exact h1 j (by omega)
    · by_cases z : j = i
      · rw [z, pk_us]
      · rw [pk_un z]; exact h2 j (by omega)
theorem lk_xwords {post : Int32 → Prop} {W : Nat → Bool} {k p : Nat} (hk : k < 144) (hok : ly_ok (a_op k) (a_opA k) (a_opB k)) (hW : a_lengthened k = ly_b (W k)) (hp2 : p < 2 ^ 20) (hp : post (nI (lk_sz a_op a_opA a_opB W k p))) :
    wpX_words post (f_origin, f_culprit, f_strip, f_listed, f_units, f_ordered, f_textEnd, f_end, f_longs, f_rounds, f_keptListed, f_entry, f_linked, f_pc, f_steps, f_outs, f_ran, a_op, a_opA, a_opB, a_section, a_length, a_role, a_labelAt, a_used, a_local, a_global, a_weak, a_faulty, a_list, a_chosen, a_order, a_lengthened, a_at, a_keptAt, a_keptSymbol, a_keptList, a_image, a_sizes, a_words, a_apart, a_partA, a_partN, a_wide, a_r, a_output) (nI k) (nI p) := by
  have hv : vp_in (nI k) 144 := vp_in_nI hk (by omega)
  have hc : (nI k).toNatClampNeg = k := nI_clamp (by omega)
  refine And.intro hv (nm_r (e' := a_opA k) (by rw [hc]) (And.intro hv (nm_r (e' := a_op k) (by rw [hc]) ?_)))
  rw [hc, hW]
  unfold lk_sz at hp
  by_cases h0 : a_op k = 0
  · rw [if_pos h0] at hp; exact br_t h0 hp
  rw [if_neg h0] at hp
  refine br_f h0 ?_
  by_cases h1 : a_op k = 1
  · rw [if_pos h1] at hp
    refine br_t h1 ⟨hv, ly_xin (ly_br (fun e => ?_) (fun e => ?_))⟩
    · rw [if_neg (by rw [e]; decide)] at hp; exact hp
    · rw [if_pos e] at hp; exact hp
  rw [if_neg h1] at hp
  refine br_f h1 ?_
  by_cases h2 : a_op k = 17
  · rw [if_pos h2] at hp
    obtain ⟨n, hn, e⟩ := hok.2.2.2.1 h2
    rw [e, nI_clamp (by omega)] at hp
    rw [e]
    exact br_t h2 hp
  rw [if_neg h2] at hp
  refine br_f h2 ?_
  by_cases h3 : a_op k = 18
  · rw [if_pos h3] at hp
    obtain ⟨n, hn1, hn2, e⟩ := hok.2.2.2.2.1 h3
    rw [e, nI_clamp (by omega)] at hp
    rw [e]
    have hz : ¬ nI n = 0 := nI_ne0 (by omega) (by omega)
    have hlt := Nat.mod_lt p (show 0 < n by omega)
    refine br_t h3 (br_f hz ⟨hz, hz, ?_⟩)
    rw [pk_rem (by omega) (by omega) (by omega), pk_sub (by omega), pk_rem (by omega) (by omega) (by omega)]
    exact hp
  rw [if_neg h3] at hp
  refine br_f h3 ?_
  by_cases h4 : a_op k = 19
  · rw [if_pos h4] at hp; exact br_t h4 hp
  rw [if_neg h4] at hp
  refine br_f h4 ⟨hv, ly_br (fun e => ?_) (fun e => ?_)⟩
  · rw [if_neg (by rw [e]; decide)] at hp; exact hp
  · rw [if_pos e] at hp; exact hp
theorem lk_x25 {post : SX → Prop} {J7 : Int32 → Int32 → Int32 → (Nat → Int32) → (Nat → Int32) → (Nat → Int32) → (Nat → Int32) → (Nat → Int32) → (Nat → Int32) → (Nat → Int32) → (Nat → Int32) → (Nat → Int32) → (Nat → Int32) → (Nat → Int32) → (Nat → Int32) → (Nat → Int32) → (Nat → Int32) → (Nat → Int32) → (Nat → Int32) → (Nat → Int32) → (Nat → Int32) → (Nat → Int32) → (Nat → Int32) → (Nat → Int32) → (Nat → Int32) → (Nat → Int32) → (Nat → Int32) → (Nat → Int32) → (Nat → Int32) → (Nat → Int32) → (Nat → Int32) → (Nat → Int32) → Prop} {W : Nat → Bool} {k p i : Nat} {x1 : Int32} (hi : i < 144) (hn : ¬ nI i = f_ordered) (hk : k < 144) (hr : a_order i = nI k) (hok : ly_ok (a_op k) (a_opA k) (a_opB k)) (hW : a_lengthened k = ly_b (W k)) (hp2 : p < 2 ^ 20)
    (hp : J7 (nI (p + lk_sz a_op a_opA a_opB W k p)) (nI (i + 1)) f_textEnd a_op a_opA a_opB a_section a_length a_role a_labelAt a_used a_local a_global a_weak a_faulty a_list a_chosen a_order a_lengthened (upd a_at k (nI p)) a_keptAt a_keptSymbol a_keptList a_image a_sizes a_words a_apart a_partA a_partN a_wide a_r a_output) : wX_place_25 post J7 x1 (nI p) (nI i) f_origin f_culprit f_strip f_listed f_units f_ordered f_textEnd f_end f_longs f_rounds f_keptListed f_entry f_linked f_pc f_steps f_outs f_ran a_op a_opA a_opB a_section a_length a_role a_labelAt a_used a_local a_global a_weak a_faulty a_list a_chosen a_order a_lengthened a_at a_keptAt a_keptSymbol a_keptList a_image a_sizes a_words a_apart a_partA a_partN a_wide a_r a_output := by
  unfold wX_place_25
  refine br_f hn ⟨vp_in_nI hi (by omega), nm_r (e' := nI k) (by rw [nI_clamp (by omega)]; exact hr) ⟨vp_in_nI hk (by omega), nm_r (e' := upd a_at k (nI p)) (by rw [nI_clamp (by omega)]) ?_⟩⟩
  refine lk_xwords (W := W) hk hok hW hp2 (nm_r (nI_add _ _) (nm_r (nI_1 i) hp))
theorem lk_xpl7 {post : SX → Prop} {W : Nat → Bool} {l l0 l1 : List Nat} {g : Nat} {A0 : Nat → Int32} (hl01 : l = l0 ++ l1) (hO : lk_OS l f_ordered a_order) (hall : ∀ k, k ∈ l → k < 144 ∧ ly_ok (a_op k) (a_opA k) (a_opB k)) (hlen : l.length ≤ 144) (hg : g ≤ 100) (hW : lk_LB W a_lengthened)
    (hp : post (f_origin, f_culprit, f_strip, f_listed, f_units, f_ordered, nI (lk_en a_op a_opA a_opB W l0 g), nI (lk_en a_op a_opA a_opB W l g), f_longs, f_rounds, f_keptListed, f_entry, f_linked, f_pc, f_steps, f_outs, f_ran, a_op, a_opA, a_opB, a_section, a_length, a_role, a_labelAt, a_used, a_local, a_global, a_weak, a_faulty, a_list, a_chosen, a_order, a_lengthened, lk_pl a_op a_opA a_opB W l g A0, a_keptAt, a_keptSymbol, a_keptList, a_image, a_sizes, a_words, a_apart, a_partA, a_partN, a_wide, a_r, a_output)) :
    ∀ rest pre f te A, l = pre ++ rest → rest.length < f → (l0.length < pre.length → te = nI (lk_en a_op a_opA a_opB W l0 g)) → lk_pl a_op a_opA a_opB W rest (lk_en a_op a_opA a_opB W pre g) A = lk_pl a_op a_opA a_opB W l g A0 →
    wX_place_7 post (nI l0.length) f_origin f_culprit f_strip f_listed f_units f_ordered f_end f_longs f_rounds f_keptListed f_entry f_linked f_pc f_steps f_outs f_ran f (nI (lk_en a_op a_opA a_opB W pre g)) (nI pre.length) te a_op a_opA a_opB a_section a_length a_role a_labelAt a_used a_local a_global a_weak a_faulty a_list a_chosen a_order a_lengthened A a_keptAt a_keptSymbol a_keptList a_image a_sizes a_words a_apart a_partA a_partN a_wide a_r a_output := by
  have e0 := hO.1
  subst e0
  have hl0 : l0.length ≤ l.length := by rw [hl01, List.length_append]; omega
  have hpre : ∀ pre rest, l = pre ++ rest → pre.length = l0.length → pre = l0 := fun pre rest e h => (List.append_inj (e.symm.trans hl01) h).1
  intro rest
  induction rest with
  | nil =>
    intro pre f te A e hf ht hA
    obtain ⟨f, rfl⟩ : ∃ f', f = f' + 1 := ⟨f - 1, by omega⟩
    have e2 : l = pre := by rw [e, List.append_nil]
    have hA' : A = lk_pl a_op a_opA a_opB W l g A0 := hA
    have fin : ∀ te', te' = nI (lk_en a_op a_opA a_opB W l0 g) → post (f_origin, f_culprit, f_strip, f_listed, f_units, nI l.length, te', nI (lk_en a_op a_opA a_opB W pre g), f_longs, f_rounds, f_keptListed, f_entry, f_linked, f_pc, f_steps, f_outs, f_ran, a_op, a_opA, a_opB, a_section, a_length, a_role, a_labelAt, a_used, a_local, a_global, a_weak, a_faulty, a_list, a_chosen, a_order, a_lengthened, A, a_keptAt, a_keptSymbol, a_keptList, a_image, a_sizes, a_words, a_apart, a_partA, a_partN, a_wide, a_r, a_output) := by
      intro te' h
      rw [h, hA', ← e2]
      exact hp
    refine br_f (nI_nlt (by rw [e2]; omega) (by omega)) ?_
    by_cases z : pre.length = l0.length
    · refine br_t (by rw [z]) ?_
      unfold wX_place_25
      refine br_t (by rw [← e2]) (fin _ ?_)
      rw [hpre pre [] e z]
    · refine br_f (by rw [nI_eq (by rw [← e2]; omega) (by omega)]; exact z) ?_
      unfold wX_place_25
      refine br_t (by rw [← e2]) (fin _ (ht ?_))
      rw [← e2] at z ⊢
      omega
  | cons k rest ih =>
    intro pre f te A e hf ht hA
    rw [List.length_cons] at hf
    obtain ⟨f, rfl⟩ : ∃ f', f = f' + 1 := ⟨f - 1, by omega⟩
    obtain ⟨hr, hlt⟩ := lk_OS_at hO e
    obtain ⟨hk, hok⟩ := hall k (by rw [e]; simp)
    have hprel : pre.length ≤ 144 := by omega
    have hpen := (lk_en_le (W := W) (l := pre) (p := g) (fun q hq => (hall q (by rw [e]; simp [hq])).2)).2
    have hp2 : lk_en a_op a_opA a_opB W pre g < 2 ^ 20 := by omega
    have hn : ¬ nI pre.length = nI l.length := by rw [nI_eq (by omega) (by omega)]; omega
    have een : lk_en a_op a_opA a_opB W (pre ++ [k]) g = lk_en a_op a_opA a_opB W pre g + lk_sz a_op a_opA a_opB W k (lk_en a_op a_opA a_opB W pre g) := by
      rw [lk_en_app]; rfl
    have nxt : ∀ te', (l0.length < pre.length + 1 → te' = nI (lk_en a_op a_opA a_opB W l0 g)) → wX_place_25 post (wX_place_7 post (nI l0.length) f_origin f_culprit f_strip f_listed f_units (nI l.length) f_end f_longs f_rounds f_keptListed f_entry f_linked f_pc f_steps f_outs f_ran f) (nI l0.length) (nI (lk_en a_op a_opA a_opB W pre g)) (nI pre.length) f_origin f_culprit f_strip f_listed f_units (nI l.length) te' f_end f_longs f_rounds f_keptListed f_entry f_linked f_pc f_steps f_outs f_ran a_op a_opA a_opB a_section a_length a_role a_labelAt a_used a_local a_global a_weak a_faulty a_list a_chosen a_order a_lengthened A a_keptAt a_keptSymbol a_keptList a_image a_sizes a_words a_apart a_partA a_partN a_wide a_r a_output := by
      intro te' h
      refine lk_x25 (W := W) (by omega) hn hk hr hok (hW k hk) hp2 ?_
      have := ih (pre ++ [k]) f te' (upd A k (nI (lk_en a_op a_opA a_opB W pre g))) (by rw [e, List.append_assoc]; rfl) (by omega) (by rw [List.length_append, List.length_singleton]; exact h) (by rw [een]; exact hA)
      rw [een, List.length_append] at this
      exact this
    refine br_f (nI_nlt (by omega) (by omega)) ?_
    by_cases z : pre.length = l0.length
    · refine br_t (by rw [z]) (nxt _ (fun _ => ?_))
      rw [hpre pre _ e z]
    · refine br_f (by rw [nI_eq (by omega) (by omega)]; exact z) (nxt _ (fun h => ht (by omega)))
theorem lk_xplace {post : SX → Prop} {W : Nat → Bool} {l l0 l1 : List Nat} {g : Nat} (hl01 : l = l0 ++ l1) (hO : lk_OS l f_ordered a_order) (hall : ∀ k, k ∈ l → k < 144 ∧ ly_ok (a_op k) (a_opA k) (a_opB k)) (hlen : l.length ≤ 144) (hg : g ≤ 100) (ho : f_origin = nI g) (hW : lk_LB W a_lengthened)
    (hp : post (f_origin, f_culprit, f_strip, f_listed, f_units, f_ordered, nI (lk_en a_op a_opA a_opB W l0 g), nI (lk_en a_op a_opA a_opB W l g), f_longs, f_rounds, f_keptListed, f_entry, f_linked, f_pc, f_steps, f_outs, f_ran, a_op, a_opA, a_opB, a_section, a_length, a_role, a_labelAt, a_used, a_local, a_global, a_weak, a_faulty, a_list, a_chosen, a_order, a_lengthened, lk_pl a_op a_opA a_opB W l g a_at, a_keptAt, a_keptSymbol, a_keptList, a_image, a_sizes, a_words, a_apart, a_partA, a_partN, a_wide, a_r, a_output)) : wpX_place post (f_origin, f_culprit, f_strip, f_listed, f_units, f_ordered, f_textEnd, f_end, f_longs, f_rounds, f_keptListed, f_entry, f_linked, f_pc, f_steps, f_outs, f_ran, a_op, a_opA, a_opB, a_section, a_length, a_role, a_labelAt, a_used, a_local, a_global, a_weak, a_faulty, a_list, a_chosen, a_order, a_lengthened, a_at, a_keptAt, a_keptSymbol, a_keptList, a_image, a_sizes, a_words, a_apart, a_partA, a_partN, a_wide, a_r, a_output) (nI l0.length) := by
  subst ho
  exact ⟨l.length + 1, lk_xpl7 hl01 hO hall hlen hg hW hp l [] _ f_textEnd a_at rfl (by omega) (fun h => absurd h (Nat.not_lt_zero _)) rfl⟩
theorem lk_x121l {post : Int32 → SX → Prop} {J4 : Int32 → Int32 → (Nat → Int32) → (Nat → Int32) → (Nat → Int32) → (Nat → Int32) → (Nat → Int32) → (Nat → Int32) → (Nat → Int32) → (Nat → Int32) → (Nat → Int32) → (Nat → Int32) → (Nat → Int32) → (Nat → Int32) → (Nat → Int32) → (Nat → Int32) → (Nat → Int32) → (Nat → Int32) → (Nat → Int32) → (Nat → Int32) → (Nat → Int32) → (Nat → Int32) → (Nat → Int32) → (Nat → Int32) → (Nat → Int32) → (Nat → Int32) → (Nat → Int32) → (Nat → Int32) → (Nat → Int32) → (Nat → Int32) → (Nat → Int32) → Prop} {c i k : Nat} {z : Bool} (hk : k < 144) (hp : J4 (nI (c + (if z = true then 1 else 0))) (nI (i + 1)) a_op a_opA a_opB a_section a_length a_role a_labelAt a_used a_local a_global a_weak a_faulty a_list a_chosen a_order (upd a_lengthened k (ly_b z)) a_at a_keptAt a_keptSymbol a_keptList a_image a_sizes a_words a_apart a_partA a_partN a_wide a_r a_output) :
    wX_lengthen_121 post J4 (nI c) (nI i) (nI k) (ly_b z) f_origin f_culprit f_strip f_listed f_units f_ordered f_textEnd f_end f_longs f_rounds f_keptListed f_entry f_linked f_pc f_steps f_outs f_ran a_op a_opA a_opB a_section a_length a_role a_labelAt a_used a_local a_global a_weak a_faulty a_list a_chosen a_order a_lengthened a_at a_keptAt a_keptSymbol a_keptList a_image a_sizes a_words a_apart a_partA a_partN a_wide a_r a_output := by
  have hv : vp_in (nI k) 144 := vp_in_nI hk (by omega)
  unfold wX_lengthen_121
  refine ly_br (fun e => ?_) (fun e => ?_)
  · rw [if_neg (by rw [e]; decide)] at hp
    exact ⟨hv, nm_r (e' := upd a_lengthened k (ly_b z)) (by rw [nI_clamp (by omega), ly_bv]) (nm_r (nI_1 i) hp)⟩
  · rw [if_pos e] at hp
    exact nm_r (nI_1 c) ⟨hv, nm_r (e' := upd a_lengthened k (ly_b z)) (by rw [nI_clamp (by omega), ly_bv]) (nm_r (nI_1 i) hp)⟩
theorem lk_xle4 {post : Int32 → SX → Prop} {W : Nat → Bool} {l : List Nat} {P : Nat → Int32} (hJ : lk_XJ a_op a_opA a_opB a_length a_section a_labelAt a_used a_local a_global a_weak a_faulty L) (E : lk_E a_op a_opA a_opB L ms) (hX : lk_XC a_op a_opA a_opB L ms a_chosen)
    (hO : lk_OS l f_ordered a_order) (hall : ∀ k, k ∈ l → lk_in L ms k) (hnd : l.Nodup) (hlen : l.length ≤ 144) (hP : ∀ j, j < 144 → a_at j = P j)
    (hp : ∀ le, lk_LB (fun j => W j || (decide (j ∈ l) && lk_nw a_op a_opA a_opB L ms W P j)) le → post (nI (l.countP (lk_nw a_op a_opA a_opB L ms W P))) (f_origin, f_culprit, f_strip, f_listed, f_units, f_ordered, f_textEnd, f_end, f_longs, f_rounds, f_keptListed, f_entry, f_linked, f_pc, f_steps, f_outs, f_ran, a_op, a_opA, a_opB, a_section, a_length, a_role, a_labelAt, a_used, a_local, a_global, a_weak, a_faulty, a_list, a_chosen, a_order, le, a_at, a_keptAt, a_keptSymbol, a_keptList, a_image, a_sizes, a_words, a_apart, a_partA, a_partN, a_wide, a_r, a_output)) :
    ∀ rest pre f le, l = pre ++ rest → rest.length < f → lk_LB (fun j => W j || (decide (j ∈ pre) && lk_nw a_op a_opA a_opB L ms W P j)) le →
    wX_lengthen_4 post f_origin f_culprit f_strip f_listed f_units f_ordered f_textEnd f_end f_longs f_rounds f_keptListed f_entry f_linked f_pc f_steps f_outs f_ran f (nI (pre.countP (lk_nw a_op a_opA a_opB L ms W P))) (nI pre.length) a_op a_opA a_opB a_section a_length a_role a_labelAt a_used a_local a_global a_weak a_faulty a_list a_chosen a_order le a_at a_keptAt a_keptSymbol a_keptList a_image a_sizes a_words a_apart a_partA a_partN a_wide a_r a_output := by
  have e0 := hO.1
  subst e0
  intro rest
  induction rest with
  | nil =>
    intro pre f le e hf hB
    obtain ⟨f, rfl⟩ : ∃ f', f = f' + 1 := ⟨f - 1, by omega⟩
    rw [List.append_nil] at e
    subst e
    exact br_t (Int32.le_refl _) (hp le hB)
  | cons k rest ih =>
    intro pre f le e hf hB
    rw [List.length_cons] at hf
    obtain ⟨f, rfl⟩ : ∃ f', f = f' + 1 := ⟨f - 1, by omega⟩
    obtain ⟨hr, hlt⟩ := lk_OS_at hO e
    have hin := hall k (by rw [e]; simp)
    obtain ⟨hk, hk6, -, -⟩ := lk_in_144 E hin
    have hv : vp_in (nI k) 144 := vp_in_nI hk (by omega)
    have hc : (nI k).toNatClampNeg = k := nI_clamp (by omega)
    have hkp : k ∉ pre := by
      rw [e, List.nodup_append] at hnd
      exact fun h => hnd.2.2 k h k (by simp) rfl
    have hlek : le k = ly_b (W k) := by rw [hB k hk]; dsimp only; rw [decide_eq_false hkp, Bool.false_and, Bool.or_false]
    have nxt : ∀ le', lk_LB (fun j => W j || (decide (j ∈ pre ++ [k]) && lk_nw a_op a_opA a_opB L ms W P j)) le' → wX_lengthen_4 post f_origin f_culprit f_strip f_listed f_units (nI l.length) f_textEnd f_end f_longs f_rounds f_keptListed f_entry f_linked f_pc f_steps f_outs f_ran f (nI (pre.countP (lk_nw a_op a_opA a_opB L ms W P) + (if lk_nw a_op a_opA a_opB L ms W P k = true then 1 else 0))) (nI (pre.length + 1)) a_op a_opA a_opB a_section a_length a_role a_labelAt a_used a_local a_global a_weak a_faulty a_list a_chosen a_order le' a_at a_keptAt a_keptSymbol a_keptList a_image a_sizes a_words a_apart a_partA a_partN a_wide a_r a_output := by
      intro le' h'
      have := ih (pre ++ [k]) f le' (by rw [e, List.append_assoc]; rfl) (by omega) h'
      rw [List.length_append, List.countP_append, List.countP_cons, List.countP_nil, Nat.zero_add] at this
      exact this
    have same : lk_nw a_op a_opA a_opB L ms W P k = false → lk_LB (fun j => W j || (decide (j ∈ pre ++ [k]) && lk_nw a_op a_opA a_opB L ms W P j)) le := by
      intro hno j hj
      rw [hB j hj]
      dsimp only
      by_cases z : j = k
      · rw [z, hno, Bool.and_false, Bool.and_false]
      · have : j ∈ pre ++ [k] ↔ j ∈ pre := by simp [z]
        rw [decide_eq_decide.mpr this]
    have upd1 : W k = false → ∀ z : Bool, lk_nw a_op a_opA a_opB L ms W P k = z → lk_LB (fun j => W j || (decide (j ∈ pre ++ [k]) && lk_nw a_op a_opA a_opB L ms W P j)) (upd le k (ly_b z)) := by
      intro hWk z hz j hj
      by_cases y : j = k
      · rw [y, pk_us]
        dsimp only
        rw [hWk, hz, decide_eq_true (by simp), Bool.true_and, Bool.false_or]
      · rw [pk_un y, hB j hj]
        dsimp only
        have : j ∈ pre ++ [k] ↔ j ∈ pre := by simp [y]
        rw [decide_eq_decide.mpr this]
    have skip : lk_nw a_op a_opA a_opB L ms W P k = false → ∀ y, y = nI pre.length + 1 → wX_lengthen_4 post f_origin f_culprit f_strip f_listed f_units (nI l.length) f_textEnd f_end f_longs f_rounds f_keptListed f_entry f_linked f_pc f_steps f_outs f_ran f (nI (pre.countP (lk_nw a_op a_opA a_opB L ms W P))) y a_op a_opA a_opB a_section a_length a_role a_labelAt a_used a_local a_global a_weak a_faulty a_list a_chosen a_order le a_at a_keptAt a_keptSymbol a_keptList a_image a_sizes a_words a_apart a_partA a_partN a_wide a_r a_output := by
      intro hno
      refine nm_r (nI_1 _) ?_
      have := nxt le (same hno)
      rw [if_neg (by rw [hno]; decide), Nat.add_zero] at this
      exact this
    refine br_f (nI_ge (by omega) (by omega)) (And.intro (vp_in_nI (by omega) (by omega)) (nm_r (e' := nI k) (by rw [nI_clamp (by omega)]; exact hr) ?_))
    refine ly_xsym hk ?_
    rw [hc]
    by_cases hus : ly_us (a_op k) = true
    · rw [if_pos hus]
      obtain ⟨t, ht, et⟩ := lk_sy_in E hin hus
      refine br_f (by rw [et]; exact nI_pos (by omega)) ⟨hv, ?_⟩
      by_cases h16 : a_op k = 16
      · refine br_t h16 (skip ?_)
        unfold lk_nw
        rw [lk_jm_16 h16, Bool.false_and]
      · have hjm : lk_jm (a_op k) = true := by
          rw [lk_us_jm, decide_eq_false h16, Bool.or_false] at hus; exact hus
        refine br_f h16 ⟨hv, ?_⟩
        rw [hlek]
        refine ly_br (fun eW => ⟨by decide, ?_⟩) (fun eW => skip ?_)
        · rw [ly_d24 (by omega)]
          have htg := lk_tg_in E hin hus
          obtain ⟨ht144, -⟩ := lk_in_144 E htg
          refine lk_xlf hJ E hX hin hus ⟨vp_in_nI ht144 (by omega), nm_r (e' := P (lk_tg a_op a_opA a_opB L ms k)) (by rw [nI_clamp (by omega)]; exact hP _ ht144) ⟨hv, ?_⟩⟩
          have hnw : lk_nw a_op a_opA a_opB L ms W P k = lk_fr a_op a_opA a_opB L ms P k := by
            unfold lk_nw; rw [hjm, eW]; rfl
          have go : ∀ z : Bool, lk_fr a_op a_opA a_opB L ms P k = z → wX_lengthen_121 post (wX_lengthen_4 post f_origin f_culprit f_strip f_listed f_units (nI l.length) f_textEnd f_end f_longs f_rounds f_keptListed f_entry f_linked f_pc f_steps f_outs f_ran f) (nI (pre.countP (lk_nw a_op a_opA a_opB L ms W P))) (nI pre.length) (nI k) (ly_b z) f_origin f_culprit f_strip f_listed f_units (nI l.length) f_textEnd f_end f_longs f_rounds f_keptListed f_entry f_linked f_pc f_steps f_outs f_ran a_op a_opA a_opB a_section a_length a_role a_labelAt a_used a_local a_global a_weak a_faulty a_list a_chosen a_order le a_at a_keptAt a_keptSymbol a_keptList a_image a_sizes a_words a_apart a_partA a_partN a_wide a_r a_output := by
            intro z hz
            refine lk_x121l hk ?_
            have := nxt _ (upd1 eW z (hnw.trans hz))
            rw [hnw, hz] at this
            exact this
          unfold lk_fr at go
          by_cases h12 : a_op k = 12
          · rw [if_pos h12] at go
            refine br_t h12 ?_
            by_cases h63 : P (lk_tg a_op a_opA a_opB L ms k) ≤ 63
            · exact br_t h63 (go false (by rw [decide_eq_true h63]; rfl))
            · exact br_f h63 (go true (by rw [decide_eq_false h63]; rfl))
          · rw [if_neg h12] at go
            refine br_f h12 ⟨hv, ?_⟩
            rw [hP k hk]
            exact ly_xin (ly_br (fun e => go true (by rw [e]; rfl)) (fun e => go false (by rw [e]; rfl)))
        · unfold lk_nw
          rw [eW, Bool.not_true, Bool.false_and, Bool.and_false]
    · rw [if_neg hus]
      refine br_t (by decide) (skip ?_)
      unfold lk_nw
      rw [Bool.not_eq_true, lk_us_jm, Bool.or_eq_false_iff] at hus
      rw [hus.1, Bool.false_and]
theorem lk_xlen {post : Int32 → SX → Prop} {W : Nat → Bool} {l : List Nat} {P : Nat → Int32} (hJ : lk_XJ a_op a_opA a_opB a_length a_section a_labelAt a_used a_local a_global a_weak a_faulty L) (E : lk_E a_op a_opA a_opB L ms) (hX : lk_XC a_op a_opA a_opB L ms a_chosen)
    (hO : lk_OS l f_ordered a_order) (hall : ∀ k, k ∈ l → lk_in L ms k) (hnd : l.Nodup) (hlen : l.length ≤ 144) (hP : ∀ j, j < 144 → a_at j = P j) (hW : lk_LB W a_lengthened)
    (hp : ∀ le, lk_LB (fun j => W j || (decide (j ∈ l) && lk_nw a_op a_opA a_opB L ms W P j)) le → post (nI (l.countP (lk_nw a_op a_opA a_opB L ms W P))) (f_origin, f_culprit, f_strip, f_listed, f_units, f_ordered, f_textEnd, f_end, f_longs, f_rounds, f_keptListed, f_entry, f_linked, f_pc, f_steps, f_outs, f_ran, a_op, a_opA, a_opB, a_section, a_length, a_role, a_labelAt, a_used, a_local, a_global, a_weak, a_faulty, a_list, a_chosen, a_order, le, a_at, a_keptAt, a_keptSymbol, a_keptList, a_image, a_sizes, a_words, a_apart, a_partA, a_partN, a_wide, a_r, a_output)) : wpX_lengthen post (f_origin, f_culprit, f_strip, f_listed, f_units, f_ordered, f_textEnd, f_end, f_longs, f_rounds, f_keptListed, f_entry, f_linked, f_pc, f_steps, f_outs, f_ran, a_op, a_opA, a_opB, a_section, a_length, a_role, a_labelAt, a_used, a_local, a_global, a_weak, a_faulty, a_list, a_chosen, a_order, a_lengthened, a_at, a_keptAt, a_keptSymbol, a_keptList, a_image, a_sizes, a_words, a_apart, a_partA, a_partN, a_wide, a_r, a_output) :=
  ⟨l.length + 1, lk_xle4 hJ E hX hO hall hnd hlen hP hp l [] _ a_lengthened rfl (by omega) (fun j hj => by rw [hW j hj]; dsimp only; rw [decide_eq_false (by simp), Bool.false_and, Bool.or_false])⟩
theorem lk_x108 {post : Int32 → SX → Prop} {l l0 l1 : List Nat} {g : Nat} (hJ : lk_XJ a_op a_opA a_opB a_length a_section a_labelAt a_used a_local a_global a_weak a_faulty L) (E : lk_E a_op a_opA a_opB L ms) (hX : lk_XC a_op a_opA a_opB L ms a_chosen)
    (hl01 : l = l0 ++ l1) (hO : lk_OS l f_ordered a_order) (hall : ∀ k, k ∈ l → lk_in L ms k) (hnd : l.Nodup) (hlen : l.length ≤ 144) (hg : g ≤ 100) (ho : f_origin = nI g) :
    ∀ d f W c r te en le at', lk_ct (fun j => !W j) 144 < d → d < f → lk_LB W le → (∀ j, j < 144 → j ∉ l → at' j = -1) →
    (∀ W' c' r' te' en' le' at'', lk_lay a_op a_opA a_opB L ms l g d W c r = (true, W', c', r') → post 4 (f_origin, f_culprit, f_strip, f_listed, f_units, f_ordered, te', en', nI c', nI r', f_keptListed, f_entry, f_linked, f_pc, f_steps, f_outs, f_ran, a_op, a_opA, a_opB, a_section, a_length, a_role, a_labelAt, a_used, a_local, a_global, a_weak, a_faulty, a_list, a_chosen, a_order, le', at'', a_keptAt, a_keptSymbol, a_keptList, a_image, a_sizes, a_words, a_apart, a_partA, a_partN, a_wide, a_r, a_output)) →
    (∀ W' c' r' le' at'', lk_lay a_op a_opA a_opB L ms l g d W c r = (false, W', c', r') → lk_en a_op a_opA a_opB W' l g ≤ 256 → lk_LB W' le' → (∀ j, j < 144 → at'' j = lk_ad a_op a_opA a_opB W' l g j) →
      post 0 (f_origin, f_culprit, f_strip, f_listed, f_units, f_ordered, nI (lk_en a_op a_opA a_opB W' l0 g), nI (lk_en a_op a_opA a_opB W' l g), nI c', nI r', f_keptListed, f_entry, f_linked, f_pc, f_steps, f_outs, f_ran, a_op, a_opA, a_opB, a_section, a_length, a_role, a_labelAt, a_used, a_local, a_global, a_weak, a_faulty, a_list, a_chosen, a_order, le', at'', a_keptAt, a_keptSymbol, a_keptList, a_image, a_sizes, a_words, a_apart, a_partA, a_partN, a_wide, a_r, a_output)) →
    wX_arrange_108 post (nI l0.length) f 1 f_origin f_culprit f_strip f_listed f_units f_ordered te en (nI c) (nI r) f_keptListed f_entry f_linked f_pc f_steps f_outs f_ran a_op a_opA a_opB a_section a_length a_role a_labelAt a_used a_local a_global a_weak a_faulty a_list a_chosen a_order le at' a_keptAt a_keptSymbol a_keptList a_image a_sizes a_words a_apart a_partA a_partN a_wide a_r a_output := by
  have hok : ∀ k, k ∈ l → k < 144 ∧ ly_ok (a_op k) (a_opA k) (a_opB k) := fun k hk => ⟨(lk_in_144 E (hall k hk)).1, lk_ok_in E (hall k hk)⟩
  intro d
  induction d with
  | zero => intro f W c r te en le at' h; omega
  | succ d ih =>
    intro f W c r te en le at' hd hf hB hA h4 h0
    obtain ⟨f, rfl⟩ : ∃ f', f = f' + 2 := ⟨f - 2, by omega⟩
    have hen := (lk_en_le (W := W) (l := l) (p := g) (fun q hq => (hok q hq).2)).2
    refine br_f (by decide) ?_
    refine lk_xplace (W := W) (a_lengthened := le) (a_at := at') hl01 hO hok hlen hg ho hB ?_
    have hP : ∀ j, j < 144 → lk_pl a_op a_opA a_opB W l g at' j = lk_ad a_op a_opA a_opB W l g j := by
      intro j hj
      rw [lk_pl_eq hnd]
      by_cases z : j ∈ l
      · rw [if_pos z]
      · rw [if_neg z, hA j hj z, lk_ad_none z]
    unfold lk_lay at h4 h0
    by_cases z : 256 < lk_en a_op a_opA a_opB W l g
    · rw [if_pos z] at h4
      exact br_f (by show ¬ nI (lk_en a_op a_opA a_opB W l g) ≤ 256; exact nI_ge (a := 256) z (by omega)) (h4 W c r _ _ _ _ rfl)
    · rw [if_neg z] at h4 h0
      refine br_t (by show nI (lk_en a_op a_opA a_opB W l g) ≤ 256; exact nI_le (b := 256) (by omega) (by omega)) ?_
      refine lk_xlen (W := W) (P := lk_ad a_op a_opA a_opB W l g) hJ E hX hO hall hnd hlen hP hB (fun le' hB' => nm_r (nI_add _ _) ?_)
      have hcn := lk_cn_le (o := a_op) (a := a_opA) (b := a_opB) (L := L) (ms := ms) (g := g) (W := W) (l := l)
      by_cases y : lk_cn a_op a_opA a_opB L ms l g W = 0
      · rw [if_pos y] at h0
        have y' : l.countP (lk_nw a_op a_opA a_opB L ms W (lk_ad a_op a_opA a_opB W l g)) = 0 := y
        rw [y']
        refine br_t (by decide) ?_
        unfold wX_arrange_153
        refine br_t rfl (br_t rfl ?_)
        have hWW : (fun j => W j || (decide (j ∈ l) && lk_nw a_op a_opA a_opB L ms W (lk_ad a_op a_opA a_opB W l g) j)) = W := lk_Wn_0 y
        rw [hWW] at hB'
        exact h0 W c r le' _ rfl (by omega) hB' hP
      · rw [if_neg y] at h4 h0
        refine br_f (by show ¬ nI (lk_cn a_op a_opA a_opB L ms l g W) ≤ 0; exact nI_nle (by omega) (by omega)) ?_
        unfold wX_arrange_153
        refine br_f (by decide) (nm_r (nI_1 r) ?_)
        refine ih (f + 1) (lk_Wn a_op a_opA a_opB L ms l g W) (c + lk_cn a_op a_opA a_opB L ms l g W) (r + 1) _ _ le' _ ?_ (by omega) hB' (fun j hj hn => ?_) h4 h0
        · have := lk_Wn_lt (o := a_op) (a := a_opA) (b := a_opB) (L := L) (ms := ms) (g := g) (W := W) (l := l) (fun x hx => (hok x hx).1) y
          omega
        · rw [hP j hj, lk_ad_none hn]
end xa
end
section
/-! Y: the addresses, what is made long -/
section ya
variable {g_origin g_strip g_many g_culprit g_textEnd g_end g_made g_rounds g_entry g_linked g_ran g_pc g_steps g_outs : Int32} {b_ops b_opA b_opB b_counts b_roles b_list b_places b_symbols b_image b_stays b_wide b_memory b_reg b_out : Nat → Int32} {L : Nat → Nat} {ms : List Nat}
theorem lk_ysz {post : Int32 → Prop} {W : Nat → Bool} {k p : Nat} (hk : k < 144) (hok : ly_ok (b_ops k) (b_opA k) (b_opB k)) (hW : b_wide k = ly_b (W k)) (hWj : W k = true → lk_jm (b_ops k) = true) (hp2 : p < 2 ^ 20) (hp : post (nI (lk_sz b_ops b_opA b_opB W k p))) :
    wpY_sizeOf post (g_origin, g_strip, g_many, g_culprit, g_textEnd, g_end, g_made, g_rounds, g_entry, g_linked, g_ran, g_pc, g_steps, g_outs, b_ops, b_opA, b_opB, b_counts, b_roles, b_list, b_places, b_symbols, b_image, b_stays, b_wide, b_memory, b_reg, b_out) (nI k) (nI p) := by
  have hv : vp_in (nI k) 144 := vp_in_nI hk (by omega)
  have hc : (nI k).toNatClampNeg = k := nI_clamp (by omega)
  refine And.intro hv (nm_r (e' := b_ops k) (by rw [hc]) ?_)
  rw [hc, hW]
  unfold lk_sz at hp
  by_cases h0 : b_ops k = 0
  · rw [if_pos h0] at hp; exact br_t h0 hp
  rw [if_neg h0] at hp
  refine br_f h0 ?_
  by_cases h4 : b_ops k = 19
  · rw [if_neg (by rw [h4]; decide), if_neg (by rw [h4]; decide), if_neg (by rw [h4]; decide), if_pos h4] at hp; exact br_t h4 hp
  refine br_f h4 ?_
  by_cases h2 : b_ops k = 17
  · rw [if_neg (by rw [h2]; decide), if_pos h2] at hp
    obtain ⟨n, hn, e⟩ := hok.2.2.2.1 h2
    rw [e, nI_clamp (by omega)] at hp
    rw [e]
    exact br_t h2 ⟨hv, hp⟩
  refine br_f h2 ?_
  by_cases h3 : b_ops k = 18
  · rw [if_neg (by rw [h3]; decide), if_neg h2, if_pos h3] at hp
    obtain ⟨n, hn1, hn2, e⟩ := hok.2.2.2.2.1 h3
    rw [e, nI_clamp (by omega)] at hp
    rw [e]
    have hz : ¬ nI n = 0 := nI_ne0 (by omega) (by omega)
    have hlt := Nat.mod_lt p (show 0 < n by omega)
    refine br_t h3 ⟨hv, hv, hz, hv, hz, ?_⟩
    rw [pk_rem (by omega) (by omega) (by omega), pk_sub (by omega), pk_rem (by omega) (by omega) (by omega)]
    exact hp
  refine br_f h3 ⟨hv, ly_br (fun eW => ?_) (fun eW => ?_)⟩
  · by_cases h1 : b_ops k = 1
    · rw [if_pos h1] at hp
      refine br_t h1 ⟨hv, ly_yin (ly_br (fun e => ?_) (fun e => ?_))⟩
      · rw [if_neg (by rw [e]; decide)] at hp; exact hp
      · rw [if_pos e] at hp; exact hp
    · rw [if_neg h1, if_neg h2, if_neg h3, if_neg h4, if_neg (by rw [eW]; decide)] at hp
      exact br_f h1 hp
  · have hj := hWj eW
    have h1 : ¬ b_ops k = 1 := fun h => by rw [h] at hj; exact absurd hj (by decide)
    rw [if_neg h1, if_neg h2, if_neg h3, if_neg h4, if_pos eW] at hp
    exact hp
theorem lk_ypu9 {post : Int32 → SY → Prop} {m s : Nat} {W st : Nat → Bool} (hC : ∀ m, m < 6 → b_counts m = nI (L m) ∧ L m ≤ 24) (E : lk_E b_ops b_opA b_opB L ms) (hm : m ∈ ms) (hs : s < 2)
    (hS : lk_BS st b_stays) (hW : lk_LB W b_wide) (hWj : ∀ k, W k = true → lk_jm (b_ops k) = true) :
    ∀ d k f p A, k + d = 24 * m + L m → 24 * m ≤ k → d < f → p + 16 * d < 2 ^ 20 →
    post (nI (lk_en b_ops b_opA b_opB W (if st (2 * m + s) = true then (List.range' k d).filter (fun k => decide (lk_sk b_ops b_opA k = s)) else []) p)) (g_origin, g_strip, g_many, g_culprit, g_textEnd, g_end, g_made, g_rounds, g_entry, g_linked, g_ran, g_pc, g_steps, g_outs, b_ops, b_opA, b_opB, b_counts, b_roles, b_list, lk_pl b_ops b_opA b_opB W (if st (2 * m + s) = true then (List.range' k d).filter (fun k => decide (lk_sk b_ops b_opA k = s)) else []) p A, b_symbols, b_image, b_stays, b_wide, b_memory, b_reg, b_out) →
    wY_placeUnit_9 post (nI m) (nI s) g_origin g_strip g_many g_culprit g_textEnd g_end g_made g_rounds g_entry g_linked g_ran g_pc g_steps g_outs f (nI p) (nI k) b_ops b_opA b_opB b_counts b_roles b_list A b_symbols b_image b_stays b_wide b_memory b_reg b_out := by
  have h6 := E.1.2.1 m hm
  obtain ⟨hcm, h24⟩ := hC m h6
  intro d
  induction d with
  | zero =>
    intro k f p A hk hk2 hf hb hp
    obtain ⟨f, rfl⟩ : ∃ f', f = f' + 1 := ⟨f - 1, by omega⟩
    unfold wY_placeUnit_9
    refine ly_ylast h6 hcm ?_
    refine br_t (nI_le (by omega) (by omega)) ?_
    rw [List.range'_zero, List.filter_nil, ite_self] at hp
    exact hp
  | succ d ih =>
    intro k f p A hk hk2 hf hb hp
    obtain ⟨f, rfl⟩ : ∃ f', f = f' + 1 := ⟨f - 1, by omega⟩
    obtain ⟨hin, ek⟩ := lk_in_mk hm h24 hk2 (show k < 24 * m + L m by omega)
    have hsk := lk_sk_lt (o := b_ops) (a := b_opA) k
    have hok := lk_ok_in E hin
    rw [List.range'_succ] at hp
    unfold wY_placeUnit_9
    refine ly_ylast h6 hcm ?_
    refine br_f (nI_ge (by omega) (by omega)) (lk_ysc E hin ?_)
    by_cases z : lk_sk b_ops b_opA k = s
    · rw [List.filter_cons_of_pos (by rw [decide_eq_true z])] at hp
      refine br_t (by rw [z]) ?_
      rw [ly_2, nI_clamp (by omega : 2 * m + s < 2 ^ 31), hS _ (by omega)]
      refine ⟨vp_in_nI (by omega) (by omega), ly_br (fun e => nm_r (nI_1 k) (ih (k + 1) f p A (by omega) (by omega) (by omega) (by omega) ?_)) (fun e => ?_)⟩
      · rw [if_neg (by rw [e]; decide)] at hp ⊢
        exact hp
      · rw [if_pos e] at hp
        have hsz := lk_sz_le (W := W) hok p
        refine ⟨vp_in_nI (by omega) (by omega), nm_r (e' := upd A k (nI p)) (by rw [nI_clamp (by omega)]) ?_⟩
        refine lk_ysz (W := W) (by omega) hok (hW k (by omega)) (hWj k) (by omega) (nm_r (nI_add _ _) (nm_r (nI_1 k) (ih (k + 1) f _ _ (by omega) (by omega) (by omega) (by omega) ?_)))
        rw [if_pos e]
        exact hp
    · rw [List.filter_cons_of_neg (by rw [decide_eq_false z]; decide)] at hp
      exact br_f (by rw [nI_eq (by omega) (by omega)]; exact z) (nm_r (nI_1 k) (ih (k + 1) f p A (by omega) (by omega) (by omega) (by omega) hp))
theorem lk_ypu {post : Int32 → SY → Prop} {m s p : Nat} {W st : Nat → Bool} (hC : ∀ m, m < 6 → b_counts m = nI (L m) ∧ L m ≤ 24) (E : lk_E b_ops b_opA b_opB L ms) (hm : m ∈ ms) (hs : s < 2)
    (hS : lk_BS st b_stays) (hW : lk_LB W b_wide) (hWj : ∀ k, W k = true → lk_jm (b_ops k) = true) (hp2 : p < 2 ^ 19)
    (hp : post (nI (lk_en b_ops b_opA b_opB W (lk_F b_ops b_opA L st s m) p)) (g_origin, g_strip, g_many, g_culprit, g_textEnd, g_end, g_made, g_rounds, g_entry, g_linked, g_ran, g_pc, g_steps, g_outs, b_ops, b_opA, b_opB, b_counts, b_roles, b_list, lk_pl b_ops b_opA b_opB W (lk_F b_ops b_opA L st s m) p b_places, b_symbols, b_image, b_stays, b_wide, b_memory, b_reg, b_out)) : wpY_placeUnit post (g_origin, g_strip, g_many, g_culprit, g_textEnd, g_end, g_made, g_rounds, g_entry, g_linked, g_ran, g_pc, g_steps, g_outs, b_ops, b_opA, b_opB, b_counts, b_roles, b_list, b_places, b_symbols, b_image, b_stays, b_wide, b_memory, b_reg, b_out) (nI m) (nI s) (nI p) := by
  have h24 := (hC m (E.1.2.1 m hm)).2
  exact nm_r (ly_24' m) ⟨L m + 1, lk_ypu9 hC E hm hs hS hW hWj (L m) (24 * m) _ p b_places rfl (Nat.le_refl _) (by omega) (by omega) hp⟩
theorem lk_y36 {post : SY → Prop} {J29 : Int32 → Int32 → Int32 → Int32 → Int32 → Int32 → Int32 → Int32 → Int32 → Int32 → Int32 → Int32 → Int32 → Int32 → Int32 → Int32 → (Nat → Int32) → (Nat → Int32) → (Nat → Int32) → (Nat → Int32) → (Nat → Int32) → (Nat → Int32) → (Nat → Int32) → (Nat → Int32) → (Nat → Int32) → (Nat → Int32) → (Nat → Int32) → (Nat → Int32) → (Nat → Int32) → (Nat → Int32) → Prop} {s p0 : Nat} {W st : Nat → Bool} {A0 : Nat → Int32} (hC : ∀ m, m < 6 → b_counts m = nI (L m) ∧ L m ≤ 24) (hL : lk_LS ms g_many b_list) (E : lk_E b_ops b_opA b_opB L ms) (hs : s < 2)
    (hS : lk_BS st b_stays) (hW : lk_LB W b_wide) (hWj : ∀ k, W k = true → lk_jm (b_ops k) = true) (hp0 : p0 ≤ 3000) (hlen : (lk_or b_ops b_opA L st s ms).length ≤ 144)
    (h0 : s = 0 → J29 (nI (lk_en b_ops b_opA b_opB W (lk_or b_ops b_opA L st s ms) p0)) (nI 1) g_origin g_strip g_many g_culprit (nI (lk_en b_ops b_opA b_opB W (lk_or b_ops b_opA L st s ms) p0)) g_end g_made g_rounds g_entry g_linked g_ran g_pc g_steps g_outs b_ops b_opA b_opB b_counts b_roles b_list (lk_pl b_ops b_opA b_opB W (lk_or b_ops b_opA L st s ms) p0 A0) b_symbols b_image b_stays b_wide b_memory b_reg b_out)
    (h1 : s = 1 → J29 (nI (lk_en b_ops b_opA b_opB W (lk_or b_ops b_opA L st s ms) p0)) (nI 2) g_origin g_strip g_many g_culprit g_textEnd g_end g_made g_rounds g_entry g_linked g_ran g_pc g_steps g_outs b_ops b_opA b_opB b_counts b_roles b_list (lk_pl b_ops b_opA b_opB W (lk_or b_ops b_opA L st s ms) p0 A0) b_symbols b_image b_stays b_wide b_memory b_reg b_out) :
    ∀ rest pre f, ms = pre ++ rest → rest.length < f → wY_place_36 post J29 (nI s) f (nI (lk_en b_ops b_opA b_opB W (lk_or b_ops b_opA L st s pre) p0)) (nI pre.length) g_origin g_strip g_many g_culprit g_textEnd g_end g_made g_rounds g_entry g_linked g_ran g_pc g_steps g_outs b_ops b_opA b_opB b_counts b_roles b_list (lk_pl b_ops b_opA b_opB W (lk_or b_ops b_opA L st s pre) p0 A0) b_symbols b_image b_stays b_wide b_memory b_reg b_out := by
  intro rest
  induction rest with
  | nil =>
    intro pre f e hf
    obtain ⟨f, rfl⟩ : ∃ f', f = f' + 1 := ⟨f - 1, by omega⟩
    rw [List.append_nil] at e
    subst e
    refine br_t (by rw [hL.1]; exact Int32.le_refl _) ?_
    rcases (by omega : s = 0 ∨ s = 1) with e | e
    · subst e
      exact br_t rfl (nm_r (nI_1 0) (h0 rfl))
    · subst e
      exact br_f (by decide) (nm_r (nI_1 1) (h1 rfl))
  | cons m rest ih =>
    intro pre f e hf
    rw [List.length_cons] at hf
    obtain ⟨f, rfl⟩ : ∃ f', f = f' + 1 := ⟨f - 1, by omega⟩
    obtain ⟨k1, k2, k3, k4⟩ := lk_LS_at hL e
    have hmm : m ∈ ms := by rw [e]; simp
    have hpre : ∀ q, q ∈ pre → q ∈ ms := fun q hq => by rw [e]; simp [hq]
    have e' : ms = (pre ++ [m]) ++ rest := by rw [e, List.append_assoc]; rfl
    have eor : lk_or b_ops b_opA L st s (pre ++ [m]) = lk_or b_ops b_opA L st s pre ++ lk_F b_ops b_opA L st s m := by
      rw [lk_or_app]
      congr 1
      show lk_F b_ops b_opA L st s m ++ [] = _
      rw [List.append_nil]
    have hokp : ∀ k, k ∈ lk_or b_ops b_opA L st s pre → ly_ok (b_ops k) (b_opA k) (b_opB k) := fun k hk => by
      obtain ⟨q, q1, q2⟩ := lk_or_mem.mp hk
      obtain ⟨-, q3, q4, -⟩ := lk_F_mem.mp q2
      exact (E.2.1 q (E.1.2.1 q (hpre q q1))).2 k q3 q4
    have hlp : (lk_or b_ops b_opA L st s pre).length ≤ 144 := by
      rw [e, lk_or_app, List.length_append] at hlen; omega
    have hen := (lk_en_le (W := W) (p := p0) hokp).2
    refine br_f ?_ (And.intro (vp_in_nI k4 (by omega)) ?_)
    · rw [hL.1]; exact nI_ge k3 (by have := hL.2.1; omega)
    rw [nI_clamp (by omega), k1]
    refine lk_ypu (W := W) (st := st) (b_places := lk_pl b_ops b_opA b_opB W (lk_or b_ops b_opA L st s pre) p0 A0) hC E hmm hs hS hW hWj (by omega) (nm_r (nI_1 _) ?_)
    have := ih (pre ++ [m]) f e' (by omega)
    rw [List.length_append, eor, lk_en_app, lk_pl_app] at this
    exact this
theorem lk_y7p {post : SY → Prop} {x1 : Int32} (hp : ∀ A, (∀ j, j < 144 → A j = -1) → ∃ n, wY_place_29 post n x1 0 g_origin g_strip g_many g_culprit g_textEnd g_end g_made g_rounds g_entry g_linked g_ran g_pc g_steps g_outs b_ops b_opA b_opB b_counts b_roles b_list A b_symbols b_image b_stays b_wide b_memory b_reg b_out) :
    ∀ d i f A, i + d = 144 → d < f → (∀ j, j < i → A j = -1) → wY_place_7 post x1 g_origin g_strip g_many g_culprit g_textEnd g_end g_made g_rounds g_entry g_linked g_ran g_pc g_steps g_outs f (nI i) b_ops b_opA b_opB b_counts b_roles b_list A b_symbols b_image b_stays b_wide b_memory b_reg b_out := by
  intro d
  induction d with
  | zero =>
    intro i f A hi hf h
    obtain ⟨f, rfl⟩ : ∃ f', f = f' + 1 := ⟨f - 1, by omega⟩
    have : i = 144 := by omega
    subst this
    exact br_t (Int32.le_refl _) (hp A h)
  | succ d ih =>
    intro i f A hi hf h
    obtain ⟨f, rfl⟩ : ∃ f', f = f' + 1 := ⟨f - 1, by omega⟩
    refine br_f (nI_ge (b := 144) (by omega) (by omega)) (And.intro (vp_in_nI (by omega) (by omega)) (nm_r (e' := upd A i (-1)) (by rw [nI_clamp (by omega)]) (nm_r (nI_1 i) (ih (i + 1) f _ (by omega) (by omega) (fun j hj => ?_)))))
    by_cases z : j = i
    · rw [z, pk_us]
    · rw [pk_un z]; exact h j (by omega)
theorem lk_yplace {post : SY → Prop} {g : Nat} {W st : Nat → Bool} (hC : ∀ m, m < 6 → b_counts m = nI (L m) ∧ L m ≤ 24) (hL : lk_LS ms g_many b_list) (E : lk_E b_ops b_opA b_opB L ms)
    (hS : lk_BS st b_stays) (hW : lk_LB W b_wide) (hWj : ∀ k, W k = true → lk_jm (b_ops k) = true) (hg : g ≤ 100) (ho : g_origin = nI g)
    (hp : ∀ A, (∀ j, j < 144 → A j = lk_ad b_ops b_opA b_opB W (lk_ord b_ops b_opA L st ms) g j) → post (g_origin, g_strip, g_many, g_culprit, nI (lk_en b_ops b_opA b_opB W (lk_or b_ops b_opA L st 0 ms) g), nI (lk_en b_ops b_opA b_opB W (lk_ord b_ops b_opA L st ms) g), g_made, g_rounds, g_entry, g_linked, g_ran, g_pc, g_steps, g_outs, b_ops, b_opA, b_opB, b_counts, b_roles, b_list, A, b_symbols, b_image, b_stays, b_wide, b_memory, b_reg, b_out)) :
    wpY_place post (g_origin, g_strip, g_many, g_culprit, g_textEnd, g_end, g_made, g_rounds, g_entry, g_linked, g_ran, g_pc, g_steps, g_outs, b_ops, b_opA, b_opB, b_counts, b_roles, b_list, b_places, b_symbols, b_image, b_stays, b_wide, b_memory, b_reg, b_out) := by
  subst ho
  have hl := lk_ord_144 (st := st) E
  unfold lk_ord at hl
  rw [List.length_append] at hl
  have hok0 : ∀ k, k ∈ lk_or b_ops b_opA L st 0 ms → ly_ok (b_ops k) (b_opA k) (b_opB k) := fun k hk => by
    obtain ⟨q, q1, q2⟩ := lk_or_mem.mp hk
    obtain ⟨-, q3, q4, -⟩ := lk_F_mem.mp q2
    exact (E.2.1 q (E.1.2.1 q q1)).2 k q3 q4
  have hen := (lk_en_le (W := W) (p := g) hok0).2
  refine ⟨145, lk_y7p (fun A hA => ⟨3, ?_⟩) 144 0 145 b_places rfl (by omega) (fun j hj => absurd hj (by omega))⟩
  refine br_f (by decide) ⟨ms.length + 1, ?_⟩
  refine lk_y36 (s := 0) (p0 := g) (W := W) (st := st) (A0 := A) hC hL E (by omega) hS hW hWj (by omega) (by omega) (fun _ => ?_) (fun h => nomatch h) ms [] _ rfl (by omega)
  refine br_f (by decide) ⟨ms.length + 1, ?_⟩
  refine lk_y36 (s := 1) (p0 := lk_en b_ops b_opA b_opB W (lk_or b_ops b_opA L st 0 ms) g) (W := W) (st := st) (A0 := lk_pl b_ops b_opA b_opB W (lk_or b_ops b_opA L st 0 ms) g A) hC hL E (by omega) hS hW hWj (by omega) (by omega) (fun h => nomatch h) (fun _ => ?_) ms [] _ rfl (by omega)
  refine br_t (by decide) ?_
  have := hp (lk_pl b_ops b_opA b_opB W (lk_ord b_ops b_opA L st ms) g A) (fun j hj => by
    rw [lk_pl_eq (lk_ord_nd E)]
    by_cases z : j ∈ lk_ord b_ops b_opA L st ms
    · rw [if_pos z]
    · rw [if_neg z, hA j hj, lk_ad_none z])
  unfold lk_ord at this
  rw [lk_en_app, lk_pl_app] at this
  exact this
theorem lk_y58 {post : Int32 → SY → Prop} {J4 : Int32 → Int32 → (Nat → Int32) → (Nat → Int32) → (Nat → Int32) → (Nat → Int32) → (Nat → Int32) → (Nat → Int32) → (Nat → Int32) → (Nat → Int32) → (Nat → Int32) → (Nat → Int32) → (Nat → Int32) → (Nat → Int32) → (Nat → Int32) → (Nat → Int32) → Prop} {P : Nat → Int32} {c k : Nat} (hC : ∀ m, m < 6 → b_counts m = nI (L m) ∧ L m ≤ 24) (hL : lk_LS ms g_many b_list) (E : lk_E b_ops b_opA b_opB L ms)
    (hin : lk_in L ms k) (hjm : lk_jm (b_ops k) = true) (hP : ∀ j, j < 144 → b_places j = P j)
    (hp : ∀ z, lk_fr b_ops b_opA b_opB L ms P k = z → J4 (nI (c + (if z = true then 1 else 0))) (nI (k + 1)) b_ops b_opA b_opB b_counts b_roles b_list b_places b_symbols b_image b_stays (if z = true then upd b_wide k 1 else b_wide) b_memory b_reg b_out) :
    wY_widen_53 post J4 (nI c) (nI k) (b_ops k) g_origin g_strip g_many g_culprit g_textEnd g_end g_made g_rounds g_entry g_linked g_ran g_pc g_steps g_outs b_ops b_opA b_opB b_counts b_roles b_list b_places b_symbols b_image b_stays b_wide b_memory b_reg b_out := by
  obtain ⟨hk, -⟩ := lk_in_144 E hin
  have hus : ly_us (b_ops k) = true := by rw [lk_us_jm, hjm]; rfl
  have htg := lk_tg_in E hin hus
  obtain ⟨ht144, -⟩ := lk_in_144 E htg
  have hv : vp_in (nI k) 144 := vp_in_nI hk (by omega)
  have h115 : lk_fr b_ops b_opA b_opB L ms P k = true → wY_widen_115 post J4 (nI c) (nI k) g_origin g_strip g_many g_culprit g_textEnd g_end g_made g_rounds g_entry g_linked g_ran g_pc g_steps g_outs b_ops b_opA b_opB b_counts b_roles b_list b_places b_symbols b_image b_stays b_wide b_memory b_reg b_out := by
    intro h
    have := hp true h
    rw [if_pos rfl, if_pos rfl] at this
    unfold wY_widen_115
    exact ⟨hv, nm_r (e' := upd b_wide k 1) (by rw [nI_clamp (by omega)]; rfl) (nm_r (nI_1 c) (nm_r (nI_1 k) this))⟩
  have hno : lk_fr b_ops b_opA b_opB L ms P k = false → ∀ y, y = nI k + 1 → J4 (nI c) y b_ops b_opA b_opB b_counts b_roles b_list b_places b_symbols b_image b_stays b_wide b_memory b_reg b_out := by
    intro h
    have := hp false h
    rw [if_neg (by decide), if_neg (by decide), Nat.add_zero] at this
    exact nm_r (nI_1 k) this
  unfold wY_widen_53 wY_widen_58
  refine br_f (by decide) (lk_ytg hC hL E hin hus ⟨vp_in_nI ht144 (by omega), nm_r (e' := P (lk_tg b_ops b_opA b_opB L ms k)) (by rw [nI_clamp (by omega)]; exact hP _ ht144) ?_⟩)
  unfold lk_fr at h115 hno
  by_cases h12 : b_ops k = 12
  · rw [if_pos h12] at h115 hno
    refine br_t h12 ?_
    by_cases h63 : P (lk_tg b_ops b_opA b_opB L ms k) ≤ 63
    · exact br_t h63 (hno (by rw [decide_eq_true h63]; rfl))
    · exact br_f h63 (h115 (by rw [decide_eq_false h63]; rfl))
  · rw [if_neg h12] at h115 hno
    refine br_f h12 ⟨hv, ?_⟩
    rw [nI_clamp (by omega), hP k hk]
    exact ly_yin (ly_br (fun e => h115 (by rw [e]; rfl)) (fun e => hno (by rw [e]; rfl)))
theorem lk_ywi4 {post : Int32 → SY → Prop} {W : Nat → Bool} {l : List Nat} {P : Nat → Int32} (hC : ∀ m, m < 6 → b_counts m = nI (L m) ∧ L m ≤ 24) (hL : lk_LS ms g_many b_list) (E : lk_E b_ops b_opA b_opB L ms)
    (hall : ∀ k, k ∈ l → lk_in L ms k) (hP : ∀ j, j < 144 → b_places j = P j) (hP1 : ∀ j, j < 144 → j ∈ l → ¬ P j < 0) (hP0 : ∀ j, j < 144 → j ∉ l → P j = -1)
    (hp : ∀ wi, lk_LB (fun j => W j || (decide (j ∈ l) && lk_nw b_ops b_opA b_opB L ms W P j)) wi → post (nI (lk_ct (fun j => decide (j ∈ l) && lk_nw b_ops b_opA b_opB L ms W P j) 144)) (g_origin, g_strip, g_many, g_culprit, g_textEnd, g_end, g_made, g_rounds, g_entry, g_linked, g_ran, g_pc, g_steps, g_outs, b_ops, b_opA, b_opB, b_counts, b_roles, b_list, b_places, b_symbols, b_image, b_stays, wi, b_memory, b_reg, b_out)) :
    ∀ d k f wi, k + d = 144 → d < f → lk_LB (fun j => W j || (decide (j < k) && (decide (j ∈ l) && lk_nw b_ops b_opA b_opB L ms W P j))) wi →
    wY_widen_4 post g_origin g_strip g_many g_culprit g_textEnd g_end g_made g_rounds g_entry g_linked g_ran g_pc g_steps g_outs f (nI (lk_ct (fun j => decide (j ∈ l) && lk_nw b_ops b_opA b_opB L ms W P j) k)) (nI k) b_ops b_opA b_opB b_counts b_roles b_list b_places b_symbols b_image b_stays wi b_memory b_reg b_out := by
  intro d
  induction d with
  | zero =>
    intro k f wi hk hf hB
    obtain ⟨f, rfl⟩ : ∃ f', f = f' + 1 := ⟨f - 1, by omega⟩
    have : k = 144 := by omega
    subst this
    refine br_t (Int32.le_refl _) (hp wi (fun j hj => ?_))
    rw [hB j hj]
    dsimp only
    rw [decide_eq_true hj, Bool.true_and]
  | succ d ih =>
    intro k f wi hk hf hB
    obtain ⟨f, rfl⟩ : ∃ f', f = f' + 1 := ⟨f - 1, by omega⟩
    have hk144 : k < 144 := by omega
    have hv : vp_in (nI k) 144 := vp_in_nI hk144 (by omega)
    have hc : (nI k).toNatClampNeg = k := nI_clamp (by omega)
    have hwk : wi k = ly_b (W k) := by rw [hB k hk144]; dsimp only; rw [decide_eq_false (Nat.lt_irrefl k), Bool.false_and, Bool.or_false]
    have nxt : ∀ wi', lk_LB (fun j => W j || (decide (j < k + 1) && (decide (j ∈ l) && lk_nw b_ops b_opA b_opB L ms W P j))) wi' → wY_widen_4 post g_origin g_strip g_many g_culprit g_textEnd g_end g_made g_rounds g_entry g_linked g_ran g_pc g_steps g_outs f (nI (lk_ct (fun j => decide (j ∈ l) && lk_nw b_ops b_opA b_opB L ms W P j) k + (if (decide (k ∈ l) && lk_nw b_ops b_opA b_opB L ms W P k) = true then 1 else 0))) (nI (k + 1)) b_ops b_opA b_opB b_counts b_roles b_list b_places b_symbols b_image b_stays wi' b_memory b_reg b_out := by
      intro wi' h'
      exact ih (k + 1) f wi' (by omega) (by omega) h'
    have same : (decide (k ∈ l) && lk_nw b_ops b_opA b_opB L ms W P k) = false → lk_LB (fun j => W j || (decide (j < k + 1) && (decide (j ∈ l) && lk_nw b_ops b_opA b_opB L ms W P j))) wi := by
      intro hno j hj
      rw [hB j hj]
      dsimp only
      by_cases z : j = k
      · rw [z, hno, Bool.and_false, Bool.and_false]
      · rw [decide_eq_decide.mpr (show j < k ↔ j < k + 1 by omega)]
    have skip : (decide (k ∈ l) && lk_nw b_ops b_opA b_opB L ms W P k) = false → wY_widen_57 post (wY_widen_4 post g_origin g_strip g_many g_culprit g_textEnd g_end g_made g_rounds g_entry g_linked g_ran g_pc g_steps g_outs f) (nI (lk_ct (fun j => decide (j ∈ l) && lk_nw b_ops b_opA b_opB L ms W P j) k)) (nI k) (b_ops k) g_origin g_strip g_many g_culprit g_textEnd g_end g_made g_rounds g_entry g_linked g_ran g_pc g_steps g_outs b_ops b_opA b_opB b_counts b_roles b_list b_places b_symbols b_image b_stays wi b_memory b_reg b_out := by
      intro hno
      unfold wY_widen_57 wY_widen_58
      refine br_t rfl (nm_r (nI_1 k) ?_)
      have := nxt wi (same hno)
      rw [if_neg (by rw [hno]; decide), Nat.add_zero] at this
      exact this
    refine br_f (nI_ge (b := 144) (by omega) (by omega)) (And.intro hv (nm_r (e' := b_ops k) (by rw [hc]) (And.intro hv ?_)))
    rw [hc, hP k hk144]
    by_cases hkl : k ∈ l
    · have hin := hall k hkl
      refine br_f (hP1 k hk144 hkl) ⟨hv, ?_⟩
      rw [hwk]
      refine ly_br (fun eW => ?_) (fun eW => skip ?_)
      · have go : lk_jm (b_ops k) = true → wY_widen_53 post (wY_widen_4 post g_origin g_strip g_many g_culprit g_textEnd g_end g_made g_rounds g_entry g_linked g_ran g_pc g_steps g_outs f) (nI (lk_ct (fun j => decide (j ∈ l) && lk_nw b_ops b_opA b_opB L ms W P j) k)) (nI k) (b_ops k) g_origin g_strip g_many g_culprit g_textEnd g_end g_made g_rounds g_entry g_linked g_ran g_pc g_steps g_outs b_ops b_opA b_opB b_counts b_roles b_list b_places b_symbols b_image b_stays wi b_memory b_reg b_out := by
          intro hjm
          refine lk_y58 hC hL E hin hjm hP (fun z hz => ?_)
          have hnw : (decide (k ∈ l) && lk_nw b_ops b_opA b_opB L ms W P k) = z := by
            unfold lk_nw; rw [decide_eq_true hkl, hjm, eW, hz]; rfl
          have h := nxt (if z = true then upd wi k 1 else wi) (fun j hj => by
            by_cases y : j = k
            · subst y
              dsimp only
              rw [eW, hnw, decide_eq_true (Nat.lt_succ_self j), Bool.true_and, Bool.false_or]
              cases z with
              | true => rw [if_pos rfl, pk_us]; rfl
              | false => rw [if_neg (by decide), hwk, eW]
            · have e2 : (if z = true then upd wi k 1 else wi) j = wi j := by
                cases z with
                | true => rw [if_pos rfl, pk_un y]
                | false => rw [if_neg (by decide)]
              rw [e2, hB j hj]
              dsimp only
              rw [decide_eq_decide.mpr (show j < k ↔ j < k + 1 by omega)])
          rw [hnw] at h
          exact h
        refine ly_yin (ly_br (fun e1 => ?_) (fun e1 => go ?_))
        · by_cases h12 : b_ops k = 12
          · exact br_t h12 (go (by unfold lk_jm; rw [h12]; decide))
          · refine br_f h12 (skip ?_)
            unfold lk_nw lk_jm
            rw [e1, decide_eq_false h12, Bool.false_or, Bool.false_and, Bool.and_false]
        · unfold lk_jm; rw [e1]; rfl
      · unfold lk_nw
        rw [eW, Bool.not_true, Bool.false_and, Bool.and_false, Bool.and_false]
    · refine br_t (by rw [hP0 k hk144 hkl]; decide) (skip ?_)
      rw [decide_eq_false hkl, Bool.false_and]
theorem lk_ywi {post : Int32 → SY → Prop} {W : Nat → Bool} {l : List Nat} {P : Nat → Int32} (hC : ∀ m, m < 6 → b_counts m = nI (L m) ∧ L m ≤ 24) (hL : lk_LS ms g_many b_list) (E : lk_E b_ops b_opA b_opB L ms)
    (hall : ∀ k, k ∈ l → lk_in L ms k) (hnd : l.Nodup) (hP : ∀ j, j < 144 → b_places j = P j) (hP1 : ∀ j, j < 144 → j ∈ l → ¬ P j < 0) (hP0 : ∀ j, j < 144 → j ∉ l → P j = -1) (hW : lk_LB W b_wide)
    (hp : ∀ wi, lk_LB (fun j => W j || (decide (j ∈ l) && lk_nw b_ops b_opA b_opB L ms W P j)) wi → post (nI (l.countP (lk_nw b_ops b_opA b_opB L ms W P))) (g_origin, g_strip, g_many, g_culprit, g_textEnd, g_end, g_made, g_rounds, g_entry, g_linked, g_ran, g_pc, g_steps, g_outs, b_ops, b_opA, b_opB, b_counts, b_roles, b_list, b_places, b_symbols, b_image, b_stays, wi, b_memory, b_reg, b_out)) : wpY_widen post (g_origin, g_strip, g_many, g_culprit, g_textEnd, g_end, g_made, g_rounds, g_entry, g_linked, g_ran, g_pc, g_steps, g_outs, b_ops, b_opA, b_opB, b_counts, b_roles, b_list, b_places, b_symbols, b_image, b_stays, b_wide, b_memory, b_reg, b_out) := by
  rw [← lk_ct_countP hnd (fun x hx => (lk_in_144 E (hall x hx)).1)] at hp
  exact ⟨145, lk_ywi4 hC hL E hall hP hP1 hP0 hp 144 0 145 b_wide rfl (by omega) (fun j hj => by rw [hW j hj]; dsimp only; rw [decide_eq_false (Nat.not_lt_zero j), Bool.false_and, Bool.or_false])⟩
theorem lk_y38 {post : Int32 → SY → Prop} {g : Nat} {st : Nat → Bool} (hC : ∀ m, m < 6 → b_counts m = nI (L m) ∧ L m ≤ 24) (hL : lk_LS ms g_many b_list) (E : lk_E b_ops b_opA b_opB L ms)
    (hS : lk_BS st b_stays) (hg : g ≤ 100) (ho : g_origin = nI g) :
    ∀ d f W c r te en wi A, lk_ct (fun j => !W j) 144 < d → d < f → lk_LB W wi → (∀ k, W k = true → lk_jm (b_ops k) = true) →
    (∀ W' c' r' te' en' wi' A', lk_lay b_ops b_opA b_opB L ms (lk_ord b_ops b_opA L st ms) g d W c r = (true, W', c', r') → post 4 (g_origin, g_strip, g_many, g_culprit, te', en', nI c', nI r', g_entry, g_linked, g_ran, g_pc, g_steps, g_outs, b_ops, b_opA, b_opB, b_counts, b_roles, b_list, A', b_symbols, b_image, b_stays, wi', b_memory, b_reg, b_out)) →
    (∀ W' c' r' wi' A', lk_lay b_ops b_opA b_opB L ms (lk_ord b_ops b_opA L st ms) g d W c r = (false, W', c', r') → lk_en b_ops b_opA b_opB W' (lk_ord b_ops b_opA L st ms) g ≤ 256 → lk_LB W' wi' → (∀ k, W' k = true → lk_jm (b_ops k) = true) → (∀ j, j < 144 → A' j = lk_ad b_ops b_opA b_opB W' (lk_ord b_ops b_opA L st ms) g j) →
      ∃ n, wY_arrange_92 post g_origin g_strip g_many g_culprit (nI (lk_en b_ops b_opA b_opB W' (lk_or b_ops b_opA L st 0 ms) g)) (nI (lk_en b_ops b_opA b_opB W' (lk_ord b_ops b_opA L st ms) g)) (nI c') (nI r') g_entry g_linked g_ran g_pc g_steps g_outs n 0 b_ops b_opA b_opB b_counts b_roles b_list A' b_symbols b_image b_stays wi' b_memory b_reg b_out) →
    ∀ x, ¬ x ≤ 0 → wY_arrange_38 post f x g_origin g_strip g_many g_culprit te en (nI c) (nI r) g_entry g_linked g_ran g_pc g_steps g_outs b_ops b_opA b_opB b_counts b_roles b_list A b_symbols b_image b_stays wi b_memory b_reg b_out := by
  have hall : ∀ k, k ∈ lk_ord b_ops b_opA L st ms → lk_in L ms k := fun k hk => ((lk_ord_mem E).mp hk).1
  have hok : ∀ k, k ∈ lk_ord b_ops b_opA L st ms → ly_ok (b_ops k) (b_opA k) (b_opB k) := fun k hk => lk_ok_in E (hall k hk)
  have hlen := lk_ord_144 (st := st) E
  have hnd := lk_ord_nd (st := st) E
  intro d
  induction d with
  | zero => intro f W c r te en wi A h; omega
  | succ d ih =>
    intro f W c r te en wi A hd hf hB hWj h4 h0 x hx
    obtain ⟨f, rfl⟩ : ∃ f', f = f' + 2 := ⟨f - 2, by omega⟩
    have hen := (lk_en_le (W := W) (l := lk_ord b_ops b_opA L st ms) (p := g) hok).2
    refine br_f hx ?_
    refine lk_yplace (W := W) (st := st) (b_wide := wi) (b_places := A) hC hL E hS hB hWj hg ho (fun A' hA' => ?_)
    unfold lk_lay at h4 h0
    by_cases z : 256 < lk_en b_ops b_opA b_opB W (lk_ord b_ops b_opA L st ms) g
    · rw [if_pos z] at h4
      exact br_f (by show ¬ nI (lk_en b_ops b_opA b_opB W (lk_ord b_ops b_opA L st ms) g) ≤ 256; exact nI_ge (a := 256) z (by omega)) (h4 W c r _ _ _ _ rfl)
    · rw [if_neg z] at h4 h0
      refine br_t (by show nI (lk_en b_ops b_opA b_opB W (lk_ord b_ops b_opA L st ms) g) ≤ 256; exact nI_le (b := 256) (by omega) (by omega)) ?_
      refine lk_ywi (W := W) (l := lk_ord b_ops b_opA L st ms) (P := lk_ad b_ops b_opA b_opB W (lk_ord b_ops b_opA L st ms) g) hC hL E hall hnd hA' (fun j hj hjl => ?_) (fun j hj hjl => lk_ad_none hjl) hB (fun wi' hB' => nm_r (nI_add _ _) ?_)
      · obtain ⟨q, q1, q2, q3⟩ := lk_ad_some (W := W) (p := g) hok hjl
        rw [q1]
        exact nI_pos (by omega)
      have hcn := lk_cn_le (o := b_ops) (a := b_opA) (b := b_opB) (L := L) (ms := ms) (g := g) (W := W) (l := lk_ord b_ops b_opA L st ms)
      by_cases y : lk_cn b_ops b_opA b_opB L ms (lk_ord b_ops b_opA L st ms) g W = 0
      · rw [if_pos y] at h0
        have y' : (lk_ord b_ops b_opA L st ms).countP (lk_nw b_ops b_opA b_opB L ms W (lk_ad b_ops b_opA b_opB W (lk_ord b_ops b_opA L st ms) g)) = 0 := y
        rw [y']
        have hWW : (fun j => W j || (decide (j ∈ lk_ord b_ops b_opA L st ms) && lk_nw b_ops b_opA b_opB L ms W (lk_ad b_ops b_opA b_opB W (lk_ord b_ops b_opA L st ms) g) j)) = W := lk_Wn_0 y
        rw [hWW] at hB'
        refine br_t (by decide) (br_t (by decide) ?_)
        exact h0 W c r wi' A' rfl (by omega) hB' hWj hA'
      · rw [if_neg y] at h4 h0
        have hx' : ¬ nI (lk_cn b_ops b_opA b_opB L ms (lk_ord b_ops b_opA L st ms) g W) ≤ 0 := nI_nle (by omega) (by omega)
        refine br_f hx' (nm_r (nI_1 r) ?_)
        refine ih (f + 1) (lk_Wn b_ops b_opA b_opB L ms (lk_ord b_ops b_opA L st ms) g W) (c + lk_cn b_ops b_opA b_opB L ms (lk_ord b_ops b_opA L st ms) g W) (r + 1) _ _ wi' _ ?_ (by omega) hB' (lk_Wn_jm hWj) h4 h0 _ hx'
        have := lk_Wn_lt (o := b_ops) (a := b_opA) (b := b_opB) (L := L) (ms := ms) (g := g) (W := W) (l := lk_ord b_ops b_opA L st ms) (fun x hx => (lk_in_144 E (hall x hx)).1) y
        omega
theorem lk_y16 {post : Int32 → SY → Prop} (hp : ∀ wi, lk_LB (fun _ => false) wi → ∃ n, wY_arrange_38 post n 1 g_origin g_strip g_many g_culprit g_textEnd g_end g_made g_rounds g_entry g_linked g_ran g_pc g_steps g_outs b_ops b_opA b_opB b_counts b_roles b_list b_places b_symbols b_image b_stays wi b_memory b_reg b_out) :
    ∀ d i f wi, i + d = 144 → d < f → (∀ j, j < i → wi j = 0) → wY_arrange_16 post g_origin g_strip g_many g_culprit g_textEnd g_end g_made g_rounds g_entry g_linked g_ran g_pc g_steps g_outs f (nI i) b_ops b_opA b_opB b_counts b_roles b_list b_places b_symbols b_image b_stays wi b_memory b_reg b_out := by
  intro d
  induction d with
  | zero =>
    intro i f wi hi hf h
    obtain ⟨f, rfl⟩ : ∃ f', f = f' + 1 := ⟨f - 1, by omega⟩
    have : i = 144 := by omega
    subst this
    exact br_t (Int32.le_refl _) (hp wi h)
  | succ d ih =>
    intro i f wi hi hf h
    obtain ⟨f, rfl⟩ : ∃ f', f = f' + 1 := ⟨f - 1, by omega⟩
    refine br_f (nI_ge (b := 144) (by omega) (by omega)) (And.intro (vp_in_nI (by omega) (by omega)) (nm_r (e' := upd wi i 0) (by rw [nI_clamp (by omega)]; rfl) (nm_r (nI_1 i) (ih (i + 1) f _ (by omega) (by omega) (fun j hj => ?_)))))
    by_cases z : j = i
    · rw [z, pk_us]
    · rw [pk_un z]; exact h j (by omega)
end ya
end
section
/-! the words of an item (printed by genenc.py) -/
section emd
variable (o a b : Nat → Int32) (L : Nat → Nat) (ms : List Nat) (W : Nat → Bool) (P : Nat → Int32)
def lk_tw (k : Nat) : Bool := decide (lk_sz o a b W k (P k).toNatClampNeg = 2)
def lk_rv (k : Nat) : Int32 := if ly_rg (o k) = true then (a k) <<< ((20 : Int32) &&& 31) else 0
def lk_gv (k : Nat) : Int32 := if ly_us (o k) = true then P (lk_tg o a b L ms k) else b k
def lk_lv (k : Nat) : Int32 := if ly_in (o k) 8 10 = true then lk_gv o a b L ms P k - P k else if o k = 11 then 0 else if o k ≤ 12 then lk_gv o a b L ms P k else 0
def lk_w1 (k : Nat) : Int32 := (((o k <<< ((24 : Int32) &&& 31)) + lk_rv o a k) + (if lk_tw o a b W P k = true then 65536 else 0)) + (lk_lv o a b L ms P k &&& 65535)
def lk_em (img : Nat → Int32) (k : Nat) : Nat → Int32 :=
  if o k = 0 then img else if o k ≤ 16 then (if o k = 15 then upd img (P k).toNatClampNeg (b k) else if o k = 16 then upd img (P k).toNatClampNeg (P (lk_tg o a b L ms k) + b k)
    else if lk_tw o a b W P k = true then upd (upd img (P k).toNatClampNeg (lk_w1 o a b L ms W P k)) ((P k).toNatClampNeg + 1) (lk_gv o a b L ms P k) else upd img (P k).toNatClampNeg (lk_w1 o a b L ms W P k)) else img
end emd
theorem lk_oradd {c l : Int32} (h : c &&& 65535 = 0) : c ||| (l &&& 65535) = c + (l &&& 65535) := by
  have h2 : c &&& (l &&& 65535) = 0 := by
    refine b_ext (fun i hi => ?_)
    have e := b_and c 65535 i
    rw [h, b_0] at e
    rw [b_and, b_and, b_0]
    cases e1 : bt c i with
    | false => rfl
    | true =>
      rw [e1, Bool.true_and] at e
      rw [← e, Bool.and_false, Bool.and_false]
  apply Int32.toBitVec_inj.mp
  rw [Int32.toBitVec_or, Int32.toBitVec_add]
  have h3 := congrArg Int32.toBitVec h2
  rw [Int32.toBitVec_and] at h3
  exact (BitVec.add_eq_or_of_and_eq_zero _ _ h3).symm
theorem lk_or1 : ∀ j, j < 15 → ∀ n, n < 8 → ((nI j <<< ((24 : Int32) &&& 31)) ||| (nI n <<< ((20 : Int32) &&& 31))) ||| 65536 = ((nI j <<< ((24 : Int32) &&& 31)) + (nI n <<< ((20 : Int32) &&& 31))) + 65536 := by decide +kernel
theorem lk_or2 : ∀ j, j < 15 → ∀ n, n < 8 → ((nI j <<< ((24 : Int32) &&& 31)) ||| (nI n <<< ((20 : Int32) &&& 31))) ||| 0 = ((nI j <<< ((24 : Int32) &&& 31)) + (nI n <<< ((20 : Int32) &&& 31))) + 0 := by decide +kernel
theorem lk_or3 : ∀ j, j < 15 → ∀ n, n < 8 → (((nI j <<< ((24 : Int32) &&& 31)) + (nI n <<< ((20 : Int32) &&& 31))) + 65536) &&& 65535 = 0 := by decide +kernel
theorem lk_or4 : ∀ j, j < 15 → ∀ n, n < 8 → (((nI j <<< ((24 : Int32) &&& 31)) + (nI n <<< ((20 : Int32) &&& 31))) + 0) &&& 65535 = 0 := by decide +kernel
theorem lk_sz12 {o a b : Nat → Int32} {W : Nat → Bool} {k j : Nat} (ho : o k = nI j) (h1 : 1 ≤ j) (h2 : j ≤ 16) (p : Nat) : lk_sz o a b W k p = 1 ∨ lk_sz o a b W k p = 2 := by
  have ne : ∀ q, q < 100 → j ≠ q → ¬ o k = nI q := fun q hq h => by rw [ho, nI_eq (by omega) (by omega)]; exact h
  unfold lk_sz
  rw [if_neg (show ¬ o k = 0 from ne 0 (by omega) (by omega))]
  by_cases z : o k = 1
  · rw [if_pos z]; split <;> simp
  · rw [if_neg z, if_neg (show ¬ o k = 17 from ne 17 (by omega) (by omega)), if_neg (show ¬ o k = 18 from ne 18 (by omega) (by omega)), if_neg (show ¬ o k = 19 from ne 19 (by omega) (by omega))]; split <;> simp
section xe
variable {f_origin f_culprit f_strip f_listed f_units f_ordered f_textEnd f_end f_longs f_rounds f_keptListed f_entry f_linked f_pc f_steps f_outs f_ran : Int32} {a_op a_opA a_opB a_section a_length a_role a_labelAt a_used a_local a_global a_weak a_faulty a_list a_chosen a_order a_lengthened a_at a_keptAt a_keptSymbol a_keptList a_image a_sizes a_words a_apart a_partA a_partN a_wide a_r a_output : Nat → Int32} {L : Nat → Nat} {ms : List Nat}
theorem lk_xe209 {post : SX → Prop} {j k p n : Nat} {x4 l rr : Int32} {tw : Bool} (hk : k < 144) (hj : j < 15) (hn : n < 8) (hrr : rr = nI n <<< ((20 : Int32) &&& 31)) (hz : p + (if tw = true then 2 else 1) ≤ 256)
    (hp : post (f_origin, f_culprit, f_strip, f_listed, f_units, f_ordered, f_textEnd, f_end, f_longs, f_rounds, f_keptListed, f_entry, f_linked, f_pc, f_steps, f_outs, f_ran, a_op, a_opA, a_opB, a_section, a_length, a_role, a_labelAt, a_used, a_local, a_global, a_weak, a_faulty, a_list, a_chosen, a_order, a_lengthened, a_at, a_keptAt, a_keptSymbol, a_keptList, if tw = true then upd (upd a_image p ((((nI j <<< ((24 : Int32) &&& 31)) + rr) + (if tw = true then 65536 else 0)) + (l &&& 65535))) (p + 1) (if nI j = 1 then a_opB k else x4) else upd a_image p ((((nI j <<< ((24 : Int32) &&& 31)) + rr) + (if tw = true then 65536 else 0)) + (l &&& 65535)), a_sizes, a_words, a_apart, a_partA, a_partN, a_wide, a_r, a_output)) :
    wX_encode_209 post (nI k) (nI j) x4 (nI p) (nI (if tw = true then 2 else 1)) l rr (nI j <<< ((24 : Int32) &&& 31)) (nI p) f_origin f_culprit f_strip f_listed f_units f_ordered f_textEnd f_end f_longs f_rounds f_keptListed f_entry f_linked f_pc f_steps f_outs f_ran a_op a_opA a_opB a_section a_length a_role a_labelAt a_used a_local a_global a_weak a_faulty a_list a_chosen a_order a_lengthened a_at a_keptAt a_keptSymbol a_keptList a_image a_sizes a_words a_apart a_partA a_partN a_wide a_r a_output := by
  subst hrr
  unfold wX_encode_209
  cases tw with
  | true =>
    simp only [if_true] at hp hz
    refine br_t rfl ?_
    unfold wX_encode_222
    rw [lk_or1 j hj n hn, lk_oradd (lk_or3 j hj n hn), nI_clamp (by omega : p < 2 ^ 31)]
    refine ⟨vp_in_nI (by omega) (by omega), nm_e (br_t rfl ?_)⟩
    rw [nI_1, nI_clamp (by omega : p + 1 < 2 ^ 31)]
    by_cases z : nI j = 1
    · rw [if_pos z] at hp
      refine br_t z ⟨vp_in_nI hk (by omega), vp_in_nI (by omega) (by omega), nm_e ?_⟩
      rw [nI_clamp (by omega : k < 2 ^ 31)]
      exact hp
    · rw [if_neg z] at hp
      exact br_f z ⟨vp_in_nI (by omega) (by omega), nm_e hp⟩
  | false =>
    simp only [Bool.false_eq_true, if_false] at hp hz
    refine br_f (by decide) ?_
    unfold wX_encode_222
    rw [lk_or2 j hj n hn, lk_oradd (lk_or4 j hj n hn), nI_clamp (by omega : p < 2 ^ 31)]
    exact ⟨vp_in_nI (by omega) (by omega), nm_e (br_f (by decide) hp)⟩
theorem lk_xe179 {post : SX → Prop} {j k p : Nat} {x4 l : Int32} {tw rb : Bool} (hk : k < 144) (hj : j < 15) (hr : rb = true → ∃ n, n < 8 ∧ a_opA k = nI n) (hz : p + (if tw = true then 2 else 1) ≤ 256)
    (hp : post (f_origin, f_culprit, f_strip, f_listed, f_units, f_ordered, f_textEnd, f_end, f_longs, f_rounds, f_keptListed, f_entry, f_linked, f_pc, f_steps, f_outs, f_ran, a_op, a_opA, a_opB, a_section, a_length, a_role, a_labelAt, a_used, a_local, a_global, a_weak, a_faulty, a_list, a_chosen, a_order, a_lengthened, a_at, a_keptAt, a_keptSymbol, a_keptList, if tw = true then upd (upd a_image p ((((nI j <<< ((24 : Int32) &&& 31)) + (if rb = true then (a_opA k) <<< ((20 : Int32) &&& 31) else 0)) + (if tw = true then 65536 else 0)) + (l &&& 65535))) (p + 1) (if nI j = 1 then a_opB k else x4) else upd a_image p ((((nI j <<< ((24 : Int32) &&& 31)) + (if rb = true then (a_opA k) <<< ((20 : Int32) &&& 31) else 0)) + (if tw = true then 65536 else 0)) + (l &&& 65535)), a_sizes, a_words, a_apart, a_partA, a_partN, a_wide, a_r, a_output)) :
    wX_encode_179 post (nI k) (nI j) x4 (nI p) (nI (if tw = true then 2 else 1)) (ly_b rb) l f_origin f_culprit f_strip f_listed f_units f_ordered f_textEnd f_end f_longs f_rounds f_keptListed f_entry f_linked f_pc f_steps f_outs f_ran a_op a_opA a_opB a_section a_length a_role a_labelAt a_used a_local a_global a_weak a_faulty a_list a_chosen a_order a_lengthened a_at a_keptAt a_keptSymbol a_keptList a_image a_sizes a_words a_apart a_partA a_partN a_wide a_r a_output := by
  unfold wX_encode_179
  cases rb with
  | false =>
    simp only [Bool.false_eq_true, if_false] at hp
    exact br_t rfl (lk_xe209 (n := 0) hk hj (by omega) (by decide) hz hp)
  | true =>
    simp only [if_true] at hp
    obtain ⟨n, hn, en⟩ := hr rfl
    refine br_f (by decide) ⟨vp_in_nI hk (by omega), ?_⟩
    rw [nI_clamp (by omega)]
    exact lk_xe209 hk hj hn (by rw [en]) hz hp
theorem lk_xe1 {post : SX → Prop} {W : Nat → Bool} {k p : Nat} {x3 x4 : Int32} (hk : k < 144) (ho : a_op k = nI 1) (hok : ly_ok (a_op k) (a_opA k) (a_opB k)) (hW : a_lengthened k = ly_b (W k)) (hat : a_at k = nI p) (hp3 : p + lk_sz a_op a_opA a_opB W k p ≤ 256)
    (hp : post (f_origin, f_culprit, f_strip, f_listed, f_units, f_ordered, f_textEnd, f_end, f_longs, f_rounds, f_keptListed, f_entry, f_linked, f_pc, f_steps, f_outs, f_ran, a_op, a_opA, a_opB, a_section, a_length, a_role, a_labelAt, a_used, a_local, a_global, a_weak, a_faulty, a_list, a_chosen, a_order, a_lengthened, a_at, a_keptAt, a_keptSymbol, a_keptList, if (decide (lk_sz a_op a_opA a_opB W k p = 2)) = true then upd (upd a_image p ((((nI 1 <<< ((24 : Int32) &&& 31)) + (if true = true then (a_opA k) <<< ((20 : Int32) &&& 31) else 0)) + (if (decide (lk_sz a_op a_opA a_opB W k p = 2)) = true then 65536 else 0)) + (a_opB k &&& 65535))) (p + 1) (if nI 1 = 1 then a_opB k else x4) else upd a_image p ((((nI 1 <<< ((24 : Int32) &&& 31)) + (if true = true then (a_opA k) <<< ((20 : Int32) &&& 31) else 0)) + (if (decide (lk_sz a_op a_opA a_opB W k p = 2)) = true then 65536 else 0)) + (a_opB k &&& 65535)), a_sizes, a_words, a_apart, a_partA, a_partN, a_wide, a_r, a_output)) : wX_encode_35 post (nI k) (nI 1) x3 x4 f_origin f_culprit f_strip f_listed f_units f_ordered f_textEnd f_end f_longs f_rounds f_keptListed f_entry f_linked f_pc f_steps f_outs f_ran a_op a_opA a_opB a_section a_length a_role a_labelAt a_used a_local a_global a_weak a_faulty a_list a_chosen a_order a_lengthened a_at a_keptAt a_keptSymbol a_keptList a_image a_sizes a_words a_apart a_partA a_partN a_wide a_r a_output := by
  have hv : vp_in (nI k) 144 := vp_in_nI hk (by omega)
  have hc : (nI k).toNatClampNeg = k := nI_clamp (by omega)
  have hs := lk_sz12 (a := a_opA) (b := a_opB) (W := W) ho (by omega) (by omega) p
  have hsz : lk_sz a_op a_opA a_opB W k p = if (decide (lk_sz a_op a_opA a_opB W k p = 2)) = true then 2 else 1 := by
    rcases hs with e | e <;> rw [e] <;> rfl
  have hz : p + (if (decide (lk_sz a_op a_opA a_opB W k p = 2)) = true then 2 else 1) ≤ 256 := by rw [← hsz]; exact hp3
  have hreg : ∃ n, n < 8 ∧ a_opA k = nI n := hok.2.2.2.2.2.2 (by rw [ho]; decide)
  unfold wX_encode_35
  refine ⟨hv, nm_r (e' := nI p) (by rw [hc]; exact hat) (br_f (by decide) (br_t (by decide) (br_f (by decide) (br_f (by decide) (lk_xwords hk hok hW (by omega) ?_)))))⟩
  rw [hsz]
  refine br_t (by decide) ?_
  unfold wX_encode_133 wX_encode_138
  exact br_f (by decide) ⟨hv, by rw [hc]; exact (lk_xe179 (tw := decide (lk_sz a_op a_opA a_opB W k p = 2)) (rb := true) hk (by omega) (fun _ => hreg) hz hp)⟩
theorem lk_xe2 {post : SX → Prop} {W : Nat → Bool} {k p : Nat} {x3 x4 : Int32} (hk : k < 144) (ho : a_op k = nI 2) (hok : ly_ok (a_op k) (a_opA k) (a_opB k)) (hW : a_lengthened k = ly_b (W k)) (hat : a_at k = nI p) (hp3 : p + lk_sz a_op a_opA a_opB W k p ≤ 256)
    (hp : post (f_origin, f_culprit, f_strip, f_listed, f_units, f_ordered, f_textEnd, f_end, f_longs, f_rounds, f_keptListed, f_entry, f_linked, f_pc, f_steps, f_outs, f_ran, a_op, a_opA, a_opB, a_section, a_length, a_role, a_labelAt, a_used, a_local, a_global, a_weak, a_faulty, a_list, a_chosen, a_order, a_lengthened, a_at, a_keptAt, a_keptSymbol, a_keptList, if (decide (lk_sz a_op a_opA a_opB W k p = 2)) = true then upd (upd a_image p ((((nI 2 <<< ((24 : Int32) &&& 31)) + (if true = true then (a_opA k) <<< ((20 : Int32) &&& 31) else 0)) + (if (decide (lk_sz a_op a_opA a_opB W k p = 2)) = true then 65536 else 0)) + (a_opB k &&& 65535))) (p + 1) (if nI 2 = 1 then a_opB k else x4) else upd a_image p ((((nI 2 <<< ((24 : Int32) &&& 31)) + (if true = true then (a_opA k) <<< ((20 : Int32) &&& 31) else 0)) + (if (decide (lk_sz a_op a_opA a_opB W k p = 2)) = true then 65536 else 0)) + (a_opB k &&& 65535)), a_sizes, a_words, a_apart, a_partA, a_partN, a_wide, a_r, a_output)) : wX_encode_35 post (nI k) (nI 2) x3 x4 f_origin f_culprit f_strip f_listed f_units f_ordered f_textEnd f_end f_longs f_rounds f_keptListed f_entry f_linked f_pc f_steps f_outs f_ran a_op a_opA a_opB a_section a_length a_role a_labelAt a_used a_local a_global a_weak a_faulty a_list a_chosen a_order a_lengthened a_at a_keptAt a_keptSymbol a_keptList a_image a_sizes a_words a_apart a_partA a_partN a_wide a_r a_output := by
  have hv : vp_in (nI k) 144 := vp_in_nI hk (by omega)
  have hc : (nI k).toNatClampNeg = k := nI_clamp (by omega)
  have hs := lk_sz12 (a := a_opA) (b := a_opB) (W := W) ho (by omega) (by omega) p
  have hsz : lk_sz a_op a_opA a_opB W k p = if (decide (lk_sz a_op a_opA a_opB W k p = 2)) = true then 2 else 1 := by
    rcases hs with e | e <;> rw [e] <;> rfl
  have hz : p + (if (decide (lk_sz a_op a_opA a_opB W k p = 2)) = true then 2 else 1) ≤ 256 := by rw [← hsz]; exact hp3
  have hreg : ∃ n, n < 8 ∧ a_opA k = nI n := hok.2.2.2.2.2.2 (by rw [ho]; decide)
  unfold wX_encode_35
  refine ⟨hv, nm_r (e' := nI p) (by rw [hc]; exact hat) (br_f (by decide) (br_t (by decide) (br_f (by decide) (br_f (by decide) (lk_xwords hk hok hW (by omega) ?_)))))⟩
  rw [hsz]
  refine br_t (by decide) ?_
  unfold wX_encode_133 wX_encode_138
  exact br_f (by decide) ⟨hv, by rw [hc]; exact (lk_xe179 (tw := decide (lk_sz a_op a_opA a_opB W k p = 2)) (rb := true) hk (by omega) (fun _ => hreg) hz hp)⟩
theorem lk_xe3 {post : SX → Prop} {W : Nat → Bool} {k p : Nat} {x3 x4 : Int32} (hk : k < 144) (ho : a_op k = nI 3) (hok : ly_ok (a_op k) (a_opA k) (a_opB k)) (hW : a_lengthened k = ly_b (W k)) (hat : a_at k = nI p) (hp3 : p + lk_sz a_op a_opA a_opB W k p ≤ 256)
    (hp : post (f_origin, f_culprit, f_strip, f_listed, f_units, f_ordered, f_textEnd, f_end, f_longs, f_rounds, f_keptListed, f_entry, f_linked, f_pc, f_steps, f_outs, f_ran, a_op, a_opA, a_opB, a_section, a_length, a_role, a_labelAt, a_used, a_local, a_global, a_weak, a_faulty, a_list, a_chosen, a_order, a_lengthened, a_at, a_keptAt, a_keptSymbol, a_keptList, if (decide (lk_sz a_op a_opA a_opB W k p = 2)) = true then upd (upd a_image p ((((nI 3 <<< ((24 : Int32) &&& 31)) + (if true = true then (a_opA k) <<< ((20 : Int32) &&& 31) else 0)) + (if (decide (lk_sz a_op a_opA a_opB W k p = 2)) = true then 65536 else 0)) + (a_opB k &&& 65535))) (p + 1) (if nI 3 = 1 then a_opB k else x4) else upd a_image p ((((nI 3 <<< ((24 : Int32) &&& 31)) + (if true = true then (a_opA k) <<< ((20 : Int32) &&& 31) else 0)) + (if (decide (lk_sz a_op a_opA a_opB W k p = 2)) = true then 65536 else 0)) + (a_opB k &&& 65535)), a_sizes, a_words, a_apart, a_partA, a_partN, a_wide, a_r, a_output)) : wX_encode_35 post (nI k) (nI 3) x3 x4 f_origin f_culprit f_strip f_listed f_units f_ordered f_textEnd f_end f_longs f_rounds f_keptListed f_entry f_linked f_pc f_steps f_outs f_ran a_op a_opA a_opB a_section a_length a_role a_labelAt a_used a_local a_global a_weak a_faulty a_list a_chosen a_order a_lengthened a_at a_keptAt a_keptSymbol a_keptList a_image a_sizes a_words a_apart a_partA a_partN a_wide a_r a_output := by
  have hv : vp_in (nI k) 144 := vp_in_nI hk (by omega)
  have hc : (nI k).toNatClampNeg = k := nI_clamp (by omega)
  have hs := lk_sz12 (a := a_opA) (b := a_opB) (W := W) ho (by omega) (by omega) p
  have hsz : lk_sz a_op a_opA a_opB W k p = if (decide (lk_sz a_op a_opA a_opB W k p = 2)) = true then 2 else 1 := by
    rcases hs with e | e <;> rw [e] <;> rfl
  have hz : p + (if (decide (lk_sz a_op a_opA a_opB W k p = 2)) = true then 2 else 1) ≤ 256 := by rw [← hsz]; exact hp3
  have hreg : ∃ n, n < 8 ∧ a_opA k = nI n := hok.2.2.2.2.2.2 (by rw [ho]; decide)
  unfold wX_encode_35
  refine ⟨hv, nm_r (e' := nI p) (by rw [hc]; exact hat) (br_f (by decide) (br_t (by decide) (br_f (by decide) (br_f (by decide) (lk_xwords hk hok hW (by omega) ?_)))))⟩
  rw [hsz]
  refine br_t (by decide) ?_
  unfold wX_encode_133 wX_encode_138
  exact br_f (by decide) ⟨hv, by rw [hc]; exact (lk_xe179 (tw := decide (lk_sz a_op a_opA a_opB W k p = 2)) (rb := true) hk (by omega) (fun _ => hreg) hz hp)⟩
theorem lk_xe4 {post : SX → Prop} {W : Nat → Bool} {k p : Nat} {x3 x4 : Int32} (hk : k < 144) (ho : a_op k = nI 4) (hok : ly_ok (a_op k) (a_opA k) (a_opB k)) (hW : a_lengthened k = ly_b (W k)) (hat : a_at k = nI p) (hp3 : p + lk_sz a_op a_opA a_opB W k p ≤ 256)
    (hp : post (f_origin, f_culprit, f_strip, f_listed, f_units, f_ordered, f_textEnd, f_end, f_longs, f_rounds, f_keptListed, f_entry, f_linked, f_pc, f_steps, f_outs, f_ran, a_op, a_opA, a_opB, a_section, a_length, a_role, a_labelAt, a_used, a_local, a_global, a_weak, a_faulty, a_list, a_chosen, a_order, a_lengthened, a_at, a_keptAt, a_keptSymbol, a_keptList, if (decide (lk_sz a_op a_opA a_opB W k p = 2)) = true then upd (upd a_image p ((((nI 4 <<< ((24 : Int32) &&& 31)) + (if true = true then (a_opA k) <<< ((20 : Int32) &&& 31) else 0)) + (if (decide (lk_sz a_op a_opA a_opB W k p = 2)) = true then 65536 else 0)) + (a_opB k &&& 65535))) (p + 1) (if nI 4 = 1 then a_opB k else x4) else upd a_image p ((((nI 4 <<< ((24 : Int32) &&& 31)) + (if true = true then (a_opA k) <<< ((20 : Int32) &&& 31) else 0)) + (if (decide (lk_sz a_op a_opA a_opB W k p = 2)) = true then 65536 else 0)) + (a_opB k &&& 65535)), a_sizes, a_words, a_apart, a_partA, a_partN, a_wide, a_r, a_output)) : wX_encode_35 post (nI k) (nI 4) x3 x4 f_origin f_culprit f_strip f_listed f_units f_ordered f_textEnd f_end f_longs f_rounds f_keptListed f_entry f_linked f_pc f_steps f_outs f_ran a_op a_opA a_opB a_section a_length a_role a_labelAt a_used a_local a_global a_weak a_faulty a_list a_chosen a_order a_lengthened a_at a_keptAt a_keptSymbol a_keptList a_image a_sizes a_words a_apart a_partA a_partN a_wide a_r a_output := by
  have hv : vp_in (nI k) 144 := vp_in_nI hk (by omega)
  have hc : (nI k).toNatClampNeg = k := nI_clamp (by omega)
  have hs := lk_sz12 (a := a_opA) (b := a_opB) (W := W) ho (by omega) (by omega) p
  have hsz : lk_sz a_op a_opA a_opB W k p = if (decide (lk_sz a_op a_opA a_opB W k p = 2)) = true then 2 else 1 := by
    rcases hs with e | e <;> rw [e] <;> rfl
  have hz : p + (if (decide (lk_sz a_op a_opA a_opB W k p = 2)) = true then 2 else 1) ≤ 256 := by rw [← hsz]; exact hp3
  have hreg : ∃ n, n < 8 ∧ a_opA k = nI n := hok.2.2.2.2.2.2 (by rw [ho]; decide)
  unfold wX_encode_35
  refine ⟨hv, nm_r (e' := nI p) (by rw [hc]; exact hat) (br_f (by decide) (br_t (by decide) (br_f (by decide) (br_f (by decide) (lk_xwords hk hok hW (by omega) ?_)))))⟩
  rw [hsz]
  refine br_t (by decide) ?_
  unfold wX_encode_133 wX_encode_138
  exact br_f (by decide) ⟨hv, by rw [hc]; exact (lk_xe179 (tw := decide (lk_sz a_op a_opA a_opB W k p = 2)) (rb := true) hk (by omega) (fun _ => hreg) hz hp)⟩
theorem lk_xe5 {post : SX → Prop} {W : Nat → Bool} {k p : Nat} {x3 x4 : Int32} (hk : k < 144) (ho : a_op k = nI 5) (hok : ly_ok (a_op k) (a_opA k) (a_opB k)) (hW : a_lengthened k = ly_b (W k)) (hat : a_at k = nI p) (hp3 : p + lk_sz a_op a_opA a_opB W k p ≤ 256)
    (hp : post (f_origin, f_culprit, f_strip, f_listed, f_units, f_ordered, f_textEnd, f_end, f_longs, f_rounds, f_keptListed, f_entry, f_linked, f_pc, f_steps, f_outs, f_ran, a_op, a_opA, a_opB, a_section, a_length, a_role, a_labelAt, a_used, a_local, a_global, a_weak, a_faulty, a_list, a_chosen, a_order, a_lengthened, a_at, a_keptAt, a_keptSymbol, a_keptList, if (decide (lk_sz a_op a_opA a_opB W k p = 2)) = true then upd (upd a_image p ((((nI 5 <<< ((24 : Int32) &&& 31)) + (if true = true then (a_opA k) <<< ((20 : Int32) &&& 31) else 0)) + (if (decide (lk_sz a_op a_opA a_opB W k p = 2)) = true then 65536 else 0)) + (a_opB k &&& 65535))) (p + 1) (if nI 5 = 1 then a_opB k else x4) else upd a_image p ((((nI 5 <<< ((24 : Int32) &&& 31)) + (if true = true then (a_opA k) <<< ((20 : Int32) &&& 31) else 0)) + (if (decide (lk_sz a_op a_opA a_opB W k p = 2)) = true then 65536 else 0)) + (a_opB k &&& 65535)), a_sizes, a_words, a_apart, a_partA, a_partN, a_wide, a_r, a_output)) : wX_encode_35 post (nI k) (nI 5) x3 x4 f_origin f_culprit f_strip f_listed f_units f_ordered f_textEnd f_end f_longs f_rounds f_keptListed f_entry f_linked f_pc f_steps f_outs f_ran a_op a_opA a_opB a_section a_length a_role a_labelAt a_used a_local a_global a_weak a_faulty a_list a_chosen a_order a_lengthened a_at a_keptAt a_keptSymbol a_keptList a_image a_sizes a_words a_apart a_partA a_partN a_wide a_r a_output := by
  have hv : vp_in (nI k) 144 := vp_in_nI hk (by omega)
  have hc : (nI k).toNatClampNeg = k := nI_clamp (by omega)
  have hs := lk_sz12 (a := a_opA) (b := a_opB) (W := W) ho (by omega) (by omega) p
  have hsz : lk_sz a_op a_opA a_opB W k p = if (decide (lk_sz a_op a_opA a_opB W k p = 2)) = true then 2 else 1 := by
    rcases hs with e | e <;> rw [e] <;> rfl
  have hz : p + (if (decide (lk_sz a_op a_opA a_opB W k p = 2)) = true then 2 else 1) ≤ 256 := by rw [← hsz]; exact hp3
  have hreg : ∃ n, n < 8 ∧ a_opA k = nI n := hok.2.2.2.2.2.2 (by rw [ho]; decide)
  unfold wX_encode_35
  refine ⟨hv, nm_r (e' := nI p) (by rw [hc]; exact hat) (br_f (by decide) (br_t (by decide) (br_f (by decide) (br_f (by decide) (lk_xwords hk hok hW (by omega) ?_)))))⟩
  rw [hsz]
  refine br_t (by decide) ?_
  unfold wX_encode_133 wX_encode_138
  exact br_f (by decide) ⟨hv, by rw [hc]; exact (lk_xe179 (tw := decide (lk_sz a_op a_opA a_opB W k p = 2)) (rb := true) hk (by omega) (fun _ => hreg) hz hp)⟩
theorem lk_xe6 {post : SX → Prop} {W : Nat → Bool} {k p : Nat} {x3 x4 : Int32} (hk : k < 144) (ho : a_op k = nI 6) (hok : ly_ok (a_op k) (a_opA k) (a_opB k)) (hW : a_lengthened k = ly_b (W k)) (hat : a_at k = nI p) (hp3 : p + lk_sz a_op a_opA a_opB W k p ≤ 256)
    (hp : post (f_origin, f_culprit, f_strip, f_listed, f_units, f_ordered, f_textEnd, f_end, f_longs, f_rounds, f_keptListed, f_entry, f_linked, f_pc, f_steps, f_outs, f_ran, a_op, a_opA, a_opB, a_section, a_length, a_role, a_labelAt, a_used, a_local, a_global, a_weak, a_faulty, a_list, a_chosen, a_order, a_lengthened, a_at, a_keptAt, a_keptSymbol, a_keptList, if (decide (lk_sz a_op a_opA a_opB W k p = 2)) = true then upd (upd a_image p ((((nI 6 <<< ((24 : Int32) &&& 31)) + (if true = true then (a_opA k) <<< ((20 : Int32) &&& 31) else 0)) + (if (decide (lk_sz a_op a_opA a_opB W k p = 2)) = true then 65536 else 0)) + (a_opB k &&& 65535))) (p + 1) (if nI 6 = 1 then a_opB k else x4) else upd a_image p ((((nI 6 <<< ((24 : Int32) &&& 31)) + (if true = true then (a_opA k) <<< ((20 : Int32) &&& 31) else 0)) + (if (decide (lk_sz a_op a_opA a_opB W k p = 2)) = true then 65536 else 0)) + (a_opB k &&& 65535)), a_sizes, a_words, a_apart, a_partA, a_partN, a_wide, a_r, a_output)) : wX_encode_35 post (nI k) (nI 6) x3 x4 f_origin f_culprit f_strip f_listed f_units f_ordered f_textEnd f_end f_longs f_rounds f_keptListed f_entry f_linked f_pc f_steps f_outs f_ran a_op a_opA a_opB a_section a_length a_role a_labelAt a_used a_local a_global a_weak a_faulty a_list a_chosen a_order a_lengthened a_at a_keptAt a_keptSymbol a_keptList a_image a_sizes a_words a_apart a_partA a_partN a_wide a_r a_output := by
  have hv : vp_in (nI k) 144 := vp_in_nI hk (by omega)
  have hc : (nI k).toNatClampNeg = k := nI_clamp (by omega)
  have hs := lk_sz12 (a := a_opA) (b := a_opB) (W := W) ho (by omega) (by omega) p
  have hsz : lk_sz a_op a_opA a_opB W k p = if (decide (lk_sz a_op a_opA a_opB W k p = 2)) = true then 2 else 1 := by
    rcases hs with e | e <;> rw [e] <;> rfl
  have hz : p + (if (decide (lk_sz a_op a_opA a_opB W k p = 2)) = true then 2 else 1) ≤ 256 := by rw [← hsz]; exact hp3
  have hreg : ∃ n, n < 8 ∧ a_opA k = nI n := hok.2.2.2.2.2.2 (by rw [ho]; decide)
  unfold wX_encode_35
  refine ⟨hv, nm_r (e' := nI p) (by rw [hc]; exact hat) (br_f (by decide) (br_t (by decide) (br_f (by decide) (br_f (by decide) (lk_xwords hk hok hW (by omega) ?_)))))⟩
  rw [hsz]
  refine br_t (by decide) ?_
  unfold wX_encode_133 wX_encode_138
  exact br_f (by decide) ⟨hv, by rw [hc]; exact (lk_xe179 (tw := decide (lk_sz a_op a_opA a_opB W k p = 2)) (rb := true) hk (by omega) (fun _ => hreg) hz hp)⟩
theorem lk_xe7 {post : SX → Prop} {W : Nat → Bool} {k p : Nat} {x3 x4 : Int32} (hk : k < 144) (ho : a_op k = nI 7) (hok : ly_ok (a_op k) (a_opA k) (a_opB k)) (hW : a_lengthened k = ly_b (W k)) (hat : a_at k = nI p) (hp3 : p + lk_sz a_op a_opA a_opB W k p ≤ 256)
    (hp : post (f_origin, f_culprit, f_strip, f_listed, f_units, f_ordered, f_textEnd, f_end, f_longs, f_rounds, f_keptListed, f_entry, f_linked, f_pc, f_steps, f_outs, f_ran, a_op, a_opA, a_opB, a_section, a_length, a_role, a_labelAt, a_used, a_local, a_global, a_weak, a_faulty, a_list, a_chosen, a_order, a_lengthened, a_at, a_keptAt, a_keptSymbol, a_keptList, if (decide (lk_sz a_op a_opA a_opB W k p = 2)) = true then upd (upd a_image p ((((nI 7 <<< ((24 : Int32) &&& 31)) + (if true = true then (a_opA k) <<< ((20 : Int32) &&& 31) else 0)) + (if (decide (lk_sz a_op a_opA a_opB W k p = 2)) = true then 65536 else 0)) + (a_opB k &&& 65535))) (p + 1) (if nI 7 = 1 then a_opB k else x4) else upd a_image p ((((nI 7 <<< ((24 : Int32) &&& 31)) + (if true = true then (a_opA k) <<< ((20 : Int32) &&& 31) else 0)) + (if (decide (lk_sz a_op a_opA a_opB W k p = 2)) = true then 65536 else 0)) + (a_opB k &&& 65535)), a_sizes, a_words, a_apart, a_partA, a_partN, a_wide, a_r, a_output)) : wX_encode_35 post (nI k) (nI 7) x3 x4 f_origin f_culprit f_strip f_listed f_units f_ordered f_textEnd f_end f_longs f_rounds f_keptListed f_entry f_linked f_pc f_steps f_outs f_ran a_op a_opA a_opB a_section a_length a_role a_labelAt a_used a_local a_global a_weak a_faulty a_list a_chosen a_order a_lengthened a_at a_keptAt a_keptSymbol a_keptList a_image a_sizes a_words a_apart a_partA a_partN a_wide a_r a_output := by
  have hv : vp_in (nI k) 144 := vp_in_nI hk (by omega)
  have hc : (nI k).toNatClampNeg = k := nI_clamp (by omega)
  have hs := lk_sz12 (a := a_opA) (b := a_opB) (W := W) ho (by omega) (by omega) p
  have hsz : lk_sz a_op a_opA a_opB W k p = if (decide (lk_sz a_op a_opA a_opB W k p = 2)) = true then 2 else 1 := by
    rcases hs with e | e <;> rw [e] <;> rfl
  have hz : p + (if (decide (lk_sz a_op a_opA a_opB W k p = 2)) = true then 2 else 1) ≤ 256 := by rw [← hsz]; exact hp3
  have hreg : ∃ n, n < 8 ∧ a_opA k = nI n := hok.2.2.2.2.2.2 (by rw [ho]; decide)
  unfold wX_encode_35
  refine ⟨hv, nm_r (e' := nI p) (by rw [hc]; exact hat) (br_f (by decide) (br_t (by decide) (br_f (by decide) (br_f (by decide) (lk_xwords hk hok hW (by omega) ?_)))))⟩
  rw [hsz]
  refine br_t (by decide) ?_
  unfold wX_encode_133 wX_encode_138
  exact br_f (by decide) ⟨hv, by rw [hc]; exact (lk_xe179 (tw := decide (lk_sz a_op a_opA a_opB W k p = 2)) (rb := true) hk (by omega) (fun _ => hreg) hz hp)⟩
theorem lk_xe8 {post : SX → Prop} {W : Nat → Bool} {k p : Nat} {x3 x4 : Int32} (hk : k < 144) (ho : a_op k = nI 8) (hok : ly_ok (a_op k) (a_opA k) (a_opB k)) (hW : a_lengthened k = ly_b (W k)) (hat : a_at k = nI p) (hp3 : p + lk_sz a_op a_opA a_opB W k p ≤ 256) (h3 : ¬ x3 < 0)
    (hp : post (f_origin, f_culprit, f_strip, f_listed, f_units, f_ordered, f_textEnd, f_end, f_longs, f_rounds, f_keptListed, f_entry, f_linked, f_pc, f_steps, f_outs, f_ran, a_op, a_opA, a_opB, a_section, a_length, a_role, a_labelAt, a_used, a_local, a_global, a_weak, a_faulty, a_list, a_chosen, a_order, a_lengthened, a_at, a_keptAt, a_keptSymbol, a_keptList, if (decide (lk_sz a_op a_opA a_opB W k p = 2)) = true then upd (upd a_image p ((((nI 8 <<< ((24 : Int32) &&& 31)) + (if false = true then (a_opA k) <<< ((20 : Int32) &&& 31) else 0)) + (if (decide (lk_sz a_op a_opA a_opB W k p = 2)) = true then 65536 else 0)) + ((x4 - nI p) &&& 65535))) (p + 1) (if nI 8 = 1 then a_opB k else x4) else upd a_image p ((((nI 8 <<< ((24 : Int32) &&& 31)) + (if false = true then (a_opA k) <<< ((20 : Int32) &&& 31) else 0)) + (if (decide (lk_sz a_op a_opA a_opB W k p = 2)) = true then 65536 else 0)) + ((x4 - nI p) &&& 65535)), a_sizes, a_words, a_apart, a_partA, a_partN, a_wide, a_r, a_output)) : wX_encode_35 post (nI k) (nI 8) x3 x4 f_origin f_culprit f_strip f_listed f_units f_ordered f_textEnd f_end f_longs f_rounds f_keptListed f_entry f_linked f_pc f_steps f_outs f_ran a_op a_opA a_opB a_section a_length a_role a_labelAt a_used a_local a_global a_weak a_faulty a_list a_chosen a_order a_lengthened a_at a_keptAt a_keptSymbol a_keptList a_image a_sizes a_words a_apart a_partA a_partN a_wide a_r a_output := by
  have hv : vp_in (nI k) 144 := vp_in_nI hk (by omega)
  have hc : (nI k).toNatClampNeg = k := nI_clamp (by omega)
  have hs := lk_sz12 (a := a_opA) (b := a_opB) (W := W) ho (by omega) (by omega) p
  have hsz : lk_sz a_op a_opA a_opB W k p = if (decide (lk_sz a_op a_opA a_opB W k p = 2)) = true then 2 else 1 := by
    rcases hs with e | e <;> rw [e] <;> rfl
  have hz : p + (if (decide (lk_sz a_op a_opA a_opB W k p = 2)) = true then 2 else 1) ≤ 256 := by rw [← hsz]; exact hp3
  unfold wX_encode_35
  refine ⟨hv, nm_r (e' := nI p) (by rw [hc]; exact hat) (br_f (by decide) (br_t (by decide) (br_f (by decide) (br_f (by decide) (lk_xwords hk hok hW (by omega) ?_)))))⟩
  rw [hsz]
  refine br_f (by decide) (br_f (by decide) (br_f (by decide) (br_f (by decide) ?_)))
  unfold wX_encode_138
  exact br_t (by decide) (br_f (by decide) (br_f h3 (lk_xe179 (tw := decide (lk_sz a_op a_opA a_opB W k p = 2)) (rb := false) hk (by omega) (fun h => nomatch h) hz hp)))
theorem lk_xe9 {post : SX → Prop} {W : Nat → Bool} {k p : Nat} {x3 x4 : Int32} (hk : k < 144) (ho : a_op k = nI 9) (hok : ly_ok (a_op k) (a_opA k) (a_opB k)) (hW : a_lengthened k = ly_b (W k)) (hat : a_at k = nI p) (hp3 : p + lk_sz a_op a_opA a_opB W k p ≤ 256) (h3 : ¬ x3 < 0)
    (hp : post (f_origin, f_culprit, f_strip, f_listed, f_units, f_ordered, f_textEnd, f_end, f_longs, f_rounds, f_keptListed, f_entry, f_linked, f_pc, f_steps, f_outs, f_ran, a_op, a_opA, a_opB, a_section, a_length, a_role, a_labelAt, a_used, a_local, a_global, a_weak, a_faulty, a_list, a_chosen, a_order, a_lengthened, a_at, a_keptAt, a_keptSymbol, a_keptList, if (decide (lk_sz a_op a_opA a_opB W k p = 2)) = true then upd (upd a_image p ((((nI 9 <<< ((24 : Int32) &&& 31)) + (if true = true then (a_opA k) <<< ((20 : Int32) &&& 31) else 0)) + (if (decide (lk_sz a_op a_opA a_opB W k p = 2)) = true then 65536 else 0)) + ((x4 - nI p) &&& 65535))) (p + 1) (if nI 9 = 1 then a_opB k else x4) else upd a_image p ((((nI 9 <<< ((24 : Int32) &&& 31)) + (if true = true then (a_opA k) <<< ((20 : Int32) &&& 31) else 0)) + (if (decide (lk_sz a_op a_opA a_opB W k p = 2)) = true then 65536 else 0)) + ((x4 - nI p) &&& 65535)), a_sizes, a_words, a_apart, a_partA, a_partN, a_wide, a_r, a_output)) : wX_encode_35 post (nI k) (nI 9) x3 x4 f_origin f_culprit f_strip f_listed f_units f_ordered f_textEnd f_end f_longs f_rounds f_keptListed f_entry f_linked f_pc f_steps f_outs f_ran a_op a_opA a_opB a_section a_length a_role a_labelAt a_used a_local a_global a_weak a_faulty a_list a_chosen a_order a_lengthened a_at a_keptAt a_keptSymbol a_keptList a_image a_sizes a_words a_apart a_partA a_partN a_wide a_r a_output := by
  have hv : vp_in (nI k) 144 := vp_in_nI hk (by omega)
  have hc : (nI k).toNatClampNeg = k := nI_clamp (by omega)
  have hs := lk_sz12 (a := a_opA) (b := a_opB) (W := W) ho (by omega) (by omega) p
  have hsz : lk_sz a_op a_opA a_opB W k p = if (decide (lk_sz a_op a_opA a_opB W k p = 2)) = true then 2 else 1 := by
    rcases hs with e | e <;> rw [e] <;> rfl
  have hz : p + (if (decide (lk_sz a_op a_opA a_opB W k p = 2)) = true then 2 else 1) ≤ 256 := by rw [← hsz]; exact hp3
  have hreg : ∃ n, n < 8 ∧ a_opA k = nI n := hok.2.2.2.2.2.2 (by rw [ho]; decide)
  unfold wX_encode_35
  refine ⟨hv, nm_r (e' := nI p) (by rw [hc]; exact hat) (br_f (by decide) (br_t (by decide) (br_f (by decide) (br_f (by decide) (lk_xwords hk hok hW (by omega) ?_)))))⟩
  rw [hsz]
  refine br_f (by decide) (br_t (by decide) ?_)
  unfold wX_encode_133 wX_encode_138
  exact br_t (by decide) (br_f (by decide) (br_f h3 (lk_xe179 (tw := decide (lk_sz a_op a_opA a_opB W k p = 2)) (rb := true) hk (by omega) (fun _ => hreg) hz hp)))
theorem lk_xe10 {post : SX → Prop} {W : Nat → Bool} {k p : Nat} {x3 x4 : Int32} (hk : k < 144) (ho : a_op k = nI 10) (hok : ly_ok (a_op k) (a_opA k) (a_opB k)) (hW : a_lengthened k = ly_b (W k)) (hat : a_at k = nI p) (hp3 : p + lk_sz a_op a_opA a_opB W k p ≤ 256) (h3 : ¬ x3 < 0)
    (hp : post (f_origin, f_culprit, f_strip, f_listed, f_units, f_ordered, f_textEnd, f_end, f_longs, f_rounds, f_keptListed, f_entry, f_linked, f_pc, f_steps, f_outs, f_ran, a_op, a_opA, a_opB, a_section, a_length, a_role, a_labelAt, a_used, a_local, a_global, a_weak, a_faulty, a_list, a_chosen, a_order, a_lengthened, a_at, a_keptAt, a_keptSymbol, a_keptList, if (decide (lk_sz a_op a_opA a_opB W k p = 2)) = true then upd (upd a_image p ((((nI 10 <<< ((24 : Int32) &&& 31)) + (if false = true then (a_opA k) <<< ((20 : Int32) &&& 31) else 0)) + (if (decide (lk_sz a_op a_opA a_opB W k p = 2)) = true then 65536 else 0)) + ((x4 - nI p) &&& 65535))) (p + 1) (if nI 10 = 1 then a_opB k else x4) else upd a_image p ((((nI 10 <<< ((24 : Int32) &&& 31)) + (if false = true then (a_opA k) <<< ((20 : Int32) &&& 31) else 0)) + (if (decide (lk_sz a_op a_opA a_opB W k p = 2)) = true then 65536 else 0)) + ((x4 - nI p) &&& 65535)), a_sizes, a_words, a_apart, a_partA, a_partN, a_wide, a_r, a_output)) : wX_encode_35 post (nI k) (nI 10) x3 x4 f_origin f_culprit f_strip f_listed f_units f_ordered f_textEnd f_end f_longs f_rounds f_keptListed f_entry f_linked f_pc f_steps f_outs f_ran a_op a_opA a_opB a_section a_length a_role a_labelAt a_used a_local a_global a_weak a_faulty a_list a_chosen a_order a_lengthened a_at a_keptAt a_keptSymbol a_keptList a_image a_sizes a_words a_apart a_partA a_partN a_wide a_r a_output := by
  have hv : vp_in (nI k) 144 := vp_in_nI hk (by omega)
  have hc : (nI k).toNatClampNeg = k := nI_clamp (by omega)
  have hs := lk_sz12 (a := a_opA) (b := a_opB) (W := W) ho (by omega) (by omega) p
  have hsz : lk_sz a_op a_opA a_opB W k p = if (decide (lk_sz a_op a_opA a_opB W k p = 2)) = true then 2 else 1 := by
    rcases hs with e | e <;> rw [e] <;> rfl
  have hz : p + (if (decide (lk_sz a_op a_opA a_opB W k p = 2)) = true then 2 else 1) ≤ 256 := by rw [← hsz]; exact hp3
  unfold wX_encode_35
  refine ⟨hv, nm_r (e' := nI p) (by rw [hc]; exact hat) (br_f (by decide) (br_t (by decide) (br_f (by decide) (br_f (by decide) (lk_xwords hk hok hW (by omega) ?_)))))⟩
  rw [hsz]
  refine br_f (by decide) (br_f (by decide) (br_f (by decide) (br_f (by decide) ?_)))
  unfold wX_encode_138
  exact br_t (by decide) (br_f (by decide) (br_f h3 (lk_xe179 (tw := decide (lk_sz a_op a_opA a_opB W k p = 2)) (rb := false) hk (by omega) (fun h => nomatch h) hz hp)))
theorem lk_xe11 {post : SX → Prop} {W : Nat → Bool} {k p : Nat} {x3 x4 : Int32} (hk : k < 144) (ho : a_op k = nI 11) (hok : ly_ok (a_op k) (a_opA k) (a_opB k)) (hW : a_lengthened k = ly_b (W k)) (hat : a_at k = nI p) (hp3 : p + lk_sz a_op a_opA a_opB W k p ≤ 256) (h3 : x3 < 0)
    (hp : post (f_origin, f_culprit, f_strip, f_listed, f_units, f_ordered, f_textEnd, f_end, f_longs, f_rounds, f_keptListed, f_entry, f_linked, f_pc, f_steps, f_outs, f_ran, a_op, a_opA, a_opB, a_section, a_length, a_role, a_labelAt, a_used, a_local, a_global, a_weak, a_faulty, a_list, a_chosen, a_order, a_lengthened, a_at, a_keptAt, a_keptSymbol, a_keptList, if (decide (lk_sz a_op a_opA a_opB W k p = 2)) = true then upd (upd a_image p ((((nI 11 <<< ((24 : Int32) &&& 31)) + (if false = true then (a_opA k) <<< ((20 : Int32) &&& 31) else 0)) + (if (decide (lk_sz a_op a_opA a_opB W k p = 2)) = true then 65536 else 0)) + (0 &&& 65535))) (p + 1) (if nI 11 = 1 then a_opB k else x4) else upd a_image p ((((nI 11 <<< ((24 : Int32) &&& 31)) + (if false = true then (a_opA k) <<< ((20 : Int32) &&& 31) else 0)) + (if (decide (lk_sz a_op a_opA a_opB W k p = 2)) = true then 65536 else 0)) + (0 &&& 65535)), a_sizes, a_words, a_apart, a_partA, a_partN, a_wide, a_r, a_output)) : wX_encode_35 post (nI k) (nI 11) x3 x4 f_origin f_culprit f_strip f_listed f_units f_ordered f_textEnd f_end f_longs f_rounds f_keptListed f_entry f_linked f_pc f_steps f_outs f_ran a_op a_opA a_opB a_section a_length a_role a_labelAt a_used a_local a_global a_weak a_faulty a_list a_chosen a_order a_lengthened a_at a_keptAt a_keptSymbol a_keptList a_image a_sizes a_words a_apart a_partA a_partN a_wide a_r a_output := by
  have hv : vp_in (nI k) 144 := vp_in_nI hk (by omega)
  have hc : (nI k).toNatClampNeg = k := nI_clamp (by omega)
  have hs := lk_sz12 (a := a_opA) (b := a_opB) (W := W) ho (by omega) (by omega) p
  have hsz : lk_sz a_op a_opA a_opB W k p = if (decide (lk_sz a_op a_opA a_opB W k p = 2)) = true then 2 else 1 := by
    rcases hs with e | e <;> rw [e] <;> rfl
  have hz : p + (if (decide (lk_sz a_op a_opA a_opB W k p = 2)) = true then 2 else 1) ≤ 256 := by rw [← hsz]; exact hp3
  unfold wX_encode_35
  refine ⟨hv, nm_r (e' := nI p) (by rw [hc]; exact hat) (br_f (by decide) (br_t (by decide) (br_f (by decide) (br_f (by decide) (lk_xwords hk hok hW (by omega) ?_)))))⟩
  rw [hsz]
  refine br_f (by decide) (br_f (by decide) (br_f (by decide) (br_f (by decide) ?_)))
  unfold wX_encode_138
  exact br_t (by decide) (br_f (by decide) (br_t h3 (lk_xe179 (tw := decide (lk_sz a_op a_opA a_opB W k p = 2)) (rb := false) hk (by omega) (fun h => nomatch h) hz hp)))
theorem lk_xe12 {post : SX → Prop} {W : Nat → Bool} {k p : Nat} {x3 x4 : Int32} (hk : k < 144) (ho : a_op k = nI 12) (hok : ly_ok (a_op k) (a_opA k) (a_opB k)) (hW : a_lengthened k = ly_b (W k)) (hat : a_at k = nI p) (hp3 : p + lk_sz a_op a_opA a_opB W k p ≤ 256)
    (hp : post (f_origin, f_culprit, f_strip, f_listed, f_units, f_ordered, f_textEnd, f_end, f_longs, f_rounds, f_keptListed, f_entry, f_linked, f_pc, f_steps, f_outs, f_ran, a_op, a_opA, a_opB, a_section, a_length, a_role, a_labelAt, a_used, a_local, a_global, a_weak, a_faulty, a_list, a_chosen, a_order, a_lengthened, a_at, a_keptAt, a_keptSymbol, a_keptList, if (decide (lk_sz a_op a_opA a_opB W k p = 2)) = true then upd (upd a_image p ((((nI 12 <<< ((24 : Int32) &&& 31)) + (if true = true then (a_opA k) <<< ((20 : Int32) &&& 31) else 0)) + (if (decide (lk_sz a_op a_opA a_opB W k p = 2)) = true then 65536 else 0)) + (x4 &&& 65535))) (p + 1) (if nI 12 = 1 then a_opB k else x4) else upd a_image p ((((nI 12 <<< ((24 : Int32) &&& 31)) + (if true = true then (a_opA k) <<< ((20 : Int32) &&& 31) else 0)) + (if (decide (lk_sz a_op a_opA a_opB W k p = 2)) = true then 65536 else 0)) + (x4 &&& 65535)), a_sizes, a_words, a_apart, a_partA, a_partN, a_wide, a_r, a_output)) : wX_encode_35 post (nI k) (nI 12) x3 x4 f_origin f_culprit f_strip f_listed f_units f_ordered f_textEnd f_end f_longs f_rounds f_keptListed f_entry f_linked f_pc f_steps f_outs f_ran a_op a_opA a_opB a_section a_length a_role a_labelAt a_used a_local a_global a_weak a_faulty a_list a_chosen a_order a_lengthened a_at a_keptAt a_keptSymbol a_keptList a_image a_sizes a_words a_apart a_partA a_partN a_wide a_r a_output := by
  have hv : vp_in (nI k) 144 := vp_in_nI hk (by omega)
  have hc : (nI k).toNatClampNeg = k := nI_clamp (by omega)
  have hs := lk_sz12 (a := a_opA) (b := a_opB) (W := W) ho (by omega) (by omega) p
  have hsz : lk_sz a_op a_opA a_opB W k p = if (decide (lk_sz a_op a_opA a_opB W k p = 2)) = true then 2 else 1 := by
    rcases hs with e | e <;> rw [e] <;> rfl
  have hz : p + (if (decide (lk_sz a_op a_opA a_opB W k p = 2)) = true then 2 else 1) ≤ 256 := by rw [← hsz]; exact hp3
  have hreg : ∃ n, n < 8 ∧ a_opA k = nI n := hok.2.2.2.2.2.2 (by rw [ho]; decide)
  unfold wX_encode_35
  refine ⟨hv, nm_r (e' := nI p) (by rw [hc]; exact hat) (br_f (by decide) (br_t (by decide) (br_f (by decide) (br_f (by decide) (lk_xwords hk hok hW (by omega) ?_)))))⟩
  rw [hsz]
  refine br_f (by decide) (br_f (by decide) (br_t (by decide) ?_))
  unfold wX_encode_133 wX_encode_138
  exact br_t (by decide) (br_t (by decide) (lk_xe179 (tw := decide (lk_sz a_op a_opA a_opB W k p = 2)) (rb := true) hk (by omega) (fun _ => hreg) hz hp))
theorem lk_xe13 {post : SX → Prop} {W : Nat → Bool} {k p : Nat} {x3 x4 : Int32} (hk : k < 144) (ho : a_op k = nI 13) (hok : ly_ok (a_op k) (a_opA k) (a_opB k)) (hW : a_lengthened k = ly_b (W k)) (hat : a_at k = nI p) (hp3 : p + lk_sz a_op a_opA a_opB W k p ≤ 256) (h3 : x3 < 0)
    (hp : post (f_origin, f_culprit, f_strip, f_listed, f_units, f_ordered, f_textEnd, f_end, f_longs, f_rounds, f_keptListed, f_entry, f_linked, f_pc, f_steps, f_outs, f_ran, a_op, a_opA, a_opB, a_section, a_length, a_role, a_labelAt, a_used, a_local, a_global, a_weak, a_faulty, a_list, a_chosen, a_order, a_lengthened, a_at, a_keptAt, a_keptSymbol, a_keptList, if (decide (lk_sz a_op a_opA a_opB W k p = 2)) = true then upd (upd a_image p ((((nI 13 <<< ((24 : Int32) &&& 31)) + (if true = true then (a_opA k) <<< ((20 : Int32) &&& 31) else 0)) + (if (decide (lk_sz a_op a_opA a_opB W k p = 2)) = true then 65536 else 0)) + (0 &&& 65535))) (p + 1) (if nI 13 = 1 then a_opB k else x4) else upd a_image p ((((nI 13 <<< ((24 : Int32) &&& 31)) + (if true = true then (a_opA k) <<< ((20 : Int32) &&& 31) else 0)) + (if (decide (lk_sz a_op a_opA a_opB W k p = 2)) = true then 65536 else 0)) + (0 &&& 65535)), a_sizes, a_words, a_apart, a_partA, a_partN, a_wide, a_r, a_output)) : wX_encode_35 post (nI k) (nI 13) x3 x4 f_origin f_culprit f_strip f_listed f_units f_ordered f_textEnd f_end f_longs f_rounds f_keptListed f_entry f_linked f_pc f_steps f_outs f_ran a_op a_opA a_opB a_section a_length a_role a_labelAt a_used a_local a_global a_weak a_faulty a_list a_chosen a_order a_lengthened a_at a_keptAt a_keptSymbol a_keptList a_image a_sizes a_words a_apart a_partA a_partN a_wide a_r a_output := by
  have hv : vp_in (nI k) 144 := vp_in_nI hk (by omega)
  have hc : (nI k).toNatClampNeg = k := nI_clamp (by omega)
  have hs := lk_sz12 (a := a_opA) (b := a_opB) (W := W) ho (by omega) (by omega) p
  have hsz : lk_sz a_op a_opA a_opB W k p = if (decide (lk_sz a_op a_opA a_opB W k p = 2)) = true then 2 else 1 := by
    rcases hs with e | e <;> rw [e] <;> rfl
  have hz : p + (if (decide (lk_sz a_op a_opA a_opB W k p = 2)) = true then 2 else 1) ≤ 256 := by rw [← hsz]; exact hp3
  have hreg : ∃ n, n < 8 ∧ a_opA k = nI n := hok.2.2.2.2.2.2 (by rw [ho]; decide)
  unfold wX_encode_35
  refine ⟨hv, nm_r (e' := nI p) (by rw [hc]; exact hat) (br_f (by decide) (br_t (by decide) (br_f (by decide) (br_f (by decide) (lk_xwords hk hok hW (by omega) ?_)))))⟩
  rw [hsz]
  refine br_f (by decide) (br_f (by decide) (br_f (by decide) (br_t (by decide) ?_)))
  unfold wX_encode_133 wX_encode_138
  exact br_t (by decide) (br_f (by decide) (br_t h3 (lk_xe179 (tw := decide (lk_sz a_op a_opA a_opB W k p = 2)) (rb := true) hk (by omega) (fun _ => hreg) hz hp)))
theorem lk_xe14 {post : SX → Prop} {W : Nat → Bool} {k p : Nat} {x3 x4 : Int32} (hk : k < 144) (ho : a_op k = nI 14) (hok : ly_ok (a_op k) (a_opA k) (a_opB k)) (hW : a_lengthened k = ly_b (W k)) (hat : a_at k = nI p) (hp3 : p + lk_sz a_op a_opA a_opB W k p ≤ 256) (h3 : x3 < 0)
    (hp : post (f_origin, f_culprit, f_strip, f_listed, f_units, f_ordered, f_textEnd, f_end, f_longs, f_rounds, f_keptListed, f_entry, f_linked, f_pc, f_steps, f_outs, f_ran, a_op, a_opA, a_opB, a_section, a_length, a_role, a_labelAt, a_used, a_local, a_global, a_weak, a_faulty, a_list, a_chosen, a_order, a_lengthened, a_at, a_keptAt, a_keptSymbol, a_keptList, if (decide (lk_sz a_op a_opA a_opB W k p = 2)) = true then upd (upd a_image p ((((nI 14 <<< ((24 : Int32) &&& 31)) + (if false = true then (a_opA k) <<< ((20 : Int32) &&& 31) else 0)) + (if (decide (lk_sz a_op a_opA a_opB W k p = 2)) = true then 65536 else 0)) + (0 &&& 65535))) (p + 1) (if nI 14 = 1 then a_opB k else x4) else upd a_image p ((((nI 14 <<< ((24 : Int32) &&& 31)) + (if false = true then (a_opA k) <<< ((20 : Int32) &&& 31) else 0)) + (if (decide (lk_sz a_op a_opA a_opB W k p = 2)) = true then 65536 else 0)) + (0 &&& 65535)), a_sizes, a_words, a_apart, a_partA, a_partN, a_wide, a_r, a_output)) : wX_encode_35 post (nI k) (nI 14) x3 x4 f_origin f_culprit f_strip f_listed f_units f_ordered f_textEnd f_end f_longs f_rounds f_keptListed f_entry f_linked f_pc f_steps f_outs f_ran a_op a_opA a_opB a_section a_length a_role a_labelAt a_used a_local a_global a_weak a_faulty a_list a_chosen a_order a_lengthened a_at a_keptAt a_keptSymbol a_keptList a_image a_sizes a_words a_apart a_partA a_partN a_wide a_r a_output := by
  have hv : vp_in (nI k) 144 := vp_in_nI hk (by omega)
  have hc : (nI k).toNatClampNeg = k := nI_clamp (by omega)
  have hs := lk_sz12 (a := a_opA) (b := a_opB) (W := W) ho (by omega) (by omega) p
  have hsz : lk_sz a_op a_opA a_opB W k p = if (decide (lk_sz a_op a_opA a_opB W k p = 2)) = true then 2 else 1 := by
    rcases hs with e | e <;> rw [e] <;> rfl
  have hz : p + (if (decide (lk_sz a_op a_opA a_opB W k p = 2)) = true then 2 else 1) ≤ 256 := by rw [← hsz]; exact hp3
  unfold wX_encode_35
  refine ⟨hv, nm_r (e' := nI p) (by rw [hc]; exact hat) (br_f (by decide) (br_t (by decide) (br_f (by decide) (br_f (by decide) (lk_xwords hk hok hW (by omega) ?_)))))⟩
  rw [hsz]
  refine br_f (by decide) (br_f (by decide) (br_f (by decide) (br_f (by decide) ?_)))
  unfold wX_encode_138
  exact br_t (by decide) (br_f (by decide) (br_t h3 (lk_xe179 (tw := decide (lk_sz a_op a_opA a_opB W k p = 2)) (rb := false) hk (by omega) (fun h => nomatch h) hz hp)))
theorem lk_szW {o a b : Nat → Int32} {W : Nat → Bool} {k j : Nat} (ho : o k = nI j) (h1 : 2 ≤ j) (h2 : j ≤ 16) (hWj : W k = true → lk_jm (o k) = true) (hno : lk_jm (o k) = false) (p : Nat) : ¬ lk_sz o a b W k p = 2 := by
  have ne : ∀ q, q < 100 → j ≠ q → ¬ o k = nI q := fun q hq h => by rw [ho, nI_eq (by omega) (by omega)]; exact h
  unfold lk_sz
  rw [if_neg (show ¬ o k = 0 from ne 0 (by omega) (by omega)), if_neg (show ¬ o k = 1 from ne 1 (by omega) (by omega)), if_neg (show ¬ o k = 17 from ne 17 (by omega) (by omega)), if_neg (show ¬ o k = 18 from ne 18 (by omega) (by omega)), if_neg (show ¬ o k = 19 from ne 19 (by omega) (by omega)), if_neg (fun h => by rw [hWj h] at hno; cases hno)]
  omega
theorem lk_em_w {o a b : Nat → Int32} {L : Nat → Nat} {ms : List Nat} {W : Nat → Bool} {P : Nat → Int32} {k j p : Nat} {img : Nat → Int32} (ho : o k = nI j) (h1 : 1 ≤ j) (h14 : j ≤ 14) (hP : P k = nI p) (hp : p < 2 ^ 31) :
    lk_em o a b L ms W P img k = if (decide (lk_sz o a b W k p = 2)) = true then upd (upd img p (lk_w1 o a b L ms W P k)) (p + 1) (lk_gv o a b L ms P k) else upd img p (lk_w1 o a b L ms W P k) := by
  have ne : ∀ q, q < 100 → j ≠ q → ¬ o k = nI q := fun q hq h => by rw [ho, nI_eq (by omega) (by omega)]; exact h
  have hle : o k ≤ 16 := by rw [ho]; exact nI_le (b := 16) (by omega) (by omega)
  unfold lk_em lk_tw
  rw [if_neg (show ¬ o k = 0 from ne 0 (by omega) (by omega)), if_pos hle, if_neg (show ¬ o k = 15 from ne 15 (by omega) (by omega)), if_neg (show ¬ o k = 16 from ne 16 (by omega) (by omega)), hP, nI_clamp hp]
theorem lk_w1_e {o a b : Nat → Int32} {L : Nat → Nat} {ms : List Nat} {W : Nat → Bool} {P : Nat → Int32} {k j p : Nat} {rb : Bool} {l : Int32} (ho : o k = nI j) (hP : P k = nI p) (hp : p < 2 ^ 31) (hr : ly_rg (nI j) = rb) (hl : lk_lv o a b L ms P k = l) :
    lk_w1 o a b L ms W P k = ((((nI j <<< ((24 : Int32) &&& 31)) + (if rb = true then (a k) <<< ((20 : Int32) &&& 31) else 0)) + (if (decide (lk_sz o a b W k p = 2)) = true then 65536 else 0)) + (l &&& 65535)) := by
  unfold lk_w1 lk_rv lk_tw
  rw [ho, hr, hP, nI_clamp hp, hl]
theorem lk_xg1 {post : SX → Prop} {W : Nat → Bool} {P : Nat → Int32} {k p : Nat} {x3 : Int32} (hk : k < 144) (ho : a_op k = nI 1) (hok : ly_ok (a_op k) (a_opA k) (a_opB k)) (hW : a_lengthened k = ly_b (W k)) (hWj : ∀ k, W k = true → lk_jm (a_op k) = true) (hat : a_at k = nI p) (hP : P k = nI p) (hp3 : p + lk_sz a_op a_opA a_opB W k p ≤ 256)
    (hp : post (f_origin, f_culprit, f_strip, f_listed, f_units, f_ordered, f_textEnd, f_end, f_longs, f_rounds, f_keptListed, f_entry, f_linked, f_pc, f_steps, f_outs, f_ran, a_op, a_opA, a_opB, a_section, a_length, a_role, a_labelAt, a_used, a_local, a_global, a_weak, a_faulty, a_list, a_chosen, a_order, a_lengthened, a_at, a_keptAt, a_keptSymbol, a_keptList, lk_em a_op a_opA a_opB L ms W P a_image k, a_sizes, a_words, a_apart, a_partA, a_partN, a_wide, a_r, a_output)) : wX_encode_35 post (nI k) (nI 1) x3 (0) f_origin f_culprit f_strip f_listed f_units f_ordered f_textEnd f_end f_longs f_rounds f_keptListed f_entry f_linked f_pc f_steps f_outs f_ran a_op a_opA a_opB a_section a_length a_role a_labelAt a_used a_local a_global a_weak a_faulty a_list a_chosen a_order a_lengthened a_at a_keptAt a_keptSymbol a_keptList a_image a_sizes a_words a_apart a_partA a_partN a_wide a_r a_output := by
  rw [lk_em_w ho (by omega) (by omega) hP (by omega)] at hp
  have hgv : lk_gv a_op a_opA a_opB L ms P k = a_opB k := by unfold lk_gv; rw [ho, if_neg (by decide)]
  have hlv : lk_lv a_op a_opA a_opB L ms P k = a_opB k := by unfold lk_lv; rw [ho, if_neg (by decide), if_neg (by decide), if_pos (by decide), hgv]
  have hw1 := lk_w1_e (W := W) ho hP (by omega) (show ly_rg (nI 1) = true by decide) hlv
  refine lk_xe1 hk ho hok hW hat hp3 ?_
  rw [if_pos (show nI 1 = 1 from rfl), ← hw1, ← hgv]
  exact hp
theorem lk_xg2 {post : SX → Prop} {W : Nat → Bool} {P : Nat → Int32} {k p : Nat} {x3 : Int32} (hk : k < 144) (ho : a_op k = nI 2) (hok : ly_ok (a_op k) (a_opA k) (a_opB k)) (hW : a_lengthened k = ly_b (W k)) (hWj : ∀ k, W k = true → lk_jm (a_op k) = true) (hat : a_at k = nI p) (hP : P k = nI p) (hp3 : p + lk_sz a_op a_opA a_opB W k p ≤ 256)
    (hp : post (f_origin, f_culprit, f_strip, f_listed, f_units, f_ordered, f_textEnd, f_end, f_longs, f_rounds, f_keptListed, f_entry, f_linked, f_pc, f_steps, f_outs, f_ran, a_op, a_opA, a_opB, a_section, a_length, a_role, a_labelAt, a_used, a_local, a_global, a_weak, a_faulty, a_list, a_chosen, a_order, a_lengthened, a_at, a_keptAt, a_keptSymbol, a_keptList, lk_em a_op a_opA a_opB L ms W P a_image k, a_sizes, a_words, a_apart, a_partA, a_partN, a_wide, a_r, a_output)) : wX_encode_35 post (nI k) (nI 2) x3 (0) f_origin f_culprit f_strip f_listed f_units f_ordered f_textEnd f_end f_longs f_rounds f_keptListed f_entry f_linked f_pc f_steps f_outs f_ran a_op a_opA a_opB a_section a_length a_role a_labelAt a_used a_local a_global a_weak a_faulty a_list a_chosen a_order a_lengthened a_at a_keptAt a_keptSymbol a_keptList a_image a_sizes a_words a_apart a_partA a_partN a_wide a_r a_output := by
  rw [lk_em_w ho (by omega) (by omega) hP (by omega)] at hp
  have hgv : lk_gv a_op a_opA a_opB L ms P k = a_opB k := by unfold lk_gv; rw [ho, if_neg (by decide)]
  have hlv : lk_lv a_op a_opA a_opB L ms P k = a_opB k := by unfold lk_lv; rw [ho, if_neg (by decide), if_neg (by decide), if_pos (by decide), hgv]
  have hw1 := lk_w1_e (W := W) ho hP (by omega) (show ly_rg (nI 2) = true by decide) hlv
  refine lk_xe2 hk ho hok hW hat hp3 ?_
  have hno : decide (lk_sz a_op a_opA a_opB W k p = 2) = false := decide_eq_false (fun h => by
    have := lk_szW ho (by omega) (by omega) (fun h => hWj k h) (by rw [ho]; decide) p h; exact this)
  rw [hno, if_neg (by decide)] at hp
  rw [← hw1, hno, if_neg (by decide)]
  exact hp
theorem lk_xg3 {post : SX → Prop} {W : Nat → Bool} {P : Nat → Int32} {k p : Nat} {x3 : Int32} (hk : k < 144) (ho : a_op k = nI 3) (hok : ly_ok (a_op k) (a_opA k) (a_opB k)) (hW : a_lengthened k = ly_b (W k)) (hWj : ∀ k, W k = true → lk_jm (a_op k) = true) (hat : a_at k = nI p) (hP : P k = nI p) (hp3 : p + lk_sz a_op a_opA a_opB W k p ≤ 256)
    (hp : post (f_origin, f_culprit, f_strip, f_listed, f_units, f_ordered, f_textEnd, f_end, f_longs, f_rounds, f_keptListed, f_entry, f_linked, f_pc, f_steps, f_outs, f_ran, a_op, a_opA, a_opB, a_section, a_length, a_role, a_labelAt, a_used, a_local, a_global, a_weak, a_faulty, a_list, a_chosen, a_order, a_lengthened, a_at, a_keptAt, a_keptSymbol, a_keptList, lk_em a_op a_opA a_opB L ms W P a_image k, a_sizes, a_words, a_apart, a_partA, a_partN, a_wide, a_r, a_output)) : wX_encode_35 post (nI k) (nI 3) x3 (0) f_origin f_culprit f_strip f_listed f_units f_ordered f_textEnd f_end f_longs f_rounds f_keptListed f_entry f_linked f_pc f_steps f_outs f_ran a_op a_opA a_opB a_section a_length a_role a_labelAt a_used a_local a_global a_weak a_faulty a_list a_chosen a_order a_lengthened a_at a_keptAt a_keptSymbol a_keptList a_image a_sizes a_words a_apart a_partA a_partN a_wide a_r a_output := by
  rw [lk_em_w ho (by omega) (by omega) hP (by omega)] at hp
  have hgv : lk_gv a_op a_opA a_opB L ms P k = a_opB k := by unfold lk_gv; rw [ho, if_neg (by decide)]
  have hlv : lk_lv a_op a_opA a_opB L ms P k = a_opB k := by unfold lk_lv; rw [ho, if_neg (by decide), if_neg (by decide), if_pos (by decide), hgv]
  have hw1 := lk_w1_e (W := W) ho hP (by omega) (show ly_rg (nI 3) = true by decide) hlv
  refine lk_xe3 hk ho hok hW hat hp3 ?_
  have hno : decide (lk_sz a_op a_opA a_opB W k p = 2) = false := decide_eq_false (fun h => by
    have := lk_szW ho (by omega) (by omega) (fun h => hWj k h) (by rw [ho]; decide) p h; exact this)
  rw [hno, if_neg (by decide)] at hp
  rw [← hw1, hno, if_neg (by decide)]
  exact hp
theorem lk_xg4 {post : SX → Prop} {W : Nat → Bool} {P : Nat → Int32} {k p : Nat} {x3 : Int32} (hk : k < 144) (ho : a_op k = nI 4) (hok : ly_ok (a_op k) (a_opA k) (a_opB k)) (hW : a_lengthened k = ly_b (W k)) (hWj : ∀ k, W k = true → lk_jm (a_op k) = true) (hat : a_at k = nI p) (hP : P k = nI p) (hp3 : p + lk_sz a_op a_opA a_opB W k p ≤ 256)
    (hp : post (f_origin, f_culprit, f_strip, f_listed, f_units, f_ordered, f_textEnd, f_end, f_longs, f_rounds, f_keptListed, f_entry, f_linked, f_pc, f_steps, f_outs, f_ran, a_op, a_opA, a_opB, a_section, a_length, a_role, a_labelAt, a_used, a_local, a_global, a_weak, a_faulty, a_list, a_chosen, a_order, a_lengthened, a_at, a_keptAt, a_keptSymbol, a_keptList, lk_em a_op a_opA a_opB L ms W P a_image k, a_sizes, a_words, a_apart, a_partA, a_partN, a_wide, a_r, a_output)) : wX_encode_35 post (nI k) (nI 4) x3 (0) f_origin f_culprit f_strip f_listed f_units f_ordered f_textEnd f_end f_longs f_rounds f_keptListed f_entry f_linked f_pc f_steps f_outs f_ran a_op a_opA a_opB a_section a_length a_role a_labelAt a_used a_local a_global a_weak a_faulty a_list a_chosen a_order a_lengthened a_at a_keptAt a_keptSymbol a_keptList a_image a_sizes a_words a_apart a_partA a_partN a_wide a_r a_output := by
  rw [lk_em_w ho (by omega) (by omega) hP (by omega)] at hp
  have hgv : lk_gv a_op a_opA a_opB L ms P k = a_opB k := by unfold lk_gv; rw [ho, if_neg (by decide)]
  have hlv : lk_lv a_op a_opA a_opB L ms P k = a_opB k := by unfold lk_lv; rw [ho, if_neg (by decide), if_neg (by decide), if_pos (by decide), hgv]
  have hw1 := lk_w1_e (W := W) ho hP (by omega) (show ly_rg (nI 4) = true by decide) hlv
  refine lk_xe4 hk ho hok hW hat hp3 ?_
  have hno : decide (lk_sz a_op a_opA a_opB W k p = 2) = false := decide_eq_false (fun h => by
    have := lk_szW ho (by omega) (by omega) (fun h => hWj k h) (by rw [ho]; decide) p h; exact this)
  rw [hno, if_neg (by decide)] at hp
  rw [← hw1, hno, if_neg (by decide)]
  exact hp
theorem lk_xg5 {post : SX → Prop} {W : Nat → Bool} {P : Nat → Int32} {k p : Nat} {x3 : Int32} (hk : k < 144) (ho : a_op k = nI 5) (hok : ly_ok (a_op k) (a_opA k) (a_opB k)) (hW : a_lengthened k = ly_b (W k)) (hWj : ∀ k, W k = true → lk_jm (a_op k) = true) (hat : a_at k = nI p) (hP : P k = nI p) (hp3 : p + lk_sz a_op a_opA a_opB W k p ≤ 256)
    (hp : post (f_origin, f_culprit, f_strip, f_listed, f_units, f_ordered, f_textEnd, f_end, f_longs, f_rounds, f_keptListed, f_entry, f_linked, f_pc, f_steps, f_outs, f_ran, a_op, a_opA, a_opB, a_section, a_length, a_role, a_labelAt, a_used, a_local, a_global, a_weak, a_faulty, a_list, a_chosen, a_order, a_lengthened, a_at, a_keptAt, a_keptSymbol, a_keptList, lk_em a_op a_opA a_opB L ms W P a_image k, a_sizes, a_words, a_apart, a_partA, a_partN, a_wide, a_r, a_output)) : wX_encode_35 post (nI k) (nI 5) x3 (0) f_origin f_culprit f_strip f_listed f_units f_ordered f_textEnd f_end f_longs f_rounds f_keptListed f_entry f_linked f_pc f_steps f_outs f_ran a_op a_opA a_opB a_section a_length a_role a_labelAt a_used a_local a_global a_weak a_faulty a_list a_chosen a_order a_lengthened a_at a_keptAt a_keptSymbol a_keptList a_image a_sizes a_words a_apart a_partA a_partN a_wide a_r a_output := by
  rw [lk_em_w ho (by omega) (by omega) hP (by omega)] at hp
  have hgv : lk_gv a_op a_opA a_opB L ms P k = a_opB k := by unfold lk_gv; rw [ho, if_neg (by decide)]
  have hlv : lk_lv a_op a_opA a_opB L ms P k = a_opB k := by unfold lk_lv; rw [ho, if_neg (by decide), if_neg (by decide), if_pos (by decide), hgv]
  have hw1 := lk_w1_e (W := W) ho hP (by omega) (show ly_rg (nI 5) = true by decide) hlv
  refine lk_xe5 hk ho hok hW hat hp3 ?_
  have hno : decide (lk_sz a_op a_opA a_opB W k p = 2) = false := decide_eq_false (fun h => by
    have := lk_szW ho (by omega) (by omega) (fun h => hWj k h) (by rw [ho]; decide) p h; exact this)
  rw [hno, if_neg (by decide)] at hp
  rw [← hw1, hno, if_neg (by decide)]
  exact hp
theorem lk_xg6 {post : SX → Prop} {W : Nat → Bool} {P : Nat → Int32} {k p : Nat} {x3 : Int32} (hk : k < 144) (ho : a_op k = nI 6) (hok : ly_ok (a_op k) (a_opA k) (a_opB k)) (hW : a_lengthened k = ly_b (W k)) (hWj : ∀ k, W k = true → lk_jm (a_op k) = true) (hat : a_at k = nI p) (hP : P k = nI p) (hp3 : p + lk_sz a_op a_opA a_opB W k p ≤ 256)
    (hp : post (f_origin, f_culprit, f_strip, f_listed, f_units, f_ordered, f_textEnd, f_end, f_longs, f_rounds, f_keptListed, f_entry, f_linked, f_pc, f_steps, f_outs, f_ran, a_op, a_opA, a_opB, a_section, a_length, a_role, a_labelAt, a_used, a_local, a_global, a_weak, a_faulty, a_list, a_chosen, a_order, a_lengthened, a_at, a_keptAt, a_keptSymbol, a_keptList, lk_em a_op a_opA a_opB L ms W P a_image k, a_sizes, a_words, a_apart, a_partA, a_partN, a_wide, a_r, a_output)) : wX_encode_35 post (nI k) (nI 6) x3 (0) f_origin f_culprit f_strip f_listed f_units f_ordered f_textEnd f_end f_longs f_rounds f_keptListed f_entry f_linked f_pc f_steps f_outs f_ran a_op a_opA a_opB a_section a_length a_role a_labelAt a_used a_local a_global a_weak a_faulty a_list a_chosen a_order a_lengthened a_at a_keptAt a_keptSymbol a_keptList a_image a_sizes a_words a_apart a_partA a_partN a_wide a_r a_output := by
  rw [lk_em_w ho (by omega) (by omega) hP (by omega)] at hp
  have hgv : lk_gv a_op a_opA a_opB L ms P k = a_opB k := by unfold lk_gv; rw [ho, if_neg (by decide)]
  have hlv : lk_lv a_op a_opA a_opB L ms P k = a_opB k := by unfold lk_lv; rw [ho, if_neg (by decide), if_neg (by decide), if_pos (by decide), hgv]
  have hw1 := lk_w1_e (W := W) ho hP (by omega) (show ly_rg (nI 6) = true by decide) hlv
  refine lk_xe6 hk ho hok hW hat hp3 ?_
  have hno : decide (lk_sz a_op a_opA a_opB W k p = 2) = false := decide_eq_false (fun h => by
    have := lk_szW ho (by omega) (by omega) (fun h => hWj k h) (by rw [ho]; decide) p h; exact this)
  rw [hno, if_neg (by decide)] at hp
  rw [← hw1, hno, if_neg (by decide)]
  exact hp
theorem lk_xg7 {post : SX → Prop} {W : Nat → Bool} {P : Nat → Int32} {k p : Nat} {x3 : Int32} (hk : k < 144) (ho : a_op k = nI 7) (hok : ly_ok (a_op k) (a_opA k) (a_opB k)) (hW : a_lengthened k = ly_b (W k)) (hWj : ∀ k, W k = true → lk_jm (a_op k) = true) (hat : a_at k = nI p) (hP : P k = nI p) (hp3 : p + lk_sz a_op a_opA a_opB W k p ≤ 256)
    (hp : post (f_origin, f_culprit, f_strip, f_listed, f_units, f_ordered, f_textEnd, f_end, f_longs, f_rounds, f_keptListed, f_entry, f_linked, f_pc, f_steps, f_outs, f_ran, a_op, a_opA, a_opB, a_section, a_length, a_role, a_labelAt, a_used, a_local, a_global, a_weak, a_faulty, a_list, a_chosen, a_order, a_lengthened, a_at, a_keptAt, a_keptSymbol, a_keptList, lk_em a_op a_opA a_opB L ms W P a_image k, a_sizes, a_words, a_apart, a_partA, a_partN, a_wide, a_r, a_output)) : wX_encode_35 post (nI k) (nI 7) x3 (0) f_origin f_culprit f_strip f_listed f_units f_ordered f_textEnd f_end f_longs f_rounds f_keptListed f_entry f_linked f_pc f_steps f_outs f_ran a_op a_opA a_opB a_section a_length a_role a_labelAt a_used a_local a_global a_weak a_faulty a_list a_chosen a_order a_lengthened a_at a_keptAt a_keptSymbol a_keptList a_image a_sizes a_words a_apart a_partA a_partN a_wide a_r a_output := by
  rw [lk_em_w ho (by omega) (by omega) hP (by omega)] at hp
  have hgv : lk_gv a_op a_opA a_opB L ms P k = a_opB k := by unfold lk_gv; rw [ho, if_neg (by decide)]
  have hlv : lk_lv a_op a_opA a_opB L ms P k = a_opB k := by unfold lk_lv; rw [ho, if_neg (by decide), if_neg (by decide), if_pos (by decide), hgv]
  have hw1 := lk_w1_e (W := W) ho hP (by omega) (show ly_rg (nI 7) = true by decide) hlv
  refine lk_xe7 hk ho hok hW hat hp3 ?_
  have hno : decide (lk_sz a_op a_opA a_opB W k p = 2) = false := decide_eq_false (fun h => by
    have := lk_szW ho (by omega) (by omega) (fun h => hWj k h) (by rw [ho]; decide) p h; exact this)
  rw [hno, if_neg (by decide)] at hp
  rw [← hw1, hno, if_neg (by decide)]
  exact hp
theorem lk_xg8 {post : SX → Prop} {W : Nat → Bool} {P : Nat → Int32} {k p : Nat} {x3 : Int32} (hk : k < 144) (ho : a_op k = nI 8) (hok : ly_ok (a_op k) (a_opA k) (a_opB k)) (hW : a_lengthened k = ly_b (W k)) (hWj : ∀ k, W k = true → lk_jm (a_op k) = true) (hat : a_at k = nI p) (hP : P k = nI p) (hp3 : p + lk_sz a_op a_opA a_opB W k p ≤ 256) (h3 : ¬ x3 < 0)
    (hp : post (f_origin, f_culprit, f_strip, f_listed, f_units, f_ordered, f_textEnd, f_end, f_longs, f_rounds, f_keptListed, f_entry, f_linked, f_pc, f_steps, f_outs, f_ran, a_op, a_opA, a_opB, a_section, a_length, a_role, a_labelAt, a_used, a_local, a_global, a_weak, a_faulty, a_list, a_chosen, a_order, a_lengthened, a_at, a_keptAt, a_keptSymbol, a_keptList, lk_em a_op a_opA a_opB L ms W P a_image k, a_sizes, a_words, a_apart, a_partA, a_partN, a_wide, a_r, a_output)) : wX_encode_35 post (nI k) (nI 8) x3 (P (lk_tg a_op a_opA a_opB L ms k)) f_origin f_culprit f_strip f_listed f_units f_ordered f_textEnd f_end f_longs f_rounds f_keptListed f_entry f_linked f_pc f_steps f_outs f_ran a_op a_opA a_opB a_section a_length a_role a_labelAt a_used a_local a_global a_weak a_faulty a_list a_chosen a_order a_lengthened a_at a_keptAt a_keptSymbol a_keptList a_image a_sizes a_words a_apart a_partA a_partN a_wide a_r a_output := by
  rw [lk_em_w ho (by omega) (by omega) hP (by omega)] at hp
  have hgv : lk_gv a_op a_opA a_opB L ms P k = P (lk_tg a_op a_opA a_opB L ms k) := by unfold lk_gv; rw [ho, if_pos (by decide)]
  have hlv : lk_lv a_op a_opA a_opB L ms P k = (P (lk_tg a_op a_opA a_opB L ms k) - nI p) := by unfold lk_lv; rw [ho, if_pos (by decide), hgv, hP]
  have hw1 := lk_w1_e (W := W) ho hP (by omega) (show ly_rg (nI 8) = false by decide) hlv
  refine lk_xe8 hk ho hok hW hat hp3 h3 ?_
  rw [if_neg (show ¬ nI 8 = 1 by decide), ← hw1]
  rw [hgv] at hp
  exact hp
theorem lk_xg9 {post : SX → Prop} {W : Nat → Bool} {P : Nat → Int32} {k p : Nat} {x3 : Int32} (hk : k < 144) (ho : a_op k = nI 9) (hok : ly_ok (a_op k) (a_opA k) (a_opB k)) (hW : a_lengthened k = ly_b (W k)) (hWj : ∀ k, W k = true → lk_jm (a_op k) = true) (hat : a_at k = nI p) (hP : P k = nI p) (hp3 : p + lk_sz a_op a_opA a_opB W k p ≤ 256) (h3 : ¬ x3 < 0)
    (hp : post (f_origin, f_culprit, f_strip, f_listed, f_units, f_ordered, f_textEnd, f_end, f_longs, f_rounds, f_keptListed, f_entry, f_linked, f_pc, f_steps, f_outs, f_ran, a_op, a_opA, a_opB, a_section, a_length, a_role, a_labelAt, a_used, a_local, a_global, a_weak, a_faulty, a_list, a_chosen, a_order, a_lengthened, a_at, a_keptAt, a_keptSymbol, a_keptList, lk_em a_op a_opA a_opB L ms W P a_image k, a_sizes, a_words, a_apart, a_partA, a_partN, a_wide, a_r, a_output)) : wX_encode_35 post (nI k) (nI 9) x3 (P (lk_tg a_op a_opA a_opB L ms k)) f_origin f_culprit f_strip f_listed f_units f_ordered f_textEnd f_end f_longs f_rounds f_keptListed f_entry f_linked f_pc f_steps f_outs f_ran a_op a_opA a_opB a_section a_length a_role a_labelAt a_used a_local a_global a_weak a_faulty a_list a_chosen a_order a_lengthened a_at a_keptAt a_keptSymbol a_keptList a_image a_sizes a_words a_apart a_partA a_partN a_wide a_r a_output := by
  rw [lk_em_w ho (by omega) (by omega) hP (by omega)] at hp
  have hgv : lk_gv a_op a_opA a_opB L ms P k = P (lk_tg a_op a_opA a_opB L ms k) := by unfold lk_gv; rw [ho, if_pos (by decide)]
  have hlv : lk_lv a_op a_opA a_opB L ms P k = (P (lk_tg a_op a_opA a_opB L ms k) - nI p) := by unfold lk_lv; rw [ho, if_pos (by decide), hgv, hP]
  have hw1 := lk_w1_e (W := W) ho hP (by omega) (show ly_rg (nI 9) = true by decide) hlv
  refine lk_xe9 hk ho hok hW hat hp3 h3 ?_
  rw [if_neg (show ¬ nI 9 = 1 by decide), ← hw1]
  rw [hgv] at hp
  exact hp
theorem lk_xg10 {post : SX → Prop} {W : Nat → Bool} {P : Nat → Int32} {k p : Nat} {x3 : Int32} (hk : k < 144) (ho : a_op k = nI 10) (hok : ly_ok (a_op k) (a_opA k) (a_opB k)) (hW : a_lengthened k = ly_b (W k)) (hWj : ∀ k, W k = true → lk_jm (a_op k) = true) (hat : a_at k = nI p) (hP : P k = nI p) (hp3 : p + lk_sz a_op a_opA a_opB W k p ≤ 256) (h3 : ¬ x3 < 0)
    (hp : post (f_origin, f_culprit, f_strip, f_listed, f_units, f_ordered, f_textEnd, f_end, f_longs, f_rounds, f_keptListed, f_entry, f_linked, f_pc, f_steps, f_outs, f_ran, a_op, a_opA, a_opB, a_section, a_length, a_role, a_labelAt, a_used, a_local, a_global, a_weak, a_faulty, a_list, a_chosen, a_order, a_lengthened, a_at, a_keptAt, a_keptSymbol, a_keptList, lk_em a_op a_opA a_opB L ms W P a_image k, a_sizes, a_words, a_apart, a_partA, a_partN, a_wide, a_r, a_output)) : wX_encode_35 post (nI k) (nI 10) x3 (P (lk_tg a_op a_opA a_opB L ms k)) f_origin f_culprit f_strip f_listed f_units f_ordered f_textEnd f_end f_longs f_rounds f_keptListed f_entry f_linked f_pc f_steps f_outs f_ran a_op a_opA a_opB a_section a_length a_role a_labelAt a_used a_local a_global a_weak a_faulty a_list a_chosen a_order a_lengthened a_at a_keptAt a_keptSymbol a_keptList a_image a_sizes a_words a_apart a_partA a_partN a_wide a_r a_output := by
  rw [lk_em_w ho (by omega) (by omega) hP (by omega)] at hp
  have hgv : lk_gv a_op a_opA a_opB L ms P k = P (lk_tg a_op a_opA a_opB L ms k) := by unfold lk_gv; rw [ho, if_pos (by decide)]
  have hlv : lk_lv a_op a_opA a_opB L ms P k = (P (lk_tg a_op a_opA a_opB L ms k) - nI p) := by unfold lk_lv; rw [ho, if_pos (by decide), hgv, hP]
  have hw1 := lk_w1_e (W := W) ho hP (by omega) (show ly_rg (nI 10) = false by decide) hlv
  refine lk_xe10 hk ho hok hW hat hp3 h3 ?_
  rw [if_neg (show ¬ nI 10 = 1 by decide), ← hw1]
  rw [hgv] at hp
  exact hp
theorem lk_xg11 {post : SX → Prop} {W : Nat → Bool} {P : Nat → Int32} {k p : Nat} {x3 : Int32} (hk : k < 144) (ho : a_op k = nI 11) (hok : ly_ok (a_op k) (a_opA k) (a_opB k)) (hW : a_lengthened k = ly_b (W k)) (hWj : ∀ k, W k = true → lk_jm (a_op k) = true) (hat : a_at k = nI p) (hP : P k = nI p) (hp3 : p + lk_sz a_op a_opA a_opB W k p ≤ 256) (h3 : x3 < 0)
    (hp : post (f_origin, f_culprit, f_strip, f_listed, f_units, f_ordered, f_textEnd, f_end, f_longs, f_rounds, f_keptListed, f_entry, f_linked, f_pc, f_steps, f_outs, f_ran, a_op, a_opA, a_opB, a_section, a_length, a_role, a_labelAt, a_used, a_local, a_global, a_weak, a_faulty, a_list, a_chosen, a_order, a_lengthened, a_at, a_keptAt, a_keptSymbol, a_keptList, lk_em a_op a_opA a_opB L ms W P a_image k, a_sizes, a_words, a_apart, a_partA, a_partN, a_wide, a_r, a_output)) : wX_encode_35 post (nI k) (nI 11) x3 (0) f_origin f_culprit f_strip f_listed f_units f_ordered f_textEnd f_end f_longs f_rounds f_keptListed f_entry f_linked f_pc f_steps f_outs f_ran a_op a_opA a_opB a_section a_length a_role a_labelAt a_used a_local a_global a_weak a_faulty a_list a_chosen a_order a_lengthened a_at a_keptAt a_keptSymbol a_keptList a_image a_sizes a_words a_apart a_partA a_partN a_wide a_r a_output := by
  rw [lk_em_w ho (by omega) (by omega) hP (by omega)] at hp
  have hgv : lk_gv a_op a_opA a_opB L ms P k = a_opB k := by unfold lk_gv; rw [ho, if_neg (by decide)]
  have hlv : lk_lv a_op a_opA a_opB L ms P k = 0 := by unfold lk_lv; rw [ho, if_neg (by decide), if_pos (by decide)]
  have hw1 := lk_w1_e (W := W) ho hP (by omega) (show ly_rg (nI 11) = false by decide) hlv
  refine lk_xe11 hk ho hok hW hat hp3 h3 ?_
  have hno : decide (lk_sz a_op a_opA a_opB W k p = 2) = false := decide_eq_false (fun h => by
    have := lk_szW ho (by omega) (by omega) (fun h => hWj k h) (by rw [ho]; decide) p h; exact this)
  rw [hno, if_neg (by decide)] at hp
  rw [← hw1, hno, if_neg (by decide)]
  exact hp
theorem lk_xg12 {post : SX → Prop} {W : Nat → Bool} {P : Nat → Int32} {k p : Nat} {x3 : Int32} (hk : k < 144) (ho : a_op k = nI 12) (hok : ly_ok (a_op k) (a_opA k) (a_opB k)) (hW : a_lengthened k = ly_b (W k)) (hWj : ∀ k, W k = true → lk_jm (a_op k) = true) (hat : a_at k = nI p) (hP : P k = nI p) (hp3 : p + lk_sz a_op a_opA a_opB W k p ≤ 256)
    (hp : post (f_origin, f_culprit, f_strip, f_listed, f_units, f_ordered, f_textEnd, f_end, f_longs, f_rounds, f_keptListed, f_entry, f_linked, f_pc, f_steps, f_outs, f_ran, a_op, a_opA, a_opB, a_section, a_length, a_role, a_labelAt, a_used, a_local, a_global, a_weak, a_faulty, a_list, a_chosen, a_order, a_lengthened, a_at, a_keptAt, a_keptSymbol, a_keptList, lk_em a_op a_opA a_opB L ms W P a_image k, a_sizes, a_words, a_apart, a_partA, a_partN, a_wide, a_r, a_output)) : wX_encode_35 post (nI k) (nI 12) x3 (P (lk_tg a_op a_opA a_opB L ms k)) f_origin f_culprit f_strip f_listed f_units f_ordered f_textEnd f_end f_longs f_rounds f_keptListed f_entry f_linked f_pc f_steps f_outs f_ran a_op a_opA a_opB a_section a_length a_role a_labelAt a_used a_local a_global a_weak a_faulty a_list a_chosen a_order a_lengthened a_at a_keptAt a_keptSymbol a_keptList a_image a_sizes a_words a_apart a_partA a_partN a_wide a_r a_output := by
  rw [lk_em_w ho (by omega) (by omega) hP (by omega)] at hp
  have hgv : lk_gv a_op a_opA a_opB L ms P k = P (lk_tg a_op a_opA a_opB L ms k) := by unfold lk_gv; rw [ho, if_pos (by decide)]
  have hlv : lk_lv a_op a_opA a_opB L ms P k = P (lk_tg a_op a_opA a_opB L ms k) := by unfold lk_lv; rw [ho, if_neg (by decide), if_neg (by decide), if_pos (by decide), hgv]
  have hw1 := lk_w1_e (W := W) ho hP (by omega) (show ly_rg (nI 12) = true by decide) hlv
  refine lk_xe12 hk ho hok hW hat hp3 ?_
  rw [if_neg (show ¬ nI 12 = 1 by decide), ← hw1]
  rw [hgv] at hp
  exact hp
theorem lk_xg13 {post : SX → Prop} {W : Nat → Bool} {P : Nat → Int32} {k p : Nat} {x3 : Int32} (hk : k < 144) (ho : a_op k = nI 13) (hok : ly_ok (a_op k) (a_opA k) (a_opB k)) (hW : a_lengthened k = ly_b (W k)) (hWj : ∀ k, W k = true → lk_jm (a_op k) = true) (hat : a_at k = nI p) (hP : P k = nI p) (hp3 : p + lk_sz a_op a_opA a_opB W k p ≤ 256) (h3 : x3 < 0)
    (hp : post (f_origin, f_culprit, f_strip, f_listed, f_units, f_ordered, f_textEnd, f_end, f_longs, f_rounds, f_keptListed, f_entry, f_linked, f_pc, f_steps, f_outs, f_ran, a_op, a_opA, a_opB, a_section, a_length, a_role, a_labelAt, a_used, a_local, a_global, a_weak, a_faulty, a_list, a_chosen, a_order, a_lengthened, a_at, a_keptAt, a_keptSymbol, a_keptList, lk_em a_op a_opA a_opB L ms W P a_image k, a_sizes, a_words, a_apart, a_partA, a_partN, a_wide, a_r, a_output)) : wX_encode_35 post (nI k) (nI 13) x3 (0) f_origin f_culprit f_strip f_listed f_units f_ordered f_textEnd f_end f_longs f_rounds f_keptListed f_entry f_linked f_pc f_steps f_outs f_ran a_op a_opA a_opB a_section a_length a_role a_labelAt a_used a_local a_global a_weak a_faulty a_list a_chosen a_order a_lengthened a_at a_keptAt a_keptSymbol a_keptList a_image a_sizes a_words a_apart a_partA a_partN a_wide a_r a_output := by
  rw [lk_em_w ho (by omega) (by omega) hP (by omega)] at hp
  have hgv : lk_gv a_op a_opA a_opB L ms P k = a_opB k := by unfold lk_gv; rw [ho, if_neg (by decide)]
  have hlv : lk_lv a_op a_opA a_opB L ms P k = 0 := by unfold lk_lv; rw [ho, if_neg (by decide), if_neg (by decide), if_neg (by decide)]
  have hw1 := lk_w1_e (W := W) ho hP (by omega) (show ly_rg (nI 13) = true by decide) hlv
  refine lk_xe13 hk ho hok hW hat hp3 h3 ?_
  have hno : decide (lk_sz a_op a_opA a_opB W k p = 2) = false := decide_eq_false (fun h => by
    have := lk_szW ho (by omega) (by omega) (fun h => hWj k h) (by rw [ho]; decide) p h; exact this)
  rw [hno, if_neg (by decide)] at hp
  rw [← hw1, hno, if_neg (by decide)]
  exact hp
theorem lk_xg14 {post : SX → Prop} {W : Nat → Bool} {P : Nat → Int32} {k p : Nat} {x3 : Int32} (hk : k < 144) (ho : a_op k = nI 14) (hok : ly_ok (a_op k) (a_opA k) (a_opB k)) (hW : a_lengthened k = ly_b (W k)) (hWj : ∀ k, W k = true → lk_jm (a_op k) = true) (hat : a_at k = nI p) (hP : P k = nI p) (hp3 : p + lk_sz a_op a_opA a_opB W k p ≤ 256) (h3 : x3 < 0)
    (hp : post (f_origin, f_culprit, f_strip, f_listed, f_units, f_ordered, f_textEnd, f_end, f_longs, f_rounds, f_keptListed, f_entry, f_linked, f_pc, f_steps, f_outs, f_ran, a_op, a_opA, a_opB, a_section, a_length, a_role, a_labelAt, a_used, a_local, a_global, a_weak, a_faulty, a_list, a_chosen, a_order, a_lengthened, a_at, a_keptAt, a_keptSymbol, a_keptList, lk_em a_op a_opA a_opB L ms W P a_image k, a_sizes, a_words, a_apart, a_partA, a_partN, a_wide, a_r, a_output)) : wX_encode_35 post (nI k) (nI 14) x3 (0) f_origin f_culprit f_strip f_listed f_units f_ordered f_textEnd f_end f_longs f_rounds f_keptListed f_entry f_linked f_pc f_steps f_outs f_ran a_op a_opA a_opB a_section a_length a_role a_labelAt a_used a_local a_global a_weak a_faulty a_list a_chosen a_order a_lengthened a_at a_keptAt a_keptSymbol a_keptList a_image a_sizes a_words a_apart a_partA a_partN a_wide a_r a_output := by
  rw [lk_em_w ho (by omega) (by omega) hP (by omega)] at hp
  have hgv : lk_gv a_op a_opA a_opB L ms P k = a_opB k := by unfold lk_gv; rw [ho, if_neg (by decide)]
  have hlv : lk_lv a_op a_opA a_opB L ms P k = 0 := by unfold lk_lv; rw [ho, if_neg (by decide), if_neg (by decide), if_neg (by decide)]
  have hw1 := lk_w1_e (W := W) ho hP (by omega) (show ly_rg (nI 14) = false by decide) hlv
  refine lk_xe14 hk ho hok hW hat hp3 h3 ?_
  have hno : decide (lk_sz a_op a_opA a_opB W k p = 2) = false := decide_eq_false (fun h => by
    have := lk_szW ho (by omega) (by omega) (fun h => hWj k h) (by rw [ho]; decide) p h; exact this)
  rw [hno, if_neg (by decide)] at hp
  rw [← hw1, hno, if_neg (by decide)]
  exact hp
theorem lk_xenc {post : SX → Prop} {W : Nat → Bool} {P : Nat → Int32} {k p : Nat} (hJ : lk_XJ a_op a_opA a_opB a_length a_section a_labelAt a_used a_local a_global a_weak a_faulty L) (E : lk_E a_op a_opA a_opB L ms) (hX : lk_XC a_op a_opA a_opB L ms a_chosen)
    (hin : lk_in L ms k) (hW : lk_LB W a_lengthened) (hWj : ∀ k, W k = true → lk_jm (a_op k) = true) (hA : ∀ j, j < 144 → a_at j = P j) (hP : P k = nI p) (hp3 : p + lk_sz a_op a_opA a_opB W k p ≤ 256)
    (hp : post (f_origin, f_culprit, f_strip, f_listed, f_units, f_ordered, f_textEnd, f_end, f_longs, f_rounds, f_keptListed, f_entry, f_linked, f_pc, f_steps, f_outs, f_ran, a_op, a_opA, a_opB, a_section, a_length, a_role, a_labelAt, a_used, a_local, a_global, a_weak, a_faulty, a_list, a_chosen, a_order, a_lengthened, a_at, a_keptAt, a_keptSymbol, a_keptList, lk_em a_op a_opA a_opB L ms W P a_image k, a_sizes, a_words, a_apart, a_partA, a_partN, a_wide, a_r, a_output)) : wpX_encode post (f_origin, f_culprit, f_strip, f_listed, f_units, f_ordered, f_textEnd, f_end, f_longs, f_rounds, f_keptListed, f_entry, f_linked, f_pc, f_steps, f_outs, f_ran, a_op, a_opA, a_opB, a_section, a_length, a_role, a_labelAt, a_used, a_local, a_global, a_weak, a_faulty, a_list, a_chosen, a_order, a_lengthened, a_at, a_keptAt, a_keptSymbol, a_keptList, a_image, a_sizes, a_words, a_apart, a_partA, a_partN, a_wide, a_r, a_output) (nI k) := by
  obtain ⟨hk, hk6, -, -⟩ := lk_in_144 E hin
  have hok := lk_ok_in E hin
  have hv : vp_in (nI k) 144 := vp_in_nI hk (by omega)
  have hc : (nI k).toNatClampNeg = k := nI_clamp (by omega)
  have hat : a_at k = nI p := (hA k hk).trans hP
  obtain ⟨j, hj, ho⟩ := hok.1
  refine And.intro hv (nm_r (e' := nI j) (by rw [hc]; exact ho) (ly_xsym hk ?_))
  have h68 : ∀ x3 x4, j = 15 ∨ (j = 16 ∧ x4 = P (lk_tg a_op a_opA a_opB L ms k)) → wX_encode_35 post (nI k) (nI j) x3 x4 f_origin f_culprit f_strip f_listed f_units f_ordered f_textEnd f_end f_longs f_rounds f_keptListed f_entry f_linked f_pc f_steps f_outs f_ran a_op a_opA a_opB a_section a_length a_role a_labelAt a_used a_local a_global a_weak a_faulty a_list a_chosen a_order a_lengthened a_at a_keptAt a_keptSymbol a_keptList a_image a_sizes a_words a_apart a_partA a_partN a_wide a_r a_output := by
    intro x3 x4 h
    have hs := lk_sz12 (a := a_opA) (b := a_opB) (W := W) ho (by omega) (by omega) p
    have hv2 : vp_in (nI p) 256 := vp_in_nI (by omega) (by omega)
    unfold lk_em at hp
    rw [hP, nI_clamp (by omega), ho] at hp
    unfold wX_encode_35
    refine ⟨hv, nm_r (e' := nI p) (by rw [hc]; exact hat) ?_⟩
    rcases h with h | ⟨h, hx⟩
    · subst h
      rw [if_neg (by decide), if_pos (by decide), if_pos (by decide)] at hp
      refine br_f (by decide) (br_t (by decide) (br_t (by decide) ?_))
      unfold wX_encode_68
      refine br_t (by decide) ⟨hv, hv2, nm_e ?_⟩
      rw [hc, nI_clamp (by omega)]
      exact hp
    · subst h
      rw [if_neg (by decide), if_pos (by decide), if_neg (by decide), if_pos (by decide)] at hp
      refine br_f (by decide) (br_t (by decide) (br_f (by decide) (br_t (by decide) ?_)))
      unfold wX_encode_68
      refine br_f (by decide) ⟨hv, hv2, nm_e ?_⟩
      rw [hc, nI_clamp (by omega), hx]
      exact hp
  have hno : ∀ x3 x4, (j = 0 ∨ 16 < j) → wX_encode_35 post (nI k) (nI j) x3 x4 f_origin f_culprit f_strip f_listed f_units f_ordered f_textEnd f_end f_longs f_rounds f_keptListed f_entry f_linked f_pc f_steps f_outs f_ran a_op a_opA a_opB a_section a_length a_role a_labelAt a_used a_local a_global a_weak a_faulty a_list a_chosen a_order a_lengthened a_at a_keptAt a_keptSymbol a_keptList a_image a_sizes a_words a_apart a_partA a_partN a_wide a_r a_output := by
    intro x3 x4 h
    unfold lk_em at hp
    rw [ho] at hp
    unfold wX_encode_35
    refine ⟨hv, nm_e ?_⟩
    rcases h with h | h
    · subst h
      rw [if_pos (by decide)] at hp
      exact br_t rfl hp
    · have h0 : ¬ nI j = 0 := nI_ne0 (by omega) (by omega)
      have h16 : ¬ nI j ≤ 16 := nI_ge (a := 16) h (by omega)
      rw [if_neg h0, if_neg h16] at hp
      exact br_f h0 (br_f h16 hp)
  by_cases hus : ly_us (a_op k) = true
  · rw [if_pos hus]
    obtain ⟨t, ht, et⟩ := lk_sy_in E hin hus
    have htg := lk_tg_in E hin hus
    obtain ⟨ht144, -⟩ := lk_in_144 E htg
    have h3 : ¬ ly_sy a_op a_opA a_opB k < 0 := by rw [et]; exact nI_pos (by omega)
    refine br_t (Int32.not_lt.mp h3) ⟨by decide, ?_⟩
    rw [ly_d24 (by omega)]
    refine lk_xlf hJ E hX hin hus ⟨vp_in_nI ht144 (by omega), ?_⟩
    rw [nI_clamp (by omega), hA _ ht144]
    rw [ho] at hus
    rcases (by omega : j = 0 ∨ j = 1 ∨ j = 2 ∨ j = 3 ∨ j = 4 ∨ j = 5 ∨ j = 6 ∨ j = 7 ∨ j = 8 ∨ j = 9 ∨ j = 10 ∨ j = 11 ∨ j = 12 ∨ j = 13 ∨ j = 14 ∨ j = 15 ∨ j = 16 ∨ j = 17 ∨ j = 18 ∨ j = 19) with rfl | rfl | rfl | rfl | rfl | rfl | rfl | rfl | rfl | rfl | rfl | rfl | rfl | rfl | rfl | rfl | rfl | rfl | rfl | rfl
    · exact absurd hus (by decide)
    · exact absurd hus (by decide)
    · exact absurd hus (by decide)
    · exact absurd hus (by decide)
    · exact absurd hus (by decide)
    · exact absurd hus (by decide)
    · exact absurd hus (by decide)
    · exact absurd hus (by decide)
    · exact lk_xg8 hk ho hok (hW k hk) hWj hat hP hp3 h3 hp
    · exact lk_xg9 hk ho hok (hW k hk) hWj hat hP hp3 h3 hp
    · exact lk_xg10 hk ho hok (hW k hk) hWj hat hP hp3 h3 hp
    · exact absurd hus (by decide)
    · exact lk_xg12 hk ho hok (hW k hk) hWj hat hP hp3 hp
    · exact absurd hus (by decide)
    · exact absurd hus (by decide)
    · exact absurd hus (by decide)
    · exact h68 _ _ (Or.inr ⟨rfl, rfl⟩)
    · exact absurd hus (by decide)
    · exact absurd hus (by decide)
    · exact absurd hus (by decide)
  · rw [if_neg hus]
    refine br_f (by decide) ?_
    have h3 : (-1 : Int32) < 0 := by decide
    rw [ho] at hus
    rcases (by omega : j = 0 ∨ j = 1 ∨ j = 2 ∨ j = 3 ∨ j = 4 ∨ j = 5 ∨ j = 6 ∨ j = 7 ∨ j = 8 ∨ j = 9 ∨ j = 10 ∨ j = 11 ∨ j = 12 ∨ j = 13 ∨ j = 14 ∨ j = 15 ∨ j = 16 ∨ j = 17 ∨ j = 18 ∨ j = 19) with rfl | rfl | rfl | rfl | rfl | rfl | rfl | rfl | rfl | rfl | rfl | rfl | rfl | rfl | rfl | rfl | rfl | rfl | rfl | rfl
    · exact hno _ _ (by omega)
    · exact lk_xg1 hk ho hok (hW k hk) hWj hat hP hp3 hp
    · exact lk_xg2 hk ho hok (hW k hk) hWj hat hP hp3 hp
    · exact lk_xg3 hk ho hok (hW k hk) hWj hat hP hp3 hp
    · exact lk_xg4 hk ho hok (hW k hk) hWj hat hP hp3 hp
    · exact lk_xg5 hk ho hok (hW k hk) hWj hat hP hp3 hp
    · exact lk_xg6 hk ho hok (hW k hk) hWj hat hP hp3 hp
    · exact lk_xg7 hk ho hok (hW k hk) hWj hat hP hp3 hp
    · exact absurd (by decide) hus
    · exact absurd (by decide) hus
    · exact absurd (by decide) hus
    · exact lk_xg11 hk ho hok (hW k hk) hWj hat hP hp3 h3 hp
    · exact absurd (by decide) hus
    · exact lk_xg13 hk ho hok (hW k hk) hWj hat hP hp3 h3 hp
    · exact lk_xg14 hk ho hok (hW k hk) hWj hat hP hp3 h3 hp
    · exact h68 _ _ (Or.inl rfl)
    · exact absurd (by decide) hus
    · exact hno _ _ (by omega)
    · exact hno _ _ (by omega)
    · exact hno _ _ (by omega)
end xe
section ye
variable {g_origin g_strip g_many g_culprit g_textEnd g_end g_made g_rounds g_entry g_linked g_ran g_pc g_steps g_outs : Int32} {b_ops b_opA b_opB b_counts b_roles b_list b_places b_symbols b_image b_stays b_wide b_memory b_reg b_out : Nat → Int32} {L : Nat → Nat} {ms : List Nat}
theorem lk_y216 {post : SY → Prop} {p : Nat} {x8 x9 z0 z1 : Int32} {tw : Bool} (hz : p + (if tw = true then 2 else 1) ≤ 256)
    (hp : post (g_origin, g_strip, g_many, g_culprit, g_textEnd, g_end, g_made, g_rounds, g_entry, g_linked, g_ran, g_pc, g_steps, g_outs, b_ops, b_opA, b_opB, b_counts, b_roles, b_list, b_places, b_symbols, if tw = true then upd (upd b_image p (((z1 + z0) + (if tw = true then 65536 else 0)) + (x9 &&& 65535))) (p + 1) x8 else upd b_image p (((z1 + z0) + (if tw = true then 65536 else 0)) + (x9 &&& 65535)), b_stays, b_wide, b_memory, b_reg, b_out)) :
    wY_write_216 post (nI p) (ly_b tw) x8 x9 z0 z1 (nI p) g_origin g_strip g_many g_culprit g_textEnd g_end g_made g_rounds g_entry g_linked g_ran g_pc g_steps g_outs b_ops b_opA b_opB b_counts b_roles b_list b_places b_symbols b_image b_stays b_wide b_memory b_reg b_out := by
  unfold wY_write_216
  refine ly_br (fun e => ?_) (fun e => ?_)
  · subst e
    simp only [Bool.false_eq_true, if_false] at hp hz
    unfold wY_write_228
    rw [nI_clamp (by omega : p < 2 ^ 31)]
    exact ⟨vp_in_nI (by omega) (by omega), nm_e (br_t rfl hp)⟩
  · subst e
    simp only [if_true] at hp hz
    unfold wY_write_228
    rw [nI_clamp (by omega : p < 2 ^ 31), nI_1, nI_clamp (by omega : p + 1 < 2 ^ 31)]
    exact ⟨vp_in_nI (by omega) (by omega), nm_e (br_f (by decide) ⟨vp_in_nI (by omega) (by omega), nm_e hp⟩)⟩
theorem lk_y191 {post : SY → Prop} {p : Nat} {x3 x4 x8 l : Int32} {tw rb : Bool} (hz : p + (if tw = true then 2 else 1) ≤ 256)
    (hp : post (g_origin, g_strip, g_many, g_culprit, g_textEnd, g_end, g_made, g_rounds, g_entry, g_linked, g_ran, g_pc, g_steps, g_outs, b_ops, b_opA, b_opB, b_counts, b_roles, b_list, b_places, b_symbols, if tw = true then upd (upd b_image p ((((x3 <<< ((24 : Int32) &&& 31)) + (if rb = true then x4 <<< ((20 : Int32) &&& 31) else 0)) + (if tw = true then 65536 else 0)) + (l &&& 65535))) (p + 1) x8 else upd b_image p ((((x3 <<< ((24 : Int32) &&& 31)) + (if rb = true then x4 <<< ((20 : Int32) &&& 31) else 0)) + (if tw = true then 65536 else 0)) + (l &&& 65535)), b_stays, b_wide, b_memory, b_reg, b_out)) :
    wY_write_191 post (nI p) x3 x4 (ly_b rb) (ly_b tw) x8 l g_origin g_strip g_many g_culprit g_textEnd g_end g_made g_rounds g_entry g_linked g_ran g_pc g_steps g_outs b_ops b_opA b_opB b_counts b_roles b_list b_places b_symbols b_image b_stays b_wide b_memory b_reg b_out := by
  unfold wY_write_191
  cases rb with
  | false =>
    simp only [Bool.false_eq_true, if_false] at hp
    exact br_t rfl (lk_y216 hz hp)
  | true =>
    simp only [if_true] at hp
    exact br_f (by decide) (lk_y216 hz hp)
theorem lk_y129 {post : SY → Prop} {W : Nat → Bool} {P : Nat → Int32} {k p j : Nat} {tw : Bool} (hC : ∀ m, m < 6 → b_counts m = nI (L m) ∧ L m ≤ 24) (hL : lk_LS ms g_many b_list) (E : lk_E b_ops b_opA b_opB L ms)
    (hin : lk_in L ms k) (hA : ∀ j, j < 144 → b_places j = P j) (hP : P k = nI p) (ho : b_ops k = nI j) (h1 : 1 ≤ j) (h14 : j ≤ 14) (htw : decide (lk_sz b_ops b_opA b_opB W k p = 2) = tw) (hz : p + (if tw = true then 2 else 1) ≤ 256)
    (hp : post (g_origin, g_strip, g_many, g_culprit, g_textEnd, g_end, g_made, g_rounds, g_entry, g_linked, g_ran, g_pc, g_steps, g_outs, b_ops, b_opA, b_opB, b_counts, b_roles, b_list, b_places, b_symbols, lk_em b_ops b_opA b_opB L ms W P b_image k, b_stays, b_wide, b_memory, b_reg, b_out)) : wY_write_129 post (nI k) (nI p) (b_ops k) (b_opA k) (b_opB k) (ly_b (ly_rg (b_ops k))) (ly_b tw) g_origin g_strip g_many g_culprit g_textEnd g_end g_made g_rounds g_entry g_linked g_ran g_pc g_steps g_outs b_ops b_opA b_opB b_counts b_roles b_list b_places b_symbols b_image b_stays b_wide b_memory b_reg b_out := by
  have hp31 : p < 2 ^ 31 := by split at hz <;> omega
  rw [lk_em_w ho h1 h14 hP hp31, htw] at hp
  have h153 : wY_write_153 post (nI p) (b_ops k) (b_opA k) (ly_b (ly_rg (b_ops k))) (ly_b tw) (lk_gv b_ops b_opA b_opB L ms P k) g_origin g_strip g_many g_culprit g_textEnd g_end g_made g_rounds g_entry g_linked g_ran g_pc g_steps g_outs b_ops b_opA b_opB b_counts b_roles b_list b_places b_symbols b_image b_stays b_wide b_memory b_reg b_out := by
    have go : ∀ l, lk_lv b_ops b_opA b_opB L ms P k = l → wY_write_191 post (nI p) (b_ops k) (b_opA k) (ly_b (ly_rg (b_ops k))) (ly_b tw) (lk_gv b_ops b_opA b_opB L ms P k) l g_origin g_strip g_many g_culprit g_textEnd g_end g_made g_rounds g_entry g_linked g_ran g_pc g_steps g_outs b_ops b_opA b_opB b_counts b_roles b_list b_places b_symbols b_image b_stays b_wide b_memory b_reg b_out := by
      intro l hl
      refine lk_y191 hz ?_
      have hw1 := lk_w1_e (W := W) ho hP hp31 rfl hl
      rw [htw] at hw1
      rw [hw1] at hp
      rw [ho]
      exact hp
    unfold wY_write_153
    refine ly_yin (ly_br (fun e => ?_) (fun e => ?_))
    · by_cases h11 : b_ops k = 11
      · refine br_t h11 ?_
        unfold wY_write_185
        exact go 0 (by unfold lk_lv; rw [if_neg (by rw [e]; decide), if_pos h11])
      · refine br_f h11 ?_
        by_cases h12 : b_ops k ≤ 12
        · exact br_t h12 (go _ (by unfold lk_lv; rw [if_neg (by rw [e]; decide), if_neg h11, if_pos h12]))
        · refine br_f h12 ?_
          unfold wY_write_185
          exact go 0 (by unfold lk_lv; rw [if_neg (by rw [e]; decide), if_neg h11, if_neg h12])
    · exact go _ (by unfold lk_lv; rw [if_pos e, hP])
  unfold wY_write_129
  refine ly_yus (ly_br (fun e => ?_) (fun e => ?_))
  · unfold lk_gv at h153
    rw [if_neg (by rw [e]; decide)] at h153
    exact h153
  · have htg := lk_tg_in E hin e
    obtain ⟨ht144, -⟩ := lk_in_144 E htg
    refine lk_ytg hC hL E hin e ⟨vp_in_nI ht144 (by omega), ?_⟩
    rw [nI_clamp (by omega), hA _ ht144]
    unfold lk_gv at h153
    rw [if_pos e] at h153
    exact h153
theorem lk_ywr {post : SY → Prop} {W : Nat → Bool} {P : Nat → Int32} {k p : Nat} (hC : ∀ m, m < 6 → b_counts m = nI (L m) ∧ L m ≤ 24) (hL : lk_LS ms g_many b_list) (E : lk_E b_ops b_opA b_opB L ms)
    (hin : lk_in L ms k) (hW : lk_LB W b_wide) (hWj : ∀ k, W k = true → lk_jm (b_ops k) = true) (hA : ∀ j, j < 144 → b_places j = P j) (hP : P k = nI p) (hp3 : p + lk_sz b_ops b_opA b_opB W k p ≤ 256)
    (hp : post (g_origin, g_strip, g_many, g_culprit, g_textEnd, g_end, g_made, g_rounds, g_entry, g_linked, g_ran, g_pc, g_steps, g_outs, b_ops, b_opA, b_opB, b_counts, b_roles, b_list, b_places, b_symbols, lk_em b_ops b_opA b_opB L ms W P b_image k, b_stays, b_wide, b_memory, b_reg, b_out)) : wpY_write post (g_origin, g_strip, g_many, g_culprit, g_textEnd, g_end, g_made, g_rounds, g_entry, g_linked, g_ran, g_pc, g_steps, g_outs, b_ops, b_opA, b_opB, b_counts, b_roles, b_list, b_places, b_symbols, b_image, b_stays, b_wide, b_memory, b_reg, b_out) (nI k) (nI p) := by
  obtain ⟨hk, hk6, -, -⟩ := lk_in_144 E hin
  have hok := lk_ok_in E hin
  have hv : vp_in (nI k) 144 := vp_in_nI hk (by omega)
  have hc : (nI k).toNatClampNeg = k := nI_clamp (by omega)
  obtain ⟨j, hj, ho⟩ := hok.1
  refine And.intro hv (nm_r (e' := b_ops k) (by rw [hc]) (And.intro hv (nm_r (e' := b_opA k) (by rw [hc]) (And.intro hv (nm_r (e' := b_opB k) (by rw [hc]) ?_)))))
  by_cases h0 : b_ops k = 0
  · refine br_t h0 ?_
    unfold lk_em at hp
    rw [if_pos h0] at hp
    exact hp
  refine br_f h0 ?_
  by_cases h16 : b_ops k ≤ 16
  · have hj16 : j ≤ 16 := by rw [ho] at h16; exact (nI_leI (b := 16) (by omega) (by omega)).mp h16
    have hj0 : 1 ≤ j := by
      rcases Nat.eq_zero_or_pos j with e | e
      · exfalso; apply h0; rw [ho, e]; rfl
      · exact e
    have hs := lk_sz12 (a := b_opA) (b := b_opB) (W := W) ho hj0 hj16 p
    have hv2 : vp_in (nI p) 256 := vp_in_nI (by omega) (by omega)
    refine br_t h16 ?_
    by_cases h15 : b_ops k = 15
    · refine br_t h15 ⟨hv2, nm_e ?_⟩
      unfold lk_em at hp
      rw [if_neg h0, if_pos h16, if_pos h15, hP] at hp
      exact hp
    refine br_f h15 ?_
    by_cases h6 : b_ops k = 16
    · have hus : ly_us (b_ops k) = true := by rw [h6]; decide
      have htg := lk_tg_in E hin hus
      obtain ⟨ht144, -⟩ := lk_in_144 E htg
      refine br_t h6 (lk_ytg hC hL E hin hus ⟨vp_in_nI ht144 (by omega), hv2, nm_e ?_⟩)
      rw [nI_clamp (by omega : lk_tg b_ops b_opA b_opB L ms k < 2 ^ 31), hA _ ht144]
      unfold lk_em at hp
      rw [if_neg h0, if_pos h16, if_neg h15, if_pos h6, hP] at hp
      exact hp
    refine br_f h6 ?_
    have hj14 : j ≤ 14 := by
      rcases (by omega : j ≤ 14 ∨ j = 15 ∨ j = 16) with e | e | e
      · exact e
      · exfalso; apply h15; rw [ho, e]; rfl
      · exfalso; apply h6; rw [ho, e]; rfl
    have h112 : wY_write_112 post (nI k) (nI p) (b_ops k) (b_opA k) (b_opB k) (ly_b (ly_rg (b_ops k))) g_origin g_strip g_many g_culprit g_textEnd g_end g_made g_rounds g_entry g_linked g_ran g_pc g_steps g_outs b_ops b_opA b_opB b_counts b_roles b_list b_places b_symbols b_image b_stays b_wide b_memory b_reg b_out := by
      unfold wY_write_112
      refine lk_ysz (W := W) hk hok (hW k hk) (hWj k) (by omega) ?_
      by_cases z : lk_sz b_ops b_opA b_opB W k p = 2
      · refine br_t (by rw [z]; rfl) ?_
        exact lk_y129 (W := W) (tw := true) hC hL E hin hA hP ho hj0 hj14 (decide_eq_true z) (by rw [if_pos rfl]; omega) hp
      · refine br_f (by rw [show (2 : Int32) = nI 2 from rfl, nI_eq (by omega) (by omega)]; exact z) ?_
        exact lk_y129 (W := W) (tw := false) hC hL E hin hA hP ho hj0 hj14 (decide_eq_false z) (by rw [if_neg (by decide)]; omega) hp
    refine ly_yin (ly_br (fun e => ?_) (fun e => ?_))
    · by_cases h9 : b_ops k = 9
      · have hr : ly_rg (b_ops k) = true := by rw [h9]; decide
        rw [hr] at h112
        exact br_t h9 h112
      refine br_f h9 ?_
      by_cases h12 : b_ops k = 12
      · have hr : ly_rg (b_ops k) = true := by rw [h12]; decide
        rw [hr] at h112
        exact br_t h12 h112
      refine br_f h12 ?_
      by_cases h13 : b_ops k = 13
      · have hr : ly_rg (b_ops k) = true := by rw [h13]; decide
        rw [hr] at h112
        exact br_t h13 h112
      refine br_f h13 ?_
      have hr : ly_rg (b_ops k) = false := by unfold ly_rg; rw [e, decide_eq_false h9, decide_eq_false h12, decide_eq_false h13]; rfl
      rw [hr] at h112
      exact h112
    · have hr : ly_rg (b_ops k) = true := by unfold ly_rg; rw [e]; rfl
      rw [hr] at h112
      exact h112
  · refine br_f h16 ?_
    unfold lk_em at hp
    rw [if_neg h0, if_neg h16] at hp
    exact hp
end ye
end
section
/-! the image: both orders of writing give the same -/
section imp
variable {o a b : Nat → Int32} {L : Nat → Nat} {ms : List Nat} {W : Nat → Bool} {P : Nat → Int32}
theorem lk_em_form {k p : Nat} (hok : ly_ok (o k) (a k) (b k)) (hP : P k = nI p) (hp : p < 2 ^ 31) :
    ∃ (C : Nat → Bool) (V : Nat → Int32), (∀ img j, lk_em o a b L ms W P img k j = if C j = true then V j else img j) ∧ ∀ j, C j = true → p ≤ j ∧ j < p + lk_sz o a b W k p := by
  obtain ⟨j, hj, ho⟩ := hok.1
  by_cases h0 : o k = 0
  · refine ⟨fun _ => false, fun _ => 0, fun img i => ?_, fun i h => nomatch h⟩
    unfold lk_em
    rw [if_pos h0]
    exact (if_neg (by simp)).symm
  by_cases h16 : o k ≤ 16
  · have hj16 : j ≤ 16 := by rw [ho] at h16; exact (nI_leI (b := 16) (by omega) (by omega)).mp h16
    have hj0 : 1 ≤ j := by
      rcases Nat.eq_zero_or_pos j with e | e
      · exfalso; apply h0; rw [ho, e]; rfl
      · exact e
    have hs := lk_sz12 (a := a) (b := b) (W := W) ho hj0 hj16 p
    have one : ∀ v : Int32, (∀ img, lk_em o a b L ms W P img k = upd img p v) → ∃ (C : Nat → Bool) (V : Nat → Int32), (∀ img j, lk_em o a b L ms W P img k j = if C j = true then V j else img j) ∧ ∀ j, C j = true → p ≤ j ∧ j < p + lk_sz o a b W k p := by
      intro v hv
      refine ⟨fun i => decide (i = p), fun _ => v, fun img i => ?_, fun i h => ?_⟩
      · rw [hv img]
        by_cases z : i = p
        · rw [z, pk_us, if_pos (by simp)]
        · rw [pk_un z, if_neg (by simp [z])]
      · have : i = p := of_decide_eq_true h
        omega
    by_cases h15 : o k = 15
    · exact one _ (fun img => by unfold lk_em; rw [if_neg h0, if_pos h16, if_pos h15, hP, nI_clamp hp])
    by_cases h6 : o k = 16
    · exact one _ (fun img => by unfold lk_em; rw [if_neg h0, if_pos h16, if_neg h15, if_pos h6, hP, nI_clamp hp])
    by_cases ht : lk_tw o a b W P k = true
    · have hsz : lk_sz o a b W k p = 2 := by
        unfold lk_tw at ht
        rw [hP, nI_clamp hp] at ht
        exact of_decide_eq_true ht
      refine ⟨fun i => decide (i = p) || decide (i = p + 1), fun i => if i = p + 1 then lk_gv o a b L ms P k else lk_w1 o a b L ms W P k, fun img i => ?_, fun i h => ?_⟩
      · unfold lk_em
        rw [if_neg h0, if_pos h16, if_neg h15, if_neg h6, if_pos ht, hP, nI_clamp hp]
        dsimp only
        by_cases z : i = p + 1
        · rw [z, pk_us, if_pos (by simp), if_pos rfl]
        · rw [pk_un z, if_neg z]
          by_cases y : i = p
          · rw [y, pk_us, if_pos (by simp)]
          · rw [pk_un y, if_neg (by simp [y, z])]
      · dsimp only at h
        rw [Bool.or_eq_true, decide_eq_true_eq, decide_eq_true_eq] at h
        omega
    · exact one _ (fun img => by unfold lk_em; rw [if_neg h0, if_pos h16, if_neg h15, if_neg h6, if_neg ht, hP, nI_clamp hp])
  · refine ⟨fun _ => false, fun _ => 0, fun img i => ?_, fun i h => nomatch h⟩
    unfold lk_em
    rw [if_neg h0, if_neg h16]
    exact (if_neg (by simp)).symm
theorem lk_em_comm {l : List Nat} {g : Nat} (hok : ∀ k, k ∈ l → ly_ok (o k) (a k) (b k)) (hnd : l.Nodup) (hen : lk_en o a b W l g ≤ 256) : ∀ x, x ∈ l → ∀ y, y ∈ l → ∀ z : Nat → Int32,
    lk_em o a b L ms W (lk_ad o a b W l g) (lk_em o a b L ms W (lk_ad o a b W l g) z x) y = lk_em o a b L ms W (lk_ad o a b W l g) (lk_em o a b L ms W (lk_ad o a b W l g) z y) x := by
  intro x hx y hy z
  by_cases e : x = y
  · rw [e]
  · obtain ⟨px, x1, x2, x3⟩ := lk_ad_some (W := W) (p := g) hok hx
    obtain ⟨py, y1, y2, y3⟩ := lk_ad_some (W := W) (p := g) hok hy
    have hdis := lk_ad_dis hok (by omega) hnd hx hy e (by omega) (by omega) x1 y1
    obtain ⟨Cx, Vx, fx1, fx2⟩ := lk_em_form (L := L) (ms := ms) (W := W) (hok x hx) x1 (by omega)
    obtain ⟨Cy, Vy, fy1, fy2⟩ := lk_em_form (L := L) (ms := ms) (W := W) (hok y hy) y1 (by omega)
    funext j
    rw [fy1, fx1, fx1, fy1]
    by_cases cx : Cx j = true
    · by_cases cy : Cy j = true
      · have := fx2 j cx
        have := fy2 j cy
        omega
      · rw [if_pos cx, if_neg cy, if_pos cx]
    · rw [if_neg cx, if_neg cx]
theorem lk_img {l : List Nat} {g : Nat} {Z : Nat → Int32} (hok : ∀ k, k ∈ l → ly_ok (o k) (a k) (b k)) (hnd : l.Nodup) (h144 : ∀ k, k ∈ l → k < 144) (hen : lk_en o a b W l g ≤ 256) :
    ((List.range 144).filter (fun j => decide (j ∈ l))).foldl (lk_em o a b L ms W (lk_ad o a b W l g)) Z = l.foldl (lk_em o a b L ms W (lk_ad o a b W l g)) Z := by
  have hperm : l.Perm ((List.range 144).filter (fun j => decide (j ∈ l))) := by
    rw [List.perm_ext_iff_of_nodup hnd (List.Nodup.sublist List.filter_sublist List.nodup_range)]
    intro x
    rw [List.mem_filter, List.mem_range, decide_eq_true_eq]
    exact ⟨fun h => ⟨h144 x h, h⟩, fun h => h.2⟩
  exact (hperm.foldl_eq' (lk_em_comm hok hnd hen) Z).symm
end imp
/-- a symbol's address -/
def lk_sa (o a b : Nat → Int32) (L : Nat → Nat) (ms : List Nat) (P : Nat → Int32) (s : Nat) : Int32 := if lk_ch o a b L (nI s) ms = -1 then -1 else P (lk_ch o a b L (nI s) ms).toNatClampNeg
theorem lk_sh {x : Int32} (h : x = -1 ∨ ∃ q, q < 4096 ∧ x = nI q) : vp_nar .short (x.toInt16.toInt32) = x := by
  rcases h with e | ⟨q, hq, e⟩
  · rw [e]; exact ly_ns1
  · rw [e]; exact ly_ns q hq
section xk
variable {f_origin f_culprit f_strip f_listed f_units f_ordered f_textEnd f_end f_longs f_rounds f_keptListed f_entry f_linked f_pc f_steps f_outs f_ran : Int32} {a_op a_opA a_opB a_section a_length a_role a_labelAt a_used a_local a_global a_weak a_faulty a_list a_chosen a_order a_lengthened a_at a_keptAt a_keptSymbol a_keptList a_image a_sizes a_words a_apart a_partA a_partN a_wide a_r a_output : Nat → Int32} {L : Nat → Nat} {ms : List Nat}
theorem lk_x209 {post : SX → Prop} {W : Nat → Bool} {P : Nat → Int32} {l : List Nat} {Z : Nat → Int32} (hJ : lk_XJ a_op a_opA a_opB a_length a_section a_labelAt a_used a_local a_global a_weak a_faulty L) (E : lk_E a_op a_opA a_opB L ms) (hX : lk_XC a_op a_opA a_opB L ms a_chosen)
    (hO : lk_OS l f_ordered a_order) (hall : ∀ k, k ∈ l → lk_in L ms k) (hlen : l.length ≤ 144) (hW : lk_LB W a_lengthened) (hWj : ∀ k, W k = true → lk_jm (a_op k) = true) (hA : ∀ j, j < 144 → a_at j = P j)
    (hP : ∀ k, k ∈ l → ∃ p, P k = nI p ∧ p + lk_sz a_op a_opA a_opB W k p ≤ 256) (hp : post (f_origin, f_culprit, f_strip, f_listed, f_units, f_ordered, f_textEnd, f_end, f_longs, f_rounds, f_keptListed, f_entry, f_linked, f_pc, f_steps, f_outs, f_ran, a_op, a_opA, a_opB, a_section, a_length, a_role, a_labelAt, a_used, a_local, a_global, a_weak, a_faulty, a_list, a_chosen, a_order, a_lengthened, a_at, a_keptAt, a_keptSymbol, a_keptList, l.foldl (lk_em a_op a_opA a_opB L ms W P) Z, a_sizes, a_words, a_apart, a_partA, a_partN, a_wide, a_r, a_output)) :
    ∀ rest pre f, l = pre ++ rest → rest.length < f → wX_keep_209 post f (nI pre.length) f_origin f_culprit f_strip f_listed f_units f_ordered f_textEnd f_end f_longs f_rounds f_keptListed f_entry f_linked f_pc f_steps f_outs f_ran a_op a_opA a_opB a_section a_length a_role a_labelAt a_used a_local a_global a_weak a_faulty a_list a_chosen a_order a_lengthened a_at a_keptAt a_keptSymbol a_keptList (pre.foldl (lk_em a_op a_opA a_opB L ms W P) Z) a_sizes a_words a_apart a_partA a_partN a_wide a_r a_output := by
  have e0 := hO.1
  subst e0
  intro rest
  induction rest with
  | nil =>
    intro pre f e hf
    obtain ⟨f, rfl⟩ : ∃ f', f = f' + 1 := ⟨f - 1, by omega⟩
    rw [List.append_nil] at e
    subst e
    exact br_t (Int32.le_refl _) hp
  | cons k rest ih =>
    intro pre f e hf
    rw [List.length_cons] at hf
    obtain ⟨f, rfl⟩ : ∃ f', f = f' + 1 := ⟨f - 1, by omega⟩
    obtain ⟨hr, hlt⟩ := lk_OS_at hO e
    have hk : k ∈ l := by rw [e]; simp
    obtain ⟨p, p1, p2⟩ := hP k hk
    refine br_f (nI_ge (by omega) (by omega)) (And.intro (vp_in_nI (by omega) (by omega)) ?_)
    rw [nI_clamp (by omega), hr]
    refine lk_xenc (W := W) (P := P) (a_image := pre.foldl (lk_em a_op a_opA a_opB L ms W P) Z) hJ E hX (hall k hk) hW hWj hA p1 p2 (nm_r (nI_1 _) ?_)
    have := ih (pre ++ [k]) f (by rw [e, List.append_assoc]; rfl) (by omega)
    rw [List.length_append, List.foldl_append] at this
    exact this
theorem lk_x187 {post : SX → Prop} (hp : ∃ n, wX_keep_209 post n 0 f_origin f_culprit f_strip f_listed f_units f_ordered f_textEnd f_end f_longs f_rounds f_keptListed f_entry f_linked f_pc f_steps f_outs f_ran a_op a_opA a_opB a_section a_length a_role a_labelAt a_used a_local a_global a_weak a_faulty a_list a_chosen a_order a_lengthened a_at a_keptAt a_keptSymbol a_keptList (ly_cp (fun _ => 0) a_image 256) a_sizes a_words a_apart a_partA a_partN a_wide a_r a_output) :
    ∀ n i, i ≤ 256 → 256 < n + i → wX_keep_187 post f_origin f_culprit f_strip f_listed f_units f_ordered f_textEnd f_end f_longs f_rounds f_keptListed f_entry f_linked f_pc f_steps f_outs f_ran n (nI i) a_op a_opA a_opB a_section a_length a_role a_labelAt a_used a_local a_global a_weak a_faulty a_list a_chosen a_order a_lengthened a_at a_keptAt a_keptSymbol a_keptList (ly_cp (fun _ => 0) a_image i) a_sizes a_words a_apart a_partA a_partN a_wide a_r a_output := by
  intro n
  induction n with
  | zero => intro i h1 h2; omega
  | succ n ih =>
    intro i h1 h2
    by_cases z : i = 256
    · subst z
      exact br_t (Int32.le_refl _) hp
    · refine br_f (nI_ge (b := 256) (by omega) (by omega)) (And.intro (vp_in_nI (by omega) (by omega)) (nm_r (e' := ly_cp (fun _ => 0) a_image (i + 1)) ?_ (nm_r (nI_1 i) (ih (i + 1) (by omega) (by omega)))))
      rw [nI_clamp (by omega)]
      exact ly_cps rfl
theorem lk_x187s {post : SX → Prop} (hp : ∃ n, wX_keep_209 post n 0 f_origin f_culprit f_strip f_listed f_units f_ordered f_textEnd f_end f_longs f_rounds f_keptListed f_entry f_linked f_pc f_steps f_outs f_ran a_op a_opA a_opB a_section a_length a_role a_labelAt a_used a_local a_global a_weak a_faulty a_list a_chosen a_order a_lengthened a_at a_keptAt a_keptSymbol a_keptList (ly_cp (fun _ => 0) a_image 256) a_sizes a_words a_apart a_partA a_partN a_wide a_r a_output) : wX_keep_187 post f_origin f_culprit f_strip f_listed f_units f_ordered f_textEnd f_end f_longs f_rounds f_keptListed f_entry f_linked f_pc f_steps f_outs f_ran 257 0 a_op a_opA a_opB a_section a_length a_role a_labelAt a_used a_local a_global a_weak a_faulty a_list a_chosen a_order a_lengthened a_at a_keptAt a_keptSymbol a_keptList a_image a_sizes a_words a_apart a_partA a_partN a_wide a_r a_output := by
  have h := lk_x187 hp 257 0 (by omega) (by omega)
  rw [ly_cp0] at h
  exact h
theorem lk_x89 {post : SX → Prop} {P : Nat → Int32} (E : lk_E a_op a_opA a_opB L ms) (hX : lk_XC a_op a_opA a_opB L ms a_chosen) (hA : ∀ j, j < 144 → a_at j = P j) (hP : ∀ j, j < 144 → P j = -1 ∨ ∃ q, q < 4096 ∧ P j = nI q)
    (hp : ∀ ks sz, (∀ s, s < 16 → ks s = lk_sa a_op a_opA a_opB L ms P s) → sz 0 = f_textEnd → sz 1 = f_end → sz 2 = f_longs → sz 3 = f_rounds → ∃ n, wX_keep_187 post f_origin f_culprit f_strip f_listed f_units f_ordered f_textEnd f_end f_longs f_rounds f_keptListed (ks 0) f_linked f_pc f_steps f_outs f_ran n 0 a_op a_opA a_opB a_section a_length a_role a_labelAt a_used a_local a_global a_weak a_faulty a_list a_chosen a_order a_lengthened a_at a_keptAt ks a_keptList a_image sz a_words a_apart a_partA a_partN a_wide a_r a_output) :
    ∀ d s f ks, s + d = 16 → d < f → (∀ t, t < s → ks t = lk_sa a_op a_opA a_opB L ms P t) → wX_keep_89 post f_origin f_culprit f_strip f_listed f_units f_ordered f_textEnd f_end f_longs f_rounds f_keptListed f_entry f_linked f_pc f_steps f_outs f_ran f (nI s) a_op a_opA a_opB a_section a_length a_role a_labelAt a_used a_local a_global a_weak a_faulty a_list a_chosen a_order a_lengthened a_at a_keptAt ks a_keptList a_image a_sizes a_words a_apart a_partA a_partN a_wide a_r a_output := by
  intro d
  induction d with
  | zero =>
    intro s f ks hs hf h
    obtain ⟨f, rfl⟩ : ∃ f', f = f' + 1 := ⟨f - 1, by omega⟩
    have : s = 16 := by omega
    subst this
    refine br_t (Int32.le_refl _) (nm_e (nm_e (nm_e (nm_e (nm_e ?_)))))
    exact hp ks _ h rfl rfl rfl rfl
  | succ d ih =>
    intro s f ks hs hf h
    obtain ⟨f, rfl⟩ : ∃ f', f = f' + 1 := ⟨f - 1, by omega⟩
    have hv : vp_in (nI s) 16 := vp_in_nI (by omega) (by omega)
    have hc : (nI s).toNatClampNeg = s := nI_clamp (by omega)
    have nxt : ∀ y, y = lk_sa a_op a_opA a_opB L ms P s → wX_keep_89 post f_origin f_culprit f_strip f_listed f_units f_ordered f_textEnd f_end f_longs f_rounds f_keptListed f_entry f_linked f_pc f_steps f_outs f_ran f (nI (s + 1)) a_op a_opA a_opB a_section a_length a_role a_labelAt a_used a_local a_global a_weak a_faulty a_list a_chosen a_order a_lengthened a_at a_keptAt (upd ks s y) a_keptList a_image a_sizes a_words a_apart a_partA a_partN a_wide a_r a_output := by
      intro y hy
      refine ih (s + 1) f _ (by omega) (by omega) (fun t ht => ?_)
      by_cases z : t = s
      · rw [z, pk_us, hy]
      · rw [pk_un z]; exact h t (by omega)
    refine br_f (nI_ge (b := 16) (by omega) (by omega)) (And.intro hv ?_)
    rw [hc]
    have hch := hX s (by omega)
    by_cases z : lk_ch a_op a_opA a_opB L (nI s) ms = -1
    · rw [if_pos z] at hch
      rw [hch]
      refine br_t (by decide) ⟨hv, nm_r (e' := upd ks s (-1)) (by rw [ly_ns1]) (nm_r (nI_1 s) (nxt _ ?_))⟩
      unfold lk_sa
      rw [if_pos z]
    · rw [if_neg z] at hch
      obtain ⟨m, q, hm, e1, e2⟩ := lk_ch_val E.1.2.1 (fun m hm => (E.2.1 m hm).1) (E.2.2.1 s (by omega)) z
      have hq := ly_lb_144 (E.1.2.1 m hm) (E.2.1 m (E.1.2.1 m hm)).1 e1
      rw [hch, e2]
      refine br_f (nI_ge (b := 144) hq (by omega)) ⟨hv, vp_in_nI hq (by omega), hv, nm_r (e' := upd ks s (P q)) (by rw [nI_clamp (by omega), hA q hq, lk_sh (hP q hq)]) (nm_r (nI_1 s) (nxt _ ?_))⟩
      unfold lk_sa
      rw [if_neg z, e2, nI_clamp (by omega)]
theorem lk_x41k {post : SX → Prop} {P : Nat → Int32} (hJ : lk_XJ a_op a_opA a_opB a_length a_section a_labelAt a_used a_local a_global a_weak a_faulty L) (hA : ∀ j, j < 144 → a_at j = P j) (hP : ∀ j, j < 144 → P j = -1 ∨ ∃ q, q < 4096 ∧ P j = nI q)
    (hP0 : ∀ j, j < 144 → L (j / 24) ≤ j % 24 → P j = -1) (hp : ∀ ka, (∀ j, j < 144 → ka j = P j) → ∃ n, wX_keep_89 post f_origin f_culprit f_strip f_listed f_units f_ordered f_textEnd f_end f_longs f_rounds f_keptListed f_entry f_linked f_pc f_steps f_outs f_ran n 0 a_op a_opA a_opB a_section a_length a_role a_labelAt a_used a_local a_global a_weak a_faulty a_list a_chosen a_order a_lengthened a_at ka a_keptSymbol a_keptList a_image a_sizes a_words a_apart a_partA a_partN a_wide a_r a_output) :
    ∀ d k f ka, k + d = 144 → d < f → (∀ j, j < k → ka j = P j) → wX_keep_41 post f_origin f_culprit f_strip f_listed f_units f_ordered f_textEnd f_end f_longs f_rounds f_keptListed f_entry f_linked f_pc f_steps f_outs f_ran f (nI k) a_op a_opA a_opB a_section a_length a_role a_labelAt a_used a_local a_global a_weak a_faulty a_list a_chosen a_order a_lengthened a_at ka a_keptSymbol a_keptList a_image a_sizes a_words a_apart a_partA a_partN a_wide a_r a_output := by
  intro d
  induction d with
  | zero =>
    intro k f ka hk hf h
    obtain ⟨f, rfl⟩ : ∃ f', f = f' + 1 := ⟨f - 1, by omega⟩
    have : k = 144 := by omega
    subst this
    exact br_t (Int32.le_refl _) (hp ka h)
  | succ d ih =>
    intro k f ka hk hf h
    obtain ⟨f, rfl⟩ : ∃ f', f = f' + 1 := ⟨f - 1, by omega⟩
    have hk144 : k < 144 := by omega
    have hv : vp_in (nI k) 144 := vp_in_nI hk144 (by omega)
    have hc : (nI k).toNatClampNeg = k := nI_clamp (by omega)
    have nxt : ∀ y, y = P k → wX_keep_41 post f_origin f_culprit f_strip f_listed f_units f_ordered f_textEnd f_end f_longs f_rounds f_keptListed f_entry f_linked f_pc f_steps f_outs f_ran f (nI (k + 1)) a_op a_opA a_opB a_section a_length a_role a_labelAt a_used a_local a_global a_weak a_faulty a_list a_chosen a_order a_lengthened a_at (upd ka k y) a_keptSymbol a_keptList a_image a_sizes a_words a_apart a_partA a_partN a_wide a_r a_output := by
      intro y hy
      refine ih (k + 1) f _ (by omega) (by omega) (fun t ht => ?_)
      by_cases z : t = k
      · rw [z, pk_us, hy]
      · rw [pk_un z]; exact h t (by omega)
    refine br_f (nI_ge (b := 144) (by omega) (by omega)) (And.intro (by decide) (And.intro (by decide) ?_))
    obtain ⟨hlen, h24, -⟩ := hJ (k / 24) (by omega)
    rw [ly_r24 (by omega), ly_d24 (by omega), nI_clamp (by omega : k / 24 < 2 ^ 31), hlen, hc]
    refine ⟨vp_in_nI (by omega) (by omega), pk_le (L (k / 24)) (k % 24) (fun h1 => ?_) (fun h1 => ?_)⟩
    · refine ⟨hv, nm_r (e' := upd ka k (-1)) (by rw [ly_ns1]) (nm_r (nI_1 k) (nxt _ ?_))⟩
      exact (hP0 k hk144 h1).symm
    · exact ⟨hv, hv, nm_r (e' := upd ka k (P k)) (by rw [hA k hk144, lk_sh (hP k hk144)]) (nm_r (nI_1 k) (nxt _ rfl))⟩
theorem lk_x15 {post : SX → Prop} (hp : ∀ kl, (∀ j, j < 6 → kl j = vp_nar .byte (a_list j)) → ∃ n, wX_keep_41 post f_origin f_culprit f_strip f_listed f_units f_ordered f_textEnd f_end f_longs f_rounds f_keptListed f_entry f_linked f_pc f_steps f_outs f_ran n 0 a_op a_opA a_opB a_section a_length a_role a_labelAt a_used a_local a_global a_weak a_faulty a_list a_chosen a_order a_lengthened a_at a_keptAt a_keptSymbol kl a_image a_sizes a_words a_apart a_partA a_partN a_wide a_r a_output) :
    ∀ d k f kl, k + d = 6 → d < f → (∀ j, j < k → kl j = vp_nar .byte (a_list j)) → wX_keep_15 post f_origin f_culprit f_strip f_listed f_units f_ordered f_textEnd f_end f_longs f_rounds f_keptListed f_entry f_linked f_pc f_steps f_outs f_ran f (nI k) a_op a_opA a_opB a_section a_length a_role a_labelAt a_used a_local a_global a_weak a_faulty a_list a_chosen a_order a_lengthened a_at a_keptAt a_keptSymbol kl a_image a_sizes a_words a_apart a_partA a_partN a_wide a_r a_output := by
  intro d
  induction d with
  | zero =>
    intro k f kl hk hf h
    obtain ⟨f, rfl⟩ : ∃ f', f = f' + 1 := ⟨f - 1, by omega⟩
    have : k = 6 := by omega
    subst this
    exact br_t (Int32.le_refl _) (hp kl h)
  | succ d ih =>
    intro k f kl hk hf h
    obtain ⟨f, rfl⟩ : ∃ f', f = f' + 1 := ⟨f - 1, by omega⟩
    have hv : vp_in (nI k) 6 := vp_in_nI (by omega) (by omega)
    refine br_f (nI_ge (b := 6) (by omega) (by omega)) (And.intro hv (And.intro hv (nm_r (e' := upd kl k (vp_nar .byte (a_list k))) (by rw [nI_clamp (by omega)]) (nm_r (nI_1 k) (ih (k + 1) f _ (by omega) (by omega) (fun t ht => ?_))))))
    by_cases z : t = k
    · rw [z, pk_us]
    · rw [pk_un z]; exact h t (by omega)
theorem lk_xkeep {post : SX → Prop} {W : Nat → Bool} {l : List Nat} {g : Nat} (hJ : lk_XJ a_op a_opA a_opB a_length a_section a_labelAt a_used a_local a_global a_weak a_faulty L) (E : lk_E a_op a_opA a_opB L ms) (hX : lk_XC a_op a_opA a_opB L ms a_chosen)
    (hO : lk_OS l f_ordered a_order) (hall : ∀ k, k ∈ l → lk_in L ms k) (hlen : l.length ≤ 144) (hW : lk_LB W a_lengthened) (hWj : ∀ k, W k = true → lk_jm (a_op k) = true)
    (hen : lk_en a_op a_opA a_opB W l g ≤ 256) (hA : ∀ j, j < 144 → a_at j = lk_ad a_op a_opA a_opB W l g j)
    (hp : ∀ kl ka ks sz, (∀ j, j < 6 → kl j = vp_nar .byte (a_list j)) → (∀ j, j < 144 → ka j = lk_ad a_op a_opA a_opB W l g j) → (∀ s, s < 16 → ks s = lk_sa a_op a_opA a_opB L ms (lk_ad a_op a_opA a_opB W l g) s) →
      sz 0 = f_textEnd → sz 1 = f_end → sz 2 = f_longs → sz 3 = f_rounds →
      post (f_origin, f_culprit, f_strip, f_listed, f_units, f_ordered, f_textEnd, f_end, f_longs, f_rounds, f_listed, ks 0, 1, f_pc, f_steps, f_outs, f_ran, a_op, a_opA, a_opB, a_section, a_length, a_role, a_labelAt, a_used, a_local, a_global, a_weak, a_faulty, a_list, a_chosen, a_order, a_lengthened, a_at, ka, ks, kl, l.foldl (lk_em a_op a_opA a_opB L ms W (lk_ad a_op a_opA a_opB W l g)) (ly_cp (fun _ => 0) a_image 256), sz, a_words, a_apart, a_partA, a_partN, a_wide, a_r, a_output)) :
    wpX_keep post (f_origin, f_culprit, f_strip, f_listed, f_units, f_ordered, f_textEnd, f_end, f_longs, f_rounds, f_keptListed, f_entry, f_linked, f_pc, f_steps, f_outs, f_ran, a_op, a_opA, a_opB, a_section, a_length, a_role, a_labelAt, a_used, a_local, a_global, a_weak, a_faulty, a_list, a_chosen, a_order, a_lengthened, a_at, a_keptAt, a_keptSymbol, a_keptList, a_image, a_sizes, a_words, a_apart, a_partA, a_partN, a_wide, a_r, a_output) := by
  have hokl : ∀ k, k ∈ l → ly_ok (a_op k) (a_opA k) (a_opB k) := fun k hk => lk_ok_in E (hall k hk)
  have hPs : ∀ k, k ∈ l → ∃ p, lk_ad a_op a_opA a_opB W l g k = nI p ∧ p + lk_sz a_op a_opA a_opB W k p ≤ 256 := fun k hk => by
    obtain ⟨q, q1, q2, q3⟩ := lk_ad_some (W := W) (p := g) hokl hk
    exact ⟨q, q1, by omega⟩
  have hP : ∀ j, j < 144 → lk_ad a_op a_opA a_opB W l g j = -1 ∨ ∃ q, q < 4096 ∧ lk_ad a_op a_opA a_opB W l g j = nI q := fun j hj => by
    by_cases z : j ∈ l
    · obtain ⟨q, q1, q2⟩ := hPs j z
      exact Or.inr ⟨q, by omega, q1⟩
    · exact Or.inl (lk_ad_none z)
  refine ⟨7, lk_x15 (fun kl hkl => ⟨145, ?_⟩) 6 0 7 a_keptList rfl (by omega) (fun j hj => absurd hj (by omega))⟩
  refine lk_x41k (P := lk_ad a_op a_opA a_opB W l g) hJ hA hP (fun j hj h => lk_ad_none (fun hm => ?_)) (fun ka hka => ⟨17, ?_⟩) 144 0 145 a_keptAt rfl (by omega) (fun j hj => absurd hj (by omega))
  · have := (hall j hm).2; omega
  refine lk_x89 (P := lk_ad a_op a_opA a_opB W l g) E hX hA hP (fun ks sz hks s0 s1 s2 s3 => ⟨257, ?_⟩) 16 0 17 a_keptSymbol rfl (by omega) (fun j hj => absurd hj (by omega))
  refine lk_x187s ⟨l.length + 1, ?_⟩
  exact lk_x209 (W := W) (P := lk_ad a_op a_opA a_opB W l g) hJ E hX hO hall hlen hW hWj hA hPs (hp kl ka ks sz hkl hka hks s0 s1 s2 s3) l [] _ rfl (by omega)
end xk
section yk
variable {g_origin g_strip g_many g_culprit g_textEnd g_end g_made g_rounds g_entry g_linked g_ran g_pc g_steps g_outs : Int32} {b_ops b_opA b_opB b_counts b_roles b_list b_places b_symbols b_image b_stays b_wide b_memory b_reg b_out : Nat → Int32} {L : Nat → Nat} {ms : List Nat}
theorem lk_y164 {post : Int32 → SY → Prop} {W : Nat → Bool} {P : Nat → Int32} {l : List Nat} {Z : Nat → Int32} (hC : ∀ m, m < 6 → b_counts m = nI (L m) ∧ L m ≤ 24) (hL : lk_LS ms g_many b_list) (E : lk_E b_ops b_opA b_opB L ms)
    (hall : ∀ k, k ∈ l → lk_in L ms k) (hW : lk_LB W b_wide) (hWj : ∀ k, W k = true → lk_jm (b_ops k) = true) (hA : ∀ j, j < 144 → b_places j = P j)
    (hP : ∀ k, k ∈ l → ∃ p, P k = nI p ∧ p + lk_sz b_ops b_opA b_opB W k p ≤ 256) (hP0 : ∀ j, j < 144 → j ∉ l → P j = -1)
    (hp : post 0 (g_origin, g_strip, g_many, g_culprit, g_textEnd, g_end, g_made, g_rounds, g_entry, 1, g_ran, g_pc, g_steps, g_outs, b_ops, b_opA, b_opB, b_counts, b_roles, b_list, b_places, b_symbols, ((List.range 144).filter (fun j => decide (j ∈ l))).foldl (lk_em b_ops b_opA b_opB L ms W P) Z, b_stays, b_wide, b_memory, b_reg, b_out)) :
    ∀ d k f, k + d = 144 → d < f → wY_arrange_164 post f (nI k) g_origin g_strip g_many g_culprit g_textEnd g_end g_made g_rounds g_entry g_linked g_ran g_pc g_steps g_outs b_ops b_opA b_opB b_counts b_roles b_list b_places b_symbols (((List.range k).filter (fun j => decide (j ∈ l))).foldl (lk_em b_ops b_opA b_opB L ms W P) Z) b_stays b_wide b_memory b_reg b_out := by
  intro d
  induction d with
  | zero =>
    intro k f hk hf
    obtain ⟨f, rfl⟩ : ∃ f', f = f' + 1 := ⟨f - 1, by omega⟩
    have : k = 144 := by omega
    subst this
    exact br_t (Int32.le_refl _) hp
  | succ d ih =>
    intro k f hk hf
    obtain ⟨f, rfl⟩ : ∃ f', f = f' + 1 := ⟨f - 1, by omega⟩
    have hk144 : k < 144 := by omega
    have hv : vp_in (nI k) 144 := vp_in_nI hk144 (by omega)
    have hc : (nI k).toNatClampNeg = k := nI_clamp (by omega)
    have ih' := ih (k + 1) f (by omega) (by omega)
    rw [List.range_succ, List.filter_append] at ih'
    refine br_f (nI_ge (b := 144) (by omega) (by omega)) (And.intro hv ?_)
    rw [hc, hA k hk144]
    by_cases z : k ∈ l
    · obtain ⟨p, p1, p2⟩ := hP k z
      rw [p1]
      rw [List.filter_cons_of_pos (by rw [decide_eq_true z]), List.filter_nil, List.foldl_append] at ih'
      refine br_f (nI_pos (by omega)) ⟨hv, ?_⟩
      exact lk_ywr (W := W) (P := P) hC hL E (hall k z) hW hWj hA p1 p2 (nm_r (nI_1 k) ih')
    · rw [hP0 k hk144 z]
      rw [List.filter_cons_of_neg (by rw [decide_eq_false z]; decide), List.filter_nil, List.append_nil] at ih'
      exact br_t (by decide) (nm_r (nI_1 k) ih')
theorem lk_y142 {post : Int32 → SY → Prop} (hp : ∃ n, wY_arrange_164 post n 0 g_origin g_strip g_many g_culprit g_textEnd g_end g_made g_rounds g_entry g_linked g_ran g_pc g_steps g_outs b_ops b_opA b_opB b_counts b_roles b_list b_places b_symbols (ly_cp (fun _ => 0) b_image 256) b_stays b_wide b_memory b_reg b_out) :
    ∀ n i, i ≤ 256 → 256 < n + i → wY_arrange_142 post g_origin g_strip g_many g_culprit g_textEnd g_end g_made g_rounds g_entry g_linked g_ran g_pc g_steps g_outs n (nI i) b_ops b_opA b_opB b_counts b_roles b_list b_places b_symbols (ly_cp (fun _ => 0) b_image i) b_stays b_wide b_memory b_reg b_out := by
  intro n
  induction n with
  | zero => intro i h1 h2; omega
  | succ n ih =>
    intro i h1 h2
    by_cases z : i = 256
    · subst z
      exact br_t (Int32.le_refl _) hp
    · refine br_f (nI_ge (b := 256) (by omega) (by omega)) (And.intro (vp_in_nI (by omega) (by omega)) (nm_r (e' := ly_cp (fun _ => 0) b_image (i + 1)) ?_ (nm_r (nI_1 i) (ih (i + 1) (by omega) (by omega)))))
      rw [nI_clamp (by omega)]
      exact ly_cps rfl
theorem lk_y142s {post : Int32 → SY → Prop} (hp : ∃ n, wY_arrange_164 post n 0 g_origin g_strip g_many g_culprit g_textEnd g_end g_made g_rounds g_entry g_linked g_ran g_pc g_steps g_outs b_ops b_opA b_opB b_counts b_roles b_list b_places b_symbols (ly_cp (fun _ => 0) b_image 256) b_stays b_wide b_memory b_reg b_out) : wY_arrange_142 post g_origin g_strip g_many g_culprit g_textEnd g_end g_made g_rounds g_entry g_linked g_ran g_pc g_steps g_outs 257 0 b_ops b_opA b_opB b_counts b_roles b_list b_places b_symbols b_image b_stays b_wide b_memory b_reg b_out := by
  have h := lk_y142 hp 257 0 (by omega) (by omega)
  rw [ly_cp0] at h
  exact h
theorem lk_y92 {post : Int32 → SY → Prop} {P : Nat → Int32} (hC : ∀ m, m < 6 → b_counts m = nI (L m) ∧ L m ≤ 24) (hL : lk_LS ms g_many b_list) (E : lk_E b_ops b_opA b_opB L ms) (hA : ∀ j, j < 144 → b_places j = P j)
    (hp : ∀ sy, (∀ s, s < 16 → sy s = lk_sa b_ops b_opA b_opB L ms P s) → ∃ n, wY_arrange_142 post g_origin g_strip g_many g_culprit g_textEnd g_end g_made g_rounds (sy 0) g_linked g_ran g_pc g_steps g_outs n 0 b_ops b_opA b_opB b_counts b_roles b_list b_places sy b_image b_stays b_wide b_memory b_reg b_out) :
    ∀ d s f sy, s + d = 16 → d < f → (∀ t, t < s → sy t = lk_sa b_ops b_opA b_opB L ms P t) → wY_arrange_92 post g_origin g_strip g_many g_culprit g_textEnd g_end g_made g_rounds g_entry g_linked g_ran g_pc g_steps g_outs f (nI s) b_ops b_opA b_opB b_counts b_roles b_list b_places sy b_image b_stays b_wide b_memory b_reg b_out := by
  intro d
  induction d with
  | zero =>
    intro s f sy hs hf h
    obtain ⟨f, rfl⟩ : ∃ f', f = f' + 1 := ⟨f - 1, by omega⟩
    have : s = 16 := by omega
    subst this
    exact br_t (Int32.le_refl _) (nm_e (hp sy h))
  | succ d ih =>
    intro s f sy hs hf h
    obtain ⟨f, rfl⟩ : ∃ f', f = f' + 1 := ⟨f - 1, by omega⟩
    have hv : vp_in (nI s) 16 := vp_in_nI (by omega) (by omega)
    have hc : (nI s).toNatClampNeg = s := nI_clamp (by omega)
    have nxt : ∀ y, y = lk_sa b_ops b_opA b_opB L ms P s → wY_arrange_92 post g_origin g_strip g_many g_culprit g_textEnd g_end g_made g_rounds g_entry g_linked g_ran g_pc g_steps g_outs f (nI (s + 1)) b_ops b_opA b_opB b_counts b_roles b_list b_places (upd sy s y) b_image b_stays b_wide b_memory b_reg b_out := by
      intro y hy
      refine ih (s + 1) f _ (by omega) (by omega) (fun t ht => ?_)
      by_cases z : t = s
      · rw [z, pk_us, hy]
      · rw [pk_un z]; exact h t (by omega)
    refine br_f (nI_ge (b := 16) (by omega) (by omega)) (lk_ych hC hL ?_)
    by_cases z : lk_ch b_ops b_opA b_opB L (nI s) ms = -1
    · rw [z]
      refine br_f (by decide) ⟨hv, nm_r (e' := upd sy s (-1)) (by rw [hc]) (nm_r (nI_1 s) (nxt _ ?_))⟩
      unfold lk_sa
      rw [if_pos z]
    · obtain ⟨m, q, hm, e1, e2⟩ := lk_ch_val E.1.2.1 (fun m hm => (E.2.1 m hm).1) (E.2.2.1 s (by omega)) z
      have hq := ly_lb_144 (E.1.2.1 m hm) (E.2.1 m (E.1.2.1 m hm)).1 e1
      rw [e2]
      refine br_t (nI_pos' (by omega)) ⟨vp_in_nI hq (by omega), hv, nm_r (e' := upd sy s (P q)) (by rw [hc, nI_clamp (by omega), hA q hq]) (nm_r (nI_1 s) (nxt _ ?_))⟩
      unfold lk_sa
      rw [if_neg z, e2, nI_clamp (by omega)]
/-- arrange as a whole -/
theorem lk_yarr {post : Int32 → SY → Prop} {g : Nat} {st : Nat → Bool} (hst : st = lk_st b_ops b_opA b_opB L ms g_strip) (hC : ∀ m, m < 6 → b_counts m = nI (L m) ∧ L m ≤ 24) (hL : lk_LS ms g_many b_list) (E : lk_E b_ops b_opA b_opB L ms) (hg : g ≤ 100) (ho : g_origin = nI g)
    (h4 : ∀ W' c' r' te' en' wi' A' S', lk_lay b_ops b_opA b_opB L ms (lk_ord b_ops b_opA L st ms) g 145 (fun _ => false) 0 0 = (true, W', c', r') → post 4 (g_origin, g_strip, g_many, g_culprit, te', en', nI c', nI r', g_entry, g_linked, g_ran, g_pc, g_steps, g_outs, b_ops, b_opA, b_opB, b_counts, b_roles, b_list, A', b_symbols, b_image, S', wi', b_memory, b_reg, b_out))
    (h0 : ∀ W' c' r' wi' A' S' sy, lk_lay b_ops b_opA b_opB L ms (lk_ord b_ops b_opA L st ms) g 145 (fun _ => false) 0 0 = (false, W', c', r') → lk_en b_ops b_opA b_opB W' (lk_ord b_ops b_opA L st ms) g ≤ 256 → (∀ j, j < 144 → A' j = lk_ad b_ops b_opA b_opB W' (lk_ord b_ops b_opA L st ms) g j) →
      (∀ s, s < 16 → sy s = lk_sa b_ops b_opA b_opB L ms (lk_ad b_ops b_opA b_opB W' (lk_ord b_ops b_opA L st ms) g) s) →
      post 0 (g_origin, g_strip, g_many, g_culprit, nI (lk_en b_ops b_opA b_opB W' (lk_or b_ops b_opA L st 0 ms) g), nI (lk_en b_ops b_opA b_opB W' (lk_ord b_ops b_opA L st ms) g), nI c', nI r', sy 0, 1, g_ran, g_pc, g_steps, g_outs, b_ops, b_opA, b_opB, b_counts, b_roles, b_list, A', sy, (lk_ord b_ops b_opA L st ms).foldl (lk_em b_ops b_opA b_opB L ms W' (lk_ad b_ops b_opA b_opB W' (lk_ord b_ops b_opA L st ms) g)) (ly_cp (fun _ => 0) b_image 256), S', wi', b_memory, b_reg, b_out)) :
    wpY_arrange post (g_origin, g_strip, g_many, g_culprit, g_textEnd, g_end, g_made, g_rounds, g_entry, g_linked, g_ran, g_pc, g_steps, g_outs, b_ops, b_opA, b_opB, b_counts, b_roles, b_list, b_places, b_symbols, b_image, b_stays, b_wide, b_memory, b_reg, b_out) := by
  have hall : ∀ k, k ∈ lk_ord b_ops b_opA L st ms → lk_in L ms k := fun k hk => ((lk_ord_mem E).mp hk).1
  have hok : ∀ k, k ∈ lk_ord b_ops b_opA L st ms → ly_ok (b_ops k) (b_opA k) (b_opB k) := fun k hk => lk_ok_in E (hall k hk)
  have hct : lk_ct (fun j => !(fun _ => false) j) 144 < 145 := Nat.lt_succ_of_le (lk_ct_le _ 144)
  unfold wpY_arrange
  refine lk_yfind hC hL E (fun S hS => ⟨145, ?_⟩)
  rw [← hst] at hS
  refine lk_y16 (b_stays := S) (fun wi hwi => ⟨146, ?_⟩) 144 0 145 b_wide rfl (by omega) (fun j hj => absurd hj (by omega))
  refine lk_y38 (st := st) (b_stays := S) hC hL E hS hg ho 145 146 (fun _ => false) 0 0 _ _ wi b_places hct (by omega) hwi (fun _ h => nomatch h) (fun W' c' r' te' en' wi' A' e => h4 W' c' r' te' en' wi' A' S e) (fun W' c' r' wi' A' e hen hB hWj hA => ⟨17, ?_⟩) 1 (by decide)
  refine lk_y92 (P := lk_ad b_ops b_opA b_opB W' (lk_ord b_ops b_opA L st ms) g) hC hL E hA (fun sy hsy => ⟨257, ?_⟩) 16 0 17 b_symbols rfl (by omega) (fun t ht => absurd ht (by omega))
  refine lk_y142s ⟨145, ?_⟩
  have hPs : ∀ k, k ∈ lk_ord b_ops b_opA L st ms → ∃ p, lk_ad b_ops b_opA b_opB W' (lk_ord b_ops b_opA L st ms) g k = nI p ∧ p + lk_sz b_ops b_opA b_opB W' k p ≤ 256 := fun k hk => by
    obtain ⟨q, q1, q2, q3⟩ := lk_ad_some (W := W') (p := g) hok hk
    exact ⟨q, q1, by omega⟩
  refine lk_y164 (W := W') (P := lk_ad b_ops b_opA b_opB W' (lk_ord b_ops b_opA L st ms) g) (l := lk_ord b_ops b_opA L st ms) (Z := ly_cp (fun _ => 0) b_image 256) hC hL E hall hB hWj hA hPs (fun j hj hn => lk_ad_none hn) ?_ 144 0 145 rfl (by omega)
  rw [lk_img hok (lk_ord_nd E) (fun k hk => (lk_in_144 E (hall k hk)).1) hen]
  exact h0 W' c' r' wi' A' S sy e hen hA hsy
end yk
end
section
/-! link -/
section xlk
variable {f_origin f_culprit f_strip f_listed f_units f_ordered f_textEnd f_end f_longs f_rounds f_keptListed f_entry f_linked f_pc f_steps f_outs f_ran : Int32} {a_op a_opA a_opB a_section a_length a_role a_labelAt a_used a_local a_global a_weak a_faulty a_list a_chosen a_order a_lengthened a_at a_keptAt a_keptSymbol a_keptList a_image a_sizes a_words a_apart a_partA a_partN a_wide a_r a_output : Nat → Int32} {L : Nat → Nat} {ms : List Nat}
/-- X from the choice on: stay, arrange, keep -/
theorem lk_xarr {post : Int32 → SX → Prop} {g : Nat} {st : Nat → Bool} (hst : st = lk_st a_op a_opA a_opB L ms f_strip) (hJ : lk_XJ a_op a_opA a_opB a_length a_section a_labelAt a_used a_local a_global a_weak a_faulty L) (E : lk_E a_op a_opA a_opB L ms) (hX : lk_XC a_op a_opA a_opB L ms a_chosen) (hL : lk_LS ms f_listed a_list)
    (hg : g ≤ 100) (ho : f_origin = nI g)
    (h4 : ∀ W' c' r' un od te en ar le at', lk_lay a_op a_opA a_opB L ms (lk_ord a_op a_opA L st ms) g 145 (fun _ => false) 0 0 = (true, W', c', r') →
      post 4 (f_origin, f_culprit, f_strip, f_listed, un, od, te, en, nI c', nI r', f_keptListed, f_entry, f_linked, f_pc, f_steps, f_outs, f_ran, a_op, a_opA, a_opB, a_section, a_length, a_role, a_labelAt, a_used, a_local, a_global, a_weak, a_faulty, a_list, a_chosen, ar, le, at', a_keptAt, a_keptSymbol, a_keptList, a_image, a_sizes, a_words, a_apart, a_partA, a_partN, a_wide, a_r, a_output))
    (h0 : ∀ W' c' r' un od ar le at' kl ka ks sz, lk_lay a_op a_opA a_opB L ms (lk_ord a_op a_opA L st ms) g 145 (fun _ => false) 0 0 = (false, W', c', r') → lk_en a_op a_opA a_opB W' (lk_ord a_op a_opA L st ms) g ≤ 256 →
      (∀ j, j < 6 → kl j = vp_nar .byte (a_list j)) → (∀ j, j < 144 → ka j = lk_ad a_op a_opA a_opB W' (lk_ord a_op a_opA L st ms) g j) → (∀ s, s < 16 → ks s = lk_sa a_op a_opA a_opB L ms (lk_ad a_op a_opA a_opB W' (lk_ord a_op a_opA L st ms) g) s) →
      sz 0 = nI (lk_en a_op a_opA a_opB W' (lk_or a_op a_opA L st 0 ms) g) → sz 1 = nI (lk_en a_op a_opA a_opB W' (lk_ord a_op a_opA L st ms) g) → sz 2 = nI c' → sz 3 = nI r' →
      post 0 (f_origin, f_culprit, f_strip, f_listed, un, od, nI (lk_en a_op a_opA a_opB W' (lk_or a_op a_opA L st 0 ms) g), nI (lk_en a_op a_opA a_opB W' (lk_ord a_op a_opA L st ms) g), nI c', nI r', f_listed, ks 0, 1, f_pc, f_steps, f_outs, f_ran, a_op, a_opA, a_opB, a_section, a_length, a_role, a_labelAt, a_used, a_local, a_global, a_weak, a_faulty, a_list, a_chosen, ar, le, at', ka, ks, kl, (lk_ord a_op a_opA L st ms).foldl (lk_em a_op a_opA a_opB L ms W' (lk_ad a_op a_opA a_opB W' (lk_ord a_op a_opA L st ms) g)) (ly_cp (fun _ => 0) a_image 256), sz, a_words, a_apart, a_partA, a_partN, a_wide, a_r, a_output)) :
    wX_link_29 post 0 f_origin f_culprit f_strip f_listed f_units f_ordered f_textEnd f_end f_longs f_rounds f_keptListed f_entry f_linked f_pc f_steps f_outs f_ran a_op a_opA a_opB a_section a_length a_role a_labelAt a_used a_local a_global a_weak a_faulty a_list a_chosen a_order a_lengthened a_at a_keptAt a_keptSymbol a_keptList a_image a_sizes a_words a_apart a_partA a_partN a_wide a_r a_output := by
  have hall : ∀ k, k ∈ lk_ord a_op a_opA L st ms → lk_in L ms k := fun k hk => ((lk_ord_mem E).mp hk).1
  have hlen := lk_ord_144 (st := st) E
  have hnd := lk_ord_nd (st := st) E
  have hct : lk_ct (fun j => !(fun _ => false) j) 144 < 145 := Nat.lt_succ_of_le (lk_ct_le _ 144)
  unfold wX_link_29
  refine br_t rfl (lk_xstay hJ E hX hL (fun U hU => ?_))
  rw [← hst] at hU
  refine ⟨145, ?_⟩
  refine lk_x7i (f_units := U) (f_ordered := 0) (fun le at' hle hat => ⟨3, ?_⟩) 144 0 145 a_lengthened a_at rfl (by omega) (fun j hj => absurd hj (by omega)) (fun j hj => absurd hj (by omega))
  refine lk_x41 (st := st) (f_units := U) (f_textEnd := 0) (a_lengthened := le) (a_at := at') hJ E hU hL (fun no ar hO => ⟨146, ?_⟩)
  refine lk_x108 (f_units := U) (f_ordered := no) (a_order := ar) (l := lk_ord a_op a_opA L st ms) (l0 := lk_or a_op a_opA L st 0 ms) (l1 := lk_or a_op a_opA L st 1 ms) (g := g) hJ E hX rfl hO hall hnd hlen hg ho 145 146 (fun _ => false) 0 0 _ _ le at' hct (by omega) hle (fun j hj _ => hat j hj) (fun W' c' r' te' en' le' at'' e => ?_) (fun W' c' r' le' at'' e hen hB hA => ?_)
  · unfold wX_link_42
    exact br_f (by decide) (h4 W' c' r' _ _ _ _ _ _ _ e)
  · have hWj : ∀ k, W' k = true → lk_jm (a_op k) = true := by
      have key : ∀ d W c r, (∀ k, W k = true → lk_jm (a_op k) = true) → ∀ b W' c' r', lk_lay a_op a_opA a_opB L ms (lk_ord a_op a_opA L st ms) g d W c r = (b, W', c', r') → ∀ k, W' k = true → lk_jm (a_op k) = true := by
        intro d
        induction d with
        | zero => intro W c r h b W' c' r' e; cases e; exact h
        | succ d ih =>
          intro W c r h b W' c' r' e
          unfold lk_lay at e
          split at e
          · cases e; exact h
          · split at e
            · cases e; exact h
            · exact ih _ _ _ (lk_Wn_jm h) b W' c' r' e
      exact key 145 (fun _ => false) 0 0 (fun _ h => nomatch h) _ _ _ _ e
    unfold wX_link_42
    refine br_t rfl (lk_xkeep (W := W') (l := lk_ord a_op a_opA L st ms) (g := g) (f_units := U) (f_ordered := no) (a_order := ar) (a_lengthened := le') (a_at := at'') hJ E hX hO hall hlen hB hWj hen hA (fun kl ka ks sz k1 k2 k3 s0 s1 s2 s3 => ?_))
    exact h0 W' c' r' _ _ _ _ _ kl ka ks sz e hen k1 k2 k3 s0 s1 s2 s3
end xlk
theorem i_vc_link {k : Nat} {u : SX} {v : SY} (I : i_Rel k u v) (hk : k + 5 ≤ 2560) : wpX_link (fun r u' => wpY_link (fun r' v' => r' = r ∧ i_Rel (k + 5) u' v') v) u := by
  refine ly_el (P := fun u v => wpX_link (fun r u' => wpY_link (fun r' v' => r' = r ∧ i_Rel (k + 5) u' v') v) u) I ?_
  intro f_origin f_culprit f_strip f_listed f_units f_ordered f_textEnd f_end f_longs f_rounds f_keptListed f_entry f_linked f_pc f_steps f_outs f_ran a_op a_opA a_opB a_section a_length a_role a_labelAt a_used a_local a_global a_weak a_faulty a_list a_chosen a_order a_lengthened a_at a_keptAt a_keptSymbol a_keptList a_image a_sizes a_words a_apart a_partA a_partN a_wide a_r a_output g_many g_textEnd g_end g_made g_rounds b_list b_places b_symbols b_stays b_wide hO hJ0 hK
  have hJ1 := hJ0
  obtain ⟨L, hJ⟩ := hJ1
  have hJ' : lk_XJ a_op a_opA a_opB a_length a_section a_labelAt a_used a_local a_global a_weak a_faulty L := hJ
  have hC : ∀ m, m < 6 → a_length m = nI (L m) ∧ L m ≤ 24 := fun m hm => ⟨(hJ m hm).1, (hJ m hm).2.1⟩
  obtain ⟨g, hg, eo⟩ := hO
  unfold wpX_link
  refine lk_xlist (f_culprit := -1) (f_linked := 0) (f_ran := 0) hJ' (fun m fl l e => ?_) (fun m fl l e0 e => ?_) (fun ms fl l e0 e hLS => ?_)
  · refine br_f (by decide) (br_f (by decide) (br_f (by decide) ?_))
    refine lk_ylist hC (fun m' gm' l' e' => ?_) (fun m' gm' l' e0' _ => ?_) (fun ms' gm' l' e0' _ _ => ?_)
    · rw [e] at e'; cases e'
      exact ⟨rfl, ly_mk ⟨g, hg, eo⟩ hJ0 (Or.inl rfl)⟩
    · rw [e] at e0'; cases e0'
    · rw [e] at e0'; cases e0'
  · refine br_f (by decide) (br_f (by decide) (br_f (by decide) ?_))
    refine lk_ylist hC (fun m' gm' l' e' => ?_) (fun m' gm' l' e0' e' => ?_) (fun ms' gm' l' e0' e' _ => ?_)
    · rw [e0] at e'; cases e'
    · rw [e] at e'; cases e'
      exact ⟨rfl, ly_mk ⟨g, hg, eo⟩ hJ0 (Or.inl rfl)⟩
    · rw [e] at e'; cases e'
  · have hG : lk_Gd a_op a_opA L ms := lk_go_good e (lk_f1_good e0)
    have h6 := hG.2.1
    have yl : ∀ (post : Int32 → SY → Prop), (∀ gm' l', lk_LS ms gm' l' → ∃ n, wY_link_162 post f_origin f_strip gm' (-1) g_textEnd g_end g_made g_rounds f_entry 0 0 f_pc f_steps f_outs a_op a_opA a_opB a_length a_role l' b_places b_symbols a_image b_stays b_wide a_words a_r a_output n 0) → wpY_link post (f_origin, f_strip, g_many, f_culprit, g_textEnd, g_end, g_made, g_rounds, f_entry, f_linked, f_ran, f_pc, f_steps, f_outs, a_op, a_opA, a_opB, a_length, a_role, b_list, b_places, b_symbols, a_image, b_stays, b_wide, a_words, a_r, a_output) := by
      intro post h
      refine lk_ylist hC (fun m' gm' l' e' => ?_) (fun m' gm' l' e0' e' => ?_) (fun ms' gm' l' e0' e' hLS' => ?_)
      · rw [e0] at e'; cases e'
      · rw [e] at e'; cases e'
      · rw [e] at e'; cases e'
        exact h gm' l' hLS'
    refine br_t rfl (lk_xchoose (ms := ms) (f_culprit := -1) (f_listed := fl) (f_linked := 0) (f_ran := 0) (a_list := l) hJ' hG hLS (fun t ch ht c1 c2 => ?_) (fun t ch c0 ht c1 c2 c3 => ?_) (fun ch c1 c2 c3 => ?_))
    · refine br_f (by decide) (br_f (by decide) ?_)
      refine yl _ (fun gm' l' hLS' => ⟨17, lk_y162 (ms := ms) (L := L) hC hLS' (fun t' ht' d1 d2 => ?_) (fun d0 => ?_) (fun d0 => ?_) 16 0 17 rfl (by omega) (fun j hj => absurd hj (by omega))⟩)
      · have : t' = t := by
          rcases Nat.lt_trichotomy t' t with z | z | z
          · exact absurd d1 (c2 t' z)
          · exact z
          · exact absurd c1 (d2 t z)
        subst this
        exact ⟨rfl, ly_mk ⟨g, hg, eo⟩ hJ0 (Or.inl rfl)⟩
      · exact absurd c1 (d0 t ht)
      · exact absurd c1 (d0 t ht)
    · refine br_f (by decide) (br_f (by decide) ?_)
      refine yl _ (fun gm' l' hLS' => ⟨17, lk_y162 (ms := ms) (L := L) hC hLS' (fun t' ht' d1 d2 => ?_) (fun d0 t' ht' d1 d2 d3 => ?_) (fun d0 d1 => ?_) 16 0 17 rfl (by omega) (fun j hj => absurd hj (by omega))⟩)
      · exact absurd d1 (c0 t' ht')
      · have : t' = t := by
          rcases Nat.lt_trichotomy t' t with z | z | z
          · exact absurd ⟨d1, d2⟩ (c3 t' z)
          · exact z
          · exact absurd ⟨c1, c2⟩ (d3 t z)
        subst this
        exact ⟨rfl, ly_mk ⟨g, hg, eo⟩ hJ0 (Or.inl rfl)⟩
      · exact absurd ⟨c1, c2⟩ (d1 t ht)
    · have E : lk_E a_op a_opA a_opB L ms := ⟨hG, fun m hm => ⟨(hJ m hm).2.1, (hJ m hm).2.2.1⟩, c1, c2⟩
      have yl2 : ∀ (post : Int32 → SY → Prop), (∀ gm' l', lk_LS ms gm' l' → wpY_arrange post (f_origin, f_strip, gm', -1, g_textEnd, g_end, g_made, g_rounds, f_entry, 0, 0, f_pc, f_steps, f_outs, a_op, a_opA, a_opB, a_length, a_role, l', b_places, b_symbols, a_image, b_stays, b_wide, a_words, a_r, a_output)) → wpY_link post (f_origin, f_strip, g_many, f_culprit, g_textEnd, g_end, g_made, g_rounds, f_entry, f_linked, f_ran, f_pc, f_steps, f_outs, a_op, a_opA, a_opB, a_length, a_role, b_list, b_places, b_symbols, a_image, b_stays, b_wide, a_words, a_r, a_output) := by
        intro post h
        refine yl post (fun gm' l' hLS' => ⟨17, lk_y162 (ms := ms) (L := L) hC hLS' (fun t' ht' d1 d2 => ?_) (fun d0 t' ht' d1 d2 d3 => ?_) (fun d0 d1 => h gm' l' hLS') 16 0 17 rfl (by omega) (fun j hj => absurd hj (by omega))⟩)
        · exact absurd d1 (c1 t' ht')
        · exact absurd ⟨d1, d2⟩ (c2 t' ht')
      refine lk_xarr (g := g) (f_culprit := -1) (f_listed := fl) (f_linked := 0) (f_ran := 0) (a_list := l) (a_chosen := ch) rfl hJ' E c3 hLS hg eo (fun W' c' r' un od te en ar le at' el => ?_) (fun W' c' r' un od ar le at' kl ka ks sz el hen k1 k2 k3 s0 s1 s2 s3 => ?_)
      · refine yl2 _ (fun gm' l' hLS' => lk_yarr (g := g) rfl hC hLS' E hg eo (fun W'' c'' r'' te' en' wi' A' S' el' => ?_) (fun W'' c'' r'' wi' A' S' sy el' _ _ _ => ?_))
        · exact ⟨rfl, ly_mk ⟨g, hg, eo⟩ hJ0 (Or.inl rfl)⟩
        · rw [el] at el'; cases el'
      · refine yl2 _ (fun gm' l' hLS' => lk_yarr (g := g) rfl hC hLS' E hg eo (fun W'' c'' r'' te' en' wi' A' S' el' => ?_) (fun W'' c'' r'' wi' A' S' sy el' _ hA' hsy => ?_))
        · rw [el] at el'; cases el'
        · rw [el] at el'
          cases el'
          have es : sy 0 = ks 0 := by rw [hsy 0 (by omega), k3 0 (by omega)]
          rw [es]
          refine ⟨rfl, ly_mk ⟨g, hg, eo⟩ hJ0 (Or.inr ⟨⟨ms.length, hLS.2.1, hLS.1, hLS'.1, fun j hj => ?_⟩, fun s hs => ?_, fun j hj => ?_, s0, s1, s2, s3⟩)⟩
          · have h6' := hLS.2.1
            rw [k1 j (by omega), hLS.2.2.2 j hj, hLS'.2.2.2 j hj]
            refine ly_nb' _ ?_
            have hm : ms.getD j 0 ∈ ms := by
              rw [List.getD_eq_getElem?_getD, List.getElem?_eq_getElem hj]
              exact List.getElem_mem hj
            have := h6 _ hm
            omega
          · rw [k3 s hs, hsy s hs]
          · rw [k2 j hj, hA' j hj]
end

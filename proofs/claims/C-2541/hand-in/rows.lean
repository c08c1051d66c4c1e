section
/-! pure rows to paste: stores, nI and lN arithmetic, masks, shifts, narrowing, branches by naturals (pk_le, pk_lt, pk_eq), loops (lp1 .. lp16: the measure of the state; rp1 ..: recursion), negatives. Take what you need -/
theorem pk_us {f : Nat → Int32} {k : Nat} {x : Int32} : upd f k x k = x := if_pos rfl
theorem pk_un {f : Nat → Int32} {k j : Nat} {x : Int32} (h : j ≠ k) : upd f k x j = f j := if_neg h
theorem pk_uLs {f : Nat → Int64} {k : Nat} {x : Int64} : vp_updL f k x k = x := if_pos rfl
theorem pk_uLn {f : Nat → Int64} {k j : Nat} {x : Int64} (h : j ≠ k) : vp_updL f k x j = f j := if_neg h
theorem pk_sub {a b : Nat} (h : b ≤ a) : nI a - nI b = nI (a - b) := by
  obtain ⟨c, rfl⟩ : ∃ c, a = c + b := ⟨a - b, by omega⟩
  rw [← nI_add, Int32.add_sub_cancel, Nat.add_sub_cancel]
theorem pk_m1 (n : Nat) : nI (n + 1) + (-1) = nI n := by
  rw [← nI_1, Int32.add_assoc, show (1 : Int32) + (-1) = 0 from rfl, Int32.add_zero]
theorem pk_mul (a b : Nat) : nI a * nI b = nI (a * b) := (Int32.ofNat_mul a b).symm
theorem pk_div {a d : Nat} (ha : a < 2 ^ 31) (h0 : 0 < d) (hd : d < 2 ^ 31) : nI a / nI d = nI (a / d) := by
  apply Int32.toInt_inj.mp
  rw [lg_idiv_nonneg (by rw [nI_toInt ha]; omega) (by rw [nI_toInt hd]; omega), nI_toInt ha, nI_toInt hd, nI_toInt (Nat.lt_of_le_of_lt (Nat.div_le_self a d) ha)]
  first | rfl | exact (Int.natCast_ediv _ _).symm
theorem pk_rem {a d : Nat} (ha : a < 2 ^ 31) (h0 : 0 < d) (hd : d < 2 ^ 31) : nI a - nI a / nI d * nI d = nI (a % d) := by
  rw [pk_div ha h0 hd, pk_mul, pk_sub (Nat.div_mul_le_self a d)]
  exact congrArg nI (by have := Nat.div_add_mod' a d; omega)
theorem pk_sub_toInt {a b : Nat} (ha : a < 2 ^ 30) (hb : b < 2 ^ 30) : (nI a - nI b).toInt = (a : Int) - b := by
  rw [Int32.toInt_sub, nI_toInt (by omega), nI_toInt (by omega)]
  exact Int.bmod_eq_of_le (by omega) (by omega)
theorem pk_sneg {a b : Nat} (hb : b < 2 ^ 30) (h : a < b) : nI a - nI b < 0 := by
  rw [Int32.lt_iff_toInt_lt, pk_sub_toInt (by omega) hb, show (0 : Int32).toInt = 0 from by decide]
  omega
theorem pk_ix (x : Int32) {n : Nat} (hn : n < 2 ^ 31) : x < 0 ∨ nI n ≤ x ∨ ∃ j : Nat, j < n ∧ x = nI j := by
  by_cases h : x < 0
  · exact Or.inl h
  · obtain ⟨j, hj, rfl⟩ := nI_of h
    by_cases h2 : j < n
    · exact Or.inr (Or.inr ⟨j, h2, rfl⟩)
    · exact Or.inr (Or.inl (nI_le (by omega) hj))
theorem pk_le {x y : Int32} {A B : Prop} (a b : Nat) (f : a ≤ b → A) (g : b < a → B) (hx : x = nI a := by rfl) (hy : y = nI b := by rfl) (ha : a < 2 ^ 31 := by omega) (hb : b < 2 ^ 31 := by omega) : (x ≤ y → A) ∧ (¬ x ≤ y → B) := by
  subst hx hy
  rw [nI_leI ha hb]
  exact ⟨f, fun z => g (by omega)⟩
theorem pk_lt {x y : Int32} {A B : Prop} (a b : Nat) (f : a < b → A) (g : b ≤ a → B) (hx : x = nI a := by rfl) (hy : y = nI b := by rfl) (ha : a < 2 ^ 31 := by omega) (hb : b < 2 ^ 31 := by omega) : (x < y → A) ∧ (¬ x < y → B) := by
  subst hx hy
  rw [nI_ltI ha hb]
  exact ⟨f, fun z => g (by omega)⟩
theorem pk_eq {x y : Int32} {A B : Prop} (a b : Nat) (f : a = b → A) (g : a ≠ b → B) (hx : x = nI a := by rfl) (hy : y = nI b := by rfl) (ha : a < 2 ^ 31 := by omega) (hb : b < 2 ^ 31 := by omega) : (x = y → A) ∧ (¬ x = y → B) := by
  subst hx hy
  rw [nI_eq ha hb]
  exact ⟨f, g⟩
theorem pk_in {x : Int32} (n N : Nat) (h : n < N) (hx : x = nI n := by rfl) (hN : N < 2 ^ 31 := by omega) : vp_in x N := by
  subst hx
  exact vp_in_nI h hN
theorem pk_cl {x : Int32} (n : Nat) (hx : x = nI n := by rfl) (h : n < 2 ^ 31 := by omega) : x.toNatClampNeg = n := by
  subst hx
  exact nI_clamp h
theorem pk_tn {n : Nat} (h : n < 2 ^ 32) : (nI n).toBitVec.toNat = n := Nat.mod_eq_of_lt h
theorem pk_and (x : Int32) {m : Int32} (k : Nat) (hm : m.toBitVec.toNat = 2 ^ k - 1) : x &&& m = nI (x.toBitVec.toNat % 2 ^ k) := by
  apply Int32.toBitVec_inj.mp
  apply BitVec.eq_of_toNat_eq
  rw [Int32.toBitVec_and, BitVec.toNat_and, hm, Nat.and_two_pow_sub_one_eq_mod]
  show _ = (BitVec.ofNat 32 _).toNat
  rw [BitVec.toNat_ofNat]
  exact (Nat.mod_eq_of_lt (Nat.lt_of_le_of_lt (Nat.mod_le _ _) x.toBitVec.isLt)).symm
theorem pk_andN {n : Nat} (h : n < 2 ^ 32) {m : Int32} (k : Nat) (hm : m.toBitVec.toNat = 2 ^ k - 1) : nI n &&& m = nI (n % 2 ^ k) := by
  rw [pk_and _ k hm, pk_tn h]
theorem pk_andE (x : Int32) {m : Int32} (k : Nat) (hm : m.toBitVec.toNat = 2 ^ k - 1) : ∃ j : Nat, j < 2 ^ k ∧ x &&& m = nI j := ⟨_, Nat.mod_lt _ (Nat.two_pow_pos k), pk_and x k hm⟩
theorem pk_andIn (x : Int32) {m : Int32} (k : Nat) (hm : m.toBitVec.toNat = 2 ^ k - 1) (hk : k ≤ 30) : vp_in (x &&& m) (2 ^ k) := by
  obtain ⟨j, hj, e⟩ := pk_andE x k hm
  rw [e]
  exact vp_in_nI hj (Nat.lt_of_le_of_lt (Nat.pow_le_pow_right (by decide) hk) (by decide))
theorem pk_shl (a s : Int32) (k : Nat) (hs : (s.toBitVec.smod 32).toNat = k) : (a <<< s).toBitVec.toNat = a.toBitVec.toNat * 2 ^ k % 2 ^ 32 := by
  show (a.toBitVec <<< (s.toBitVec.smod 32).toNat).toNat = _
  rw [hs, BitVec.toNat_shiftLeft, Nat.shiftLeft_eq]
theorem pk_shlN {n : Nat} (s : Int32) (k : Nat) (hs : (s.toBitVec.smod 32).toNat = k) (h : n * 2 ^ k < 2 ^ 32) : nI n <<< s = nI (n * 2 ^ k) := by
  apply Int32.toBitVec_inj.mp
  apply BitVec.eq_of_toNat_eq
  have hn : n < 2 ^ 32 := Nat.lt_of_le_of_lt (Nat.le_mul_of_pos_right n (Nat.two_pow_pos k)) h
  rw [pk_shl _ _ k hs, pk_tn hn, pk_tn h, Nat.mod_eq_of_lt h]
theorem pk_shr (a s : Int32) (k : Nat) (hs : (s.toBitVec.smod 32).toNat = k) : (a >>> s).toInt = a.toInt >>> k := by
  show (a.toBitVec.sshiftRight (s.toBitVec.smod 32).toNat).toInt = _
  rw [hs, BitVec.toInt_sshiftRight]
  rfl
theorem pk_shrN {n : Nat} (h : n < 2 ^ 31) (s : Int32) (k : Nat) (hs : (s.toBitVec.smod 32).toNat = k) : nI n >>> s = nI (n / 2 ^ k) := by
  apply Int32.toInt_inj.mp
  have h2 : n / 2 ^ k ≤ n := Nat.div_le_self _ _
  rw [pk_shr _ _ k hs, nI_toInt h, nI_toInt (by omega), Int.shiftRight_eq_div_pow]
  rfl
theorem pk_ushr (x s : Int32) (k : Nat) (hs : ((s.toUInt32 &&& Int32.toUInt32 31).toBitVec % 32).toNat = k) : (x.toUInt32 >>> (s.toUInt32 &&& Int32.toUInt32 31)).toInt32.toBitVec.toNat = x.toBitVec.toNat / 2 ^ k := by
  have e : (x.toUInt32 >>> (s.toUInt32 &&& Int32.toUInt32 31)).toInt32.toBitVec = x.toBitVec >>> k := by
    rw [← hs]
    exact UInt32.toBitVec_shiftRight _ _
  rw [e, BitVec.toNat_ushiftRight, Nat.shiftRight_eq_div_pow]
theorem pk_ushrN {n : Nat} (hn : n < 2 ^ 32) (s : Int32) (k : Nat) (hs : ((s.toUInt32 &&& Int32.toUInt32 31).toBitVec % 32).toNat = k) : ((nI n).toUInt32 >>> (s.toUInt32 &&& Int32.toUInt32 31)).toInt32 = nI (n / 2 ^ k) := by
  apply Int32.toBitVec_inj.mp
  apply BitVec.eq_of_toNat_eq
  rw [pk_ushr _ s k hs, pk_tn hn, pk_tn (Nat.lt_of_le_of_lt (Nat.div_le_self _ _) hn)]
theorem pk_nb (z : Int32) : narrow .byte (.int z.toInt8.toInt32) = .int z.toInt8.toInt32 := congrArg Value.int (by simp)
theorem pk_ns (z : Int32) : narrow .short (.int z.toInt16.toInt32) = .int z.toInt16.toInt32 := congrArg Value.int (by simp)
theorem pk_fb (r : Int32) : fits .byte (.int r.toInt8.toInt32) = true := by
  have ⟨a, b⟩ := lg_i2b_range r
  have h1 : (-128 : Int32).toInt = -128 := by decide
  have h2 : (127 : Int32).toInt = 127 := by decide
  simp only [fits, Bool.and_eq_true, decide_eq_true_eq, Int32.le_iff_toInt_le, h1, h2]
  omega
theorem pk_fs (r : Int32) : fits .short (.int r.toInt16.toInt32) = true := by
  have ⟨a, b⟩ := lg_i2s_range r
  have h1 : (-32768 : Int32).toInt = -32768 := by decide
  have h2 : (32767 : Int32).toInt = 32767 := by decide
  simp only [fits, Bool.and_eq_true, decide_eq_true_eq, Int32.le_iff_toInt_le, h1, h2]
  omega
theorem pk_charN {q : Nat} (hq : q < 65536) : narrow .char (.int (nI q)) = .int (nI q) ∧ fits .char (.int (nI q)) = true := by
  constructor
  · have e : (nI q).toUInt32.toUInt16.toUInt32.toInt32 = nI q := by
      apply Int32.toBitVec_inj.mp
      apply BitVec.eq_of_toNat_eq
      show (nI q).toUInt32.toUInt16.toUInt32.toNat = q % 2 ^ 32
      rw [UInt16.toNat_toUInt32, UInt32.toNat_toUInt16, show (nI q).toUInt32.toNat = q % 2 ^ 32 from rfl]
      omega
    exact congrArg Value.int e
  · have a : (0 : Int32) ≤ nI q := nI_pos' (by omega)
    have b : nI q ≤ 65535 := nI_le (b := 65535) (by omega) (by decide)
    show (decide ((0 : Int32) ≤ nI q) && decide (nI q ≤ 65535)) = true
    rw [decide_eq_true a, decide_eq_true b]
    rfl
theorem pk_char (x : Int32) : (x.toUInt32 % 65536).toInt32 = nI (x.toBitVec.toNat % 65536) := by
  apply Int32.toBitVec_inj.mp
  apply BitVec.eq_of_toNat_eq
  rw [pk_tn (by omega)]
  show (x.toUInt32 % 65536).toNat = _
  rw [UInt32.toNat_mod]
  rfl
theorem pk_nc (x : Int32) : narrow .char (.int (x.toUInt32 % 65536).toInt32) = .int (x.toUInt32 % 65536).toInt32 := by
  rw [pk_char]
  exact (pk_charN (Nat.mod_lt _ (by decide))).1
theorem pk_fc (x : Int32) : fits .char (.int (x.toUInt32 % 65536).toInt32) = true := by
  rw [pk_char]
  exact (pk_charN (Nat.mod_lt _ (by decide))).2
theorem pk_vb (z : Int32) : vp_nar .byte z.toInt8.toInt32 = z.toInt8.toInt32 := by rw [vp_nar_byte]; simp
theorem pk_vs (z : Int32) : vp_nar .short z.toInt16.toInt32 = z.toInt16.toInt32 := by rw [vp_nar_short]; simp
theorem pk_vc (z : Int32) : vp_nar .char (z.toUInt32 % 65536).toInt32 = (z.toUInt32 % 65536).toInt32 := Value.int.inj (pk_nc z)
theorem pk_lT {n : Nat} (h : n < 2 ^ 63) : (lN n).toInt = (n : Int) := lg_ofNat_toInt h
theorem pk_lLT {a b : Nat} (ha : a < 2 ^ 63) (hb : b < 2 ^ 63) : lN a < lN b ↔ a < b := by
  rw [Int64.lt_iff_toInt_lt, pk_lT ha, pk_lT hb]; omega
theorem pk_lLE {a b : Nat} (ha : a < 2 ^ 63) (hb : b < 2 ^ 63) : lN a ≤ lN b ↔ a ≤ b := by
  rw [Int64.le_iff_toInt_le, pk_lT ha, pk_lT hb]; omega
theorem pk_lEQ {a b : Nat} (ha : a < 2 ^ 63) (hb : b < 2 ^ 63) : lN a = lN b ↔ a = b := by
  rw [← Int64.toInt_inj, pk_lT ha, pk_lT hb]; omega
theorem pk_lOf {x : Int64} (h : ¬ x < 0) : ∃ k : Nat, k < 2 ^ 63 ∧ x = lN k := by
  rw [Int64.lt_iff_toInt_lt] at h
  have h0 : (0 : Int64).toInt = 0 := by decide
  have hx := Int64.toInt_lt x
  refine ⟨x.toInt.toNat, by omega, Int64.toInt_inj.mp ?_⟩
  rw [pk_lT (by omega)]
  omega
theorem pk_lDiv {a b : Nat} (ha : a < 2 ^ 63) (h0 : 0 < b) (hb : b < 2 ^ 63) : lN a / lN b = lN (a / b) := by
  apply Int64.toInt_inj.mp
  rw [lg_ldiv_nonneg (by rw [pk_lT ha]; omega) (by rw [pk_lT hb]; omega), pk_lT ha, pk_lT hb, pk_lT (Nat.lt_of_le_of_lt (Nat.div_le_self a b) ha)]
  rfl
theorem pk_lRem {a b : Nat} (ha : a < 2 ^ 63) (h0 : 0 < b) (hb : b < 2 ^ 63) : lN a - lN a / lN b * lN b = lN (a % b) := by
  rw [pk_lDiv ha h0 hb, lN_mul, lN_sub (Nat.div_mul_le_self a b)]
  exact congrArg lN (by have := Nat.div_add_mod' a b; omega)
theorem pk_loop {σ : Type} (W : Nat → Nat → σ → Prop) (I : Nat → σ → Prop) (e i0 : Nat) (s : σ) (hi : i0 ≤ e) (h0 : I i0 s) (hx : ∀ n s, I e s → W (n + 1) e s)
    (hs : ∀ n i s, i < e → I i s → (∀ s', I (i + 1) s' → W n (i + 1) s') → W (n + 1) i s) : ∃ n, W n i0 s :=
  ⟨e + 1, loop_i W I e hx hs (e + 1) i0 s hi (by omega) h0⟩
theorem pk_loopD {σ : Type} (W : Nat → Nat → σ → Prop) (I : Nat → σ → Prop) (hx : ∀ n s, I 0 s → W (n + 1) 0 s)
    (hs : ∀ n i s, I (i + 1) s → (∀ s', I i s' → W n i s') → W (n + 1) (i + 1) s) : ∀ (e : Nat) (s : σ), I e s → W (e + 1) e s := by
  intro e
  induction e with
  | zero => exact fun s h => hx 0 s h
  | succ e ih => exact fun s h => hs (e + 1) e s h (fun s' h' => ih s' h')
theorem ek_if {c d A B : Prop} (e : c ↔ d) (f : d → A) (g : ¬ d → B) : (c → A) ∧ (¬ c → B) :=
  ⟨fun z => f (e.mp z), fun z => g (fun y => z (e.mpr y))⟩
theorem ek_v {α : Sort _} {P : α → Prop} {a b : α} (e : a = b) (h : P b) : P a := e ▸ h
theorem sb_shr0 (x : Int32) : x >>> ((0 : Int32) &&& 31) = x := by
  rw [show ((0 : Int32) &&& 31) = 0 by decide]
  simp
theorem sb_shl0 (x : Int32) : x <<< ((0 : Int32) &&& 31) = x := by
  rw [show ((0 : Int32) &&& 31) = 0 by decide]
  simp
theorem sb_cl0 : (0 : Int32).toNatClampNeg = 0 := by decide
theorem sb_m1 {p : Nat} (h : 0 < p) : nI p + (-1) = nI (p - 1) := by
  obtain ⟨q, rfl⟩ : ∃ q, p = q + 1 := ⟨p - 1, by omega⟩
  exact pk_m1 q
theorem sb_at {P : Int32 → Prop} {x y : Int32} (e : x = y) (h : P y) : P x := e ▸ h
/-! rows on bits, shifts and unsigned numbers, to paste: each family out of a closed proof of our own, whole with what it rests on; each by itself clean at Lean in its own claim (generation 39, form 5). Take a family whole -/
/-! ===== Int32 by its bits: bt x i ===== -/
def bt (x : Int32) (i : Nat) : Bool := x.toBitVec.getLsbD i
theorem b_ext {x y : Int32} (h : ∀ i, i < 32 → bt x i = bt y i) : x = y := Int32.toBitVec_inj.mp (BitVec.eq_of_getLsbD_eq (fun i hi => h i hi))
theorem b_or (x y : Int32) (i : Nat) : bt (x ||| y) i = (bt x i || bt y i) := by unfold bt; rw [Int32.toBitVec_or, BitVec.getLsbD_or]
theorem b_and (x y : Int32) (i : Nat) : bt (x &&& y) i = (bt x i && bt y i) := by unfold bt; rw [Int32.toBitVec_and, BitVec.getLsbD_and]
theorem b_xor (x y : Int32) (i : Nat) : bt (x ^^^ y) i = (bt x i ^^ bt y i) := by unfold bt; rw [Int32.toBitVec_xor, BitVec.getLsbD_xor]
theorem b_big {x : Int32} {i : Nat} (h : 32 ≤ i) : bt x i = false := BitVec.getLsbD_of_ge _ _ h
theorem b_255 (i : Nat) : bt 255 i = decide (i < 8) := by
  rcases Nat.lt_or_ge i 32 with h | h
  · exact (by decide +kernel : ∀ i, i < 32 → bt 255 i = decide (i < 8)) i h
  · rw [b_big h, decide_eq_false (by omega)]
theorem b_65535 (i : Nat) : bt 65535 i = decide (i < 16) := by
  rcases Nat.lt_or_ge i 32 with h | h
  · exact (by decide +kernel : ∀ i, i < 32 → bt 65535 i = decide (i < 16)) i h
  · rw [b_big h, decide_eq_false (by omega)]
theorem b_m1 : ∀ i, i < 32 → bt (-1) i = true := by decide +kernel
theorem b_0 (i : Nat) : bt 0 i = false := BitVec.getLsbD_zero
theorem s_l : ∀ n, n < 32 → ((nI n &&& 31).toBitVec.smod 32).toNat = n := by decide +kernel
theorem s_u : ∀ n, n < 32 → (((nI n).toUInt32 &&& Int32.toUInt32 31).toBitVec % 32).toNat = n := by decide +kernel
theorem b_shl (n : Nat) (hn : n < 32) (x : Int32) {i : Nat} (hi : i < 32) : bt (x <<< (nI n &&& 31)) i = (decide (n ≤ i) && bt x (i - n)) := by
  unfold bt
  rw [Int32.toBitVec_shiftLeft]
  show (x.toBitVec <<< ((nI n &&& 31).toBitVec.smod 32).toNat).getLsbD i = _
  rw [s_l n hn, BitVec.getLsbD_shiftLeft]
  rcases Nat.lt_or_ge i n with h | h
  · simp [h, Nat.not_le.mpr h]
  · simp [hi, h, Nat.not_lt.mpr h]
theorem b_ushr (n : Nat) (hn : n < 32) (x : Int32) (i : Nat) : bt ((x.toUInt32 >>> ((nI n).toUInt32 &&& Int32.toUInt32 31)).toInt32) i = bt x (n + i) := by
  show (x.toUInt32 >>> ((nI n).toUInt32 &&& Int32.toUInt32 31)).toBitVec.getLsbD i = x.toUInt32.toBitVec.getLsbD (n + i)
  rw [UInt32.toBitVec_shiftRight]
  show (x.toUInt32.toBitVec >>> (((nI n).toUInt32 &&& Int32.toUInt32 31).toBitVec % 32).toNat).getLsbD i = _
  rw [s_u n hn, BitVec.getLsbD_ushiftRight]
theorem b_sshr (n : Nat) (hn : n < 32) (x : Int32) {i : Nat} (hi : i < 32) : bt (x >>> (nI n &&& 31)) i = if n + i < 32 then bt x (n + i) else bt x 31 := by
  unfold bt
  rw [Int32.toBitVec_shiftRight]
  show (x.toBitVec.sshiftRight ((nI n &&& 31).toBitVec.smod 32).toNat).getLsbD i = _
  rw [s_l n hn, BitVec.getLsbD_sshiftRight, BitVec.msb_eq_getLsbD_last]
  simp [hi]
theorem b_shl8 (x : Int32) {i : Nat} (hi : i < 32) : bt (x <<< ((8 : Int32) &&& 31)) i = (decide (8 ≤ i) && bt x (i - 8)) := b_shl 8 (by omega) x hi
theorem b_shl16 (x : Int32) {i : Nat} (hi : i < 32) : bt (x <<< ((16 : Int32) &&& 31)) i = (decide (16 ≤ i) && bt x (i - 16)) := b_shl 16 (by omega) x hi
theorem b_shl24 (x : Int32) {i : Nat} (hi : i < 32) : bt (x <<< ((24 : Int32) &&& 31)) i = (decide (24 ≤ i) && bt x (i - 24)) := b_shl 24 (by omega) x hi
theorem b_sshr8 (x : Int32) {i : Nat} (hi : i < 32) : bt (x >>> ((8 : Int32) &&& 31)) i = if 8 + i < 32 then bt x (8 + i) else bt x 31 := b_sshr 8 (by omega) x hi
/-! ===== nI under and, xor, >>>, one bit, 65535 ===== -/
theorem nx_and (a b : Nat) : nI a &&& nI b = nI (a &&& b) := by
  apply Int32.toBitVec_inj.1
  show BitVec.ofNat 32 a &&& BitVec.ofNat 32 b = BitVec.ofNat 32 (a &&& b)
  apply BitVec.eq_of_getLsbD_eq
  intro i hi
  simp [hi]
theorem nx_xor (a b : Nat) : nI a ^^^ nI b = nI (a ^^^ b) := by
  apply Int32.toBitVec_inj.1
  show BitVec.ofNat 32 a ^^^ BitVec.ofNat 32 b = BitVec.ofNat 32 (a ^^^ b)
  apply BitVec.eq_of_getLsbD_eq
  intro i hi
  simp [hi]
theorem nx_cnt : ∀ j : Fin 32, (UInt32.ofNat j.val &&& Int32.toUInt32 31).toNat % 32 = j.val := by decide +kernel
theorem nx_ush {k j : Nat} (hk : k < 65536) (hj : j < 32) : ((nI k).toUInt32 >>> ((nI j).toUInt32 &&& Int32.toUInt32 31)).toInt32 = nI (k >>> j) := by
  have hs : k >>> j ≤ k := by
    rw [Nat.shiftRight_eq_div_pow]
    exact Nat.div_le_self _ _
  have e2 : UInt32.ofNat k >>> (UInt32.ofNat j &&& Int32.toUInt32 31) = UInt32.ofNat (k >>> j) := by
    apply UInt32.toNat_inj.1
    have h1 : (UInt32.ofNat k).toNat = k := Nat.mod_eq_of_lt (by omega)
    have h2 : (UInt32.ofNat (k >>> j)).toNat = k >>> j := Nat.mod_eq_of_lt (by omega)
    rw [UInt32.toNat_shiftRight, nx_cnt ⟨j, hj⟩, h1, h2]
  show (UInt32.ofNat k >>> (UInt32.ofNat j &&& Int32.toUInt32 31)).toInt32 = _
  rw [e2]
  rfl
theorem nx_bit {k j : Nat} (hk : k < 65536) (hj : j < 16) : (((nI k).toUInt32 >>> ((nI j).toUInt32 &&& Int32.toUInt32 31)).toInt32 &&& 1) = 0 ↔ k.testBit j = false := by
  rw [nx_ush hk (by omega)]
  show nI (k >>> j) &&& nI 1 = 0 ↔ _
  rw [nx_and, Nat.and_one_is_mod, ← nI_0, nI_eq (by omega) (by omega), Nat.testBit_eq_decide_div_mod_eq, Nat.shiftRight_eq_div_pow, decide_eq_false_iff_not]
  generalize k / 2 ^ j = z
  omega
theorem nx_mod (k : Nat) : nI k &&& 65535 = nI (k % 65536) := by
  show nI k &&& nI 65535 = _
  rw [nx_and, show (65535 : Nat) = 2 ^ 16 - 1 from rfl, Nat.and_two_pow_sub_one_eq_mod]
theorem nx_m16 {k : Nat} (h : k < 65536) : nI k &&& 65535 = nI k := by rw [nx_mod, Nat.mod_eq_of_lt h]
theorem nx_mask (x : Int32) : ∃ k, k < 65536 ∧ x &&& 65535 = nI k := by
  have e : x = nI x.toBitVec.toNat := by
    apply Int32.toBitVec_inj.1
    show x.toBitVec = BitVec.ofNat 32 x.toBitVec.toNat
    simp
  refine ⟨x.toBitVec.toNat % 65536, Nat.mod_lt _ (by omega), ?_⟩
  rw [← nx_mod, ← e]
/-! ===== Int32 as a set of bits: test, set ===== -/
/-! ===== Int64 as a set of bits: test, set, clear ===== -/
theorem ts_nf {x : Bool} (h : ¬ x = false) : x = true := by cases x <;> first | rfl | exact absurd rfl h
theorem ts_nt {x : Bool} (h : ¬ x = true) : x = false := by cases x <;> first | rfl | exact absurd rfl h
theorem ts_bit {w : Int64} {s : UInt64} {j : Nat} (hj : j < 64) (hs : s.toNat = j) : ((w.toUInt64 >>> s).toInt64 &&& 1) = 0 ↔ w.toBitVec.getLsbD j = false := by
  have e : (w.toUInt64 >>> s).toInt64.toBitVec = w.toBitVec >>> j := by
    apply BitVec.eq_of_toNat_eq
    show (w.toUInt64 >>> s).toNat = _
    rw [UInt64.toNat_shiftRight, hs, Nat.mod_eq_of_lt hj, BitVec.toNat_ushiftRight]
    rfl
  rw [← Int64.toBitVec_inj, Int64.toBitVec_and, e]
  show w.toBitVec >>> j &&& 1#64 = 0#64 ↔ _
  constructor
  · intro h
    have t := congrArg (fun x => x.getLsbD 0) h
    simpa using t
  · intro h
    apply BitVec.eq_of_getLsbD_eq
    intro i hi
    cases i with
    | zero => simp [h]
    | succ i => simp
theorem ts_or {w m : Int64} {j : Nat} (hj : j < 64) (hm : m.toBitVec = BitVec.twoPow 64 j) : (w ||| m) = w ↔ w.toBitVec.getLsbD j = true := by
  rw [← Int64.toBitVec_inj, Int64.toBitVec_or, hm]
  constructor
  · intro h
    have t := congrArg (fun x => x.getLsbD j) h
    simp only [BitVec.getLsbD_or, BitVec.getLsbD_twoPow] at t
    simpa [hj] using t.symm
  · intro h
    apply BitVec.eq_of_getLsbD_eq
    intro i hi
    rw [BitVec.getLsbD_or, BitVec.getLsbD_twoPow]
    by_cases e : j = i
    · subst e; rw [h, Bool.true_or]
    · simp [e]
theorem ts_and {w m : Int64} {j : Nat} (hj : j < 64) (hm : m.toBitVec = BitVec.twoPow 64 j) : (w &&& (m ^^^ (-1))) = w ↔ w.toBitVec.getLsbD j = false := by
  have ha : (-1 : Int64).toBitVec = BitVec.allOnes 64 := by decide
  rw [← Int64.toBitVec_inj, Int64.toBitVec_and, Int64.toBitVec_xor, hm, ha]
  constructor
  · intro h
    have t := congrArg (fun x => x.getLsbD j) h
    simp only [BitVec.getLsbD_and, BitVec.getLsbD_xor, BitVec.getLsbD_twoPow, BitVec.getLsbD_allOnes] at t
    simpa [hj] using t.symm
  · intro h
    apply BitVec.eq_of_getLsbD_eq
    intro i hi
    rw [BitVec.getLsbD_and, BitVec.getLsbD_xor, BitVec.getLsbD_twoPow, BitVec.getLsbD_allOnes]
    by_cases e : j = i
    · subst e; rw [h, Bool.false_and]
    · simp [e, hi]
/-! ===== lN n to 2^64: shifts, and, or, masks, one bit ===== -/
theorem wb_tb (n : Nat) : (lN n).toBitVec = BitVec.ofNat 64 n := rfl
theorem wb_inj {a b : Int64} (h : a.toBitVec = b.toBitVec) : a = b := Int64.toBitVec_inj.mp h
theorem wb_tn {n : Nat} (h : n < 2 ^ 64) : (lN n).toBitVec.toNat = n := by rw [wb_tb, BitVec.toNat_ofNat, Nat.mod_eq_of_lt h]
theorem wb_of (x : Int64) : ∃ n, n < 2 ^ 64 ∧ x = lN n := ⟨x.toBitVec.toNat, x.toBitVec.isLt, wb_inj (by rw [wb_tb]; simp)⟩
theorem wb_of32 (x : Int32) : ∃ n, n < 2 ^ 32 ∧ x = nI n := ⟨x.toBitVec.toNat, x.toBitVec.isLt, Int32.toBitVec_inj.mp (by show _ = BitVec.ofNat 32 _; simp)⟩
theorem wb_c : ∀ k, k < 64 → ((nI k).toInt64 &&& 63) = lN k := by decide +kernel
theorem wb_cu : ∀ k, k < 64 → ((nI k).toInt64.toUInt64 &&& Int64.toUInt64 63) = UInt64.ofNat k := by decide +kernel
theorem wb_sm : ∀ k, k < 64 → (BitVec.ofNat 64 k).smod 64 = BitVec.ofNat 64 k := by decide +kernel
theorem wb_pw {a b : Nat} (h : a ≤ b) : 2 ^ b = 2 ^ a * 2 ^ (b - a) := by rw [← Nat.pow_add]; congr 1; omega
theorem wb_lt2 {a b : Nat} (h : a < b) : 2 ^ a < 2 ^ b := Nat.pow_lt_pow_right (by decide) h
theorem wb_mod (n : Nat) : lN n = lN (n % 2 ^ 64) := wb_inj (by rw [wb_tb, wb_tb]; apply BitVec.eq_of_toNat_eq; rw [BitVec.toNat_ofNat, BitVec.toNat_ofNat, Nat.mod_mod])
theorem wb_shr {n k : Nat} (hn : n < 2 ^ 64) (hk : k < 64) : ((lN n).toUInt64 >>> ((nI k).toInt64.toUInt64 &&& Int64.toUInt64 63)).toInt64 = lN (n / 2 ^ k) := by
  rw [wb_cu k hk]
  apply wb_inj
  apply BitVec.eq_of_toNat_eq
  show ((lN n).toUInt64 >>> UInt64.ofNat k).toNat = (BitVec.ofNat 64 _).toNat
  have h1 : (UInt64.ofNat k).toNat = k := by
    show (BitVec.ofNat 64 k).toNat = k
    rw [BitVec.toNat_ofNat, Nat.mod_eq_of_lt (by omega)]
  have h2 : (lN n).toUInt64.toNat = n := wb_tn hn
  rw [UInt64.toNat_shiftRight, h1, h2, Nat.mod_eq_of_lt hk, Nat.shiftRight_eq_div_pow, BitVec.toNat_ofNat, Nat.mod_eq_of_lt (Nat.lt_of_le_of_lt (Nat.div_le_self _ _) hn)]
theorem wb_shl (n : Nat) {k : Nat} (hk : k < 64) : lN n <<< ((nI k).toInt64 &&& 63) = lN (n * 2 ^ k) := by
  rw [wb_c k hk]
  apply wb_inj
  rw [Int64.toBitVec_shiftLeft, wb_tb, wb_tb, wb_tb, wb_sm k hk]
  apply BitVec.eq_of_toNat_eq
  rw [BitVec.shiftLeft_eq', BitVec.toNat_shiftLeft, BitVec.toNat_ofNat, BitVec.toNat_ofNat, BitVec.toNat_ofNat, Nat.mod_eq_of_lt (show k < 2 ^ 64 by omega), Nat.shiftLeft_eq, Nat.mul_mod, Nat.mod_mod, ← Nat.mul_mod]
theorem wb_and {a b : Nat} (ha : a < 2 ^ 64) (hb : b < 2 ^ 64) : lN a &&& lN b = lN (a &&& b) := by
  apply wb_inj
  rw [Int64.toBitVec_and, wb_tb, wb_tb, wb_tb]
  apply BitVec.eq_of_toNat_eq
  rw [BitVec.toNat_and, BitVec.toNat_ofNat, BitVec.toNat_ofNat, BitVec.toNat_ofNat, Nat.mod_eq_of_lt ha, Nat.mod_eq_of_lt hb, Nat.mod_eq_of_lt (Nat.and_lt_two_pow _ hb)]
theorem wb_or {a b : Nat} (ha : a < 2 ^ 64) (hb : b < 2 ^ 64) : lN a ||| lN b = lN (a ||| b) := by
  apply wb_inj
  rw [Int64.toBitVec_or, wb_tb, wb_tb, wb_tb]
  apply BitVec.eq_of_toNat_eq
  rw [BitVec.toNat_or, BitVec.toNat_ofNat, BitVec.toNat_ofNat, BitVec.toNat_ofNat, Nat.mod_eq_of_lt ha, Nat.mod_eq_of_lt hb, Nat.mod_eq_of_lt (Nat.or_lt_two_pow ha hb)]
theorem wb_mask {n k : Nat} (hn : n < 2 ^ 64) (hk : k < 64) : lN n &&& lN (2 ^ k - 1) = lN (n % 2 ^ k) := by
  rw [wb_and hn (by have := wb_lt2 hk; omega), Nat.and_two_pow_sub_one_eq_mod]
theorem wb_a1 {n : Nat} (hn : n < 2 ^ 64) : lN n &&& 1 = lN (n % 2) := wb_mask (k := 1) hn (by decide)
theorem wb_bit {n k : Nat} (hn : n < 2 ^ 64) (hk : k < 64) : ((lN n).toUInt64 >>> ((nI k).toInt64.toUInt64 &&& Int64.toUInt64 63)).toInt64 &&& 1 = lN (n / 2 ^ k % 2) := by
  rw [wb_shr hn hk, wb_a1 (Nat.lt_of_le_of_lt (Nat.div_le_self _ _) hn)]
end
section
/-! bits of Int32, truth values, counts -/
theorem qb_b1 (i : Nat) : bt 1 i = decide (i = 0) := by
  rcases Nat.lt_or_ge i 32 with h | h
  · exact (by decide +kernel : ∀ j, j < 32 → bt 1 j = decide (j = 0)) i h
  · rw [b_big h, decide_eq_false (by omega)]
theorem qb_nI (a i : Nat) : bt (nI a) i = (decide (i < 32) && a.testBit i) := by
  show (BitVec.ofNat 32 a).getLsbD i = _
  rw [BitVec.getLsbD_ofNat]
theorem qb_nI' {a i : Nat} (h : i < 32) : bt (nI a) i = a.testBit i := by rw [qb_nI, decide_eq_true h, Bool.true_and]
theorem qb_nIs {a i : Nat} (h : a < 2 ^ 32) : bt (nI a) i = a.testBit i := by
  rcases Nat.lt_or_ge i 32 with hi | hi
  · exact qb_nI' hi
  · rw [b_big hi, Nat.testBit_lt_two_pow (Nat.lt_of_lt_of_le h (Nat.pow_le_pow_right (by decide) hi))]
theorem qb_not (x : Int32) {i : Nat} (h : i < 32) : bt (x ^^^ (-1)) i = !bt x i := by
  rw [b_xor, b_m1 i h]; cases bt x i <;> rfl
theorem qb_one {v : Nat} (hv : v < 32) (i : Nat) : bt ((1 : Int32) <<< (nI v &&& 31)) i = decide (i = v) := by
  rcases Nat.lt_or_ge i 32 with hi | hi
  · rw [b_shl v hv 1 hi, qb_b1]
    by_cases e : i = v
    · subst e; simp
    · rw [decide_eq_false e]
      rcases Nat.lt_or_ge i v with h | h
      · rw [decide_eq_false (Nat.not_le.mpr h), Bool.false_and]
      · rw [decide_eq_false (by omega : ¬ i - v = 0), Bool.and_false]
  · rw [b_big hi, decide_eq_false (by omega)]
theorem qb_zero {x : Int32} : x = 0 ↔ ∀ i, i < 32 → bt x i = false :=
  ⟨fun h i _ => by rw [h, b_0], fun h => b_ext (fun i hi => by rw [h i hi, b_0])⟩
theorem qb_nz {x : Int32} (h : ¬ x = 0) : ∃ i, i < 32 ∧ bt x i = true := by
  apply Classical.byContradiction
  intro z
  apply h
  rw [qb_zero]
  intro i hi
  cases e : bt x i with
  | false => rfl
  | true => exact absurd ⟨i, hi, e⟩ z
theorem qb_and0 {x y : Int32} : x &&& y = 0 ↔ ∀ i, i < 32 → bt x i = true → bt y i = false := by
  rw [qb_zero]
  constructor
  · intro h i hi hx
    have := h i hi
    rw [b_and, hx, Bool.true_and] at this
    exact this
  · intro h i hi
    rw [b_and]
    cases hx : bt x i with
    | false => rfl
    | true => rw [h i hi hx]; rfl
theorem qb_andn {x y : Int32} : x &&& (y ^^^ (-1)) = 0 ↔ ∀ i, i < 32 → bt x i = true → bt y i = true := by
  rw [qb_and0]
  constructor
  · intro h i hi hx
    have := h i hi hx
    rw [qb_not y hi] at this
    cases e : bt y i with
    | true => rfl
    | false => rw [e] at this; exact absurd this (by decide)
  · intro h i hi hx
    rw [qb_not y hi, h i hi hx]; rfl
theorem qb_bit (x : Int32) {v : Nat} (hv : v < 32) : ((x >>> (nI v &&& 31)) &&& 1) = (if bt x v = true then 1 else 0) := by
  apply b_ext
  intro i hi
  rw [b_and, b_sshr v hv x hi, qb_b1]
  by_cases e : i = 0
  · subst e
    rw [if_pos (by omega : v + 0 < 32), Nat.add_zero, decide_eq_true rfl, Bool.and_true]
    cases h : bt x v
    · rw [if_neg (by decide), b_0]
    · rw [if_pos rfl, qb_b1]; rfl
  · rw [decide_eq_false e, Bool.and_false]
    cases h : bt x v
    · rw [if_neg (by decide), b_0]
    · rw [if_pos rfl, qb_b1, decide_eq_false e]
theorem qb_bit0 (x : Int32) {v : Nat} (hv : v < 32) : ((x >>> (nI v &&& 31)) &&& 1) = 0 ↔ bt x v = false := by
  rw [qb_bit x hv]; cases bt x v <;> decide
theorem qb_bit1 (x : Int32) {v : Nat} (hv : v < 32) : ((x >>> (nI v &&& 31)) &&& 1) = 1 ↔ bt x v = true := by
  rw [qb_bit x hv]; cases bt x v <;> decide
theorem qb_of {x : Int32} {n : Nat} (hn : n ≤ 31) (h : ∀ i, n ≤ i → i < 32 → bt x i = false) : ∃ a, a < 2 ^ n ∧ x = nI a := by
  obtain ⟨m, hm, rfl⟩ := wb_of32 x
  refine ⟨m, Nat.lt_pow_two_of_testBit m ?_, rfl⟩
  intro i hi
  rcases Nat.lt_or_ge i 32 with h' | h'
  · rw [← qb_nI' h']; exact h i hi h'
  · exact Nat.testBit_lt_two_pow (Nat.lt_of_lt_of_le hm (Nat.pow_le_pow_right (by decide) h'))
/-- only bits below n -/
def qb_lt (x : Int32) (n : Nat) : Prop := ∀ i, n ≤ i → bt x i = false
theorem qb_lt_nI {a n : Nat} (h : a < 2 ^ n) : qb_lt (nI a) n := by
  intro i hi
  rw [qb_nI, Nat.testBit_lt_two_pow (Nat.lt_of_lt_of_le h (Nat.pow_le_pow_right (by decide) hi)), Bool.and_false]
theorem qb_lt_of {x : Int32} {n : Nat} (hn : n ≤ 31) (h : qb_lt x n) : ∃ a, a < 2 ^ n ∧ x = nI a :=
  qb_of hn (fun i hi _ => h i hi)
theorem qb_lt_and {x y : Int32} {n : Nat} (h : qb_lt x n) : qb_lt (x &&& y) n := fun i hi => by rw [b_and, h i hi, Bool.false_and]
theorem qb_lt_and' {x y : Int32} {n : Nat} (h : qb_lt y n) : qb_lt (x &&& y) n := fun i hi => by rw [b_and, h i hi, Bool.and_false]
theorem qb_lt_or {x y : Int32} {n : Nat} (h : qb_lt x n) (h' : qb_lt y n) : qb_lt (x ||| y) n := fun i hi => by rw [b_or, h i hi, h' i hi]; rfl
theorem qb_lt_0 {n : Nat} : qb_lt 0 n := fun i _ => b_0 i
theorem qb_lt_255 (x : Int32) : qb_lt (x &&& 255) 8 := fun i hi => by rw [b_and, b_255, decide_eq_false (by omega), Bool.and_false]
theorem qb_lt_up {x : Int32} {n m : Nat} (h : qb_lt x n) (hm : n ≤ m) : qb_lt x m := fun i hi => h i (Nat.le_trans hm hi)
theorem qb_lt_one {v n : Nat} (hv : v < 32) (h : v < n) : qb_lt ((1 : Int32) <<< (nI v &&& 31)) n := fun i hi => by
  rw [qb_one hv, decide_eq_false (by omega)]
/-- a number between 0 and 2^n - 1 by its bits -/
theorem qb_eqb {x y : Int32} {n : Nat} (hx : qb_lt x n) (hy : qb_lt y n) (h : ∀ i, i < n → bt x i = bt y i) : x = y := by
  apply b_ext
  intro i _
  rcases Nat.lt_or_ge i n with hi | hi
  · exact h i hi
  · rw [hx i hi, hy i hi]
theorem qb_m255 (x : Int32) (i : Nat) : bt (x &&& 255) i = (bt x i && decide (i < 8)) := by rw [b_and, b_255]
theorem qb_sh8 {x : Int32} (h : qb_lt x 16) (i : Nat) : bt (x >>> ((8 : Int32) &&& 31)) i = bt x (8 + i) := by
  rcases Nat.lt_or_ge i 32 with hi | hi
  · rw [b_sshr8 x hi]
    by_cases e : 8 + i < 32
    · rw [if_pos e]
    · rw [if_neg e, h 31 (by omega), h (8 + i) (by omega)]
  · rw [b_big hi, h (8 + i) (by omega)]
theorem qb_sh8_lt {x : Int32} (h : qb_lt x 16) : qb_lt (x >>> ((8 : Int32) &&& 31)) 8 := fun i hi => by rw [qb_sh8 h, h (8 + i) (by omega)]
theorem qb_shl8 {x : Int32} (h : qb_lt x 8) (i : Nat) : bt (x <<< ((8 : Int32) &&& 31)) i = (decide (8 ≤ i) && bt x (i - 8)) := by
  rcases Nat.lt_or_ge i 32 with hi | hi
  · exact b_shl8 x hi
  · rw [b_big hi, h (i - 8) (by omega), Bool.and_false]
/-- truth values -/
noncomputable def qb_dec (P : Prop) : Bool := @decide P (Classical.propDecidable P)
theorem qb_dec_t {P : Prop} (h : P) : qb_dec P = true := by unfold qb_dec; exact @decide_eq_true P (Classical.propDecidable P) h
theorem qb_dec_f {P : Prop} (h : ¬ P) : qb_dec P = false := by unfold qb_dec; exact @decide_eq_false P (Classical.propDecidable P) h
theorem qb_dec_iff {P : Prop} : qb_dec P = true ↔ P := by
  constructor
  · intro h
    apply Classical.byContradiction
    intro z
    rw [qb_dec_f z] at h
    exact absurd h (by decide)
  · exact qb_dec_t
theorem qb_dec_nf {P : Prop} : qb_dec P = false ↔ ¬ P := by
  constructor
  · intro h z
    rw [qb_dec_t z] at h
    exact absurd h (by decide)
  · exact qb_dec_f
theorem qb_dec_congr {P Q : Prop} (h : P ↔ Q) : qb_dec P = qb_dec Q := by rw [propext h]
def qb_i (b : Bool) : Int32 := match b with | true => 1 | false => 0
theorem qb_i0 {b : Bool} : qb_i b = 0 ↔ b = false := by cases b <;> decide
theorem qb_i1 {b : Bool} : qb_i b = 1 ↔ b = true := by cases b <;> decide
theorem qb_i_inj {b c : Bool} : qb_i b = qb_i c ↔ b = c := by cases b <;> cases c <;> decide
theorem qb_i_nb (b : Bool) : narrow .boolean (.int (qb_i b)) = .int (qb_i b) := by cases b <;> rfl
theorem qb_i_vp (b : Bool) : vp_nar .boolean (qb_i b) = qb_i b := by cases b <;> rfl
/-- the answer 1 or 0 to a question -/
noncomputable def qb_p (P : Prop) : Int32 := qb_i (qb_dec P)
theorem qb_p_t {P : Prop} (h : P) : qb_p P = 1 := by unfold qb_p; rw [qb_dec_t h]; rfl
theorem qb_p_f {P : Prop} (h : ¬ P) : qb_p P = 0 := by unfold qb_p; rw [qb_dec_f h]; rfl
theorem qb_p_0 {P : Prop} : qb_p P = 0 ↔ ¬ P := by unfold qb_p; rw [qb_i0, qb_dec_nf]
theorem qb_p_1 {P : Prop} : qb_p P = 1 ↔ P := by unfold qb_p; rw [qb_i1, qb_dec_iff]
theorem qb_p_congr {P Q : Prop} (h : P ↔ Q) : qb_p P = qb_p Q := by rw [propext h]
theorem qb_p_nb (P : Prop) : narrow .boolean (.int (qb_p P)) = .int (qb_p P) := qb_i_nb _
theorem qb_p_vp (P : Prop) : vp_nar .boolean (qb_p P) = qb_p P := qb_i_vp _
/-- counting -/
def qn_cnt (f : Nat → Bool) : Nat → Nat
  | 0 => 0
  | n + 1 => qn_cnt f n + (f n).toNat
theorem qn_cnt_le (f : Nat → Bool) (n : Nat) : qn_cnt f n ≤ n := by
  induction n with
  | zero => exact Nat.le_refl 0
  | succ n ih => have := Bool.toNat_le (f n); simp only [qn_cnt]; omega
theorem qn_cnt_congr {f g : Nat → Bool} {n : Nat} (h : ∀ i, i < n → f i = g i) : qn_cnt f n = qn_cnt g n := by
  induction n with
  | zero => rfl
  | succ n ih => simp only [qn_cnt]; rw [ih (fun i hi => h i (by omega)), h n (by omega)]
theorem qn_cnt_mono {f g : Nat → Bool} {n : Nat} (h : ∀ i, i < n → f i = true → g i = true) : qn_cnt f n ≤ qn_cnt g n := by
  induction n with
  | zero => exact Nat.le_refl 0
  | succ n ih =>
    simp only [qn_cnt]
    have h1 := ih (fun i hi => h i (by omega))
    have h2 := h n (by omega)
    cases e : f n with
    | false => simp only [Bool.toNat_false]; omega
    | true => rw [h2 e]; omega
theorem qn_cnt_up {f : Nat → Bool} {n m : Nat} (h : n ≤ m) : qn_cnt f n ≤ qn_cnt f m := by
  induction m with
  | zero => have : n = 0 := by omega
            subst this; exact Nat.le_refl _
  | succ m ih =>
    simp only [qn_cnt]
    by_cases e : n = m + 1
    · subst e; simp only [qn_cnt]; exact Nat.le_refl _
    · have := ih (by omega); omega
theorem qn_cnt_pos {f : Nat → Bool} {n i : Nat} (hi : i < n) (h : f i = true) : 0 < qn_cnt f n := by
  induction n with
  | zero => omega
  | succ n ih =>
    simp only [qn_cnt]
    by_cases e : i = n
    · subst e; rw [h]; simp
    · have := ih (by omega); omega
theorem qn_cnt_0 {f : Nat → Bool} {n : Nat} (h : ∀ i, i < n → f i = false) : qn_cnt f n = 0 := by
  induction n with
  | zero => rfl
  | succ n ih => simp only [qn_cnt]; rw [ih (fun i hi => h i (by omega)), h n (by omega)]; rfl
/-- without one place -/
theorem qn_cnt_rm (f : Nat → Bool) (k n : Nat) : qn_cnt f n ≤ qn_cnt (fun i => f i && !decide (i = k)) n + 1 := by
  induction n with
  | zero => exact Nat.zero_le _
  | succ n ih =>
    simp only [qn_cnt]
    by_cases e : n = k
    · subst e
      have : qn_cnt (fun i => f i && !decide (i = n)) n = qn_cnt f n := by
        apply qn_cnt_congr
        intro i hi
        rw [decide_eq_false (by omega)]; simp
      rw [this]
      have := Bool.toNat_le (f n)
      omega
    · rw [decide_eq_false e]
      simp only [Bool.not_false, Bool.and_true]
      omega
/-- as many numbers as names, at most -/
theorem qn_pigeon {B : Nat} : ∀ {f : Nat → Bool} {n : Nat} (g : Nat → Nat), (∀ i, i < n → f i = true → ∃ c, c < B ∧ g c = i) → qn_cnt f n ≤ B := by
  induction B with
  | zero =>
    intro f n g h
    rw [qn_cnt_0]
    · exact Nat.le_refl 0
    · intro i hi
      cases e : f i with
      | false => rfl
      | true => obtain ⟨c, hc, _⟩ := h i hi e; omega
  | succ B ih =>
    intro f n g h
    have h1 := qn_cnt_rm f (g B) n
    have h2 : qn_cnt (fun i => f i && !decide (i = g B)) n ≤ B := by
      apply ih g
      intro i hi e
      simp only [Bool.and_eq_true, Bool.not_eq_true', decide_eq_false_iff_not] at e
      obtain ⟨c, hc, e2⟩ := h i hi e.1
      refine ⟨c, ?_, e2⟩
      by_cases z : c = B
      · subst z; exact absurd e2.symm e.2
      · omega
    omega
theorem qn_cnt_2 (f : Nat → Bool) (n : Nat) : qn_cnt f (2 * n) = qn_cnt (fun i => f (2 * i)) n + qn_cnt (fun i => f (2 * i + 1)) n := by
  induction n with
  | zero => rfl
  | succ n ih =>
    show qn_cnt f (2 * n + 1 + 1) = _
    simp only [qn_cnt]
    rw [ih]; omega
end
section
/-! the game over assignments s : Nat → Bool; variables k, k + 1, .. -/
def qg_up (s : Nat → Bool) (k : Nat) (b : Bool) : Nat → Bool := fun j => if j = k then b else s j
theorem qg_up_s {s : Nat → Bool} {k : Nat} {b : Bool} : qg_up s k b k = b := if_pos rfl
theorem qg_up_n {s : Nat → Bool} {k j : Nat} {b : Bool} (h : j ≠ k) : qg_up s k b j = s j := if_neg h
theorem qg_up_up {s : Nat → Bool} {k : Nat} {b c : Bool} : qg_up (qg_up s k b) k c = qg_up s k c := by
  funext j
  by_cases h : j = k
  · subst h; rw [qg_up_s, qg_up_s]
  · rw [qg_up_n h, qg_up_n h, qg_up_n h]
theorem qg_up_comm {s : Nat → Bool} {k l : Nat} {b c : Bool} (h : k ≠ l) : qg_up (qg_up s k b) l c = qg_up (qg_up s l c) k b := by
  funext j
  by_cases h1 : j = k
  · subst h1; rw [qg_up_s, qg_up_n h, qg_up_s]
  · by_cases h2 : j = l
    · subst h2; rw [qg_up_s, qg_up_n h1, qg_up_s]
    · rw [qg_up_n h2, qg_up_n h1, qg_up_n h1, qg_up_n h2]
theorem qg_up_self {s : Nat → Bool} {k : Nat} {b : Bool} (h : s k = b) : qg_up s k b = s := by
  funext j
  by_cases h1 : j = k
  · subst h1; rw [qg_up_s, h]
  · rw [qg_up_n h1]
/-- whose turn: true is theirs -/
def qg_Q (t : Bool) (R : Bool → Prop) : Prop := match t with
  | true => R false ∧ R true
  | false => R false ∨ R true
theorem qg_Q_congr {t : Bool} {R R' : Bool → Prop} (h : ∀ b, R b ↔ R' b) : qg_Q t R ↔ qg_Q t R' := by
  have : R = R' := funext (fun b => propext (h b))
  rw [this]
theorem qg_Q_mono {t : Bool} {R R' : Bool → Prop} (h : ∀ b, R b → R' b) (q : qg_Q t R) : qg_Q t R' := by
  cases t with
  | true => exact ⟨h _ q.1, h _ q.2⟩
  | false => exact q.elim (fun z => Or.inl (h _ z)) (fun z => Or.inr (h _ z))
theorem qg_Q_const {t : Bool} {A : Prop} : qg_Q t (fun _ => A) ↔ A := by
  cases t with
  | true => exact ⟨fun z => z.1, fun z => ⟨z, z⟩⟩
  | false => exact ⟨fun z => z.elim id id, Or.inl⟩
theorem qg_Q_t {R : Bool → Prop} : qg_Q true R ↔ ∀ b, R b :=
  ⟨fun z b => by cases b; exact z.1; exact z.2, fun z => ⟨z _, z _⟩⟩
theorem qg_Q_f {R : Bool → Prop} : qg_Q false R ↔ ∃ b, R b :=
  ⟨fun z => z.elim (fun y => ⟨_, y⟩) (fun y => ⟨_, y⟩), fun ⟨b, y⟩ => by cases b; exact Or.inl y; exact Or.inr y⟩
def qg_G (th : Nat → Bool) (P : (Nat → Bool) → Prop) : Nat → Nat → (Nat → Bool) → Prop
  | 0, _, s => P s
  | d + 1, k, s => qg_Q (th k) (fun b => qg_G th P d (k + 1) (qg_up s k b))
/-- P rests on the variables below n alone -/
def qg_Dep (n : Nat) (P : (Nat → Bool) → Prop) : Prop := ∀ s s' : Nat → Bool, (∀ i, i < n → s i = s' i) → (P s ↔ P s')
theorem qg_G_dep {th : Nat → Bool} {P : (Nat → Bool) → Prop} : ∀ {d k : Nat} {s s' : Nat → Bool}, qg_Dep (k + d) P → (∀ i, i < k → s i = s' i) → (qg_G th P d k s ↔ qg_G th P d k s') := by
  intro d
  induction d with
  | zero => intro k s s' hP h; exact hP s s' h
  | succ d ih =>
    intro k s s' hP h
    apply qg_Q_congr
    intro b
    apply ih (by rw [Nat.add_right_comm]; exact hP)
    intro i hi
    by_cases e : i = k
    · subst e; rw [qg_up_s, qg_up_s]
    · rw [qg_up_n e, qg_up_n e]; exact h i (by omega)
/-- the same predicate on all that agrees with s below k -/
theorem qg_G_on {th : Nat → Bool} {P P' : (Nat → Bool) → Prop} : ∀ {d k : Nat} {s : Nat → Bool}, (∀ t : Nat → Bool, (∀ i, i < k → t i = s i) → (P t ↔ P' t)) → (qg_G th P d k s ↔ qg_G th P' d k s) := by
  intro d
  induction d with
  | zero => intro k s h; exact h s (fun _ _ => rfl)
  | succ d ih =>
    intro k s h
    apply qg_Q_congr
    intro b
    apply ih
    intro t ht
    apply h
    intro i hi
    rw [ht i (by omega), qg_up_n (by omega)]
theorem qg_G_congr {th : Nat → Bool} {P P' : (Nat → Bool) → Prop} {d k : Nat} {s : Nat → Bool} (h : ∀ t, P t ↔ P' t) : qg_G th P d k s ↔ qg_G th P' d k s :=
  qg_G_on (fun t _ => h t)
theorem qg_G_th {th th' : Nat → Bool} {P : (Nat → Bool) → Prop} : ∀ {d k : Nat} {s : Nat → Bool}, (∀ i, k ≤ i → i < k + d → th i = th' i) → (qg_G th P d k s ↔ qg_G th' P d k s) := by
  intro d
  induction d with
  | zero => intro k s h; exact Iff.rfl
  | succ d ih =>
    intro k s h
    show qg_Q (th k) _ ↔ qg_Q (th' k) _
    rw [h k (Nat.le_refl k) (by omega)]
    apply qg_Q_congr
    intro b
    exact ih (fun i h1 h2 => h i (by omega) (by omega))
/-- the last variable first -/
theorem qg_G_last {th : Nat → Bool} {P : (Nat → Bool) → Prop} : ∀ {d k : Nat} {s : Nat → Bool}, qg_G th P (d + 1) k s ↔ qg_G th (fun t => qg_Q (th (k + d)) (fun b => P (qg_up t (k + d) b))) d k s := by
  intro d
  induction d with
  | zero => intro k s; exact Iff.rfl
  | succ d ih =>
    intro k s
    show qg_Q (th k) (fun b => qg_G th P (d + 1) (k + 1) (qg_up s k b)) ↔ qg_Q (th k) (fun b => qg_G th _ d (k + 1) (qg_up s k b))
    apply qg_Q_congr
    intro b
    rw [ih, show k + 1 + d = k + (d + 1) by omega]
/-- variables that P doesn't ask for pass -/
theorem qg_G_skip {th : Nat → Bool} {P : (Nat → Bool) → Prop} : ∀ {e d k : Nat} {s : Nat → Bool}, (∀ t t' : Nat → Bool, (∀ i, k + e ≤ i → t i = t' i) → (P t ↔ P t')) → qg_Dep (k + e + d) P → (qg_G th P (e + d) k s ↔ qg_G th P d (k + e) s) := by
  intro e
  induction e with
  | zero => intro d k s _ _; rw [Nat.zero_add]; exact Iff.rfl
  | succ e ih =>
    intro d k s h hd
    rw [show e + 1 + d = e + d + 1 by omega]
    show qg_Q (th k) (fun b => qg_G th P (e + d) (k + 1) (qg_up s k b)) ↔ _
    rw [show k + (e + 1) = k + 1 + e by omega] at h hd ⊢
    have h2 : ∀ b, qg_G th P (e + d) (k + 1) (qg_up s k b) ↔ qg_G th P d (k + 1 + e) s := by
      intro b
      rw [ih h hd]
      have hg : ∀ (d' k' : Nat) (t t' : Nat → Bool), k + 1 + e ≤ k' → k' + d' = k + 1 + e + d → (∀ i, k + 1 + e ≤ i → i < k' → t i = t' i) → (qg_G th P d' k' t ↔ qg_G th P d' k' t') := by
        intro d'
        induction d' with
        | zero =>
          intro k' t t' h1 h2 h3
          have a1 : P t ↔ P (fun i => if i < k + 1 + e then t' i else t i) := by
            apply h
            intro i hi
            rw [if_neg (by omega)]
          refine Iff.trans a1 (hd _ _ ?_)
          intro i hi
          by_cases z : i < k + 1 + e
          · rw [if_pos z]
          · rw [if_neg z]; exact h3 i (by omega) (by omega)
        | succ d' ih' =>
          intro k' t t' h1 h2 h3
          apply qg_Q_congr
          intro c
          apply ih' _ _ _ (by omega) (by omega)
          intro i h4 h5
          by_cases z : i = k'
          · subst z; rw [qg_up_s, qg_up_s]
          · rw [qg_up_n z, qg_up_n z]; exact h3 i h4 (by omega)
      exact hg d (k + 1 + e) _ _ (Nat.le_refl _) rfl (fun i h1 h2 => by omega)
    rw [qg_Q_congr h2, qg_Q_const]
/-! with variables that have values: K which, O the values -/
def qg_GP (th K O : Nat → Bool) (P : (Nat → Bool) → Prop) : Nat → Nat → (Nat → Bool) → Prop
  | 0, _, s => P s
  | d + 1, k, s => match K k with
    | true => qg_GP th K O P d (k + 1) (qg_up s k (O k))
    | false => qg_Q (th k) (fun b => qg_GP th K O P d (k + 1) (qg_up s k b))
theorem qg_GP_t {th K O : Nat → Bool} {P : (Nat → Bool) → Prop} {d k : Nat} {s : Nat → Bool} (h : K k = true) : qg_GP th K O P (d + 1) k s ↔ qg_GP th K O P d (k + 1) (qg_up s k (O k)) := by
  simp only [qg_GP, h]
theorem qg_GP_f {th K O : Nat → Bool} {P : (Nat → Bool) → Prop} {d k : Nat} {s : Nat → Bool} (h : K k = false) : qg_GP th K O P (d + 1) k s ↔ qg_Q (th k) (fun b => qg_GP th K O P d (k + 1) (qg_up s k b)) := by
  simp only [qg_GP, h]
theorem qg_GP_agree {th K O K' O' : Nat → Bool} {P : (Nat → Bool) → Prop} : ∀ {d k : Nat} {s : Nat → Bool}, (∀ i, k ≤ i → K i = K' i) → (∀ i, k ≤ i → O i = O' i) → (qg_GP th K O P d k s ↔ qg_GP th K' O' P d k s) := by
  intro d
  induction d with
  | zero => intro k s _ _; exact Iff.rfl
  | succ d ih =>
    intro k s h1 h2
    cases e : K k with
    | true =>
      rw [qg_GP_t e, qg_GP_t ((h1 k (Nat.le_refl k)).symm.trans e), h2 k (Nat.le_refl k)]
      exact ih (fun i hi => h1 i (by omega)) (fun i hi => h2 i (by omega))
    | false =>
      rw [qg_GP_f e, qg_GP_f ((h1 k (Nat.le_refl k)).symm.trans e)]
      apply qg_Q_congr
      intro b
      exact ih (fun i hi => h1 i (by omega)) (fun i hi => h2 i (by omega))
/-- no values: the game -/
theorem qg_GP_none {th K O : Nat → Bool} {P : (Nat → Bool) → Prop} : ∀ {d k : Nat} {s : Nat → Bool}, (∀ i, k ≤ i → i < k + d → K i = false) → (qg_GP th K O P d k s ↔ qg_G th P d k s) := by
  intro d
  induction d with
  | zero => intro k s _; exact Iff.rfl
  | succ d ih =>
    intro k s h
    rw [qg_GP_f (h k (Nat.le_refl k) (by omega))]
    apply qg_Q_congr
    intro b
    exact ih (fun i h1 h2 => h i (by omega) (by omega))
/-- values for the first e variables -/
theorem qg_GP_start {th K O : Nat → Bool} {P : (Nat → Bool) → Prop} : ∀ {e d k : Nat} {s : Nat → Bool}, (∀ i, k ≤ i → i < k + e + d → K i = decide (i < k + e)) → qg_Dep (k + e + d) P → (∀ i, i < k → s i = O i) → (qg_GP th K O P (e + d) k s ↔ qg_G th P d (k + e) O) := by
  intro e
  induction e with
  | zero =>
    intro d k s h hd hs
    rw [Nat.zero_add, qg_GP_none]
    · exact qg_G_dep hd hs
    · intro i h1 h2
      rw [h i h1 h2, decide_eq_false (by omega)]
  | succ e ih =>
    intro d k s h hd hs
    rw [show e + 1 + d = e + d + 1 by omega, qg_GP_t (by rw [h k (by omega) (by omega), decide_eq_true (by omega)])]
    rw [show k + (e + 1) = k + 1 + e by omega] at h hd ⊢
    apply ih
    · intro i h1 h2; exact h i (by omega) h2
    · exact hd
    · intro i hi
      by_cases z : i = k
      · subst z; rw [qg_up_s]
      · rw [qg_up_n z]; exact hs i (by omega)
/-- the first variable without a value -/
theorem qg_GP_first {th K O : Nat → Bool} {P : (Nat → Bool) → Prop} {v : Nat} (hv : K v = false) : ∀ {d k : Nat} {s : Nat → Bool}, k ≤ v → v < k + d → (∀ i, k ≤ i → i < v → K i = true) → (qg_GP th K O P d k s ↔ qg_Q (th v) (fun b => qg_GP th (qg_up K v true) (qg_up O v b) P d k s)) := by
  intro d
  induction d with
  | zero => intro k s h1 h2; omega
  | succ d ih =>
    intro k s h1 h2 h3
    by_cases e : k = v
    · subst e
      rw [qg_GP_f hv]
      apply qg_Q_congr
      intro b
      rw [qg_GP_t qg_up_s, qg_up_s]
      apply qg_GP_agree
      · intro i hi; rw [qg_up_n (by omega)]
      · intro i hi; rw [qg_up_n (by omega)]
    · have hk := h3 k (Nat.le_refl k) (by omega)
      rw [qg_GP_t hk, ih (by omega) (by omega) (fun i a b => h3 i (by omega) b)]
      apply qg_Q_congr
      intro b
      rw [qg_GP_t (by rw [qg_up_n e]; exact hk), qg_up_n e]
/-- s has the given values below k -/
def qg_Cp (K O : Nat → Bool) (k : Nat) (s : Nat → Bool) : Prop := ∀ i, i < k → K i = true → s i = O i
theorem qg_Cp_t {K O : Nat → Bool} {k : Nat} {s : Nat → Bool} (h : qg_Cp K O k s) : qg_Cp K O (k + 1) (qg_up s k (O k)) := by
  intro i hi hK
  by_cases e : i = k
  · subst e; rw [qg_up_s]
  · rw [qg_up_n e]; exact h i (by omega) hK
theorem qg_Cp_f {K O : Nat → Bool} {k : Nat} {s : Nat → Bool} {b : Bool} (hk : K k = false) (h : qg_Cp K O k s) : qg_Cp K O (k + 1) (qg_up s k b) := by
  intro i hi hK
  by_cases e : i = k
  · subst e; rw [hk] at hK; exact absurd hK (by decide)
  · rw [qg_up_n e]; exact h i (by omega) hK
theorem qg_Cp_0 {K O : Nat → Bool} {s : Nat → Bool} : qg_Cp K O 0 s := fun i hi => by omega
/-- a variable gets a value, where that changes nothing at its own turn -/
theorem qg_GP_set {th K O : Nat → Bool} {P : (Nat → Bool) → Prop} {v n : Nat} {b0 : Bool} (hv : K v = false)
    (H : ∀ d s, v + 1 + d = n → qg_Cp K O v s → (qg_Q (th v) (fun b => qg_GP th K O P d (v + 1) (qg_up s v b)) ↔ qg_GP th K O P d (v + 1) (qg_up s v b0))) :
    ∀ {d k : Nat} {s : Nat → Bool}, k ≤ v → v < n → k + d = n → qg_Cp K O k s → (qg_GP th K O P d k s ↔ qg_GP th (qg_up K v true) (qg_up O v b0) P d k s) := by
  intro d
  induction d with
  | zero => intro k s h1 h2 h3; omega
  | succ d ih =>
    intro k s h1 h2 h3 hc
    by_cases e : k = v
    · subst e
      rw [qg_GP_f hv, H d s (by omega) hc, qg_GP_t qg_up_s, qg_up_s]
      apply qg_GP_agree
      · intro i hi; rw [qg_up_n (by omega)]
      · intro i hi; rw [qg_up_n (by omega)]
    · cases hk : K k with
      | true =>
        rw [qg_GP_t hk, qg_GP_t (by rw [qg_up_n e]; exact hk), qg_up_n e]
        exact ih (by omega) h2 (by omega) (qg_Cp_t hc)
      | false =>
        rw [qg_GP_f hk, qg_GP_f (by rw [qg_up_n e]; exact hk)]
        apply qg_Q_congr
        intro b
        exact ih (by omega) h2 (by omega) (qg_Cp_f hk hc)
theorem qg_GP_won {th K O : Nat → Bool} {P : (Nat → Bool) → Prop} {n : Nat} (H : ∀ s, qg_Cp K O n s → P s) : ∀ {d k : Nat} {s : Nat → Bool}, k + d = n → qg_Cp K O k s → qg_GP th K O P d k s := by
  intro d
  induction d with
  | zero => intro k s h hc; exact H s (by rw [← h]; exact hc)
  | succ d ih =>
    intro k s h hc
    cases hk : K k with
    | true => rw [qg_GP_t hk]; exact ih (by omega) (qg_Cp_t hc)
    | false =>
      rw [qg_GP_f hk]
      have : ∀ b, qg_GP th K O P d (k + 1) (qg_up s k b) := fun b => ih (by omega) (qg_Cp_f hk hc)
      cases th k with
      | true => exact ⟨this _, this _⟩
      | false => exact Or.inl (this _)
/-- P grows from x to y at v -/
theorem qg_GP_mono {th K O : Nat → Bool} {P : (Nat → Bool) → Prop} {v n : Nat} {x y : Bool} (H : ∀ s, qg_Cp K O n s → P (qg_up s v x) → P (qg_up s v y)) : ∀ {d k : Nat} {s : Nat → Bool}, v < k → k + d = n → qg_Cp K O k s → qg_GP th K O P d k (qg_up s v x) → qg_GP th K O P d k (qg_up s v y) := by
  intro d
  induction d with
  | zero => intro k s h1 h2 hc; exact H s (by rw [← h2]; exact hc)
  | succ d ih =>
    intro k s h1 h2 hc
    cases hk : K k with
    | true =>
      rw [qg_GP_t hk, qg_GP_t hk, qg_up_comm (by omega), qg_up_comm (k := v) (by omega)]
      exact ih (by omega) (by omega) (qg_Cp_t hc)
    | false =>
      rw [qg_GP_f hk, qg_GP_f hk]
      apply qg_Q_mono
      intro b
      rw [qg_up_comm (by omega), qg_up_comm (k := v) (by omega)]
      exact ih (by omega) (by omega) (qg_Cp_f hk hc)
/-! how many -/
noncomputable def qg_CP (K O : Nat → Bool) (P : (Nat → Bool) → Prop) : Nat → Nat → (Nat → Bool) → Nat
  | 0, _, s => (qb_dec (P s)).toNat
  | d + 1, k, s => match K k with
    | true => qg_CP K O P d (k + 1) (qg_up s k (O k))
    | false => qg_CP K O P d (k + 1) (qg_up s k false) + qg_CP K O P d (k + 1) (qg_up s k true)
theorem qg_CP_t {K O : Nat → Bool} {P : (Nat → Bool) → Prop} {d k : Nat} {s : Nat → Bool} (h : K k = true) : qg_CP K O P (d + 1) k s = qg_CP K O P d (k + 1) (qg_up s k (O k)) := by
  simp only [qg_CP, h]
theorem qg_CP_f {K O : Nat → Bool} {P : (Nat → Bool) → Prop} {d k : Nat} {s : Nat → Bool} (h : K k = false) : qg_CP K O P (d + 1) k s = qg_CP K O P d (k + 1) (qg_up s k false) + qg_CP K O P d (k + 1) (qg_up s k true) := by
  simp only [qg_CP, h]
noncomputable def qg_C (P : (Nat → Bool) → Prop) : Nat → Nat → (Nat → Bool) → Nat
  | 0, _, s => (qb_dec (P s)).toNat
  | d + 1, k, s => qg_C P d (k + 1) (qg_up s k false) + qg_C P d (k + 1) (qg_up s k true)
theorem qg_C_le {P : (Nat → Bool) → Prop} : ∀ {d k : Nat} {s : Nat → Bool}, qg_C P d k s ≤ 2 ^ d := by
  intro d
  induction d with
  | zero => intro k s; exact Bool.toNat_le _
  | succ d ih =>
    intro k s
    have h1 := @ih (k + 1) (qg_up s k false)
    have h2 := @ih (k + 1) (qg_up s k true)
    simp only [qg_C]
    rw [Nat.pow_succ]; omega
theorem qg_CP_none {K O : Nat → Bool} {P : (Nat → Bool) → Prop} : ∀ {d k : Nat} {s : Nat → Bool}, (∀ i, k ≤ i → i < k + d → K i = false) → qg_CP K O P d k s = qg_C P d k s := by
  intro d
  induction d with
  | zero => intro k s _; rfl
  | succ d ih =>
    intro k s h
    rw [qg_CP_f (h k (Nat.le_refl k) (by omega))]
    have h2 : ∀ i, k + 1 ≤ i → i < k + 1 + d → K i = false := fun i a b => h i (by omega) (by omega)
    rw [ih h2, ih h2]; rfl
theorem qg_CP_agree {K O K' O' : Nat → Bool} {P : (Nat → Bool) → Prop} : ∀ {d k : Nat} {s : Nat → Bool}, (∀ i, k ≤ i → K i = K' i) → (∀ i, k ≤ i → O i = O' i) → qg_CP K O P d k s = qg_CP K' O' P d k s := by
  intro d
  induction d with
  | zero => intro k s _ _; rfl
  | succ d ih =>
    intro k s h1 h2
    have a1 : ∀ i, k + 1 ≤ i → K i = K' i := fun i hi => h1 i (by omega)
    have a2 : ∀ i, k + 1 ≤ i → O i = O' i := fun i hi => h2 i (by omega)
    cases e : K k with
    | true =>
      rw [qg_CP_t e, qg_CP_t ((h1 k (Nat.le_refl k)).symm.trans e), h2 k (Nat.le_refl k)]
      exact ih a1 a2
    | false =>
      rw [qg_CP_f e, qg_CP_f ((h1 k (Nat.le_refl k)).symm.trans e), ih a1 a2, ih a1 a2]
theorem qg_CP_first {K O : Nat → Bool} {P : (Nat → Bool) → Prop} {v : Nat} (hv : K v = false) : ∀ {d k : Nat} {s : Nat → Bool}, k ≤ v → v < k + d → (∀ i, k ≤ i → i < v → K i = true) → qg_CP K O P d k s = qg_CP (qg_up K v true) (qg_up O v true) P d k s + qg_CP (qg_up K v true) (qg_up O v false) P d k s := by
  intro d
  induction d with
  | zero => intro k s h1 h2; omega
  | succ d ih =>
    intro k s h1 h2 h3
    by_cases e : k = v
    · subst e
      rw [qg_CP_f hv, qg_CP_t qg_up_s, qg_CP_t qg_up_s, qg_up_s, qg_up_s, Nat.add_comm]
      have a : ∀ (b : Bool) (t : Nat → Bool), qg_CP K O P d (k + 1) t = qg_CP (qg_up K k true) (qg_up O k b) P d (k + 1) t := by
        intro b t
        apply qg_CP_agree
        · intro i hi; rw [qg_up_n (by omega)]
        · intro i hi; rw [qg_up_n (by omega)]
      rw [← a true, ← a false]
    · have hk := h3 k (Nat.le_refl k) (by omega)
      rw [qg_CP_t hk, ih (by omega) (by omega) (fun i a b => h3 i (by omega) b)]
      rw [qg_CP_t (by rw [qg_up_n e]; exact hk), qg_up_n e, qg_CP_t (by rw [qg_up_n e]; exact hk), qg_up_n e]
/-- how many from k on are without a value -/
def qg_free (K : Nat → Bool) : Nat → Nat → Nat
  | 0, _ => 0
  | d + 1, k => (!K k).toNat + qg_free K d (k + 1)
theorem qg_CP_won {K O : Nat → Bool} {P : (Nat → Bool) → Prop} {n : Nat} (H : ∀ s, qg_Cp K O n s → P s) : ∀ {d k : Nat} {s : Nat → Bool}, k + d = n → qg_Cp K O k s → qg_CP K O P d k s = 2 ^ qg_free K d k := by
  intro d
  induction d with
  | zero =>
    intro k s h hc
    show (qb_dec (P s)).toNat = 1
    rw [qb_dec_t (H s (by rw [← h]; exact hc))]; rfl
  | succ d ih =>
    intro k s h hc
    cases hk : K k with
    | true => rw [qg_CP_t hk, ih (by omega) (qg_Cp_t hc)]; simp [qg_free, hk]
    | false =>
      rw [qg_CP_f hk, ih (by omega) (qg_Cp_f hk hc), ih (by omega) (qg_Cp_f hk hc)]
      simp only [qg_free, hk, Bool.not_false, Bool.toNat_true]
      rw [Nat.add_comm 1, Nat.pow_succ]; omega
theorem qg_CP_lost {K O : Nat → Bool} {P : (Nat → Bool) → Prop} {n : Nat} (H : ∀ s, qg_Cp K O n s → ¬ P s) : ∀ {d k : Nat} {s : Nat → Bool}, k + d = n → qg_Cp K O k s → qg_CP K O P d k s = 0 := by
  intro d
  induction d with
  | zero =>
    intro k s h hc
    show (qb_dec (P s)).toNat = 0
    rw [qb_dec_f (H s (by rw [← h]; exact hc))]; rfl
  | succ d ih =>
    intro k s h hc
    cases hk : K k with
    | true => rw [qg_CP_t hk, ih (by omega) (qg_Cp_t hc)]
    | false => rw [qg_CP_f hk, ih (by omega) (qg_Cp_f hk hc), ih (by omega) (qg_Cp_f hk hc)]
/-- counted by numbers: a holds the variables from k on -/
def qg_at (s : Nat → Bool) (k a : Nat) : Nat → Bool := fun i => if i < k then s i else a.testBit (i - k)
theorem qg_at_2 {s : Nat → Bool} {k a : Nat} {b : Bool} : qg_at s k (2 * a + b.toNat) = qg_at (qg_up s k b) (k + 1) a := by
  funext i
  unfold qg_at
  by_cases h : i < k
  · rw [if_pos h, if_pos (by omega), qg_up_n (by omega)]
  · rw [if_neg h]
    by_cases e : i = k
    · subst e
      rw [if_pos (by omega), qg_up_s, Nat.sub_self, Nat.testBit_zero]
      cases b <;> simp <;> omega
    · rw [if_neg (by omega), show i - k = (i - (k + 1)) + 1 by omega, Nat.testBit_succ]
      congr 1
      cases b <;> simp <;> omega
theorem qg_C_cnt {P : (Nat → Bool) → Prop} : ∀ {d k : Nat} {s : Nat → Bool}, qg_Dep (k + d) P → qn_cnt (fun a => qb_dec (P (qg_at s k a))) (2 ^ d) = qg_C P d k s := by
  intro d
  induction d with
  | zero =>
    intro k s hd
    show 0 + _ = _
    rw [Nat.zero_add]
    show (qb_dec (P (qg_at s k 0))).toNat = (qb_dec (P s)).toNat
    rw [qb_dec_congr (hd (qg_at s k 0) s (fun i hi => if_pos hi))]
  | succ d ih =>
    intro k s hd
    rw [Nat.pow_succ, Nat.mul_comm, qn_cnt_2]
    rw [show k + (d + 1) = k + 1 + d by omega] at hd
    simp only [qg_C]
    rw [← ih (s := qg_up s k false) hd, ← ih (s := qg_up s k true) hd]
    have a0 : ∀ a, qg_at s k (2 * a) = qg_at (qg_up s k false) (k + 1) a := fun a => qg_at_2 (b := false)
    have a1 : ∀ a, qg_at s k (2 * a + 1) = qg_at (qg_up s k true) (k + 1) a := fun a => qg_at_2 (b := true)
    simp only [a0, a1]
theorem qg_C_skip {P : (Nat → Bool) → Prop} : ∀ {e d k : Nat} {s : Nat → Bool}, (∀ s s' : Nat → Bool, qg_C P d (k + e) s = qg_C P d (k + e) s') → qg_C P (e + d) k s = 2 ^ e * qg_C P d (k + e) s := by
  intro e
  induction e with
  | zero => intro d k s _; rw [Nat.zero_add, Nat.pow_zero, Nat.one_mul]; rfl
  | succ e ih =>
    intro d k s h
    rw [show e + 1 + d = e + d + 1 by omega]
    simp only [qg_C]
    rw [show k + (e + 1) = k + 1 + e by omega] at h ⊢
    rw [ih h, ih h, h (qg_up s k false) s, h (qg_up s k true) s, Nat.pow_succ, Nat.mul_assoc, Nat.mul_left_comm, Nat.two_mul]
theorem qg_C_on {P P' : (Nat → Bool) → Prop} : ∀ {d k : Nat} {s : Nat → Bool}, (∀ t : Nat → Bool, (∀ i, i < k → t i = s i) → (P t ↔ P' t)) → qg_C P d k s = qg_C P' d k s := by
  intro d
  induction d with
  | zero => intro k s h; show (qb_dec (P s)).toNat = (qb_dec (P' s)).toNat; rw [qb_dec_congr (h s (fun _ _ => rfl))]
  | succ d ih =>
    intro k s h
    have a : ∀ b, qg_C P d (k + 1) (qg_up s k b) = qg_C P' d (k + 1) (qg_up s k b) := by
      intro b
      apply ih
      intro t ht
      apply h
      intro i hi
      rw [ht i (by omega), qg_up_n (by omega)]
    simp only [qg_C]
    rw [a, a]
end
section
/-! clauses: bit i: variable i must be 1; bit 8 + i: it must be 0 -/
def qc_cs (c : Int32) (s : Nat → Bool) : Prop := ∃ i, i < 8 ∧ ((bt c i = true ∧ s i = true) ∨ (bt c (8 + i) = true ∧ s i = false))
def qc_nt (c : Int32) : Prop := ∀ i, i < 8 → bt c i = true → bt c (8 + i) = false
def qc_All (cl : Nat → Int32) (m : Nat) (s : Nat → Bool) : Prop := ∀ j, j < m → qc_cs (cl j) s
def qc_wf (cl : Nat → Int32) (m : Nat) : Prop := ∀ j, j < m → qb_lt (cl j) 16 ∧ qc_nt (cl j)
theorem qc_cs_dep {c : Int32} : qg_Dep 8 (qc_cs c) := by
  have a : ∀ s s' : Nat → Bool, (∀ i, i < 8 → s i = s' i) → qc_cs c s → qc_cs c s' := by
    intro s s' h ⟨i, hi, z⟩
    exact ⟨i, hi, by rw [← h i hi]; exact z⟩
  exact fun s s' h => ⟨a s s' h, a s' s (fun i hi => (h i hi).symm)⟩
theorem qc_All_dep {cl : Nat → Int32} {m : Nat} : qg_Dep 8 (qc_All cl m) := fun s s' h =>
  ⟨fun z j hj => (qc_cs_dep s s' h).mp (z j hj), fun z j hj => (qc_cs_dep s s' h).mpr (z j hj)⟩
/-- the literal that holds if v has the value b -/
def qc_lit (c : Int32) (v : Nat) (b : Bool) : Bool := match b with
  | true => bt c v
  | false => bt c (8 + v)
theorem qc_cs_lit {c : Int32} {s : Nat → Bool} : qc_cs c s ↔ ∃ i, i < 8 ∧ qc_lit c i (s i) = true := by
  constructor
  · intro ⟨i, hi, z⟩
    refine ⟨i, hi, ?_⟩
    rcases z with ⟨a, b⟩ | ⟨a, b⟩
    · rw [b]; exact a
    · rw [b]; exact a
  · intro ⟨i, hi, z⟩
    refine ⟨i, hi, ?_⟩
    cases e : s i with
    | true => rw [e] at z; exact Or.inl ⟨z, rfl⟩
    | false => rw [e] at z; exact Or.inr ⟨z, rfl⟩
theorem qc_nt_lit {c : Int32} (h : qc_nt c) {i : Nat} (hi : i < 8) {b : Bool} (hb : qc_lit c i b = true) : qc_lit c i (!b) = false := by
  cases b with
  | true => exact h i hi hb
  | false =>
    show bt c i = false
    cases e : bt c i with
    | false => rfl
    | true => have := h i hi e; exact absurd (this.symm.trans hb) (by decide)
/-- it holds by the given values -/
def qc_sat (c : Int32) (K O : Nat → Bool) : Prop := ∃ i, i < 8 ∧ K i = true ∧ qc_lit c i (O i) = true
theorem qc_sat_cs {c : Int32} {K O s : Nat → Bool} (h : qc_sat c K O) (hc : qg_Cp K O 8 s) : qc_cs c s := by
  obtain ⟨i, hi, hk, hl⟩ := h
  rw [qc_cs_lit]
  exact ⟨i, hi, by rw [hc i hi hk]; exact hl⟩
theorem qc_nsat {c : Int32} {K O : Nat → Bool} (h : ¬ qc_sat c K O) {i : Nat} (hi : i < 8) (hk : K i = true) : qc_lit c i (O i) = false := by
  cases e : qc_lit c i (O i) with
  | false => rfl
  | true => exact absurd ⟨i, hi, hk, e⟩ h
/-- nothing of ours is left in a clause -/
theorem qc_lost {th K O : Nat → Bool} {P : (Nat → Bool) → Prop} {c : Int32} (hn : qc_nt c) (hP : ∀ s, P s → qc_cs c s) : ∀ {d k : Nat} {s : Nat → Bool}, k + d = 8 →
    (∀ i, i < k → qc_lit c i (s i) = false) → (∀ i, k ≤ i → i < 8 → (K i = true ∧ qc_lit c i (O i) = false) ∨ (K i = false ∧ (th i = true ∨ ∀ b, qc_lit c i b = false))) → ¬ qg_GP th K O P d k s := by
  intro d
  induction d with
  | zero =>
    intro k s h h1 _ z
    obtain ⟨i, hi, hl⟩ := qc_cs_lit.mp (hP s z)
    rw [h1 i (by omega)] at hl
    exact absurd hl (by decide)
  | succ d ih =>
    intro k s h h1 h2 z
    have step : ∀ b, qc_lit c k b = false → ¬ qg_GP th K O P d (k + 1) (qg_up s k b) := by
      intro b hb
      apply ih (by omega)
      · intro i hi
        by_cases e : i = k
        · subst e; rw [qg_up_s]; exact hb
        · rw [qg_up_n e]; exact h1 i (by omega)
      · intro i a b; exact h2 i (by omega) b
    rcases h2 k (Nat.le_refl k) (by omega) with ⟨hk, hl⟩ | ⟨hk, hl⟩
    · rw [qg_GP_t hk] at z
      exact step _ hl z
    · rw [qg_GP_f hk] at z
      rcases hl with ht | hl
      · rw [ht, qg_Q_t] at z
        cases e : qc_lit c k true with
        | false => exact step true e (z true)
        | true => exact step false (qc_nt_lit hn (by omega) e) (z false)
      · cases e : th k with
        | true => rw [e, qg_Q_t] at z; exact step _ (hl false) (z false)
        | false => rw [e, qg_Q_f] at z; obtain ⟨b, y⟩ := z; exact step b (hl b) y
/-- one variable of ours is left, and none of theirs before it -/
theorem qc_force {th K O : Nat → Bool} {P : (Nat → Bool) → Prop} {c : Int32} {v : Nat} {b0 : Bool} (hn : qc_nt c) (hP : ∀ s, P s → qc_cs c s) (hs : ¬ qc_sat c K O) (hv : v < 8) (hk : K v = false) (ht : th v = false)
    (hl : qc_lit c v b0 = true) (ho : ∀ i, i < 8 → i ≠ v → K i = false → (v < i ∧ th i = true) ∨ ∀ b, qc_lit c i b = false) {s : Nat → Bool} :
    qg_GP th K O P 8 0 s ↔ qg_GP th (qg_up K v true) (qg_up O v b0) P 8 0 s := by
  apply qg_GP_set (n := 8) hk ?_ (Nat.zero_le v) hv rfl qg_Cp_0
  intro d s hd hc
  rw [ht, qg_Q_f]
  constructor
  · intro ⟨b, z⟩
    by_cases e : b = b0
    · rw [← e]; exact z
    · exfalso
      have eb : b = !b0 := by cases b <;> cases b0 <;> simp_all
      refine qc_lost hn hP (by omega) ?_ ?_ z
      · intro i hi
        by_cases e1 : i = v
        · subst e1; rw [qg_up_s, eb]; exact qc_nt_lit hn hv hl
        · rw [qg_up_n e1]
          cases e2 : K i with
          | true => rw [hc i (by omega) e2]; exact qc_nsat hs (by omega) e2
          | false =>
            rcases ho i (by omega) e1 e2 with ⟨z1, _⟩ | z1
            · omega
            · exact z1 _
      · intro i h1 h2
        cases e2 : K i with
        | true => exact Or.inl ⟨rfl, qc_nsat hs h2 e2⟩
        | false =>
          rcases ho i h2 (by omega) e2 with ⟨_, z1⟩ | z1
          · exact Or.inr ⟨rfl, Or.inl z1⟩
          · exact Or.inr ⟨rfl, Or.inr z1⟩
  · intro z; exact ⟨b0, z⟩
/-- a variable that stands in one way only -/
theorem qc_pure {th K O : Nat → Bool} {cl : Nat → Int32} {m v : Nat} {b0 : Bool} (hv : v < 8) (hk : K v = false)
    (h0 : th v = false → ∀ j, j < m → ¬ qc_sat (cl j) K O → qc_lit (cl j) v (!b0) = false)
    (h1 : th v = true → ∀ j, j < m → ¬ qc_sat (cl j) K O → qc_lit (cl j) v b0 = false) {s : Nat → Bool} :
    qg_GP th K O (qc_All cl m) 8 0 s ↔ qg_GP th (qg_up K v true) (qg_up O v b0) (qc_All cl m) 8 0 s := by
  have mono : ∀ x y, (∀ j, j < m → ¬ qc_sat (cl j) K O → qc_lit (cl j) v x = false) → ∀ s, qg_Cp K O 8 s → qc_All cl m (qg_up s v x) → qc_All cl m (qg_up s v y) := by
    intro x y hx s hc z j hj
    rcases Classical.em (qc_sat (cl j) K O) with hs | hs
    · apply qc_sat_cs hs
      intro i hi hK
      by_cases e : i = v
      · subst e; rw [hk] at hK; exact absurd hK (by decide)
      · rw [qg_up_n e]; exact hc i hi hK
    · obtain ⟨i, hi, hl⟩ := qc_cs_lit.mp (z j hj)
      rw [qc_cs_lit]
      by_cases e : i = v
      · subst e
        rw [qg_up_s, hx j hj hs] at hl
        exact absurd hl (by decide)
      · refine ⟨i, hi, ?_⟩
        rw [qg_up_n e] at hl ⊢
        exact hl
  apply qg_GP_set (n := 8) hk ?_ (Nat.zero_le v) hv rfl qg_Cp_0
  intro d s hd hc
  have hc' : qg_Cp K O (v + 1) s := by
    intro i hi hK
    by_cases e : i = v
    · subst e; rw [hk] at hK; exact absurd hK (by decide)
    · exact hc i (by omega) hK
  have gm : ∀ x y, (∀ j, j < m → ¬ qc_sat (cl j) K O → qc_lit (cl j) v x = false) → qg_GP th K O (qc_All cl m) d (v + 1) (qg_up s v x) → qg_GP th K O (qc_All cl m) d (v + 1) (qg_up s v y) :=
    fun x y hx => qg_GP_mono (mono x y hx) (Nat.lt_succ_self v) hd hc'
  cases ht : th v with
  | false =>
    rw [qg_Q_f]
    constructor
    · intro ⟨b, z⟩
      by_cases e : b = b0
      · rw [← e]; exact z
      · have eb : b = !b0 := by cases b <;> cases b0 <;> simp_all
        rw [eb] at z
        exact gm _ _ (h0 ht) z
    · intro z; exact ⟨b0, z⟩
  | true =>
    rw [qg_Q_t]
    constructor
    · intro z; exact z b0
    · intro z b
      exact gm _ _ (h1 ht) z
/-! resolving -/
theorem qc_forall {c c' : Int32} {v : Nat} (hn : qc_nt c) (hv : v < 8) (h' : ∀ i, i < 16 → bt c' i = (bt c i && !decide (i = v) && !decide (i = 8 + v))) (s : Nat → Bool) :
    (qc_cs c (qg_up s v false) ∧ qc_cs c (qg_up s v true)) ↔ qc_cs c' s := by
  have hl : ∀ i, i < 8 → i ≠ v → ∀ b, qc_lit c' i b = qc_lit c i b := by
    intro i hi e b
    cases b with
    | true => show bt c' i = bt c i; rw [h' i (by omega), decide_eq_false e, decide_eq_false (by omega)]; simp
    | false => show bt c' (8 + i) = bt c (8 + i); rw [h' (8 + i) (by omega), decide_eq_false (by omega), decide_eq_false (by omega)]; simp
  have hv' : ∀ b, qc_lit c' v b = false := by
    intro b
    cases b with
    | true => show bt c' v = false; rw [h' v (by omega), decide_eq_true rfl]; simp
    | false => show bt c' (8 + v) = false; rw [h' (8 + v) (by omega), decide_eq_true (rfl : 8 + v = 8 + v)]; simp
  have ne : ∀ b, qc_cs c (qg_up s v b) → qc_lit c v b = true ∨ qc_cs c' s := by
    intro b z
    obtain ⟨i, hi, l⟩ := qc_cs_lit.mp z
    by_cases e : i = v
    · subst e; rw [qg_up_s] at l; exact Or.inl l
    · rw [qg_up_n e] at l; exact Or.inr (qc_cs_lit.mpr ⟨i, hi, by rw [hl i hi e]; exact l⟩)
  constructor
  · intro ⟨z0, z1⟩
    rcases ne false z0 with a | a
    · rcases ne true z1 with b | b
      · have := qc_nt_lit hn hv a
        exact absurd (this.symm.trans b) (by decide)
      · exact b
    · exact a
  · intro z
    obtain ⟨i, hi, l⟩ := qc_cs_lit.mp z
    by_cases e : i = v
    · subst e; rw [hv'] at l; exact absurd l (by decide)
    · rw [hl i hi e] at l
      exact ⟨qc_cs_lit.mpr ⟨i, hi, by rw [qg_up_n e]; exact l⟩, qc_cs_lit.mpr ⟨i, hi, by rw [qg_up_n e]; exact l⟩⟩
/-- a clause at a value of v: its literal there, or the rest -/
theorem qc_cs_up {c : Int32} {v : Nat} (hv : v < 8) (s : Nat → Bool) (b : Bool) : qc_cs c (qg_up s v b) ↔ qc_lit c v b = true ∨ ∃ i, i < 8 ∧ i ≠ v ∧ qc_lit c i (s i) = true := by
  rw [qc_cs_lit]
  constructor
  · intro ⟨i, hi, l⟩
    by_cases e : i = v
    · subst e; rw [qg_up_s] at l; exact Or.inl l
    · rw [qg_up_n e] at l; exact Or.inr ⟨i, hi, e, l⟩
  · intro z
    rcases z with z | ⟨i, hi, e, l⟩
    · exact ⟨v, hv, by rw [qg_up_s]; exact z⟩
    · exact ⟨i, hi, by rw [qg_up_n e]; exact l⟩
theorem qc_exists {cl : Nat → Int32} {m v : Nat} (hw : qc_wf cl m) (hv : v < 8) (s : Nat → Bool) :
    (qc_All cl m (qg_up s v false) ∨ qc_All cl m (qg_up s v true)) ↔
    ((∀ j, j < m → bt (cl j) v = false → bt (cl j) (8 + v) = false → qc_cs (cl j) s) ∧
     (∀ j e, j < m → e < m → bt (cl j) v = true → bt (cl e) (8 + v) = true → (∃ i, i < 8 ∧ i ≠ v ∧ qc_lit (cl j) i (s i) = true) ∨ (∃ i, i < 8 ∧ i ≠ v ∧ qc_lit (cl e) i (s i) = true))) := by
  have none : ∀ j, j < m → bt (cl j) v = false → bt (cl j) (8 + v) = false → ∀ b, (qc_cs (cl j) (qg_up s v b) ↔ qc_cs (cl j) s) := by
    intro j hj h0 h1 b
    have l0 : ∀ b, qc_lit (cl j) v b = false := by intro b; cases b; exact h1; exact h0
    rw [qc_cs_up hv, qc_cs_lit, l0]
    constructor
    · intro z
      rcases z with z | ⟨i, hi, _, l⟩
      · exact absurd z (by decide)
      · exact ⟨i, hi, l⟩
    · intro ⟨i, hi, l⟩
      refine Or.inr ⟨i, hi, ?_, l⟩
      intro e
      subst e
      rw [l0] at l
      exact absurd l (by decide)
  constructor
  · intro z
    constructor
    · intro j hj h0 h1
      rcases z with z | z
      · exact (none j hj h0 h1 _).mp (z j hj)
      · exact (none j hj h0 h1 _).mp (z j hj)
    · intro j e hj he h0 h1
      rcases z with z | z
      · have := (qc_cs_up hv s false).mp (z j hj)
        rw [show qc_lit (cl j) v false = false from (hw j hj).2 v hv h0] at this
        rcases this with a | a
        · exact absurd a (by decide)
        · exact Or.inl a
      · have := (qc_cs_up hv s true).mp (z e he)
        rw [show qc_lit (cl e) v true = false from qc_nt_lit (b := false) (hw e he).2 hv h1] at this
        rcases this with a | a
        · exact absurd a (by decide)
        · exact Or.inr a
  · intro ⟨z1, z2⟩
    rcases Classical.em (∀ j, j < m → bt (cl j) v = true → ∃ i, i < 8 ∧ i ≠ v ∧ qc_lit (cl j) i (s i) = true) with hA | hA
    · left
      intro j hj
      rw [qc_cs_up hv]
      cases e0 : bt (cl j) v with
      | true => exact Or.inr (hA j hj e0)
      | false =>
        cases e1 : bt (cl j) (8 + v) with
        | true => exact Or.inl e1
        | false => exact (qc_cs_up hv s false).mp ((none j hj e0 e1 false).mpr (z1 j hj e0 e1))
    · right
      intro e he
      rw [qc_cs_up hv]
      cases e0 : bt (cl e) v with
      | true => exact Or.inl e0
      | false =>
        cases e1 : bt (cl e) (8 + v) with
        | false => exact (qc_cs_up hv s true).mp ((none e he e0 e1 true).mpr (z1 e he e0 e1))
        | true =>
          right
          apply Classical.byContradiction
          intro hz
          apply hA
          intro j hj h0
          rcases z2 j e hj he h0 e1 with a | a
          · exact a
          · exact absurd a hz
end
section
/-! 672 chains cover the clauses over seven variables (printed by chains.py) -/
def qr_ch0 : List (List Nat) :=
  [[60, 124, 125, 637], [16444, 16445, 16957], [8284, 8285, 8797], [24604, 24605, 25117], [4140, 4204, 4716, 4972], [20524, 20780, 20782], [12364, 12365, 12877], [28684, 28686,
   28687], [2164, 2676, 2932], [18484, 18486, 18487], [10324, 10326, 10327], [26644, 26900, 26902], [6244, 6756, 7012], [22564, 22566, 22567], [14404, 14406, 14407], [30724, 31236,
   31492], [1144, 1145, 1657], [17464, 17976, 18232], [9240, 9304, 9560, 9562], [25624, 25626, 25627], [5224, 5225, 5737], [21544, 21800, 21802], [13384, 13896, 14152], [29704,
   29706, 29707], [3184, 3440, 3442], [19504, 20016, 20272], [11344, 11600, 11602], [27664, 27666, 27667], [7264, 7266, 7267], [23584, 23586, 23587], [15424, 15426, 15427], [31744,
   31746, 31747], [106, 122, 126, 127], [16442, 17466, 17467], [8218, 8282, 9306, 9307], [24602, 24858], [4138, 4202, 4203], [20522, 20526, 20527], [12362, 12618], [28682, 28938],
   [2098, 2162, 3186, 3187], [18482, 19506, 19507], [10322, 10323], [26642, 26646, 26647], [6178, 6242, 6246, 6247], [22562, 22563], [14402, 14658], [30722, 30726, 30727], [86,
   118, 119], [16438, 16439], [8278, 8279], [24594, 24598, 24854], [4130, 4134, 4198, 4206, 4207], [20518, 20774], [12358, 12366, 12367], [28678, 28679]]
def qr_ch1 : List (List Nat) :=
  [[70, 78, 110, 366], [16426, 16430, 16446, 16447], [8266, 8270, 8286, 8287], [24586, 24590, 24606, 24607], [28, 30, 94, 350], [16410, 16414, 16415], [54, 62, 63], [8198, 8206,
   8222, 8478], [4166, 4174, 4175], [16390, 16398, 20494, 20750], [6, 14, 4110, 4142, 4143], [12294, 12302, 12303], [2146, 2150, 2166, 2167], [18470, 18726], [10306, 10310, 10566],
   [26630, 26631], [2130, 2134, 2135], [18438, 18454, 18455], [2054, 2070, 2102, 2358], [10246, 10262, 10263], [2118, 6214, 6470], [22530, 22534, 22535], [6150, 6182, 6183],
   [14338, 14342, 14343], [1074, 1138, 1139], [17458, 17714], [9234, 9298, 11346, 11347], [25618, 25874], [5154, 5218, 5474], [21538, 21539], [13378, 13386, 13387], [29698, 29699],
   [1122, 1130, 5226, 5227], [17442, 17450, 21546, 21547], [9282, 9290, 9291], [25610, 25611], [1112, 1114, 1146, 1147], [17426, 17434, 17435], [1058, 1066, 1082, 1083], [9226,
   9242, 9243], [1098, 5194, 5195], [17418, 21514, 21515], [5160, 5162, 5163], [5122, 5130, 13322, 13578], [3106, 3170, 3171], [19490, 19491], [11330, 11331], [27650, 27906],
   [1106, 3154, 3155], [19458, 19474, 19475], [3074, 3090, 3122, 3123], [11280, 11282, 11283], [3138, 7234, 7490], [23554, 23555], [7170, 7202, 7203], [11266, 15362, 15363]]
def qr_ch2 : List (List Nat) :=
  [[632, 1656, 1912], [16952, 16956, 17212], [8792, 8796, 9052], [25112, 25116, 25372], [4712, 5736, 5992], [21032, 21033], [12872, 12876, 13132], [29192, 30216, 30472], [2672,
   3696, 3952], [18992, 19248], [10832, 10833], [27152, 27153], [6688, 6752, 6753], [23072, 23076, 23332], [14912, 15936, 16192], [31232, 32256, 32512], [624, 628, 884], [16948,
   17204], [8784, 8788, 10836, 11092], [25108, 27156, 27412], [4704, 4708, 4964], [21028, 21036, 21292], [12804, 12868, 12869], [29188, 29196, 29452], [556, 620, 636, 892], [16932,
   16940, 16941], [8772, 8780, 9036], [25092, 25100, 25101], [580, 588, 604, 860], [16900, 16908, 16924, 17180], [564, 572, 828], [536, 540, 8732, 8733], [4680, 4684, 4940],
   [20492, 21004, 21005], [4648, 4652, 4908], [12808, 12812, 13068], [612, 2660, 2661], [18976, 18980, 19236], [10820, 14916, 15172], [27140, 27396], [2628, 2644, 2900], [18948,
   18964, 19220], [2608, 2612, 18996, 19252], [2564, 2580, 10772, 11028], [4676, 6724, 6725], [20996, 23044, 23300], [6656, 6660, 6692, 6948], [10756, 14852, 15108], [1648, 1904],
   [17968, 18224], [9808, 11856, 12112], [26128, 26136, 26392], [5728, 5984], [22048, 24096, 24352], [13888, 13889], [30208, 30464]]
def qr_ch3 : List (List Nat) :=
  [[1640, 1896], [17952, 17960, 18216], [9792, 9800, 9816, 10072], [26120, 26376], [1600, 1608, 1624, 1625], [17920, 17928, 17944, 18200], [568, 1592, 1848], [9728, 9736, 9752,
   10008], [5696, 5704, 5960], [22016, 22024, 22056, 22312], [5632, 5640, 5672, 5928], [13824, 13832, 13833], [3680, 7776, 8032], [20000, 20256], [11840, 12096], [28160, 28176,
   28432], [1616, 3664, 3920], [17936, 19984, 20240], [3616, 3632, 3888], [11776, 11792, 12048], [3648, 7744, 7745], [24064, 24320], [7680, 7712, 7968], [15360, 15872, 16128], [56,
   57, 121, 633], [16440, 16441, 17465, 17977], [8280, 8281, 9305, 9817], [24600, 24601, 25625, 26137], [4200, 4201, 4205, 4717], [20520, 20521, 21545, 22057], [12360, 12361,
   12363], [28680, 28681, 28685, 29197], [2096, 2097, 2161, 2673], [18480, 18481, 19505, 20017], [10256, 10257, 10321, 11345, 11857], [26640, 26641, 26645, 27157], [6240, 6241,
   7265, 7777], [22560, 22561, 23585, 24097], [14400, 14401, 15425, 15937], [30720, 30721, 31233], [84, 85, 117, 2165, 2677], [16436, 16437, 16949], [8212, 8213, 8277, 10325,
   10837], [16404, 16405, 24597, 25109], [4132, 4133, 4197, 4709], [20516, 20517, 22565, 23077], [12352, 12353, 12357, 14405, 14917], [28672, 28673, 28677, 30725, 31237], [108,
   109, 111], [16428, 16429, 20525, 21037], [72, 73, 77, 8269, 8781], [24580, 24581, 24589, 24591], [20, 21, 29, 93, 605], [16392, 16393, 16397, 16413, 16925], [36, 37, 45, 61,
   573], [8220, 8221, 8223]]
def qr_ch4 : List (List Nat) :=
  [[4172, 4173, 4685], [20484, 20485, 20493, 20495], [4100, 4101, 4109, 4141, 4653], [12300, 12301, 12813], [2148, 2149, 2151], [18468, 18469, 18981], [8260, 8261, 10309, 10311],
   [26624, 26625, 26629, 27141], [2132, 2133, 2645], [18436, 18437, 18453, 18485, 18997], [48, 49, 53, 2101, 2103], [10260, 10261, 10773], [2052, 2053, 6149, 6213, 6245, 6757],
   [22532, 22533, 23045], [2084, 2085, 6181, 6693], [14340, 14341, 14853], [1136, 1137, 3185, 3697], [17424, 17425, 17457, 17459], [9296, 9297, 9299], [25616, 25617, 27665, 28177],
   [5152, 5153, 5217, 5219], [21536, 21537, 22049], [13376, 13377, 13385, 13897], [29696, 29697, 31745, 32257], [1128, 1129, 1131], [1056, 1057, 1065, 17449, 17451], [9288, 9289,
   9801], [25608, 25609, 26121], [1104, 1105, 1113, 1115], [17432, 17433, 17945], [1080, 1081, 1593], [1040, 1041, 1049, 9241, 9753], [5192, 5193, 5705], [17416, 17417, 21513,
   22025], [1032, 1033, 5129, 5161, 5673], [13320, 13321, 29705, 30217], [3104, 3105, 3169, 3681], [19456, 19457, 19489, 20001], [11328, 11329, 11841], [25600, 25601, 27649,
   27651], [3152, 3153, 3665], [18448, 18449, 19473, 19985], [3120, 3121, 3633], [3072, 3073, 3089, 11281, 11793], [3136, 3137, 7233, 7235], [23552, 23553, 24065], [7168, 7169,
   7201, 7713], [11264, 11265, 15361, 15873], [114, 115, 2163], [16432, 16433, 16435, 18483], [8272, 8273, 8275, 8283], [24592, 24593, 24595, 26643], [4194, 4195, 4199], [20514,
   20515, 20523], [4162, 4163, 12355, 12359], [12290, 12291, 28675, 28683]]
def qr_ch5 : List (List Nat) :=
  [[104, 105, 107, 123], [16424, 16425, 16427, 16431], [8264, 8265, 8267, 8271], [2, 3, 11, 8203, 24587, 24603], [90, 91, 95], [16408, 16409, 16411, 16443], [58, 59], [18, 19, 27,
   8219], [4168, 4169, 4171], [20490, 20491], [4136, 4137, 4139], [12296, 12297, 12299, 13323], [98, 99, 2147, 6243], [18464, 18465, 18467, 18471], [10304, 10305, 10307, 14403],
   [24578, 24579, 26627, 30723], [2128, 2129, 2131], [18450, 18451], [2066, 2067, 2099], [10258, 10259], [6208, 6209, 6211, 6215], [22528, 22529, 22531], [6146, 6147, 6179],
   [14336, 14337, 14339], [102, 103], [16420, 16421, 16423, 20519], [8262, 8263], [8194, 8195, 8199, 24583, 24599], [82, 83, 87], [16402, 16403, 16407], [38, 39, 55], [8208, 8209,
   8211, 8215], [4164, 4165, 4167], [20482, 20483, 20487], [4102, 4103, 4135], [12292, 12293, 12295], [68, 69, 71, 79], [16388, 16389, 16391, 16399], [34, 35, 43, 47], [8200, 8201,
   8205, 8207], [22, 23, 31], [8, 9, 13, 15, 4111], [2116, 2117, 2119], [18434, 18435, 18439], [2086, 2087], [10244, 10245, 10247], [2068, 2069, 2071], [4, 5, 7, 2055, 6151],
   [1120, 1121, 1123], [16418, 16419, 17443], [8258, 8259, 9283, 13379], [25602, 25603, 25619], [1090, 1091, 1107], [17410, 17411, 17427], [50, 51, 1075], [9232, 9233, 9235]]
def qr_ch6 : List (List Nat) :=
  [[5186, 5187], [21506, 21507], [4128, 4129, 4131, 5155], [13314, 13315], [66, 67, 75, 1099], [16386, 16387, 16395, 17419], [1026, 1027, 1059, 1067], [9216, 9217, 9219, 9227],
   [1034, 1035, 1051], [4104, 4105, 4107, 5131], [2114, 2115, 3139], [2050, 2051, 3075, 19459], [2080, 2081, 2083, 3107], [10242, 10243, 11267], [1042, 1043, 3091], [4098, 4099,
   5123, 7171], [112, 113, 625, 1649], [16944, 16945, 16953], [16, 17, 529, 8721, 8785, 8793], [25104, 25105, 25113], [4192, 4193, 4705, 4713], [20512, 20513, 21025, 23073],
   [12864, 12865, 14913], [29184, 29185, 30209], [96, 97, 609, 617, 621], [16936, 16937, 17961], [8712, 8713, 8777, 12873], [24584, 24585, 25097, 29193], [88, 89, 601], [16904,
   16905, 16921], [24, 25, 537, 569], [8216, 8217, 8729], [584, 585, 4681], [20488, 20489, 21001], [40, 41, 553, 4649], [4616, 4617, 12809], [2144, 2145, 2657], [2592, 2593, 18977,
   18993], [10816, 10817, 10821], [27136, 27137, 28161], [2640, 2641], [18960, 18961, 18965], [2064, 2065, 2577, 2609, 2613], [10768, 10769], [6720, 6721], [6144, 6145, 6657,
   23041], [6176, 6177, 6689], [14848, 14849], [100, 101, 613, 629], [16416, 16417, 16929, 16933, 21029], [8256, 8257, 8769, 8773, 8789], [24576, 24577, 25089, 25093, 29189], [596,
   597], [16916, 16917], [560, 561, 565], [8720, 8724, 8725]]
def qr_ch7 : List (List Nat) :=
  [[4160, 4161, 4673, 4677], [20480, 20481, 20993, 20997], [4640, 4641, 4645], [12288, 12289, 12801, 12805], [64, 65, 577, 581, 589], [16384, 16385, 16897, 16901, 16909], [32, 33,
   545, 549, 557], [8196, 8197, 8709, 8717], [520, 521, 525, 541], [4108, 4620, 4621], [2112, 2113, 2625, 2629], [18432, 18433, 18945, 18949], [2048, 2049, 2561, 2565, 2597],
   [10240, 10241, 10753, 10757], [0, 1, 513, 517, 533, 2581], [4096, 4097, 4609, 4613, 6661], [1568, 1569, 1633, 1641], [17440, 17441, 17953, 17969], [9280, 9281, 9793, 9809],
   [26112, 26113, 26129], [80, 81, 593, 1617], [16400, 16401, 16913, 17937], [1072, 1073, 1585], [9744, 9745], [5184, 5185, 5697, 5729], [21504, 21505, 22017], [5664, 5665],
   [13312, 13313, 13825], [1096, 1097, 1609], [17408, 17409, 17921, 17929], [1576, 1577], [9224, 9225, 9737], [1552, 1553, 1561], [1024, 1025, 1537, 1545, 5641], [1088, 1089, 1601,
   3649], [19968, 19969], [3584, 3585, 3617], [8192, 8193, 8705, 9729, 11777], [3600, 3601], [5120, 5121, 5633, 7681], [120, 376, 378], [16696, 17720, 17722], [8536, 9048], [24856,
   25880, 25882], [4456, 4460, 4462], [20776, 21288], [12552, 12616, 13640, 13642], [28936, 29448], [2160, 2416, 2928], [18736, 18740, 18742], [10320, 10576, 10580, 10582], [26896,
   27920, 27922], [6496, 6498], [22816, 23840, 23842], [14656, 14660, 14662], [30976, 32000, 32002]]
def qr_ch8 : List (List Nat) :=
  [[116, 372, 374], [16660, 16692, 16700, 16702], [8276, 8532, 8534], [24596, 24852, 24860, 24862], [4196, 4452, 6500, 6502], [20772, 21284], [12356, 12612, 12620, 12622], [28676,
   28932, 28940, 28942], [356, 364, 876], [44, 300, 16684, 16686], [8268, 8524, 8526], [24588, 24844, 24846], [92, 348, 380, 382], [16412, 16668, 16670], [12, 268, 284, 316, 318],
   [8472, 8476, 8540, 8542], [76, 332, 4428, 4430], [20740, 20748, 21260], [4360, 4364, 4396, 4398], [8204, 8460, 12556, 12558], [2336, 2340, 2404, 2916], [16676, 18724, 22820,
   22822], [10308, 10564, 11076], [26628, 26884, 30980, 30982], [2384, 2388, 2420, 2422], [18452, 18708, 18710], [2100, 2356, 2868], [2308, 2324, 10516, 10518], [6212, 6468, 6980],
   [18692, 22788, 22790], [6180, 6436, 6438], [6148, 6404, 14596, 14598], [1328, 1392, 1400, 1402], [17456, 17712, 19760, 19762], [9552, 10064], [25872, 26384], [5216, 5472, 7520,
   7522], [21792, 21794], [13632, 14144], [29952, 29954], [1376, 1384, 5480, 5482], [17448, 17704, 17706], [9536, 9544, 10056], [25856, 25864, 29960, 29962], [1360, 1368, 1880],
   [17672, 17688, 17690], [312, 1336, 1338], [1048, 1304, 9496, 9498], [1352, 5448, 5450], [21512, 21768, 22280], [1064, 1320, 5416, 5418], [5128, 5384, 13576, 14088], [3168, 3424,
   3426], [19488, 19744, 19746], [11584, 11586], [27648, 27904, 28416]]
def qr_ch9 : List (List Nat) :=
  [[3088, 3344, 3408, 3410], [19472, 19728, 19730], [3360, 3376, 3378], [11520, 11536, 11538], [7232, 7488, 15680, 15682], [19712, 23808, 23810], [7200, 7456, 7458], [7424, 15616,
   15618], [368, 370, 2418], [16434, 16690, 18738], [8274, 8530, 8538], [8210, 8466, 24850, 26898], [4416, 4418, 4450, 4458], [20768, 20770, 20778], [12354, 12610, 13634], [28674,
   28930, 30978], [360, 362, 1386], [296, 298, 16682, 16698], [8520, 8522, 9546], [24840, 24842, 25866], [344, 346, 1370], [16664, 16666], [272, 274, 282, 314], [8202, 8458, 8474],
   [4170, 4426], [20744, 20746, 21770], [4392, 4394], [12298, 12554], [2400, 2402, 2406], [18466, 18722, 22818], [10496, 10498, 10562, 10578], [26626, 26882, 26886], [2368, 2370,
   2386, 2390], [18688, 18690, 18706], [2352, 2354], [10512, 10514], [6210, 6466], [22784, 22786], [6400, 6402, 6434], [14592, 14594], [292, 294, 358, 4454], [16422, 16678, 16694],
   [8448, 8450, 8454, 8518, 12614], [24582, 24838, 28934], [340, 342], [16406, 16662], [52, 308, 310], [8214, 8470], [4420, 4422], [20486, 20742], [4388, 4390], [12544, 12546,
   12550], [74, 330, 334], [16396, 16652, 16654], [42, 46, 302], [10, 266, 270, 8462]]
def qr_ch10 : List (List Nat) :=
  [[276, 278, 286], [4356, 4358, 4366], [324, 326, 2374], [16644, 16646, 18694], [2082, 2338, 2342], [10500, 10502], [2320, 2322, 2326], [260, 262, 2310, 6406], [352, 354, 1378,
   1394], [16672, 16674, 17698], [8512, 8514, 9538, 9554], [24832, 24834, 25858], [336, 338, 1362], [16656, 16658, 17682], [288, 290, 306, 1330], [9488, 9490], [5376, 5378, 5442],
   [20736, 20738, 21762], [4352, 4354, 4386, 5410], [13568, 13570], [320, 322, 1346, 1354], [16394, 16650, 17674], [1288, 1290, 1322], [9472, 9480, 9482], [26, 1050, 1306], [4106,
   4362, 5386], [3392, 3394], [16640, 16642, 17666, 19714], [256, 258, 1282, 1314, 3362], [9218, 9474, 11522], [1296, 1298, 3346], [2304, 2306, 3330, 7426], [304, 816, 880, 888],
   [16688, 17200, 17208], [8528, 9040, 11088], [24848, 25360, 25368], [4448, 4960, 7008], [21024, 21280, 22304], [12608, 13120, 13124], [28928, 29440, 29444], [616, 872, 4968],
   [16680, 17192, 17196], [8776, 9032, 13128], [25096, 25352, 25356], [600, 856], [16920, 17176], [280, 792, 824], [8728, 8984, 8988], [4424, 4936], [21000, 21256], [4384, 4896,
   4904], [8456, 8968, 13064], [2656, 2912, 3936], [18720, 19232, 23328], [10560, 11072, 15168], [26880, 27392, 27408]]
def qr_ch11 : List (List Nat) :=
  [[2624, 2880, 2896], [18704, 19216], [544, 800, 2848, 2864], [2576, 2832, 11024], [6464, 6976, 8000], [23040, 23296, 31488], [6432, 6944], [12800, 13056, 15104], [608, 864, 868],
   [16928, 17184, 17188], [8516, 9028, 9044], [24836, 25348, 25364], [592, 848, 852], [16912, 17168, 17172], [548, 804, 820], [8468, 8980], [4672, 4928, 4932], [20992, 21248,
   21252], [4644, 4900], [12548, 13060], [576, 832, 836, 844], [16896, 17152, 17156, 17164], [516, 524, 780, 812], [8708, 8716, 8972], [532, 788, 796], [264, 776, 4872, 4876],
   [2372, 2884], [18944, 19200, 19204], [2596, 2852], [8452, 8964, 11012], [512, 768, 772, 2820, 2836], [4612, 4868, 6916], [1632, 1888], [17696, 18208], [8768, 9024, 10048],
   [25088, 25344, 26368], [528, 784, 1808, 1872], [17680, 18192], [1584, 1840], [8464, 8976, 10000], [5440, 5952], [21760, 22272], [5408, 5920], [4608, 4864, 5888, 14080], [328,
   840, 1864], [16648, 17160, 18184], [552, 808, 1832], [8704, 8960, 9984, 9992], [1536, 1544, 1560, 1816], [1280, 1792, 1800, 5896], [1344, 1856, 3904], [17664, 18176, 20224],
   [1312, 1824, 3872], [10752, 11008, 12032], [3328, 3840, 3856], [2560, 2816, 6912, 7936]]
def qr_chains : List (List Nat) := qr_ch0 ++ qr_ch1 ++ qr_ch2 ++ qr_ch3 ++ qr_ch4 ++ qr_ch5 ++ qr_ch6 ++ qr_ch7 ++ qr_ch8 ++ qr_ch9 ++ qr_ch10 ++ qr_ch11
def qr_ml : List Nat → Nat → Nat
  | [], m => m
  | x :: t, m => qr_ml t (m ||| 2 ^ x)
def qr_mk : List (List Nat) → Nat → Nat
  | [], m => m
  | l :: t, m => qr_mk t (qr_ml l m)
theorem qr_ml_in (x : Nat) : ∀ (l : List Nat) (m : Nat), (qr_ml l m).testBit x = true → m.testBit x = true ∨ x ∈ l := by
  intro l
  induction l with
  | nil => intro m h; exact Or.inl h
  | cons y t ih =>
    intro m h
    rcases ih _ h with h1 | h1
    · rw [Nat.testBit_or, Nat.testBit_two_pow, Bool.or_eq_true, decide_eq_true_eq] at h1
      rcases h1 with h2 | h2
      · exact Or.inl h2
      · subst h2; exact Or.inr (List.mem_cons_self ..)
    · exact Or.inr (List.mem_cons_of_mem _ h1)
theorem qr_mk_in (x : Nat) : ∀ (l : List (List Nat)) (m : Nat), (qr_mk l m).testBit x = true → m.testBit x = true ∨ ∃ t, t ∈ l ∧ x ∈ t := by
  intro l
  induction l with
  | nil => intro m h; exact Or.inl h
  | cons y t ih =>
    intro m h
    rcases ih _ h with h1 | ⟨u, hu, hx⟩
    · rcases qr_ml_in x _ _ h1 with h2 | h2
      · exact Or.inl h2
      · exact Or.inr ⟨y, List.mem_cons_self .., h2⟩
    · exact Or.inr ⟨u, List.mem_cons_of_mem _ hu, hx⟩
theorem qr_len : qr_chains.length = 672 := by decide +kernel
theorem qr_comp : qr_chains.all (fun l => l.all (fun x => l.all (fun y => (x &&& y == x) || (x &&& y == y)))) = true := by decide +kernel
def qr_cov (M : Nat) : Bool := (List.range 128).all (fun a => (List.range 128).all (fun b => (a &&& b != 0) || M.testBit (a + 256 * b)))
theorem qr_cover : qr_cov (qr_mk qr_chains 0) = true := by decide +kernel
theorem qr_has {a b : Nat} (ha : a < 128) (hb : b < 128) (h : a &&& b = 0) : ∃ id, id < 672 ∧ (a + 256 * b) ∈ qr_chains.getD id [] := by
  have h1 := qr_cover
  unfold qr_cov at h1
  rw [List.all_eq_true] at h1
  have h2 := h1 a (List.mem_range.mpr ha)
  rw [List.all_eq_true] at h2
  have h3 := h2 b (List.mem_range.mpr hb)
  rw [h] at h3
  have h4 : (qr_mk qr_chains 0).testBit (a + 256 * b) = true := by
    rcases (Bool.or_eq_true _ _).mp h3 with z | z
    · exact absurd z (by decide)
    · exact z
  rcases qr_mk_in _ _ _ h4 with z | ⟨t, ht, hx⟩
  · rw [Nat.zero_testBit] at z; exact absurd z (by decide)
  · obtain ⟨i, hi, e⟩ := List.getElem_of_mem ht
    refine ⟨i, by rw [← qr_len]; exact hi, ?_⟩
    rw [List.getD_eq_getElem?_getD, List.getElem?_eq_getElem hi, Option.getD_some, e]
    exact hx
theorem qr_two {id x y : Nat} (hx : x ∈ qr_chains.getD id []) (hy : y ∈ qr_chains.getD id []) : x &&& y = x ∨ x &&& y = y := by
  have h1 := qr_comp
  rw [List.all_eq_true] at h1
  by_cases hi : id < qr_chains.length
  · rw [List.getD_eq_getElem?_getD, List.getElem?_eq_getElem hi, Option.getD_some] at hx hy
    have h2 := h1 _ (List.getElem_mem hi)
    rw [List.all_eq_true] at h2
    have h3 := h2 x hx
    rw [List.all_eq_true] at h3
    have h4 := h3 y hy
    rcases (Bool.or_eq_true _ _).mp h4 with z | z
    · exact Or.inl (beq_iff_eq.mp z)
    · exact Or.inr (beq_iff_eq.mp z)
  · rw [List.getD_eq_getElem?_getD, List.getElem?_eq_none (by omega), Option.getD_none] at hx
    exact absurd hx (List.not_mem_nil)
/-- none says as much as another -/
def qr_sub (x y : Int32) : Prop := ∀ i, i < 32 → bt x i = true → bt y i = true
def qr_anti (cl : Nat → Int32) (m : Nat) : Prop := ∀ i j, i < m → j < m → i ≠ j → ¬ qr_sub (cl i) (cl j)
theorem qr_sub_nI {x y : Nat} (h : x &&& y = x) : qr_sub (nI x) (nI y) := by
  intro i hi hx
  rw [qb_nI' hi] at hx ⊢
  have := congrArg (fun z => Nat.testBit z i) h
  simp only [Nat.testBit_and] at this
  rw [hx, Bool.true_and] at this
  exact this
theorem qr_chain {c : Int32} (hw : qb_lt c 16) (hn : qc_nt c) (h7 : bt c 7 = false) (h15 : bt c 15 = false) : ∃ id x, id < 672 ∧ x ∈ qr_chains.getD id [] ∧ c = nI x := by
  obtain ⟨x, hx, rfl⟩ := qb_lt_of (by omega) hw
  have tb : ∀ i, i < 16 → bt (nI x) i = x.testBit i := fun i hi => qb_nI' (by omega)
  have ha : x % 256 < 128 := by
    have : x % 2 ^ 8 < 2 ^ 7 := by
      apply Nat.lt_pow_two_of_testBit
      intro i hi
      rw [Nat.testBit_mod_two_pow]
      by_cases e : i = 7
      · subst e; rw [← tb 7 (by omega), h7, Bool.and_false]
      · rw [decide_eq_false (by omega), Bool.false_and]
    exact this
  have hb : x / 256 < 128 := by
    have : x / 2 ^ 8 < 2 ^ 7 := by
      apply Nat.lt_pow_two_of_testBit
      intro i hi
      rw [Nat.testBit_div_two_pow]
      by_cases e : i = 7
      · subst e; rw [← tb 15 (by omega), h15]
      · exact Nat.testBit_lt_two_pow (Nat.lt_of_lt_of_le hx (Nat.pow_le_pow_right (by decide) (by omega)))
    exact this
  have hab : x % 256 &&& x / 256 = 0 := by
    apply Nat.eq_of_testBit_eq
    intro i
    rw [Nat.testBit_and, Nat.zero_testBit]
    show ((x % 2 ^ 8).testBit i && (x / 2 ^ 8).testBit i) = false
    rw [Nat.testBit_mod_two_pow, Nat.testBit_div_two_pow]
    by_cases e : i < 8
    · cases z : x.testBit i with
      | false => rw [Bool.and_false, Bool.false_and]
      | true =>
        have := hn i e (by rw [tb i (by omega)]; exact z)
        rw [tb (8 + i) (by omega)] at this
        rw [Nat.add_comm 8 i] at this
        rw [this, Bool.and_false]
    · rw [decide_eq_false e, Bool.false_and, Bool.false_and]
  obtain ⟨id, hid, hm⟩ := qr_has ha hb hab
  refine ⟨id, _, hid, hm, ?_⟩
  congr 1
  omega
theorem qr_bound {cl : Nat → Int32} {m : Nat} (hw : qc_wf cl m) (h7 : ∀ j, j < m → bt (cl j) 7 = false ∧ bt (cl j) 15 = false) (ha : qr_anti cl m) : m ≤ 672 := by
  have hc : ∀ j, j < m → ∃ id x, id < 672 ∧ x ∈ qr_chains.getD id [] ∧ cl j = nI x := fun j hj => qr_chain (hw j hj).1 (hw j hj).2 (h7 j hj).1 (h7 j hj).2
  have hm : qn_cnt (fun _ => true) m = m := by
    clear hw h7 ha hc
    induction m with
    | zero => rfl
    | succ m ih => simp only [qn_cnt]; rw [ih]; rfl
  have hg : ∀ id, ∃ i, (∃ j x, j < m ∧ x ∈ qr_chains.getD id [] ∧ cl j = nI x) → (i < m ∧ ∃ x, x ∈ qr_chains.getD id [] ∧ cl i = nI x) := by
    intro id
    rcases Classical.em (∃ j x, j < m ∧ x ∈ qr_chains.getD id [] ∧ cl j = nI x) with ⟨j, x, z1, z2, z3⟩ | z
    · exact ⟨j, fun _ => ⟨z1, x, z2, z3⟩⟩
    · exact ⟨0, fun y => absurd y z⟩
  have hp := qn_pigeon (B := 672) (f := fun _ => true) (n := m) (fun id => (hg id).choose) ?_
  · rw [hm] at hp; exact hp
  · intro i hi _
    obtain ⟨id, x, hid, hx, e⟩ := hc i hi
    refine ⟨id, hid, ?_⟩
    obtain ⟨h1, y, h2, h3⟩ := (hg id).choose_spec ⟨i, x, hi, hx, e⟩
    apply Classical.byContradiction
    intro ne
    rcases qr_two hx h2 with z | z
    · apply ha i _ hi h1 (fun q => ne q.symm)
      rw [e, h3]; exact qr_sub_nI z
    · apply ha _ i h1 hi ne
      rw [e, h3]; exact qr_sub_nI (by rw [Nat.and_comm]; exact z)
end
section
/-! numbers by bits; ones counted -/
def qn_num (f : Nat → Bool) : Nat → Nat
  | 0 => 0
  | n + 1 => 2 * qn_num (fun i => f (i + 1)) n + (f 0).toNat
theorem qn_num_lt : ∀ (n : Nat) (f : Nat → Bool), qn_num f n < 2 ^ n := by
  intro n
  induction n with
  | zero => intro f; exact Nat.one_pos
  | succ n ih =>
    intro f
    have h1 := ih (fun i => f (i + 1))
    have h2 := Bool.toNat_le (f 0)
    simp only [qn_num]
    rw [Nat.pow_succ]; omega
theorem qn_num_bit : ∀ (n : Nat) (f : Nat → Bool) (i : Nat), i < n → (qn_num f n).testBit i = f i := by
  intro n
  induction n with
  | zero => intro f i hi; omega
  | succ n ih =>
    intro f i hi
    simp only [qn_num]
    cases i with
    | zero =>
      rw [Nat.testBit_zero]
      cases f 0 <;> simp <;> omega
    | succ i =>
      rw [Nat.testBit_succ, show (2 * qn_num (fun i => f (i + 1)) n + (f 0).toNat) / 2 = qn_num (fun i => f (i + 1)) n by have := Bool.toNat_le (f 0); cases h : f 0 <;> simp <;> omega]
      exact ih _ i (by omega)
theorem qn_num_testBit (n : Nat) (f : Nat → Bool) (i : Nat) : (qn_num f n).testBit i = (decide (i < n) && f i) := by
  by_cases h : i < n
  · rw [qn_num_bit n f i h, decide_eq_true h, Bool.true_and]
  · rw [decide_eq_false h, Bool.false_and]
    exact Nat.testBit_lt_two_pow (Nat.lt_of_lt_of_le (qn_num_lt n f) (Nat.pow_le_pow_right (by decide) (by omega)))
theorem qn_cnt_shift (f : Nat → Bool) (n : Nat) : qn_cnt f (n + 1) = (f 0).toNat + qn_cnt (fun i => f (i + 1)) n := by
  induction n with
  | zero => simp [qn_cnt]
  | succ n ih =>
    rw [qn_cnt, ih]
    simp only [qn_cnt]; omega
theorem qn_clear : ∀ (n a : Nat), a < 2 ^ n → a ≠ 0 → qn_cnt (fun i => (a &&& (a - 1)).testBit i) n + 1 = qn_cnt (fun i => a.testBit i) n := by
  intro n
  induction n with
  | zero => intro a h h0; simp at h; omega
  | succ n ih =>
    intro a h h0
    rw [qn_cnt_shift, qn_cnt_shift]
    simp only [Nat.testBit_zero, Nat.testBit_succ]
    have hp : a / 2 < 2 ^ n := by rw [Nat.pow_succ] at h; omega
    have hm : (a &&& (a - 1)) % 2 = 0 := by
      rcases Nat.mod_two_eq_zero_or_one (a &&& (a - 1)) with e | e
      · exact e
      · have := Nat.and_mod_two_eq_one.mp e
        omega
    rw [hm, Nat.and_div_two]
    rcases Nat.mod_two_eq_zero_or_one a with e | e
    · have e1 : (a - 1) / 2 = a / 2 - 1 := by omega
      have e2 := ih (a / 2) hp (by omega)
      rw [e1, e]
      simp only [Nat.zero_ne_one, decide_false, Bool.toNat_false]
      omega
    · have e1 : (a - 1) / 2 = a / 2 := by omega
      rw [e1, e, Nat.and_self]
      simp only [Nat.zero_ne_one, decide_false, decide_true, Bool.toNat_false, Bool.toNat_true]
      omega
def qn_pc (a : Nat) : Nat := qn_cnt (fun i => a.testBit i) 8
theorem qn_pc_clear {a : Nat} (h : a < 256) (h0 : a ≠ 0) : qn_pc (a &&& (a - 1)) + 1 = qn_pc a := qn_clear 8 a h h0
/-- a part of the right size -/
theorem qn_part : ∀ (j a k : Nat), a < 256 → qn_pc a = k + j → ∃ t, t &&& a = t ∧ qn_pc t = k := by
  intro j
  induction j with
  | zero => intro a k _ h; exact ⟨a, Nat.and_self a, h⟩
  | succ j ih =>
    intro a k ha h
    have h0 : a ≠ 0 := by
      intro z
      rw [z, show qn_pc 0 = 0 by decide] at h
      omega
    have h1 := qn_pc_clear ha h0
    obtain ⟨t, h2, h3⟩ := ih (a &&& (a - 1)) k (Nat.lt_of_le_of_lt Nat.and_le_left ha) (by omega)
    refine ⟨t, ?_, h3⟩
    apply Nat.eq_of_testBit_eq
    intro i
    have := congrArg (fun z => Nat.testBit z i) h2
    simp only [Nat.testBit_and] at this ⊢
    cases e : t.testBit i with
    | false => rw [Bool.false_and]
    | true =>
      rw [e, Bool.true_and, Bool.and_eq_true] at this
      rw [this.1]; rfl
theorem qn_pc_mono {t a : Nat} (h : t &&& a = t) : qn_pc t ≤ qn_pc a := by
  apply qn_cnt_mono
  intro i _ hi
  have := congrArg (fun z => Nat.testBit z i) h
  simp only [Nat.testBit_and] at this
  rw [hi, Bool.true_and] at this
  exact this
/-- parts of a set from above: nothing is left out -/
theorem qn_sub_step : ∀ (p a s : Nat), s < a → s &&& p = s → a &&& p = a → s ≤ (a - 1) &&& p := by
  intro p
  induction p using Nat.strongRecOn with
  | ind p ih =>
    intro a s hs h1 h2
    by_cases hp : p = 0
    · subst hp
      rw [Nat.and_zero] at h2
      omega
    · have d1 : (s / 2) &&& (p / 2) = s / 2 := by rw [← Nat.and_div_two, h1]
      have d2 : (a / 2) &&& (p / 2) = a / 2 := by rw [← Nat.and_div_two, h2]
      have m1 : (s % 2) ≤ p % 2 := by
        rcases Nat.mod_two_eq_zero_or_one s with e | e
        · omega
        · have := Nat.and_mod_two_eq_one.mp (show (s &&& p) % 2 = 1 by rw [h1]; exact e)
          omega
      have r : (a - 1) &&& p = 2 * (((a - 1) / 2) &&& (p / 2)) + (((a - 1) &&& p) % 2) := by
        rw [← Nat.and_div_two]; omega
      rcases Nat.mod_two_eq_zero_or_one a with e | e
      · have e1 : (a - 1) / 2 = a / 2 - 1 := by omega
        have e2 : (a - 1) % 2 = 1 := by omega
        have := ih (p / 2) (by omega) (a / 2) (s / 2) (by omega) d1 d2
        rw [r, e1]
        have e3 : ((a - 1) &&& p) % 2 = p % 2 := by
          rcases Nat.mod_two_eq_zero_or_one p with e' | e'
          · rcases Nat.mod_two_eq_zero_or_one ((a - 1) &&& p) with e'' | e''
            · omega
            · have := (Nat.and_mod_two_eq_one.mp e'').2
              omega
          · have := Nat.and_mod_two_eq_one.mpr ⟨e2, e'⟩
            omega
        omega
      · have e1 : (a - 1) / 2 = a / 2 := by omega
        rw [r, e1, d2]
        omega
theorem qn_sub_part {p a : Nat} : ((a - 1) &&& p) &&& p = (a - 1) &&& p := by rw [Nat.and_assoc, Nat.and_self]
theorem qn_sub_lt {p a : Nat} (h : a ≠ 0) : (a - 1) &&& p < a := Nat.lt_of_le_of_lt Nat.and_le_left (by omega)
end
section
/-! what a rule says -/
def qc_R (kd p q : Int32) (s : Nat → Bool) : Prop :=
  if kd = 0 then (∃ i, i < 8 ∧ bt p i = true ∧ s i = true) ∨ (∃ i, i < 8 ∧ bt q i = true ∧ s i = false)
  else if kd = 1 then nI (qn_cnt (fun i => bt p i && s i) 8 % 2) = q
  else if kd = 2 then nI (qn_cnt (fun i => bt p i && s i) 8) ≤ q
  else (∀ i, i < 8 → bt p i = true → s i = false) ∨ (∀ i, i < 8 → bt p i = true → s i = true)
theorem qc_R_dep {kd p q : Int32} : qg_Dep 8 (qc_R kd p q) := by
  intro s s' h
  have e : qn_cnt (fun i => bt p i && s i) 8 = qn_cnt (fun i => bt p i && s' i) 8 := qn_cnt_congr (fun i hi => by rw [h i hi])
  have a1 : ∀ b, (∃ i, i < 8 ∧ bt p i = true ∧ s i = b) ↔ (∃ i, i < 8 ∧ bt p i = true ∧ s' i = b) := fun b =>
    ⟨fun ⟨i, hi, z⟩ => ⟨i, hi, by rw [← h i hi]; exact z⟩, fun ⟨i, hi, z⟩ => ⟨i, hi, by rw [h i hi]; exact z⟩⟩
  have a2 : ∀ b, (∃ i, i < 8 ∧ bt q i = true ∧ s i = b) ↔ (∃ i, i < 8 ∧ bt q i = true ∧ s' i = b) := fun b =>
    ⟨fun ⟨i, hi, z⟩ => ⟨i, hi, by rw [← h i hi]; exact z⟩, fun ⟨i, hi, z⟩ => ⟨i, hi, by rw [h i hi]; exact z⟩⟩
  have a3 : ∀ b, (∀ i, i < 8 → bt p i = true → s i = b) ↔ (∀ i, i < 8 → bt p i = true → s' i = b) := fun b =>
    ⟨fun z i hi y => by rw [← h i hi]; exact z i hi y, fun z i hi y => by rw [h i hi]; exact z i hi y⟩
  unfold qc_R
  rw [e, a1, a2, a3, a3]
/-- the rules of a set hold -/
def qc_H (m : Nat) (kd p q : Nat → Int32) (rules : Int32) (s : Nat → Bool) : Prop := ∀ j, j < m → bt rules j = true → qc_R (kd j) (p j) (q j) s
theorem qc_H_dep {m : Nat} {kd p q : Nat → Int32} {rules : Int32} : qg_Dep 8 (qc_H m kd p q rules) := fun s s' h =>
  ⟨fun z j hj hb => (qc_R_dep s s' h).mp (z j hj hb), fun z j hj hb => (qc_R_dep s s' h).mpr (z j hj hb)⟩
/-- a rule that was let in -/
def qc_V (kd p q : Int32) : Prop := qb_lt p 8 ∧ ((kd = 0 ∧ qb_lt q 8) ∨ (kd = 1 ∧ (q = 0 ∨ q = 1) ∧ qn_cnt (bt p) 8 ≤ 4) ∨ (kd = 2 ∧ (∃ k, k ≤ 4 ∧ q = nI k) ∧ qn_cnt (bt p) 8 ≤ 5) ∨ kd = 3)
def qc_Vs (m : Nat) (kd p q : Nat → Int32) : Prop := ∀ j, j < m → qc_V (kd j) (p j) (q j)
section
variable {f_theirs f_ruleCount f_wayNow f_clausesOf f_clauseCount f_tableFor f_memoFor f_memoSide f_depth f_known f_ones f_diagramFor f_diagramRoot f_nodeCount f_leftCount f_madeCount : Int32} {a_kindOf a_setP a_setQ a_clauses a_memo a_choiceOf a_secondTry a_knownBefore a_onesBefore a_nodeVariable a_nodeLow a_nodeHigh a_nodeNext a_listFirst a_recentKey a_recentNode a_workF a_workG a_workPhase a_workLow a_nodeValue a_left a_made : Nat → Int32} {a_table a_onesOfVariable a_tableBefore : Nat → Int64}
theorem qx_onesIn_4 {post : Int32 → Prop} : ∀ (n a c : Nat), a < 2 ^ 8 → a < n → post (nI (c + qn_pc a)) → wX_onesIn_4 post f_theirs f_ruleCount f_wayNow f_clausesOf f_clauseCount f_tableFor f_memoFor f_memoSide f_depth f_known f_ones f_diagramFor f_diagramRoot f_nodeCount f_leftCount f_madeCount a_kindOf a_setP a_setQ a_clauses a_table a_memo a_choiceOf a_secondTry a_knownBefore a_onesBefore a_nodeVariable a_nodeLow a_nodeHigh a_nodeNext a_listFirst a_recentKey a_recentNode a_workF a_workG a_workPhase a_workLow a_nodeValue a_left a_made a_onesOfVariable a_tableBefore n (nI c) (nI a) := by
  intro n
  induction n with
  | zero => intro a c _ h; omega
  | succ n ih =>
    intro a c ha hn hp
    refine pk_eq a 0 ?_ ?_
    · intro e
      subst e
      have : qn_pc 0 = 0 := by decide
      rw [this, Nat.add_zero] at hp
      exact hp
    · intro e
      have h1 : nI a &&& (nI a - 1) = nI (a &&& (a - 1)) := by
        have : nI a - 1 = nI (a - 1) := pk_sub (b := 1) (by omega)
        rw [this, nx_and]
      have h2 : a &&& (a - 1) ≤ a - 1 := Nat.and_le_right
      have h3 := qn_pc_clear ha e
      refine nm_r h1 (nm_r (nI_1 c) (ih _ _ (by omega) (by omega) ?_))
      rw [show c + 1 + qn_pc (a &&& (a - 1)) = c + qn_pc a by omega]
      exact hp
theorem qx_onesIn {post : Int32 → Prop} {x : Int32} (hx : qb_lt x 8) (K : post (nI (qn_cnt (bt x) 8))) : wpX_onesIn post (f_theirs, f_ruleCount, f_wayNow, f_clausesOf, f_clauseCount, f_tableFor, f_memoFor, f_memoSide, f_depth, f_known, f_ones, f_diagramFor, f_diagramRoot, f_nodeCount, f_leftCount, f_madeCount, a_kindOf, a_setP, a_setQ, a_clauses, a_table, a_memo, a_choiceOf, a_secondTry, a_knownBefore, a_onesBefore, a_nodeVariable, a_nodeLow, a_nodeHigh, a_nodeNext, a_listFirst, a_recentKey, a_recentNode, a_workF, a_workG, a_workPhase, a_workLow, a_nodeValue, a_left, a_made, a_onesOfVariable, a_tableBefore) x := by
  obtain ⟨a, ha, rfl⟩ := qb_lt_of (by omega) hx
  refine ⟨a + 1, qx_onesIn_4 (a + 1) a 0 ha (by omega) ?_⟩
  rw [Nat.zero_add]
  have : qn_pc a = qn_cnt (bt (nI a)) 8 := qn_cnt_congr (fun i hi => by rw [qb_nI' (by omega)])
  rw [this]; exact K
/-! X: one rule, all rules at given values -/
theorem qx_ruleHolds {post : Int32 → Prop} {i : Nat} {x : Int32} (hi : i < 12) (hx : qb_lt x 8) (hv : qc_V (a_kindOf i) (a_setP i) (a_setQ i)) (K : post (qb_p (qc_R (a_kindOf i) (a_setP i) (a_setQ i) (bt x)))) :
    wpX_ruleHolds post (f_theirs, f_ruleCount, f_wayNow, f_clausesOf, f_clauseCount, f_tableFor, f_memoFor, f_memoSide, f_depth, f_known, f_ones, f_diagramFor, f_diagramRoot, f_nodeCount, f_leftCount, f_madeCount, a_kindOf, a_setP, a_setQ, a_clauses, a_table, a_memo, a_choiceOf, a_secondTry, a_knownBefore, a_onesBefore, a_nodeVariable, a_nodeLow, a_nodeHigh, a_nodeNext, a_listFirst, a_recentKey, a_recentNode, a_workF, a_workG, a_workPhase, a_workLow, a_nodeValue, a_left, a_made, a_onesOfVariable, a_tableBefore) (nI i) x := by
  have hin : vp_in (nI i) 12 := vp_in_nI hi (by omega)
  unfold wpX_ruleHolds
  dsimp only
  rw [nI_clamp (by omega)]
  refine ⟨hin, qx_onesIn (qb_lt_and hv.1) ?_⟩
  have hb : qn_cnt (bt (a_setP i &&& x)) 8 = qn_cnt (fun j => bt (a_setP i) j && bt x j) 8 := qn_cnt_congr (fun j _ => b_and _ _ _)
  have hle : qn_cnt (fun j => bt (a_setP i) j && bt x j) 8 ≤ 8 := qn_cnt_le _ _
  rw [hb]
  refine ⟨hin, br_c (fun h0 => ?_) (fun h0 => ⟨hin, br_c (fun h1 => ⟨hin, ?_⟩) (fun h1 => ⟨hin, br_c (fun h2 => ⟨hin, ?_⟩) (fun h2 => ?_)⟩)⟩)⟩
  · -- one of these 1, or one of those 0
    refine pk_lt 0 (qn_cnt (fun j => bt (a_setP i) j && bt x j) 8) (fun hc => ?_) (fun hc => ⟨hin, ?_⟩)
    · have : qc_R (a_kindOf i) (a_setP i) (a_setQ i) (bt x) := by
        unfold qc_R
        rw [if_pos h0]
        left
        apply Classical.byContradiction
        intro z
        rw [qn_cnt_0] at hc
        · omega
        · intro j hj
          cases e1 : bt (a_setP i) j <;> cases e2 : bt x j <;> first | rfl | exact absurd ⟨j, hj, e1, e2⟩ z
      rw [qb_p_t this] at K; exact K
    · have hno : ¬ ∃ j, j < 8 ∧ bt (a_setP i) j = true ∧ bt x j = true := by
        intro ⟨j, hj, e1, e2⟩
        have := qn_cnt_pos (f := fun j => bt (a_setP i) j && bt x j) (n := 8) hj (by show (bt (a_setP i) j && bt x j) = true; rw [e1, e2]; rfl)
        omega
      have hq : qb_lt (a_setQ i) 8 := by
        rcases hv.2 with ⟨_, h⟩ | ⟨h, _⟩ | ⟨h, _⟩ | h
        · exact h
        · rw [h] at h0; exact absurd h0 (by decide)
        · rw [h] at h0; exact absurd h0 (by decide)
        · rw [h] at h0; exact absurd h0 (by decide)
      refine br_c (fun h3 => ?_) (fun h3 => ?_)
      · have : ¬ qc_R (a_kindOf i) (a_setP i) (a_setQ i) (bt x) := by
          unfold qc_R
          rw [if_pos h0]
          rintro (z | ⟨j, hj, e1, e2⟩)
          · exact hno z
          · rw [qb_andn.mp h3 j (by omega) e1] at e2; exact absurd e2 (by decide)
        rw [qb_p_f this] at K; exact K
      · have : qc_R (a_kindOf i) (a_setP i) (a_setQ i) (bt x) := by
          unfold qc_R
          rw [if_pos h0]
          right
          obtain ⟨j, hj, hb⟩ := qb_nz h3
          rw [b_and, Bool.and_eq_true] at hb
          rcases Nat.lt_or_ge j 8 with h8 | h8
          · refine ⟨j, h8, hb.1, ?_⟩
            have := hb.2
            rw [qb_not _ hj] at this
            cases e : bt x j with
            | false => rfl
            | true => rw [e] at this; exact absurd this (by decide)
          · rw [hq j h8] at hb; exact absurd hb.1 (by decide)
        rw [qb_p_t this] at K; exact K
  · -- parity
    have hR : qc_R (a_kindOf i) (a_setP i) (a_setQ i) (bt x) ↔ nI (qn_cnt (fun j => bt (a_setP i) j && bt x j) 8) &&& 1 = a_setQ i := by
      unfold qc_R
      rw [if_neg h0, if_pos h1, pk_andN (by omega) 1 (by decide)]
    exact br_c (fun h3 => by rw [qb_p_t (hR.mpr h3)] at K; exact K) (fun h3 => by rw [qb_p_f (fun z => h3 (hR.mp z))] at K; exact K)
  · -- at most
    have hR : qc_R (a_kindOf i) (a_setP i) (a_setQ i) (bt x) ↔ ¬ a_setQ i < nI (qn_cnt (fun j => bt (a_setP i) j && bt x j) 8) := by
      unfold qc_R
      rw [if_neg h0, if_neg h1, if_pos h2, Int32.not_lt]
    exact br_c (fun h3 => by rw [qb_p_f (fun z => hR.mp z h3)] at K; exact K) (fun h3 => by rw [qb_p_t (hR.mpr h3)] at K; exact K)
  · -- all alike
    refine pk_eq (qn_cnt (fun j => bt (a_setP i) j && bt x j) 8) 0 (fun hc => ?_) (fun hc => ⟨hin, ?_⟩)
    · have : qc_R (a_kindOf i) (a_setP i) (a_setQ i) (bt x) := by
        unfold qc_R
        rw [if_neg h0, if_neg h1, if_neg h2]
        left
        intro j hj e1
        cases e2 : bt x j with
        | false => rfl
        | true =>
          have := qn_cnt_pos (f := fun j => bt (a_setP i) j && bt x j) (n := 8) hj (by show (bt (a_setP i) j && bt x j) = true; rw [e1, e2]; rfl)
          omega
      rw [qb_p_t this] at K; exact K
    · refine br_c (fun h3 => ?_) (fun h3 => ?_)
      · have : qc_R (a_kindOf i) (a_setP i) (a_setQ i) (bt x) := by
          unfold qc_R
          rw [if_neg h0, if_neg h1, if_neg h2]
          right
          intro j hj e1
          exact qb_andn.mp h3 j (by omega) e1
        rw [qb_p_t this] at K; exact K
      · have : ¬ qc_R (a_kindOf i) (a_setP i) (a_setQ i) (bt x) := by
          unfold qc_R
          rw [if_neg h0, if_neg h1, if_neg h2]
          rintro (z | z)
          · apply hc
            apply qn_cnt_0
            intro j hj
            cases e1 : bt (a_setP i) j with
            | false => rfl
            | true => rw [z j hj e1]; rfl
          · apply h3
            rw [qb_andn]
            intro j hj e1
            rcases Nat.lt_or_ge j 8 with h8 | h8
            · exact z j h8 e1
            · rw [hv.1 j h8] at e1; exact absurd e1 (by decide)
        rw [qb_p_f this] at K; exact K
theorem qx_holds_15 {post : Int32 → Prop} {m : Nat} {x rules : Int32} (hm : m ≤ 12) (hx : qb_lt x 8) (hv : qc_Vs m a_kindOf a_setP a_setQ) (hr : ∀ j, j < m → bt rules j = true)
    (K : post (qb_p (qc_H m a_kindOf a_setP a_setQ rules (bt x)))) : ∀ (n i : Nat), i ≤ m → m < n + i → (∀ j, j < i → qc_R (a_kindOf j) (a_setP j) (a_setQ j) (bt x)) → wX_holds_15 post x f_theirs (nI m) f_wayNow f_clausesOf f_clauseCount f_tableFor f_memoFor f_memoSide f_depth f_known f_ones f_diagramFor f_diagramRoot f_nodeCount f_leftCount f_madeCount a_kindOf a_setP a_setQ a_clauses a_table a_memo a_choiceOf a_secondTry a_knownBefore a_onesBefore a_nodeVariable a_nodeLow a_nodeHigh a_nodeNext a_listFirst a_recentKey a_recentNode a_workF a_workG a_workPhase a_workLow a_nodeValue a_left a_made a_onesOfVariable a_tableBefore n (nI i) := by
  intro n
  induction n with
  | zero => intro i h1 h2; omega
  | succ n ih =>
    intro i h1 h2 h3
    refine pk_le m i (fun hl => ?_) (fun hl => ?_)
    · have hH : qc_H m a_kindOf a_setP a_setQ rules (bt x) := fun j hj _ => h3 j (by omega)
      rw [qb_p_t hH] at K; exact K
    · refine qx_ruleHolds (by omega) hx (hv i hl) ?_
      refine br_c (fun h4 => ?_) (fun h4 => nm_r (nI_1 i) ?_)
      · rw [qb_p_0] at h4
        have hH : ¬ qc_H m a_kindOf a_setP a_setQ rules (bt x) := fun z => h4 (z i hl (hr i hl))
        rw [qb_p_f hH] at K; exact K
      · apply ih _ (by omega) (by omega)
        intro j hj
        by_cases e : j = i
        · subst e
          apply Classical.byContradiction
          intro z
          exact h4 (qb_p_f z)
        · exact h3 j (by omega)
theorem qx_holds {post : Int32 → Prop} {m : Nat} {x rules : Int32} (hm : m ≤ 12) (hv : qc_Vs m a_kindOf a_setP a_setQ) (hr : ∀ j, j < m → bt rules j = true)
    (K0 : ¬ (0 ≤ x ∧ x ≤ 255) → post 0) (K : qb_lt x 8 → post (qb_p (qc_H m a_kindOf a_setP a_setQ rules (bt x)))) : wpX_holds post (f_theirs, nI m, f_wayNow, f_clausesOf, f_clauseCount, f_tableFor, f_memoFor, f_memoSide, f_depth, f_known, f_ones, f_diagramFor, f_diagramRoot, f_nodeCount, f_leftCount, f_madeCount, a_kindOf, a_setP, a_setQ, a_clauses, a_table, a_memo, a_choiceOf, a_secondTry, a_knownBefore, a_onesBefore, a_nodeVariable, a_nodeLow, a_nodeHigh, a_nodeNext, a_listFirst, a_recentKey, a_recentNode, a_workF, a_workG, a_workPhase, a_workLow, a_nodeValue, a_left, a_made, a_onesOfVariable, a_tableBefore) x := by
  refine br_c (fun h => K0 (fun z => Int32.not_lt.mpr z.1 h)) (fun h => br_c (fun h' => ?_) (fun h' => K0 (fun z => h' z.2)))
  obtain ⟨a, ha, rfl⟩ := nI_of2 (M := 255) (n := 255) (by decide) h h'
  have hx : qb_lt (nI a) 8 := qb_lt_nI (by omega)
  exact ⟨m + 1, qx_holds_15 hm hx hv hr (K hx) (m + 1) 0 (by omega) (by omega) (fun j hj => by omega)⟩
end
end
section
/-! the clauses of the rules -/
def qc_CC (p q : Int32) (s : Nat → Bool) : Prop := (∃ i, i < 8 ∧ bt p i = true ∧ s i = true) ∨ (∃ i, i < 8 ∧ bt q i = true ∧ s i = false)
theorem qc_mk_bit {p q : Int32} (hp : qb_lt p 8) (hq : qb_lt q 8) {i : Nat} : bt (p ||| (q <<< ((8 : Int32) &&& 31))) i = (bt p i || (decide (8 ≤ i) && bt q (i - 8))) := by
  rw [b_or, qb_shl8 hq]
theorem qc_mk_lo {p q : Int32} (hp : qb_lt p 8) (hq : qb_lt q 8) {i : Nat} (h : i < 8) : bt (p ||| (q <<< ((8 : Int32) &&& 31))) i = bt p i := by
  rw [qc_mk_bit hp hq, decide_eq_false (by omega), Bool.false_and, Bool.or_false]
theorem qc_mk_hi {p q : Int32} (hp : qb_lt p 8) (hq : qb_lt q 8) {i : Nat} : bt (p ||| (q <<< ((8 : Int32) &&& 31))) (8 + i) = bt q i := by
  rw [qc_mk_bit hp hq, decide_eq_true (by omega), Bool.true_and, hp (8 + i) (by omega), Bool.false_or, Nat.add_sub_cancel_left]
theorem qc_mk_lt {p q : Int32} (hp : qb_lt p 8) (hq : qb_lt q 8) : qb_lt (p ||| (q <<< ((8 : Int32) &&& 31))) 16 := by
  intro i hi
  rw [qc_mk_bit hp hq, hp i (by omega), hq (i - 8) (by omega), Bool.and_false]; rfl
theorem qc_mk_cs {p q : Int32} (hp : qb_lt p 8) (hq : qb_lt q 8) (s : Nat → Bool) : qc_cs (p ||| (q <<< ((8 : Int32) &&& 31))) s ↔ qc_CC p q s := by
  unfold qc_cs qc_CC
  constructor
  · intro ⟨i, hi, z⟩
    rw [qc_mk_lo hp hq hi, qc_mk_hi hp hq] at z
    rcases z with ⟨a, b⟩ | ⟨a, b⟩
    · exact Or.inl ⟨i, hi, a, b⟩
    · exact Or.inr ⟨i, hi, a, b⟩
  · intro z
    rcases z with ⟨i, hi, a, b⟩ | ⟨i, hi, a, b⟩
    · exact ⟨i, hi, Or.inl ⟨by rw [qc_mk_lo hp hq hi]; exact a, b⟩⟩
    · exact ⟨i, hi, Or.inr ⟨by rw [qc_mk_hi hp hq]; exact a, b⟩⟩
theorem qc_mk_nt {p q : Int32} (hp : qb_lt p 8) (hq : qb_lt q 8) (h : p &&& q = 0) : qc_nt (p ||| (q <<< ((8 : Int32) &&& 31))) := by
  intro i hi z
  rw [qc_mk_lo hp hq hi] at z
  rw [qc_mk_hi hp hq]
  exact qb_and0.mp h i (by omega) z
theorem qc_All_snoc {cl : Nat → Int32} {m : Nat} {c : Int32} {s : Nat → Bool} : qc_All (upd cl m c) (m + 1) s ↔ qc_All cl m s ∧ qc_cs c s := by
  constructor
  · intro z
    refine ⟨fun j hj => ?_, ?_⟩
    · have := z j (by omega)
      rw [pk_un (by omega)] at this; exact this
    · have := z m (by omega)
      rw [pk_us] at this; exact this
  · intro ⟨z1, z2⟩ j hj
    by_cases e : j = m
    · subst e; rw [pk_us]; exact z2
    · rw [pk_un e]; exact z1 j (by omega)
theorem qc_wf_snoc {cl : Nat → Int32} {m : Nat} {c : Int32} (h : qc_wf cl m) (h1 : qb_lt c 16) (h2 : qc_nt c) : qc_wf (upd cl m c) (m + 1) := by
  intro j hj
  by_cases e : j = m
  · subst e; rw [pk_us]; exact ⟨h1, h2⟩
  · rw [pk_un e]; exact h j (by omega)
/-- the values of the variables of a set, as a number -/
def qc_x (P : Nat) (s : Nat → Bool) : Nat := qn_num (fun i => P.testBit i && s i) 8
theorem qc_x_bit {P : Nat} {s : Nat → Bool} {i : Nat} (h : i < 8) : (qc_x P s).testBit i = (P.testBit i && s i) := qn_num_bit 8 _ i h
theorem qc_x_lt {P : Nat} {s : Nat → Bool} : qc_x P s < 256 := qn_num_lt 8 _
theorem qc_bits8 {a b : Nat} (ha : a < 256) (hb : b < 256) (h : ∀ i, i < 8 → a.testBit i = b.testBit i) : a = b := by
  apply Nat.eq_of_testBit_eq
  intro i
  rcases Nat.lt_or_ge i 8 with h8 | h8
  · exact h i h8
  · rw [Nat.testBit_lt_two_pow (Nat.lt_of_lt_of_le ha (Nat.pow_le_pow_right (n := 2) (by decide) h8)), Nat.testBit_lt_two_pow (Nat.lt_of_lt_of_le hb (Nat.pow_le_pow_right (n := 2) (by decide) h8))]
theorem qc_sub8 {a b : Nat} (ha : a < 256) : a &&& b = a ↔ ∀ i, i < 8 → a.testBit i = true → b.testBit i = true := by
  constructor
  · intro h i _ hi
    have := congrArg (fun z => Nat.testBit z i) h
    simp only [Nat.testBit_and] at this
    rw [hi, Bool.true_and] at this
    exact this
  · intro h
    apply qc_bits8 (Nat.lt_of_le_of_lt Nat.and_le_left ha) ha
    intro i hi
    rw [Nat.testBit_and]
    cases e : a.testBit i with
    | false => rfl
    | true => rw [h i hi e]; rfl
theorem qc_x_sub {P : Nat} {s : Nat → Bool} : qc_x P s &&& P = qc_x P s := by
  rw [qc_sub8 qc_x_lt]
  intro i hi h
  rw [qc_x_bit hi, Bool.and_eq_true] at h
  exact h.1
theorem qc_x_pc {P : Nat} {s : Nat → Bool} : qn_cnt (fun i => bt (nI P) i && s i) 8 = qn_pc (qc_x P s) :=
  qn_cnt_congr (fun i hi => by rw [qc_x_bit hi, qb_nI' (by omega)])
theorem qc_CC_par {P part : Nat} (hP : P < 256) (hs : part &&& P = part) (s : Nat → Bool) : qc_CC (nI P &&& (nI part ^^^ (-1))) (nI part) s ↔ qc_x P s ≠ part := by
  have hp : part < 256 := by rw [← hs]; exact Nat.lt_of_le_of_lt Nat.and_le_right hP
  have hb : ∀ i, i < 8 → (bt (nI P &&& (nI part ^^^ (-1))) i = (P.testBit i && !part.testBit i)) := by
    intro i hi
    rw [b_and, qb_not _ (by omega), qb_nI' (by omega), qb_nI' (by omega)]
  constructor
  · intro z e
    rcases z with ⟨i, hi, a, b⟩ | ⟨i, hi, a, b⟩
    · rw [hb i hi, Bool.and_eq_true] at a
      have h1 : (qc_x P s).testBit i = true := by rw [qc_x_bit hi, a.1, b]; rfl
      rw [e] at h1
      rw [h1] at a; exact absurd a.2 (by decide)
    · rw [qb_nI' (by omega)] at a
      have h1 : (qc_x P s).testBit i = false := by rw [qc_x_bit hi, b, Bool.and_false]
      rw [e, a] at h1; exact absurd h1 (by decide)
  · intro ne
    apply Classical.byContradiction
    intro z
    apply ne
    apply qc_bits8 qc_x_lt hp
    intro i hi
    rw [qc_x_bit hi]
    cases e2 : part.testBit i with
    | true =>
      rw [(qc_sub8 hp).mp hs i hi e2, Bool.true_and]
      cases e3 : s i with
      | true => rfl
      | false => exact absurd (Or.inr ⟨i, hi, by rw [qb_nI' (by omega)]; exact e2, e3⟩) z
    | false =>
      cases e1 : P.testBit i with
      | false => rfl
      | true =>
        cases e3 : s i with
        | false => rfl
        | true => exact absurd (Or.inl ⟨i, hi, by rw [hb i hi, e1, e2]; rfl, e3⟩) z
theorem qc_CC_most {P part : Nat} (hP : P < 256) (hs : part &&& P = part) (s : Nat → Bool) : qc_CC 0 (nI part) s ↔ ¬ part &&& qc_x P s = part := by
  have hp : part < 256 := by rw [← hs]; exact Nat.lt_of_le_of_lt Nat.and_le_right hP
  rw [qc_sub8 hp]
  constructor
  · intro z h
    rcases z with ⟨i, hi, a, b⟩ | ⟨i, hi, a, b⟩
    · rw [b_0] at a; exact absurd a (by decide)
    · rw [qb_nI' (by omega)] at a
      have := h i hi a
      rw [qc_x_bit hi, b, Bool.and_false] at this
      exact absurd this (by decide)
  · intro h
    apply Classical.byContradiction
    intro z
    apply h
    intro i hi e
    rw [qc_x_bit hi, (qc_sub8 hp).mp hs i hi e, Bool.true_and]
    cases e3 : s i with
    | true => rfl
    | false => exact absurd (Or.inr ⟨i, hi, by rw [qb_nI' (by omega)]; exact e, e3⟩) z
/-- how many clauses are made -/
def qc_num (r P : Nat) : Nat → Nat → Nat
  | 0, _ => 0
  | n + 1, a => (if qn_pc a % 2 = r then 0 else 1) + (if a = 0 then 0 else qc_num r P n ((a - 1) &&& P))
def qc_numM (k P : Nat) : Nat → Nat → Nat
  | 0, _ => 0
  | n + 1, a => if a = 0 then 0 else (if qn_pc a = k + 1 then 1 else 0) + qc_numM k P n ((a - 1) &&& P)
theorem qc_num_8 : ∀ P, P < 256 → qn_pc P ≤ 4 → qc_num 0 P (P + 1) P ≤ 14 ∧ qc_num 1 P (P + 1) P ≤ 14 := by decide +kernel
theorem qc_numM_10 : ∀ P, P < 256 → qn_pc P ≤ 5 → ∀ k, k < 5 → qc_numM k P (P + 1) P ≤ 14 := by decide +kernel
section
variable {f_theirs f_ruleCount f_wayNow f_clausesOf f_clauseCount f_tableFor f_memoFor f_memoSide f_depth f_known f_ones f_diagramFor f_diagramRoot f_nodeCount f_leftCount f_madeCount : Int32} {a_kindOf a_setP a_setQ a_clauses a_memo a_choiceOf a_secondTry a_knownBefore a_onesBefore a_nodeVariable a_nodeLow a_nodeHigh a_nodeNext a_listFirst a_recentKey a_recentNode a_workF a_workG a_workPhase a_workLow a_nodeValue a_left a_made : Nat → Int32} {a_table a_onesOfVariable a_tableBefore : Nat → Int64}
theorem qx_addClause {post : SX → Prop} {m : Nat} {p q : Int32} (hm : m < 170) (hp : qb_lt p 8) (hq : qb_lt q 8) (hw : qc_wf a_clauses m)
    (K : ∀ m' cl', m ≤ m' → m' ≤ m + 1 → qc_wf cl' m' → (∀ s, qc_All cl' m' s ↔ qc_All a_clauses m s ∧ qc_CC p q s) → post (f_theirs, f_ruleCount, f_wayNow, f_clausesOf, nI m', f_tableFor, f_memoFor, f_memoSide, f_depth, f_known, f_ones, f_diagramFor, f_diagramRoot, f_nodeCount, f_leftCount, f_madeCount, a_kindOf, a_setP, a_setQ, cl', a_table, a_memo, a_choiceOf, a_secondTry, a_knownBefore, a_onesBefore, a_nodeVariable, a_nodeLow, a_nodeHigh, a_nodeNext, a_listFirst, a_recentKey, a_recentNode, a_workF, a_workG, a_workPhase, a_workLow, a_nodeValue, a_left, a_made, a_onesOfVariable, a_tableBefore)) :
    wpX_addClause post (f_theirs, f_ruleCount, f_wayNow, f_clausesOf, nI m, f_tableFor, f_memoFor, f_memoSide, f_depth, f_known, f_ones, f_diagramFor, f_diagramRoot, f_nodeCount, f_leftCount, f_madeCount, a_kindOf, a_setP, a_setQ, a_clauses, a_table, a_memo, a_choiceOf, a_secondTry, a_knownBefore, a_onesBefore, a_nodeVariable, a_nodeLow, a_nodeHigh, a_nodeNext, a_listFirst, a_recentKey, a_recentNode, a_workF, a_workG, a_workPhase, a_workLow, a_nodeValue, a_left, a_made, a_onesOfVariable, a_tableBefore) p q := by
  refine br_c (fun h => ⟨vp_in_nI hm (by omega), nm_r (e' := upd a_clauses m (p ||| (q <<< ((8 : Int32) &&& 31)))) (by rw [nI_clamp (by omega)]) (nm_r (nI_1 m) ?_)⟩) (fun h => ?_)
  · apply K (m + 1) _ (by omega) (by omega)
    · exact qc_wf_snoc hw (qc_mk_lt hp hq) (qc_mk_nt hp hq h)
    · intro s; rw [qc_All_snoc, qc_mk_cs hp hq]
  · apply K m a_clauses (by omega) (by omega) hw
    intro s
    refine ⟨fun z => ⟨z, ?_⟩, fun z => z.1⟩
    obtain ⟨i, hi, hb⟩ := qb_nz h
    rw [b_and, Bool.and_eq_true] at hb
    have h8 : i < 8 := by
      rcases Nat.lt_or_ge i 8 with h8 | h8
      · exact h8
      · rw [hp i h8] at hb; exact absurd hb.1 (by decide)
    cases e : s i with
    | true => exact Or.inl ⟨i, h8, hb.1, e⟩
    | false => exact Or.inr ⟨i, h8, hb.2, e⟩
theorem qx_addParity_2 {post : SX → Prop} {P r : Nat} (hP : P < 256) (hr : r < 2) : ∀ (n a m : Nat) (cl : Nat → Int32), a &&& P = a → a < n → qc_wf cl m → m + qc_num r P n a ≤ 170 →
    (∀ m' cl', m ≤ m' → m' ≤ m + qc_num r P n a → qc_wf cl' m' → (∀ s, qc_All cl' m' s ↔ qc_All cl m s ∧ (qc_x P s ≤ a → qn_pc (qc_x P s) % 2 = r)) → post (f_theirs, f_ruleCount, f_wayNow, f_clausesOf, nI m', f_tableFor, f_memoFor, f_memoSide, f_depth, f_known, f_ones, f_diagramFor, f_diagramRoot, f_nodeCount, f_leftCount, f_madeCount, a_kindOf, a_setP, a_setQ, cl', a_table, a_memo, a_choiceOf, a_secondTry, a_knownBefore, a_onesBefore, a_nodeVariable, a_nodeLow, a_nodeHigh, a_nodeNext, a_listFirst, a_recentKey, a_recentNode, a_workF, a_workG, a_workPhase, a_workLow, a_nodeValue, a_left, a_made, a_onesOfVariable, a_tableBefore)) →
    wX_addParity_2 post (nI P) (nI r) n (nI a) f_theirs f_ruleCount f_wayNow f_clausesOf (nI m) f_tableFor f_memoFor f_memoSide f_depth f_known f_ones f_diagramFor f_diagramRoot f_nodeCount f_leftCount f_madeCount a_kindOf a_setP a_setQ cl a_table a_memo a_choiceOf a_secondTry a_knownBefore a_onesBefore a_nodeVariable a_nodeLow a_nodeHigh a_nodeNext a_listFirst a_recentKey a_recentNode a_workF a_workG a_workPhase a_workLow a_nodeValue a_left a_made a_onesOfVariable a_tableBefore := by
  intro n
  induction n with
  | zero => intro a m cl _ h; omega
  | succ n ih =>
    intro a m cl hs hn hw hb K
    have ha : a < 256 := by rw [← hs]; exact Nat.lt_of_le_of_lt Nat.and_le_right hP
    have hla : qb_lt (nI a) 8 := qb_lt_nI (by omega)
    have hlP : qb_lt (nI P) 8 := qb_lt_nI (by omega)
    -- what comes behind the clause
    have rest : ∀ m1 cl1, qc_wf cl1 m1 → m ≤ m1 → m1 ≤ m + (if qn_pc a % 2 = r then 0 else 1) → (∀ s, qc_All cl1 m1 s ↔ qc_All cl m s ∧ (qc_x P s = a → qn_pc (qc_x P s) % 2 = r)) →
        wX_addParity_27 post (wX_addParity_2 post (nI P) (nI r) n) (nI P) (nI r) (nI a) f_theirs f_ruleCount f_wayNow f_clausesOf (nI m1) f_tableFor f_memoFor f_memoSide f_depth f_known f_ones f_diagramFor f_diagramRoot f_nodeCount f_leftCount f_madeCount a_kindOf a_setP a_setQ cl1 a_table a_memo a_choiceOf a_secondTry a_knownBefore a_onesBefore a_nodeVariable a_nodeLow a_nodeHigh a_nodeNext a_listFirst a_recentKey a_recentNode a_workF a_workG a_workPhase a_workLow a_nodeValue a_left a_made a_onesOfVariable a_tableBefore := by
      intro m1 cl1 hw1 hm1 hm2 hA
      simp only [qc_num] at hb K
      refine pk_eq a 0 (fun e => ?_) (fun e => ?_)
      · apply K m1 cl1 hm1 (by rw [if_pos e]; omega) hw1
        intro s
        rw [hA s]
        have : qc_x P s ≤ a ↔ qc_x P s = a := by omega
        rw [this]
      · rw [if_neg e] at hb K
        have h1 : (nI a - 1) &&& nI P = nI ((a - 1) &&& P) := by
          have : nI a - 1 = nI (a - 1) := pk_sub (b := 1) (by omega)
          rw [this, nx_and]
        have hlt := qn_sub_lt (p := P) e
        refine nm_r h1 (ih _ _ _ qn_sub_part (by omega) hw1 (by omega) ?_)
        intro m' cl' h2 h3 h4 h5
        apply K m' cl' (by omega) (by omega) h4
        intro s
        rw [h5 s, hA s]
        constructor
        · intro ⟨⟨z1, z2⟩, z3⟩
          refine ⟨z1, fun hle => ?_⟩
          by_cases e1 : qc_x P s = a
          · exact z2 e1
          · exact z3 (qn_sub_step P a _ (by omega) qc_x_sub hs)
        · intro ⟨z1, z2⟩
          exact ⟨⟨z1, fun e1 => z2 (by omega)⟩, fun hle => z2 (by omega)⟩
    refine qx_onesIn hla ?_
    have hpc : qn_cnt (bt (nI a)) 8 = qn_pc a := qn_cnt_congr (fun i hi => by rw [qb_nI' (by omega)])
    have hc8 : qn_pc a ≤ 8 := qn_cnt_le _ _
    rw [hpc, pk_andN (by omega) 1 (by decide)]
    refine pk_eq (qn_pc a % 2 ^ 1) r (fun e => ?_) (fun e => ?_)
    · apply rest m cl hw (by omega) (by omega)
      intro s
      refine ⟨fun z => ⟨z, fun e1 => by rw [e1]; exact e⟩, fun z => z.1⟩
    · have e' : ¬ qn_pc a % 2 = r := e
      have hb' := hb
      simp only [qc_num] at hb'
      rw [if_neg e'] at hb'
      refine qx_addClause (by omega) (qb_lt_and hlP) hla hw ?_
      intro m1 cl1 h1 h2 h3 h4
      apply rest m1 cl1 h3 h1 (by rw [if_neg e']; omega)
      intro s
      rw [h4 s, qc_CC_par hP hs]
      refine ⟨fun z => ⟨z.1, fun e1 => absurd e1 z.2⟩, fun z => ⟨z.1, fun e1 => e' ?_⟩⟩
      have := z.2 e1
      rw [e1] at this; exact this
theorem qx_addParity {post : SX → Prop} {P r m : Nat} (hP : P < 256) (hr : r < 2) (h4 : qn_pc P ≤ 4) (hw : qc_wf a_clauses m) (hm : m + 14 ≤ 170)
    (K : ∀ m' cl', m ≤ m' → m' ≤ m + 14 → qc_wf cl' m' → (∀ s, qc_All cl' m' s ↔ qc_All a_clauses m s ∧ qn_pc (qc_x P s) % 2 = r) → post (f_theirs, f_ruleCount, f_wayNow, f_clausesOf, nI m', f_tableFor, f_memoFor, f_memoSide, f_depth, f_known, f_ones, f_diagramFor, f_diagramRoot, f_nodeCount, f_leftCount, f_madeCount, a_kindOf, a_setP, a_setQ, cl', a_table, a_memo, a_choiceOf, a_secondTry, a_knownBefore, a_onesBefore, a_nodeVariable, a_nodeLow, a_nodeHigh, a_nodeNext, a_listFirst, a_recentKey, a_recentNode, a_workF, a_workG, a_workPhase, a_workLow, a_nodeValue, a_left, a_made, a_onesOfVariable, a_tableBefore)) :
    wpX_addParity post (f_theirs, f_ruleCount, f_wayNow, f_clausesOf, nI m, f_tableFor, f_memoFor, f_memoSide, f_depth, f_known, f_ones, f_diagramFor, f_diagramRoot, f_nodeCount, f_leftCount, f_madeCount, a_kindOf, a_setP, a_setQ, a_clauses, a_table, a_memo, a_choiceOf, a_secondTry, a_knownBefore, a_onesBefore, a_nodeVariable, a_nodeLow, a_nodeHigh, a_nodeNext, a_listFirst, a_recentKey, a_recentNode, a_workF, a_workG, a_workPhase, a_workLow, a_nodeValue, a_left, a_made, a_onesOfVariable, a_tableBefore) (nI P) (nI r) := by
  have hb : qc_num r P (P + 1) P ≤ 14 := by
    have := qc_num_8 P hP h4
    have h : r = 0 ∨ r = 1 := by omega
    rcases h with h | h
    · rw [h]; exact this.1
    · rw [h]; exact this.2
  refine ⟨P + 1, qx_addParity_2 hP hr (P + 1) P m a_clauses (Nat.and_self P) (by omega) hw (by omega) ?_⟩
  intro m' cl' h1 h2 h3 h5
  apply K m' cl' h1 (by omega) h3
  intro s
  rw [h5 s]
  have : qc_x P s ≤ P := by rw [← qc_x_sub]; exact Nat.and_le_right
  exact ⟨fun z => ⟨z.1, z.2 this⟩, fun z => ⟨z.1, fun _ => z.2⟩⟩
theorem qx_addAtMost_2 {post : SX → Prop} {P k : Nat} (hP : P < 256) (hk : k < 5) : ∀ (n a m : Nat) (cl : Nat → Int32), a &&& P = a → a < n → qc_wf cl m → m + qc_numM k P n a ≤ 170 →
    (∀ m' cl', m ≤ m' → m' ≤ m + qc_numM k P n a → qc_wf cl' m' → (∀ s, qc_All cl' m' s ↔ qc_All cl m s ∧ (∀ t, t &&& P = t → 0 < t → t ≤ a → qn_pc t = k + 1 → ¬ t &&& qc_x P s = t)) → post (f_theirs, f_ruleCount, f_wayNow, f_clausesOf, nI m', f_tableFor, f_memoFor, f_memoSide, f_depth, f_known, f_ones, f_diagramFor, f_diagramRoot, f_nodeCount, f_leftCount, f_madeCount, a_kindOf, a_setP, a_setQ, cl', a_table, a_memo, a_choiceOf, a_secondTry, a_knownBefore, a_onesBefore, a_nodeVariable, a_nodeLow, a_nodeHigh, a_nodeNext, a_listFirst, a_recentKey, a_recentNode, a_workF, a_workG, a_workPhase, a_workLow, a_nodeValue, a_left, a_made, a_onesOfVariable, a_tableBefore)) →
    wX_addAtMost_2 post (nI P) (nI k) n (nI a) f_theirs f_ruleCount f_wayNow f_clausesOf (nI m) f_tableFor f_memoFor f_memoSide f_depth f_known f_ones f_diagramFor f_diagramRoot f_nodeCount f_leftCount f_madeCount a_kindOf a_setP a_setQ cl a_table a_memo a_choiceOf a_secondTry a_knownBefore a_onesBefore a_nodeVariable a_nodeLow a_nodeHigh a_nodeNext a_listFirst a_recentKey a_recentNode a_workF a_workG a_workPhase a_workLow a_nodeValue a_left a_made a_onesOfVariable a_tableBefore := by
  intro n
  induction n with
  | zero => intro a m cl _ h; omega
  | succ n ih =>
    intro a m cl hs hn hw hb K
    have ha : a < 256 := by rw [← hs]; exact Nat.lt_of_le_of_lt Nat.and_le_right hP
    have hla : qb_lt (nI a) 8 := qb_lt_nI (by omega)
    simp only [qc_numM] at hb K
    refine pk_le a 0 (fun e => ?_) (fun e => ?_)
    · have e : a = 0 := by omega
      apply K m cl (by omega) (by omega) hw
      intro s
      refine ⟨fun z => ⟨z, fun t _ h1 h2 => by omega⟩, fun z => z.1⟩
    · have e0 : a ≠ 0 := by omega
      rw [if_neg e0] at hb K
      have h1 : (nI a - 1) &&& nI P = nI ((a - 1) &&& P) := by
        have : nI a - 1 = nI (a - 1) := pk_sub (b := 1) (by omega)
        rw [this, nx_and]
      have hlt := qn_sub_lt (p := P) e0
      have rest : ∀ m1 cl1, qc_wf cl1 m1 → m ≤ m1 → m1 ≤ m + (if qn_pc a = k + 1 then 1 else 0) → (∀ s, qc_All cl1 m1 s ↔ qc_All cl m s ∧ (qn_pc a = k + 1 → ¬ a &&& qc_x P s = a)) →
          wX_addAtMost_2 post (nI P) (nI k) n (nI ((a - 1) &&& P)) f_theirs f_ruleCount f_wayNow f_clausesOf (nI m1) f_tableFor f_memoFor f_memoSide f_depth f_known f_ones f_diagramFor f_diagramRoot f_nodeCount f_leftCount f_madeCount a_kindOf a_setP a_setQ cl1 a_table a_memo a_choiceOf a_secondTry a_knownBefore a_onesBefore a_nodeVariable a_nodeLow a_nodeHigh a_nodeNext a_listFirst a_recentKey a_recentNode a_workF a_workG a_workPhase a_workLow a_nodeValue a_left a_made a_onesOfVariable a_tableBefore := by
        intro m1 cl1 hw1 hm1 hm2 hA
        refine ih _ _ _ qn_sub_part (by omega) hw1 (by omega) ?_
        intro m' cl' h2 h3 h4 h5
        apply K m' cl' (by omega) (by omega) h4
        intro s
        rw [h5 s, hA s]
        constructor
        · intro ⟨⟨z1, z2⟩, z3⟩
          refine ⟨z1, fun t ht h0 hle hc => ?_⟩
          by_cases e1 : t = a
          · subst e1; exact z2 hc
          · exact z3 t ht h0 (qn_sub_step P a _ (by omega) ht hs) hc
        · intro ⟨z1, z2⟩
          exact ⟨⟨z1, fun hc => z2 a hs (by omega) (Nat.le_refl a) hc⟩, fun t ht h0 hle hc => z2 t ht h0 (by omega) hc⟩
      refine qx_onesIn hla ?_
      have hpc : qn_cnt (bt (nI a)) 8 = qn_pc a := qn_cnt_congr (fun i hi => by rw [qb_nI' (by omega)])
      have hc8 : qn_pc a ≤ 8 := qn_cnt_le _ _
      rw [hpc, nI_1 k]
      refine pk_eq (qn_pc a) (k + 1) (fun e => ?_) (fun e => ?_)
      · rw [if_pos e] at hb
        refine qx_addClause (by omega) qb_lt_0 hla hw ?_
        intro m1 cl1 h1' h2 h3 h4
        refine nm_r h1 (rest m1 cl1 h3 h1' (by rw [if_pos e]; omega) ?_)
        intro s
        rw [h4 s, qc_CC_most hP hs]
        exact ⟨fun z => ⟨z.1, fun _ => z.2⟩, fun z => ⟨z.1, z.2 e⟩⟩
      · refine nm_r h1 (rest m cl hw (by omega) (by omega) ?_)
        intro s
        exact ⟨fun z => ⟨z, fun z1 => absurd z1 e⟩, fun z => z.1⟩
theorem qx_addAtMost {post : SX → Prop} {P k m : Nat} (hP : P < 256) (hk : k < 5) (h5 : qn_pc P ≤ 5) (hw : qc_wf a_clauses m) (hm : m + 14 ≤ 170)
    (K : ∀ m' cl', m ≤ m' → m' ≤ m + 14 → qc_wf cl' m' → (∀ s, qc_All cl' m' s ↔ qc_All a_clauses m s ∧ qn_pc (qc_x P s) ≤ k) → post (f_theirs, f_ruleCount, f_wayNow, f_clausesOf, nI m', f_tableFor, f_memoFor, f_memoSide, f_depth, f_known, f_ones, f_diagramFor, f_diagramRoot, f_nodeCount, f_leftCount, f_madeCount, a_kindOf, a_setP, a_setQ, cl', a_table, a_memo, a_choiceOf, a_secondTry, a_knownBefore, a_onesBefore, a_nodeVariable, a_nodeLow, a_nodeHigh, a_nodeNext, a_listFirst, a_recentKey, a_recentNode, a_workF, a_workG, a_workPhase, a_workLow, a_nodeValue, a_left, a_made, a_onesOfVariable, a_tableBefore)) :
    wpX_addAtMost post (f_theirs, f_ruleCount, f_wayNow, f_clausesOf, nI m, f_tableFor, f_memoFor, f_memoSide, f_depth, f_known, f_ones, f_diagramFor, f_diagramRoot, f_nodeCount, f_leftCount, f_madeCount, a_kindOf, a_setP, a_setQ, a_clauses, a_table, a_memo, a_choiceOf, a_secondTry, a_knownBefore, a_onesBefore, a_nodeVariable, a_nodeLow, a_nodeHigh, a_nodeNext, a_listFirst, a_recentKey, a_recentNode, a_workF, a_workG, a_workPhase, a_workLow, a_nodeValue, a_left, a_made, a_onesOfVariable, a_tableBefore) (nI P) (nI k) := by
  have hb : qc_numM k P (P + 1) P ≤ 14 := qc_numM_10 P hP h5 k hk
  refine ⟨P + 1, qx_addAtMost_2 hP hk (P + 1) P m a_clauses (Nat.and_self P) (by omega) hw (by omega) ?_⟩
  intro m' cl' h1 h2 h3 h6
  apply K m' cl' h1 (by omega) h3
  intro s
  rw [h6 s]
  constructor
  · intro ⟨z1, z2⟩
    refine ⟨z1, ?_⟩
    apply Classical.byContradiction
    intro hc
    obtain ⟨t, ht1, ht2⟩ := qn_part (qn_pc (qc_x P s) - (k + 1)) (qc_x P s) (k + 1) qc_x_lt (by omega)
    have ht3 : t &&& P = t := by
      have h7 : t &&& qc_x P s &&& P = t &&& qc_x P s := by rw [Nat.and_assoc, qc_x_sub]
      rw [ht1] at h7; exact h7
    have ht0 : 0 < t := by
      rcases Nat.eq_zero_or_pos t with z | z
      · rw [z, show qn_pc 0 = 0 by decide] at ht2; omega
      · exact z
    exact z2 t ht3 ht0 (by rw [← ht3]; exact Nat.and_le_right) ht2 ht1
  · intro ⟨z1, z2⟩
    refine ⟨z1, fun t _ _ _ hc ht => ?_⟩
    have := qn_pc_mono ht
    omega
theorem qx_addEqual_b {post : SX → Prop} {p : Int32} (hp : qb_lt p 8) : ∀ (n v b m : Nat) (cl : Nat → Int32), b < v → v ≤ 8 → 8 < n + v → qc_wf cl m → m + 2 * (8 - v) ≤ 170 →
    (∀ m' cl', m ≤ m' → m' ≤ m + 2 * (8 - v) → qc_wf cl' m' → (∀ s, qc_All cl' m' s ↔ qc_All cl m s ∧ (∀ i, v ≤ i → i < 8 → bt p i = true → s i = s b)) → post (f_theirs, f_ruleCount, f_wayNow, f_clausesOf, nI m', f_tableFor, f_memoFor, f_memoSide, f_depth, f_known, f_ones, f_diagramFor, f_diagramRoot, f_nodeCount, f_leftCount, f_madeCount, a_kindOf, a_setP, a_setQ, cl', a_table, a_memo, a_choiceOf, a_secondTry, a_knownBefore, a_onesBefore, a_nodeVariable, a_nodeLow, a_nodeHigh, a_nodeNext, a_listFirst, a_recentKey, a_recentNode, a_workF, a_workG, a_workPhase, a_workLow, a_nodeValue, a_left, a_made, a_onesOfVariable, a_tableBefore)) →
    wX_addEqual_4 post p n (nI b) (nI v) f_theirs f_ruleCount f_wayNow f_clausesOf (nI m) f_tableFor f_memoFor f_memoSide f_depth f_known f_ones f_diagramFor f_diagramRoot f_nodeCount f_leftCount f_madeCount a_kindOf a_setP a_setQ cl a_table a_memo a_choiceOf a_secondTry a_knownBefore a_onesBefore a_nodeVariable a_nodeLow a_nodeHigh a_nodeNext a_listFirst a_recentKey a_recentNode a_workF a_workG a_workPhase a_workLow a_nodeValue a_left a_made a_onesOfVariable a_tableBefore := by
  intro n
  induction n with
  | zero => intro v b m cl h1 h2 h3; omega
  | succ n ih =>
    intro v b m cl hbv hv hn hw hb K
    refine pk_le 8 v (fun e => ?_) (fun e => ?_)
    · apply K m cl (by omega) (by omega) hw
      intro s
      exact ⟨fun z => ⟨z, fun i h1 h2 => by omega⟩, fun z => z.1⟩
    · refine ek_if (qb_bit0 p (by omega)) (fun hz => nm_r (nI_1 v) ?_) (fun hz => br_f (nI_pos (by omega)) ?_)
      · apply ih (v + 1) b m cl (by omega) (by omega) (by omega) hw (by omega)
        intro m' cl' h1 h2 h3 h4
        apply K m' cl' h1 (by omega) h3
        intro s
        rw [h4 s]
        refine ⟨fun z => ⟨z.1, fun i h1 h2 h3 => ?_⟩, fun z => ⟨z.1, fun i h1 h2 h3 => z.2 i (by omega) h2 h3⟩⟩
        by_cases e1 : i = v
        · subst e1; rw [hz] at h3; exact absurd h3 (by decide)
        · exact z.2 i (by omega) h2 h3
      · have hpv : bt p v = true := ts_nf hz
        have l1 : qb_lt ((1 : Int32) <<< (nI v &&& 31)) 8 := qb_lt_one (by omega) (by omega)
        have l2 : qb_lt ((1 : Int32) <<< (nI b &&& 31)) 8 := qb_lt_one (by omega) (by omega)
        have cc : ∀ x y, x < 8 → y < 8 → ∀ s : Nat → Bool, qc_CC ((1 : Int32) <<< (nI x &&& 31)) ((1 : Int32) <<< (nI y &&& 31)) s ↔ (s x = true ∨ s y = false) := by
          intro x y hx hy s
          unfold qc_CC
          constructor
          · intro z
            rcases z with ⟨i, hi, a, b⟩ | ⟨i, hi, a, b⟩
            · rw [qb_one (by omega), decide_eq_true_eq] at a; subst a; exact Or.inl b
            · rw [qb_one (by omega), decide_eq_true_eq] at a; subst a; exact Or.inr b
          · intro z
            rcases z with z | z
            · exact Or.inl ⟨x, hx, by rw [qb_one (by omega), decide_eq_true rfl], z⟩
            · exact Or.inr ⟨y, hy, by rw [qb_one (by omega), decide_eq_true rfl], z⟩
        refine qx_addClause (by omega) l1 l2 hw ?_
        intro m1 cl1 a1 a2 a3 a4
        refine qx_addClause (by omega) l2 l1 a3 ?_
        intro m2 cl2 b1 b2 b3 b4
        refine nm_r (nI_1 v) ?_
        apply ih (v + 1) v m2 cl2 (by omega) (by omega) (by omega) b3 (by omega)
        intro m' cl' h1 h2 h3 h4
        apply K m' cl' (by omega) (by omega) h3
        intro s
        rw [h4 s, b4 s, a4 s, cc v b (by omega) (by omega), cc b v (by omega) (by omega)]
        have hbe : ((s v = true ∨ s b = false) ∧ (s b = true ∨ s v = false)) ↔ s v = s b := by
          cases s v <;> cases s b <;> simp
        constructor
        · intro ⟨⟨⟨z1, z2⟩, z3⟩, z4⟩
          have hvb := hbe.mp ⟨z2, z3⟩
          refine ⟨z1, fun i h1 h2 h3 => ?_⟩
          by_cases e1 : i = v
          · subst e1; exact hvb
          · rw [z4 i (by omega) h2 h3]; exact hvb
        · intro ⟨z1, z2⟩
          have hvb := z2 v (Nat.le_refl v) (by omega) hpv
          have := hbe.mpr hvb
          exact ⟨⟨⟨z1, this.1⟩, this.2⟩, fun i h1 h2 h3 => by rw [z2 i (by omega) h2 h3, hvb]⟩
theorem qx_addEqual_n {post : SX → Prop} {p : Int32} (hp : qb_lt p 8) : ∀ (n v m : Nat) (cl : Nat → Int32), v ≤ 8 → 8 < n + v → qc_wf cl m → m + 14 ≤ 170 →
    (∀ m' cl', m ≤ m' → m' ≤ m + 14 → qc_wf cl' m' → (∀ s, qc_All cl' m' s ↔ qc_All cl m s ∧ (∀ i j, v ≤ i → i < 8 → bt p i = true → v ≤ j → j < 8 → bt p j = true → s i = s j)) → post (f_theirs, f_ruleCount, f_wayNow, f_clausesOf, nI m', f_tableFor, f_memoFor, f_memoSide, f_depth, f_known, f_ones, f_diagramFor, f_diagramRoot, f_nodeCount, f_leftCount, f_madeCount, a_kindOf, a_setP, a_setQ, cl', a_table, a_memo, a_choiceOf, a_secondTry, a_knownBefore, a_onesBefore, a_nodeVariable, a_nodeLow, a_nodeHigh, a_nodeNext, a_listFirst, a_recentKey, a_recentNode, a_workF, a_workG, a_workPhase, a_workLow, a_nodeValue, a_left, a_made, a_onesOfVariable, a_tableBefore)) →
    wX_addEqual_4 post p n (-1) (nI v) f_theirs f_ruleCount f_wayNow f_clausesOf (nI m) f_tableFor f_memoFor f_memoSide f_depth f_known f_ones f_diagramFor f_diagramRoot f_nodeCount f_leftCount f_madeCount a_kindOf a_setP a_setQ cl a_table a_memo a_choiceOf a_secondTry a_knownBefore a_onesBefore a_nodeVariable a_nodeLow a_nodeHigh a_nodeNext a_listFirst a_recentKey a_recentNode a_workF a_workG a_workPhase a_workLow a_nodeValue a_left a_made a_onesOfVariable a_tableBefore := by
  intro n
  induction n with
  | zero => intro v m cl h2 h3; omega
  | succ n ih =>
    intro v m cl hv hn hw hb K
    refine pk_le 8 v (fun e => ?_) (fun e => ?_)
    · apply K m cl (by omega) (by omega) hw
      intro s
      exact ⟨fun z => ⟨z, fun i j h1 h2 => by omega⟩, fun z => z.1⟩
    · refine ek_if (qb_bit0 p (by omega)) (fun hz => nm_r (nI_1 v) ?_) (fun hz => br_t (by decide) (nm_r (nI_1 v) ?_))
      · apply ih (v + 1) m cl (by omega) (by omega) hw (by omega)
        intro m' cl' h1 h2 h3 h4
        apply K m' cl' h1 (by omega) h3
        intro s
        rw [h4 s]
        refine ⟨fun z => ⟨z.1, fun i j h1 h2 h3 h4 h5 h6 => ?_⟩, fun z => ⟨z.1, fun i j h1 h2 h3 h4 h5 h6 => z.2 i j (by omega) h2 h3 (by omega) h5 h6⟩⟩
        by_cases e1 : i = v
        · subst e1; rw [hz] at h3; exact absurd h3 (by decide)
        · by_cases e2 : j = v
          · subst e2; rw [hz] at h6; exact absurd h6 (by decide)
          · exact z.2 i j (by omega) h2 h3 (by omega) h5 h6
      · have hpv : bt p v = true := ts_nf hz
        apply qx_addEqual_b hp n (v + 1) v m cl (by omega) (by omega) (by omega) hw (by omega)
        intro m' cl' h1 h2 h3 h4
        apply K m' cl' h1 (by omega) h3
        intro s
        rw [h4 s]
        constructor
        · intro ⟨z1, z2⟩
          have hall : ∀ i, v ≤ i → i < 8 → bt p i = true → s i = s v := by
            intro i h1 h2 h3
            by_cases e1 : i = v
            · subst e1; rfl
            · exact z2 i (by omega) h2 h3
          exact ⟨z1, fun i j h1 h2 h3 h4 h5 h6 => by rw [hall i h1 h2 h3, hall j h4 h5 h6]⟩
        · intro ⟨z1, z2⟩
          exact ⟨z1, fun i h1 h2 h3 => z2 i v (by omega) h2 h3 (Nat.le_refl v) (by omega) hpv⟩
theorem qx_addEqual {post : SX → Prop} {p : Int32} {m : Nat} (hp : qb_lt p 8) (hw : qc_wf a_clauses m) (hm : m + 14 ≤ 170)
    (K : ∀ m' cl', m ≤ m' → m' ≤ m + 14 → qc_wf cl' m' → (∀ s, qc_All cl' m' s ↔ qc_All a_clauses m s ∧ ((∀ i, i < 8 → bt p i = true → s i = false) ∨ (∀ i, i < 8 → bt p i = true → s i = true))) → post (f_theirs, f_ruleCount, f_wayNow, f_clausesOf, nI m', f_tableFor, f_memoFor, f_memoSide, f_depth, f_known, f_ones, f_diagramFor, f_diagramRoot, f_nodeCount, f_leftCount, f_madeCount, a_kindOf, a_setP, a_setQ, cl', a_table, a_memo, a_choiceOf, a_secondTry, a_knownBefore, a_onesBefore, a_nodeVariable, a_nodeLow, a_nodeHigh, a_nodeNext, a_listFirst, a_recentKey, a_recentNode, a_workF, a_workG, a_workPhase, a_workLow, a_nodeValue, a_left, a_made, a_onesOfVariable, a_tableBefore)) :
    wpX_addEqual post (f_theirs, f_ruleCount, f_wayNow, f_clausesOf, nI m, f_tableFor, f_memoFor, f_memoSide, f_depth, f_known, f_ones, f_diagramFor, f_diagramRoot, f_nodeCount, f_leftCount, f_madeCount, a_kindOf, a_setP, a_setQ, a_clauses, a_table, a_memo, a_choiceOf, a_secondTry, a_knownBefore, a_onesBefore, a_nodeVariable, a_nodeLow, a_nodeHigh, a_nodeNext, a_listFirst, a_recentKey, a_recentNode, a_workF, a_workG, a_workPhase, a_workLow, a_nodeValue, a_left, a_made, a_onesOfVariable, a_tableBefore) p := by
  refine ⟨9, qx_addEqual_n hp 9 0 m a_clauses (by omega) (by omega) hw hm ?_⟩
  intro m' cl' h1 h2 h3 h4
  apply K m' cl' h1 h2 h3
  intro s
  rw [h4 s]
  constructor
  · intro ⟨z1, z2⟩
    refine ⟨z1, ?_⟩
    rcases Classical.em (∃ i, i < 8 ∧ bt p i = true ∧ s i = true) with ⟨i, a, b, c⟩ | z
    · exact Or.inr (fun j h1 h2 => by rw [z2 j i (by omega) h1 h2 (by omega) a b]; exact c)
    · left
      intro j h1 h2
      cases e : s j with
      | false => rfl
      | true => exact absurd ⟨j, h1, h2, e⟩ z
  · intro ⟨z1, z2⟩
    refine ⟨z1, fun i j _ h1 h2 _ h3 h4 => ?_⟩
    rcases z2 with z | z
    · rw [z i h1 h2, z j h3 h4]
    · rw [z i h1 h2, z j h3 h4]
theorem qx_makeClauses_21 {post : SX → Prop} {M : Nat} {rules : Int32} (hM : M ≤ 12) (hV : qc_Vs M a_kindOf a_setP a_setQ)
    (K : ∀ m' cl', m' ≤ 168 → qc_wf cl' m' → (∀ s, qc_All cl' m' s ↔ qc_H M a_kindOf a_setP a_setQ rules s) → post (f_theirs, nI M, f_wayNow, f_clausesOf, nI m', f_tableFor, f_memoFor, f_memoSide, f_depth, f_known, f_ones, f_diagramFor, f_diagramRoot, f_nodeCount, f_leftCount, f_madeCount, a_kindOf, a_setP, a_setQ, cl', a_table, a_memo, a_choiceOf, a_secondTry, a_knownBefore, a_onesBefore, a_nodeVariable, a_nodeLow, a_nodeHigh, a_nodeNext, a_listFirst, a_recentKey, a_recentNode, a_workF, a_workG, a_workPhase, a_workLow, a_nodeValue, a_left, a_made, a_onesOfVariable, a_tableBefore)) :
    ∀ (n i m : Nat) (cl : Nat → Int32), i ≤ M → M < n + i → m ≤ 14 * i → qc_wf cl m → (∀ s, qc_All cl m s ↔ ∀ j, j < i → bt rules j = true → qc_R (a_kindOf j) (a_setP j) (a_setQ j) s) →
    wX_makeClauses_21 post rules n (nI i) f_theirs (nI M) f_wayNow f_clausesOf (nI m) f_tableFor f_memoFor f_memoSide f_depth f_known f_ones f_diagramFor f_diagramRoot f_nodeCount f_leftCount f_madeCount a_kindOf a_setP a_setQ cl a_table a_memo a_choiceOf a_secondTry a_knownBefore a_onesBefore a_nodeVariable a_nodeLow a_nodeHigh a_nodeNext a_listFirst a_recentKey a_recentNode a_workF a_workG a_workPhase a_workLow a_nodeValue a_left a_made a_onesOfVariable a_tableBefore := by
  intro n
  induction n with
  | zero => intro i m cl h1 h2; omega
  | succ n ih =>
    intro i m cl hi hn hm hw hA
    refine pk_le M i (fun e => ?_) (fun e => ?_)
    · apply K m cl (by omega) hw
      intro s
      rw [hA s]
      have : i = M := by omega
      rw [this]; exact Iff.rfl
    · have hin : vp_in (nI i) 12 := vp_in_nI (by omega) (by omega)
      have hcl : (nI i).toNatClampNeg = i := nI_clamp (by omega)
      have hv := hV i e
      refine ek_if (qb_bit0 rules (by omega)) (fun hz => nm_r (nI_1 i) ?_) (fun hz => ⟨hin, ?_⟩)
      · apply ih (i + 1) m cl (by omega) (by omega) (by omega) hw
        intro s
        rw [hA s]
        refine ⟨fun z j h1 h2 => ?_, fun z j h1 h2 => z j (by omega) h2⟩
        by_cases e1 : j = i
        · subst e1; rw [hz] at h2; exact absurd h2 (by decide)
        · exact z j (by omega) h2
      · have hbi : bt rules i = true := ts_nf hz
        have next : ∀ m1 cl1, m ≤ m1 → m1 ≤ m + 14 → qc_wf cl1 m1 → (∀ s, qc_All cl1 m1 s ↔ qc_All cl m s ∧ qc_R (a_kindOf i) (a_setP i) (a_setQ i) s) → wX_makeClauses_21 post rules n (nI (i + 1)) f_theirs (nI M) f_wayNow f_clausesOf (nI m1) f_tableFor f_memoFor f_memoSide f_depth f_known f_ones f_diagramFor f_diagramRoot f_nodeCount f_leftCount f_madeCount a_kindOf a_setP a_setQ cl1 a_table a_memo a_choiceOf a_secondTry a_knownBefore a_onesBefore a_nodeVariable a_nodeLow a_nodeHigh a_nodeNext a_listFirst a_recentKey a_recentNode a_workF a_workG a_workPhase a_workLow a_nodeValue a_left a_made a_onesOfVariable a_tableBefore := by
          intro m1 cl1 h1 h2 h3 h4
          apply ih (i + 1) m1 cl1 (by omega) (by omega) (by omega) h3
          intro s
          rw [h4 s, hA s]
          constructor
          · intro ⟨z1, z2⟩ j hj hb
            by_cases e1 : j = i
            · subst e1; exact z2
            · exact z1 j (by omega) hb
          · intro z
            exact ⟨fun j hj hb => z j (by omega) hb, z i (by omega) hbi⟩
        rw [hcl]
        refine br_c (fun h0 => ⟨hin, hin, ?_⟩) (fun h0 => ⟨hin, br_c (fun h1 => ⟨hin, hin, ?_⟩) (fun h1 => ⟨hin, br_c (fun h2 => ⟨hin, hin, ?_⟩) (fun h2 => ⟨hin, ?_⟩)⟩)⟩)
        · have hq : qb_lt (a_setQ i) 8 := by
            rcases hv.2 with ⟨_, h⟩ | ⟨h, _⟩ | ⟨h, _⟩ | h
            · exact h
            · rw [h] at h0; exact absurd h0 (by decide)
            · rw [h] at h0; exact absurd h0 (by decide)
            · rw [h] at h0; exact absurd h0 (by decide)
          refine qx_addClause (by omega) hv.1 hq hw ?_
          intro m1 cl1 a1 a2 a3 a4
          refine nm_r (nI_1 i) (next m1 cl1 a1 (by omega) a3 ?_)
          intro s
          rw [a4 s]
          unfold qc_R qc_CC
          rw [if_pos h0]
        · rcases hv.2 with ⟨h, _⟩ | ⟨_, hq, hc⟩ | ⟨h, _⟩ | h
          · exact absurd h h0
          · obtain ⟨P, hP, eP⟩ := qb_lt_of (by omega) hv.1
            obtain ⟨r, hr, er⟩ : ∃ r, r < 2 ∧ a_setQ i = nI r := by
              rcases hq with h | h
              · exact ⟨0, by omega, h⟩
              · exact ⟨1, by omega, h⟩
            have hc' : qn_pc P ≤ 4 := by
              have : qn_pc P = qn_cnt (bt (nI P)) 8 := qn_cnt_congr (fun i hi => by rw [qb_nI' (by omega)])
              rw [this, ← eP]; exact hc
            rw [eP, er]
            refine qx_addParity hP hr hc' hw (by omega) ?_
            intro m1 cl1 a1 a2 a3 a4
            refine nm_r (nI_1 i) (next m1 cl1 a1 (by omega) a3 ?_)
            intro s
            rw [a4 s]
            unfold qc_R
            rw [if_neg h0, if_pos h1, eP, er, qc_x_pc, nI_eq (by omega) (by omega)]
          · rw [h] at h1; exact absurd h1 (by decide)
          · rw [h] at h1; exact absurd h1 (by decide)
        · rcases hv.2 with ⟨h, _⟩ | ⟨h, _⟩ | ⟨_, ⟨k, hk, ek⟩, hc⟩ | h
          · exact absurd h h0
          · exact absurd h h1
          · obtain ⟨P, hP, eP⟩ := qb_lt_of (by omega) hv.1
            have hc' : qn_pc P ≤ 5 := by
              have : qn_pc P = qn_cnt (bt (nI P)) 8 := qn_cnt_congr (fun i hi => by rw [qb_nI' (by omega)])
              rw [this, ← eP]; exact hc
            rw [eP, ek]
            refine qx_addAtMost hP (by omega) hc' hw (by omega) ?_
            intro m1 cl1 a1 a2 a3 a4
            refine nm_r (nI_1 i) (next m1 cl1 a1 (by omega) a3 ?_)
            intro s
            rw [a4 s]
            unfold qc_R
            have h8 : qn_pc (qc_x P s) ≤ 8 := qn_cnt_le _ _
            rw [if_neg h0, if_neg h1, if_pos h2, eP, ek, qc_x_pc, nI_leI (by omega) (by omega)]
          · rw [h] at h2; exact absurd h2 (by decide)
        · refine qx_addEqual hv.1 hw (by omega) ?_
          intro m1 cl1 a1 a2 a3 a4
          refine nm_r (nI_1 i) (next m1 cl1 a1 (by omega) a3 ?_)
          intro s
          rw [a4 s]
          unfold qc_R
          rw [if_neg h0, if_neg h1, if_neg h2]
/-- the clauses stand for the rules of a set, or for none -/
def qc_OK (M : Nat) (kd p q : Nat → Int32) (rules : Int32) (m : Nat) (cl : Nat → Int32) : Prop := m ≤ 168 ∧ qc_wf cl m ∧ ∀ s, qc_All cl m s ↔ qc_H M kd p q rules s
def qc_Cache (M : Nat) (kd p q : Nat → Int32) (co cc : Int32) (cl : Nat → Int32) : Prop := co = -1 ∨ ∃ m, cc = nI m ∧ qc_OK M kd p q co m cl
theorem qx_makeClauses {post : SX → Prop} {M : Nat} {rules : Int32} (hM : M ≤ 12) (hV : qc_Vs M a_kindOf a_setP a_setQ) (hr : rules ≠ -1) (hc : qc_Cache M a_kindOf a_setP a_setQ f_clausesOf f_clauseCount a_clauses)
    (K : ∀ m' cl', qc_OK M a_kindOf a_setP a_setQ rules m' cl' → post (f_theirs, nI M, f_wayNow, rules, nI m', f_tableFor, f_memoFor, f_memoSide, f_depth, f_known, f_ones, f_diagramFor, f_diagramRoot, f_nodeCount, f_leftCount, f_madeCount, a_kindOf, a_setP, a_setQ, cl', a_table, a_memo, a_choiceOf, a_secondTry, a_knownBefore, a_onesBefore, a_nodeVariable, a_nodeLow, a_nodeHigh, a_nodeNext, a_listFirst, a_recentKey, a_recentNode, a_workF, a_workG, a_workPhase, a_workLow, a_nodeValue, a_left, a_made, a_onesOfVariable, a_tableBefore)) :
    wpX_makeClauses post (f_theirs, nI M, f_wayNow, f_clausesOf, f_clauseCount, f_tableFor, f_memoFor, f_memoSide, f_depth, f_known, f_ones, f_diagramFor, f_diagramRoot, f_nodeCount, f_leftCount, f_madeCount, a_kindOf, a_setP, a_setQ, a_clauses, a_table, a_memo, a_choiceOf, a_secondTry, a_knownBefore, a_onesBefore, a_nodeVariable, a_nodeLow, a_nodeHigh, a_nodeNext, a_listFirst, a_recentKey, a_recentNode, a_workF, a_workG, a_workPhase, a_workLow, a_nodeValue, a_left, a_made, a_onesOfVariable, a_tableBefore) rules := by
  refine br_c (fun e => ?_) (fun e => ?_)
  · rcases hc with h | ⟨m, h1, h2⟩
    · exact absurd (e.symm.trans h) hr
    · subst e
      rw [h1]
      exact K m a_clauses h2
  · refine ⟨M + 1, qx_makeClauses_21 hM hV ?_ (M + 1) 0 0 a_clauses (by omega) (by omega) (by omega) (fun j hj => by omega) ?_⟩
    · intro m' cl' h1 h2 h3
      exact K m' cl' ⟨h1, h2, h3⟩
    · intro s
      exact ⟨fun _ j hj => by omega, fun _ j hj => by omega⟩
end
end
section
/-! resolving: the list of clauses that are left -/
theorem qr_sub_cs {x y : Int32} {s : Nat → Bool} (h : qr_sub x y) (z : qc_cs x s) : qc_cs y s := by
  obtain ⟨i, hi, z⟩ := z
  refine ⟨i, hi, ?_⟩
  rcases z with ⟨a, b⟩ | ⟨a, b⟩
  · exact Or.inl ⟨h i (by omega) a, b⟩
  · exact Or.inr ⟨h (8 + i) (by omega) a, b⟩
def qr_KI (l0 : Nat → Int32) (m : Nat) (c : Int32) (j k : Nat) (a : Nat → Int32) : Prop :=
  j ≤ k ∧ (∀ i, k ≤ i → a i = l0 i) ∧ (∀ i, i < j → ∃ i', i' < k ∧ a i = l0 i') ∧ (∀ i, i < j → ¬ qr_sub c (a i)) ∧ (∀ i', i' < k → ¬ qr_sub c (l0 i') → ∃ i, i < j ∧ a i = l0 i') ∧
  qr_anti a j ∧ (∀ i i', i < j → k ≤ i' → i' < m → ¬ qr_sub (a i) (l0 i') ∧ ¬ qr_sub (l0 i') (a i))
theorem qr_KI_0 {l0 : Nat → Int32} {m : Nat} {c : Int32} : qr_KI l0 m c 0 0 l0 :=
  ⟨Nat.le_refl 0, fun _ _ => rfl, fun i hi => by omega, fun i hi => by omega, fun i hi => by omega, fun i j hi => by omega, fun i i' hi => by omega⟩
theorem qr_KI_drop {l0 a : Nat → Int32} {m j k : Nat} {c : Int32} (h : qr_KI l0 m c j k a) (hs : qr_sub c (l0 k)) : qr_KI l0 m c j (k + 1) a := by
  obtain ⟨h1, h2, h3, h4, h5, h6, h7⟩ := h
  refine ⟨by omega, fun i hi => h2 i (by omega), fun i hi => ?_, h4, fun i' hi' hn => ?_, h6, fun i i' a1 a2 a3 => h7 i i' a1 (by omega) a3⟩
  · obtain ⟨i', z1, z2⟩ := h3 i hi
    exact ⟨i', by omega, z2⟩
  · by_cases e : i' = k
    · subst e; exact absurd hs hn
    · exact h5 i' (by omega) hn
theorem qr_KI_keep {l0 a : Nat → Int32} {m j k : Nat} {c : Int32} (h : qr_KI l0 m c j k a) (hk : k < m) (ha : qr_anti l0 m) (hs : ¬ qr_sub c (l0 k)) : qr_KI l0 m c (j + 1) (k + 1) (upd a j (a k)) := by
  obtain ⟨h1, h2, h3, h4, h5, h6, h7⟩ := h
  have hk0 : a k = l0 k := h2 k (Nat.le_refl k)
  rw [hk0]
  refine ⟨by omega, fun i hi => ?_, fun i hi => ?_, fun i hi => ?_, fun i' hi' hn => ?_, ?_, fun i i' a1 a2 a3 => ?_⟩
  · rw [pk_un (by omega)]; exact h2 i (by omega)
  · by_cases e : i = j
    · subst e; exact ⟨k, by omega, pk_us⟩
    · obtain ⟨i', z1, z2⟩ := h3 i (by omega)
      exact ⟨i', by omega, by rw [pk_un e]; exact z2⟩
  · by_cases e : i = j
    · subst e; rw [pk_us]; exact hs
    · rw [pk_un e]; exact h4 i (by omega)
  · by_cases e : i' = k
    · subst e; exact ⟨j, by omega, pk_us⟩
    · obtain ⟨i, z1, z2⟩ := h5 i' (by omega) hn
      exact ⟨i, by omega, by rw [pk_un (by omega)]; exact z2⟩
  · intro i i' hi hi' hne
    by_cases e : i = j
    · subst e
      rw [pk_us, pk_un (by omega)]
      exact (h7 i' k (by omega) (Nat.le_refl k) hk).2
    · by_cases e' : i' = j
      · subst e'
        rw [pk_us, pk_un e]
        exact (h7 i k (by omega) (Nat.le_refl k) hk).1
      · rw [pk_un e, pk_un e']
        exact h6 i i' (by omega) (by omega) hne
  · by_cases e : i = j
    · subst e
      rw [pk_us]
      exact ⟨ha k i' hk a3 (by omega), ha i' k a3 hk (by omega)⟩
    · rw [pk_un e]
      exact h7 i i' (by omega) (by omega) a3
/-- what keeping a clause gives -/
def qr_KP (l0 : Nat → Int32) (m : Nat) (c : Int32) (l' : Nat → Int32) (m' : Nat) : Prop :=
  m' ≤ m + 1 ∧ qr_anti l' m' ∧ (∀ s, qc_All l' m' s ↔ qc_All l0 m s ∧ qc_cs c s) ∧ (∀ Q : Int32 → Prop, (∀ i, i < m → Q (l0 i)) → Q c → ∀ i, i < m' → Q (l' i))
theorem qr_KP_old {l0 : Nat → Int32} {m : Nat} {c : Int32} (ha : qr_anti l0 m) {k : Nat} (hk : k < m) (hs : qr_sub (l0 k) c) : qr_KP l0 m c l0 m :=
  ⟨by omega, ha, fun s => ⟨fun z => ⟨z, qr_sub_cs hs (z k hk)⟩, fun z => z.1⟩, fun Q h _ => h⟩
theorem qr_KP_new {l0 a : Nat → Int32} {m j : Nat} {c : Int32} (h : qr_KI l0 m c j m a) (hn : ∀ i, i < m → ¬ qr_sub (l0 i) c) : qr_KP l0 m c (upd a j c) (j + 1) := by
  obtain ⟨h1, h2, h3, h4, h5, h6, h7⟩ := h
  refine ⟨by omega, ?_, fun s => ?_, fun Q hQ hc i hi => ?_⟩
  · intro i i' hi hi' hne
    by_cases e : i = j
    · subst e
      rw [pk_us, pk_un (by omega)]
      exact h4 i' (by omega)
    · by_cases e' : i' = j
      · subst e'
        rw [pk_us, pk_un e]
        obtain ⟨i'', z1, z2⟩ := h3 i (by omega)
        rw [z2]; exact hn i'' z1
      · rw [pk_un e, pk_un e']
        exact h6 i i' (by omega) (by omega) hne
  · rw [qc_All_snoc]
    constructor
    · intro ⟨z1, z2⟩
      refine ⟨fun i hi => ?_, z2⟩
      rcases Classical.em (qr_sub c (l0 i)) with hs | hs
      · exact qr_sub_cs hs z2
      · obtain ⟨i', y1, y2⟩ := h5 i hi hs
        rw [← y2]; exact z1 i' y1
    · intro ⟨z1, z2⟩
      refine ⟨fun i hi => ?_, z2⟩
      obtain ⟨i', y1, y2⟩ := h3 i hi
      rw [y2]; exact z1 i' y1
  · by_cases e : i = j
    · subst e; rw [pk_us]; exact hc
    · rw [pk_un e]
      obtain ⟨i', y1, y2⟩ := h3 i (by omega)
      rw [y2]; exact hQ i' y1
section
variable {f_theirs f_ruleCount f_wayNow f_clausesOf f_clauseCount f_tableFor f_memoFor f_memoSide f_depth f_known f_ones f_diagramFor f_diagramRoot f_nodeCount f_leftCount f_madeCount : Int32} {a_kindOf a_setP a_setQ a_clauses a_memo a_choiceOf a_secondTry a_knownBefore a_onesBefore a_nodeVariable a_nodeLow a_nodeHigh a_nodeNext a_listFirst a_recentKey a_recentNode a_workF a_workG a_workPhase a_workLow a_nodeValue a_left a_made : Nat → Int32} {a_table a_onesOfVariable a_tableBefore : Nat → Int64}
theorem qx_keep_34 {post : SX → Prop} {l0 : Nat → Int32} {m : Nat} {c : Int32} (hm : m < 700) (ha : qr_anti l0 m) (hn : ∀ i, i < m → ¬ qr_sub (l0 i) c)
    (K : ∀ m' l', qr_KP l0 m c l' m' → post (f_theirs, f_ruleCount, f_wayNow, f_clausesOf, f_clauseCount, f_tableFor, f_memoFor, f_memoSide, f_depth, f_known, f_ones, f_diagramFor, f_diagramRoot, f_nodeCount, nI m', f_madeCount, a_kindOf, a_setP, a_setQ, a_clauses, a_table, a_memo, a_choiceOf, a_secondTry, a_knownBefore, a_onesBefore, a_nodeVariable, a_nodeLow, a_nodeHigh, a_nodeNext, a_listFirst, a_recentKey, a_recentNode, a_workF, a_workG, a_workPhase, a_workLow, a_nodeValue, l', a_made, a_onesOfVariable, a_tableBefore)) : ∀ (n j k : Nat) (a : Nat → Int32), k ≤ m → m < n + k → qr_KI l0 m c j k a →
    wX_keep_34 post c f_theirs f_ruleCount f_wayNow f_clausesOf f_clauseCount f_tableFor f_memoFor f_memoSide f_depth f_known f_ones f_diagramFor f_diagramRoot f_nodeCount (nI m) f_madeCount n (nI j) (nI k) a_kindOf a_setP a_setQ a_clauses a_table a_memo a_choiceOf a_secondTry a_knownBefore a_onesBefore a_nodeVariable a_nodeLow a_nodeHigh a_nodeNext a_listFirst a_recentKey a_recentNode a_workF a_workG a_workPhase a_workLow a_nodeValue a a_made a_onesOfVariable a_tableBefore := by
  intro n
  induction n with
  | zero => intro j k a h1 h2; omega
  | succ n ih =>
    intro j k a hk hf hI
    have hj : j ≤ k := hI.1
    refine pk_le m k (fun e => ?_) (fun e => ?_)
    · have e : k = m := by omega
      subst e
      refine ⟨vp_in_nI (by omega) (by omega), nm_r (e' := upd a j c) (by rw [nI_clamp (by omega)]) (nm_r (nI_1 j) (K _ _ (qr_KP_new hI hn)))⟩
    · have hin : vp_in (nI k) 700 := vp_in_nI (by omega) (by omega)
      have hck : (nI k).toNatClampNeg = k := nI_clamp (by omega)
      have hcj : (nI j).toNatClampNeg = j := nI_clamp (by omega)
      have hk0 : a k = l0 k := hI.2.1 k (Nat.le_refl k)
      refine ⟨hin, ?_⟩
      rw [hck]
      refine ek_if qb_andn (fun h => ?_) (fun h => ?_)
      · rw [hk0] at h
        exact nm_r (nI_1 k) (ih j (k + 1) a (by omega) (by omega) (qr_KI_drop hI h))
      · rw [hk0] at h
        refine ⟨hin, vp_in_nI (by omega) (by omega), nm_r (e' := upd a j (a k)) (by rw [hcj]) (nm_r (nI_1 j) (nm_r (nI_1 k) ?_))⟩
        exact ih (j + 1) (k + 1) _ (by omega) (by omega) (qr_KI_keep hI e ha h)
theorem qx_keep_2 {post : SX → Prop} {m : Nat} {c : Int32} (hm : m < 700) (ha : qr_anti a_left m)
    (K : ∀ m' l', qr_KP a_left m c l' m' → post (f_theirs, f_ruleCount, f_wayNow, f_clausesOf, f_clauseCount, f_tableFor, f_memoFor, f_memoSide, f_depth, f_known, f_ones, f_diagramFor, f_diagramRoot, f_nodeCount, nI m', f_madeCount, a_kindOf, a_setP, a_setQ, a_clauses, a_table, a_memo, a_choiceOf, a_secondTry, a_knownBefore, a_onesBefore, a_nodeVariable, a_nodeLow, a_nodeHigh, a_nodeNext, a_listFirst, a_recentKey, a_recentNode, a_workF, a_workG, a_workPhase, a_workLow, a_nodeValue, l', a_made, a_onesOfVariable, a_tableBefore)) : ∀ (n k : Nat), k ≤ m → m < n + k → (∀ i, i < k → ¬ qr_sub (a_left i) c) →
    wX_keep_2 post c f_theirs f_ruleCount f_wayNow f_clausesOf f_clauseCount f_tableFor f_memoFor f_memoSide f_depth f_known f_ones f_diagramFor f_diagramRoot f_nodeCount (nI m) f_madeCount a_kindOf a_setP a_setQ a_clauses a_table a_memo a_choiceOf a_secondTry a_knownBefore a_onesBefore a_nodeVariable a_nodeLow a_nodeHigh a_nodeNext a_listFirst a_recentKey a_recentNode a_workF a_workG a_workPhase a_workLow a_nodeValue a_left a_made a_onesOfVariable a_tableBefore n (nI k) := by
  intro n
  induction n with
  | zero => intro k h1 h2; omega
  | succ n ih =>
    intro k hk hf hn
    refine pk_le m k (fun e => ?_) (fun e => ?_)
    · have e : k = m := by omega
      subst e
      exact ⟨k + 1, qx_keep_34 hm ha hn K (k + 1) 0 0 a_left (by omega) (by omega) qr_KI_0⟩
    · have hck : (nI k).toNatClampNeg = k := nI_clamp (by omega)
      refine ⟨vp_in_nI (by omega) (by omega), ?_⟩
      rw [hck]
      refine ek_if qb_andn (fun h => K m a_left (qr_KP_old ha e h)) (fun h => nm_r (nI_1 k) (ih (k + 1) (by omega) (by omega) ?_))
      intro i hi
      by_cases e1 : i = k
      · subst e1; exact h
      · exact hn i (by omega)
theorem qx_keep {post : SX → Prop} {m : Nat} {c : Int32} (hm : m < 700) (ha : qr_anti a_left m)
    (K : ∀ m' l', qr_KP a_left m c l' m' → post (f_theirs, f_ruleCount, f_wayNow, f_clausesOf, f_clauseCount, f_tableFor, f_memoFor, f_memoSide, f_depth, f_known, f_ones, f_diagramFor, f_diagramRoot, f_nodeCount, nI m', f_madeCount, a_kindOf, a_setP, a_setQ, a_clauses, a_table, a_memo, a_choiceOf, a_secondTry, a_knownBefore, a_onesBefore, a_nodeVariable, a_nodeLow, a_nodeHigh, a_nodeNext, a_listFirst, a_recentKey, a_recentNode, a_workF, a_workG, a_workPhase, a_workLow, a_nodeValue, l', a_made, a_onesOfVariable, a_tableBefore)) : wpX_keep post (f_theirs, f_ruleCount, f_wayNow, f_clausesOf, f_clauseCount, f_tableFor, f_memoFor, f_memoSide, f_depth, f_known, f_ones, f_diagramFor, f_diagramRoot, f_nodeCount, nI m, f_madeCount, a_kindOf, a_setP, a_setQ, a_clauses, a_table, a_memo, a_choiceOf, a_secondTry, a_knownBefore, a_onesBefore, a_nodeVariable, a_nodeLow, a_nodeHigh, a_nodeNext, a_listFirst, a_recentKey, a_recentNode, a_workF, a_workG, a_workPhase, a_workLow, a_nodeValue, a_left, a_made, a_onesOfVariable, a_tableBefore) c :=
  ⟨m + 1, qx_keep_2 hm ha K (m + 1) 0 (by omega) (by omega) (fun i hi => by omega)⟩
theorem qx_setAside_10 {post : SX → Prop} {m : Nat} (hm : m ≤ 700) (K : ∀ md, (∀ i, i < m → md i = a_left i) → post (f_theirs, f_ruleCount, f_wayNow, f_clausesOf, f_clauseCount, f_tableFor, f_memoFor, f_memoSide, f_depth, f_known, f_ones, f_diagramFor, f_diagramRoot, f_nodeCount, 0, nI m, a_kindOf, a_setP, a_setQ, a_clauses, a_table, a_memo, a_choiceOf, a_secondTry, a_knownBefore, a_onesBefore, a_nodeVariable, a_nodeLow, a_nodeHigh, a_nodeNext, a_listFirst, a_recentKey, a_recentNode, a_workF, a_workG, a_workPhase, a_workLow, a_nodeValue, a_left, md, a_onesOfVariable, a_tableBefore)) :
    ∀ (n k : Nat) (md : Nat → Int32), k ≤ m → m < n + k → (∀ i, i < k → md i = a_left i) → wX_setAside_10 post f_theirs f_ruleCount f_wayNow f_clausesOf f_clauseCount f_tableFor f_memoFor f_memoSide f_depth f_known f_ones f_diagramFor f_diagramRoot f_nodeCount (nI m) (nI m) n (nI k) a_kindOf a_setP a_setQ a_clauses a_table a_memo a_choiceOf a_secondTry a_knownBefore a_onesBefore a_nodeVariable a_nodeLow a_nodeHigh a_nodeNext a_listFirst a_recentKey a_recentNode a_workF a_workG a_workPhase a_workLow a_nodeValue a_left md a_onesOfVariable a_tableBefore := by
  intro n
  induction n with
  | zero => intro k md h1 h2; omega
  | succ n ih =>
    intro k md hk hf hI
    refine pk_le m k (fun e => ?_) (fun e => ?_)
    · exact K md (fun i hi => hI i (by omega))
    · have hck : (nI k).toNatClampNeg = k := nI_clamp (by omega)
      have hin : vp_in (nI k) 700 := vp_in_nI (by omega) (by omega)
      refine ⟨hin, hin, nm_r (e' := upd md k (a_left k)) (by rw [hck]) (nm_r (nI_1 k) (ih (k + 1) _ (by omega) (by omega) ?_))⟩
      intro i hi
      by_cases e1 : i = k
      · subst e1; exact pk_us
      · rw [pk_un e1]; exact hI i (by omega)
theorem qx_setAside {post : SX → Prop} {m : Nat} (hm : m ≤ 700) (K : ∀ md, (∀ i, i < m → md i = a_left i) → post (f_theirs, f_ruleCount, f_wayNow, f_clausesOf, f_clauseCount, f_tableFor, f_memoFor, f_memoSide, f_depth, f_known, f_ones, f_diagramFor, f_diagramRoot, f_nodeCount, 0, nI m, a_kindOf, a_setP, a_setQ, a_clauses, a_table, a_memo, a_choiceOf, a_secondTry, a_knownBefore, a_onesBefore, a_nodeVariable, a_nodeLow, a_nodeHigh, a_nodeNext, a_listFirst, a_recentKey, a_recentNode, a_workF, a_workG, a_workPhase, a_workLow, a_nodeValue, a_left, md, a_onesOfVariable, a_tableBefore)) : wpX_setAside post (f_theirs, f_ruleCount, f_wayNow, f_clausesOf, f_clauseCount, f_tableFor, f_memoFor, f_memoSide, f_depth, f_known, f_ones, f_diagramFor, f_diagramRoot, f_nodeCount, nI m, f_madeCount, a_kindOf, a_setP, a_setQ, a_clauses, a_table, a_memo, a_choiceOf, a_secondTry, a_knownBefore, a_onesBefore, a_nodeVariable, a_nodeLow, a_nodeHigh, a_nodeNext, a_listFirst, a_recentKey, a_recentNode, a_workF, a_workG, a_workPhase, a_workLow, a_nodeValue, a_left, a_made, a_onesOfVariable, a_tableBefore) :=
  ⟨m + 1, qx_setAside_10 hm K (m + 1) 0 a_made (by omega) (by omega) (fun i hi => by omega)⟩
end
end
section
/-! resolving: variables go from the last one -/
/-- a clause over the variables from k up to w - 1 -/
def qr_Q (k w : Nat) (c : Int32) : Prop := qb_lt c 16 ∧ qc_nt c ∧ ∀ i, i < 8 → (i < k ∨ w ≤ i) → bt c i = false ∧ bt c (8 + i) = false
theorem qr_Q_bound {k w m : Nat} {l : Nat → Int32} (hw : w ≤ 7) (hq : ∀ i, i < m → qr_Q k w (l i)) (ha : qr_anti l m) : m ≤ 672 :=
  qr_bound (fun j hj => ⟨(hq j hj).1, (hq j hj).2.1⟩) (fun j hj => (hq j hj).2.2 7 (by omega) (Or.inr hw)) ha
theorem qr_all0 {l : Nat → Int32} {s : Nat → Bool} : qc_All l 0 s := fun j hj => by omega
theorem qr_anti0 {l : Nat → Int32} : qr_anti l 0 := fun i j hi => by omega
theorem qg_G_ex {th : Nat → Bool} {P : (Nat → Bool) → Prop} : ∀ {d k : Nat} {s : Nat → Bool}, qg_G th P d k s → ∃ t, P t := by
  intro d
  induction d with
  | zero => intro k s h; exact ⟨s, h⟩
  | succ d ih =>
    intro k s h
    simp only [qg_G] at h
    cases e : th k with
    | true => rw [e] at h; exact ih h.1
    | false =>
      rw [e] at h
      rcases h with h | h
      · exact ih h
      · exact ih h
/-- counting down: -1 behind 0 -/
def qx_dn (w : Nat) : Int32 := match w with
  | 0 => -1
  | w + 1 => nI w
theorem qx_dn_m1 (w : Nat) : nI w + (-1) = qx_dn w := by
  cases w with
  | zero => decide
  | succ w => exact pk_m1 w
theorem qx_dn_lt {w k : Nat} (hw : w ≤ 2 ^ 30) (hk : k ≤ 2 ^ 30) : qx_dn w < nI k ↔ w ≤ k := by
  cases w with
  | zero =>
    constructor
    · intro _; omega
    · intro _
      show (-1 : Int32) < nI k
      rw [Int32.lt_iff_toInt_lt, nI_toInt (by omega)]
      show (-1 : Int) < _
      omega
  | succ w =>
    show nI w < nI k ↔ _
    rw [nI_ltI (by omega) (by omega)]; omega
section
variable {f_theirs f_ruleCount f_wayNow f_clausesOf f_clauseCount f_tableFor f_memoFor f_memoSide f_depth f_known f_ones f_diagramFor f_diagramRoot f_nodeCount f_leftCount f_madeCount : Int32} {a_kindOf a_setP a_setQ a_clauses a_memo a_choiceOf a_secondTry a_knownBefore a_onesBefore a_nodeVariable a_nodeLow a_nodeHigh a_nodeNext a_listFirst a_recentKey a_recentNode a_workF a_workG a_workPhase a_workLow a_nodeValue a_left a_made : Nat → Int32} {a_table a_onesOfVariable a_tableBefore : Nat → Int64}
theorem qx_leaveOut_17 {post : SX → Prop} {k w M : Nat} {x : Int32} {md : Nat → Int32} (hw : w ≤ 7) (hM : M ≤ 672) (hq : ∀ j, j < M → qr_Q k w (md j &&& (x ^^^ (-1))))
    (K : ∀ m l, m ≤ 672 → qr_anti l m → (∀ i, i < m → qr_Q k w (l i)) → (∀ s, qc_All l m s ↔ ∀ j, j < M → qc_cs (md j &&& (x ^^^ (-1))) s) → post (f_theirs, f_ruleCount, f_wayNow, f_clausesOf, f_clauseCount, f_tableFor, f_memoFor, f_memoSide, f_depth, f_known, f_ones, f_diagramFor, f_diagramRoot, f_nodeCount, nI m, nI M, a_kindOf, a_setP, a_setQ, a_clauses, a_table, a_memo, a_choiceOf, a_secondTry, a_knownBefore, a_onesBefore, a_nodeVariable, a_nodeLow, a_nodeHigh, a_nodeNext, a_listFirst, a_recentKey, a_recentNode, a_workF, a_workG, a_workPhase, a_workLow, a_nodeValue, l, md, a_onesOfVariable, a_tableBefore)) :
    ∀ (n c m : Nat) (l : Nat → Int32), c ≤ M → M < n + c → qr_anti l m → (∀ i, i < m → qr_Q k w (l i)) → (∀ s, qc_All l m s ↔ ∀ j, j < c → qc_cs (md j &&& (x ^^^ (-1))) s) →
    wX_leaveOut_17 post x n (nI c) f_theirs f_ruleCount f_wayNow f_clausesOf f_clauseCount f_tableFor f_memoFor f_memoSide f_depth f_known f_ones f_diagramFor f_diagramRoot f_nodeCount (nI m) (nI M) a_kindOf a_setP a_setQ a_clauses a_table a_memo a_choiceOf a_secondTry a_knownBefore a_onesBefore a_nodeVariable a_nodeLow a_nodeHigh a_nodeNext a_listFirst a_recentKey a_recentNode a_workF a_workG a_workPhase a_workLow a_nodeValue l md a_onesOfVariable a_tableBefore := by
  intro n
  induction n with
  | zero => intro c m l h1 h2; omega
  | succ n ih =>
    intro c m l hc hf ha hl hA
    have hm := qr_Q_bound hw hl ha
    refine pk_le M c (fun e => ?_) (fun e => ?_)
    · apply K m l hm ha hl
      intro s
      rw [hA s, show c = M by omega]
    · refine ⟨vp_in_nI (by omega) (by omega), ?_⟩
      rw [nI_clamp (by omega)]
      refine qx_keep (by omega) ha ?_
      intro m' l' ⟨b1, b2, b3, b4⟩
      refine nm_r (nI_1 c) (ih (c + 1) m' l' (by omega) (by omega) b2 (b4 _ hl (hq c e)) ?_)
      intro s
      rw [b3 s, hA s]
      constructor
      · intro ⟨z1, z2⟩ j hj
        by_cases e1 : j = c
        · subst e1; exact z2
        · exact z1 j (by omega)
      · intro z
        exact ⟨fun j hj => z j (by omega), z c (by omega)⟩
theorem qx_both_mask {v : Nat} (hv : v < 8) (c : Int32) {i : Nat} (hi : i < 32) : bt (c &&& ((((1 : Int32) <<< (nI v &&& 31)) ||| ((1 : Int32) <<< ((8 + nI v) &&& 31))) ^^^ (-1))) i = (bt c i && !decide (i = v) && !decide (i = 8 + v)) := by
  have e8 : 8 + nI v = nI (8 + v) := nI_add 8 v
  rw [b_and, qb_not _ hi, b_or, e8, qb_one (by omega), qb_one (by omega)]
  cases bt c i <;> cases decide (i = v) <;> cases decide (i = 8 + v) <;> rfl
theorem qr_Q_sub {k w : Nat} {c c' : Int32} {v : Nat} (hwv : w = v + 1) (h : qr_Q k w c) (h' : ∀ i, bt c' i = true → bt c i = true) (h1 : bt c' v = false) (h2 : bt c' (8 + v) = false) : qr_Q k v c' := by
  have hf : ∀ i, bt c i = false → bt c' i = false := by
    intro i z
    cases e : bt c' i with
    | false => rfl
    | true => rw [h' i e] at z; exact absurd z (by decide)
  refine ⟨fun i hi => hf i (h.1 i hi), fun i hi z => hf _ (h.2.1 i hi (h' i z)), fun i hi z => ?_⟩
  by_cases e : i = v
  · subst e; exact ⟨h1, h2⟩
  · have := h.2.2 i hi (by omega)
    exact ⟨hf _ this.1, hf _ this.2⟩
theorem qx_leaveOut {post : SX → Prop} {k v m : Nat} (hv : v < 8) (hm : m ≤ 672) (hq : ∀ j, j < m → qr_Q k (v + 1) (a_left j))
    (K : ∀ m' l md, m' ≤ 672 → qr_anti l m' → (∀ i, i < m' → qr_Q k v (l i)) → (∀ s, qc_All l m' s ↔ (qc_All a_left m (qg_up s v false) ∧ qc_All a_left m (qg_up s v true))) → post (f_theirs, f_ruleCount, f_wayNow, f_clausesOf, f_clauseCount, f_tableFor, f_memoFor, f_memoSide, f_depth, f_known, f_ones, f_diagramFor, f_diagramRoot, f_nodeCount, nI m', nI m, a_kindOf, a_setP, a_setQ, a_clauses, a_table, a_memo, a_choiceOf, a_secondTry, a_knownBefore, a_onesBefore, a_nodeVariable, a_nodeLow, a_nodeHigh, a_nodeNext, a_listFirst, a_recentKey, a_recentNode, a_workF, a_workG, a_workPhase, a_workLow, a_nodeValue, l, md, a_onesOfVariable, a_tableBefore)) :
    wpX_leaveOut post (f_theirs, f_ruleCount, f_wayNow, f_clausesOf, f_clauseCount, f_tableFor, f_memoFor, f_memoSide, f_depth, f_known, f_ones, f_diagramFor, f_diagramRoot, f_nodeCount, nI m, f_madeCount, a_kindOf, a_setP, a_setQ, a_clauses, a_table, a_memo, a_choiceOf, a_secondTry, a_knownBefore, a_onesBefore, a_nodeVariable, a_nodeLow, a_nodeHigh, a_nodeNext, a_listFirst, a_recentKey, a_recentNode, a_workF, a_workG, a_workPhase, a_workLow, a_nodeValue, a_left, a_made, a_onesOfVariable, a_tableBefore) (nI v) := by
  refine nm_e ?_
  refine qx_setAside (by omega) ?_
  intro md hmd
  have hb : ∀ c : Int32, ∀ i, bt (c &&& ((((1 : Int32) <<< (nI v &&& 31)) ||| ((1 : Int32) <<< ((8 + nI v) &&& 31))) ^^^ (-1))) i = (bt c i && !decide (i = v) && !decide (i = 8 + v)) := by
    intro c i
    rcases Nat.lt_or_ge i 32 with hi | hi
    · exact qx_both_mask hv c hi
    · rw [b_big hi, b_big hi]; rfl
  refine ⟨m + 1, qx_leaveOut_17 (k := k) (w := v) (M := m) (by omega) hm ?_ ?_ (m + 1) 0 0 a_left (by omega) (by omega) qr_anti0 (fun i hi => by omega) (fun s => ⟨fun _ j hj => by omega, fun _ => qr_all0⟩)⟩
  · intro j hj
    apply qr_Q_sub rfl (hq j hj)
    · intro i z
      rw [hb, Bool.and_eq_true, Bool.and_eq_true, hmd j hj] at z
      exact z.1.1
    · rw [hb, decide_eq_true rfl]; simp
    · rw [hb, decide_eq_true (rfl : 8 + v = 8 + v)]; simp
  · intro m' l h1 h2 h3 h4
    apply K m' l md h1 h2 h3
    intro s
    rw [h4 s]
    have hc : ∀ j, j < m → ((qc_cs (a_left j) (qg_up s v false) ∧ qc_cs (a_left j) (qg_up s v true)) ↔ qc_cs (md j &&& ((((1 : Int32) <<< (nI v &&& 31)) ||| ((1 : Int32) <<< ((8 + nI v) &&& 31))) ^^^ (-1))) s) := by
      intro j hj
      apply qc_forall (hq j hj).2.1 hv
      intro i _
      rw [hb, hmd j hj]
    constructor
    · intro z
      exact ⟨fun j hj => ((hc j hj).mpr (z j hj)).1, fun j hj => ((hc j hj).mpr (z j hj)).2⟩
    · intro ⟨z1, z2⟩ j hj
      exact (hc j hj).mp ⟨z1 j hj, z2 j hj⟩
/-- two clauses put together, without the variable -/
def qr_J (v : Nat) (c d : Int32) (s : Nat → Bool) : Prop := (∃ i, i < 8 ∧ i ≠ v ∧ qc_lit c i (s i) = true) ∨ (∃ i, i < 8 ∧ i ≠ v ∧ qc_lit d i (s i) = true)
theorem qr_or_bit {v : Nat} (hv : v < 8) (c d : Int32) (i : Nat) : bt ((c &&& (((1 : Int32) <<< (nI v &&& 31)) ^^^ (-1))) ||| (d &&& (((1 : Int32) <<< ((8 + nI v) &&& 31)) ^^^ (-1)))) i = ((bt c i && !decide (i = v)) || (bt d i && !decide (i = 8 + v))) := by
  have e8 : 8 + nI v = nI (8 + v) := nI_add 8 v
  rcases Nat.lt_or_ge i 32 with hi | hi
  · rw [b_or, b_and, b_and, qb_not _ hi, qb_not _ hi, e8, qb_one (by omega), qb_one (by omega)]
  · rw [b_big hi, b_big hi, b_big hi]; rfl
theorem qx_join {post : SX → Prop} {k v m : Nat} {c d : Int32} (hv : v < 8) (hc : qr_Q k (v + 1) c) (hd : qr_Q k (v + 1) d) (h1 : bt c v = true) (h2 : bt d (8 + v) = true) (hl : ∀ i, i < m → qr_Q k v (a_left i)) (ha : qr_anti a_left m)
    (K : ∀ m' l, qr_anti l m' → (∀ i, i < m' → qr_Q k v (l i)) → (∀ s, qc_All l m' s ↔ qc_All a_left m s ∧ qr_J v c d s) → post (f_theirs, f_ruleCount, f_wayNow, f_clausesOf, f_clauseCount, f_tableFor, f_memoFor, f_memoSide, f_depth, f_known, f_ones, f_diagramFor, f_diagramRoot, f_nodeCount, nI m', f_madeCount, a_kindOf, a_setP, a_setQ, a_clauses, a_table, a_memo, a_choiceOf, a_secondTry, a_knownBefore, a_onesBefore, a_nodeVariable, a_nodeLow, a_nodeHigh, a_nodeNext, a_listFirst, a_recentKey, a_recentNode, a_workF, a_workG, a_workPhase, a_workLow, a_nodeValue, l, a_made, a_onesOfVariable, a_tableBefore)) :
    wpX_join post (f_theirs, f_ruleCount, f_wayNow, f_clausesOf, f_clauseCount, f_tableFor, f_memoFor, f_memoSide, f_depth, f_known, f_ones, f_diagramFor, f_diagramRoot, f_nodeCount, nI m, f_madeCount, a_kindOf, a_setP, a_setQ, a_clauses, a_table, a_memo, a_choiceOf, a_secondTry, a_knownBefore, a_onesBefore, a_nodeVariable, a_nodeLow, a_nodeHigh, a_nodeNext, a_listFirst, a_recentKey, a_recentNode, a_workF, a_workG, a_workPhase, a_workLow, a_nodeValue, a_left, a_made, a_onesOfVariable, a_tableBefore) (c &&& (((1 : Int32) <<< (nI v &&& 31)) ^^^ (-1))) (d &&& (((1 : Int32) <<< ((8 + nI v) &&& 31)) ^^^ (-1))) := by
  have hm := qr_Q_bound (by omega) hl ha
  have hcv : bt c (8 + v) = false := hc.2.1 v hv h1
  have hdv : bt d v = false := by
    cases e : bt d v with
    | false => rfl
    | true => have := hd.2.1 v hv e; rw [this] at h2; exact absurd h2 (by decide)
  refine nm_e ?_
  have hbit := qr_or_bit hv c d
  generalize hx : ((c &&& (((1 : Int32) <<< (nI v &&& 31)) ^^^ (-1))) ||| (d &&& (((1 : Int32) <<< ((8 + nI v) &&& 31)) ^^^ (-1)))) = x at hbit ⊢
  have hlt : qb_lt x 16 := by
    intro i hi
    rw [hbit, hc.1 i hi, hd.1 i hi]; rfl
  have hlo : ∀ i, i < 8 → i ≠ v → bt x i = (bt c i || bt d i) := by
    intro i hi e
    rw [hbit, decide_eq_false e, decide_eq_false (by omega)]; simp
  have hhi : ∀ i, i < 8 → i ≠ v → bt x (8 + i) = (bt c (8 + i) || bt d (8 + i)) := by
    intro i hi e
    rw [hbit, decide_eq_false (by omega), decide_eq_false (by omega)]; simp
  have hv0 : bt x v = false := by rw [hbit, decide_eq_true rfl, hdv]; simp
  have hv1 : bt x (8 + v) = false := by rw [hbit, decide_eq_true (rfl : 8 + v = 8 + v), hcv]; simp
  have hcs : ∀ s, qc_cs x s ↔ qr_J v c d s := by
    intro s
    have hlit : ∀ i, i < 8 → i ≠ v → ∀ b, qc_lit x i b = (qc_lit c i b || qc_lit d i b) := by
      intro i hi e b
      cases b with
      | true => exact hlo i hi e
      | false => exact hhi i hi e
    rw [qc_cs_lit]
    constructor
    · intro ⟨i, hi, z⟩
      by_cases e : i = v
      · subst e
        have : qc_lit x i (s i) = false := by cases s i; exact hv1; exact hv0
        rw [this] at z; exact absurd z (by decide)
      · rw [hlit i hi e, Bool.or_eq_true] at z
        rcases z with z | z
        · exact Or.inl ⟨i, hi, e, z⟩
        · exact Or.inr ⟨i, hi, e, z⟩
    · intro z
      rcases z with ⟨i, hi, e, z⟩ | ⟨i, hi, e, z⟩
      · exact ⟨i, hi, by rw [hlit i hi e, z]; rfl⟩
      · exact ⟨i, hi, by rw [hlit i hi e, z, Bool.or_true]⟩
  have htaut : (x &&& 255) &&& (x >>> ((8 : Int32) &&& 31)) = 0 ↔ qc_nt x := by
    rw [qb_and0]
    constructor
    · intro z i hi e
      have := z i (by omega) (by rw [qb_m255, e, decide_eq_true hi]; rfl)
      rw [qb_sh8 hlt] at this; exact this
    · intro z i hi e
      rw [qb_m255, Bool.and_eq_true, decide_eq_true_eq] at e
      rw [qb_sh8 hlt]
      exact z i e.2 e.1
  refine ek_if htaut (fun hn => ?_) (fun hn => ?_)
  · refine qx_keep (by omega) ha ?_
    intro m' l ⟨b1, b2, b3, b4⟩
    refine K m' l b2 (b4 _ hl ⟨hlt, hn, ?_⟩) (fun s => by rw [b3 s, hcs s])
    intro i hi z
    by_cases e : i = v
    · subst e; exact ⟨hv0, hv1⟩
    · have a1 := hc.2.2 i hi (by omega)
      have a2 := hd.2.2 i hi (by omega)
      rw [hlo i hi e, hhi i hi e, a1.1, a1.2, a2.1, a2.2]
      exact ⟨rfl, rfl⟩
  · refine K m a_left ha hl (fun s => ⟨fun z => ⟨z, ?_⟩, fun z => z.1⟩)
    rw [← hcs s]
    apply Classical.byContradiction
    intro z
    apply hn
    intro i hi e
    cases e2 : bt x (8 + i) with
    | false => rfl
    | true =>
      exfalso
      apply z
      rw [qc_cs_lit]
      refine ⟨i, hi, ?_⟩
      cases s i
      · exact e2
      · exact e
theorem qx_resolve_88 {post : SX → Prop} {J : (Int32 → Int32 → Int32 → Int32 → Int32 → Int32 → Int32 → Int32 → Int32 → Int32 → Int32 → Int32 → Int32 → Int32 → Int32 → Int32 → Int32 → (Nat → Int32) → (Nat → Int32) → (Nat → Int32) → (Nat → Int32) → (Nat → Int64) → (Nat → Int32) → (Nat → Int32) → (Nat → Int32) → (Nat → Int32) → (Nat → Int32) → (Nat → Int32) → (Nat → Int32) → (Nat → Int32) → (Nat → Int32) → (Nat → Int32) → (Nat → Int32) → (Nat → Int32) → (Nat → Int32) → (Nat → Int32) → (Nat → Int32) → (Nat → Int32) → (Nat → Int32) → (Nat → Int32) → (Nat → Int32) → (Nat → Int64) → (Nat → Int64) → Prop)} {k v M c : Nat} {md : Nat → Int32} (hv : v < 8) (hM : M ≤ 672) (hq : ∀ j, j < M → qr_Q k (v + 1) (md j)) (hcM : c < M) (hcv : bt (md c) v = true)
    : ∀ (n d m : Nat) (l : Nat → Int32), d ≤ M → M < n + d → qr_anti l m → (∀ i, i < m → qr_Q k v (l i)) →
    (∀ m' l', qr_anti l' m' → (∀ i, i < m' → qr_Q k v (l' i)) → (∀ s, qc_All l' m' s ↔ qc_All l m s ∧ ∀ j, d ≤ j → j < M → bt (md j) (8 + v) = true → qr_J v (md c) (md j) s) → J (nI (c + 1)) f_theirs f_ruleCount f_wayNow f_clausesOf f_clauseCount f_tableFor f_memoFor f_memoSide f_depth f_known f_ones f_diagramFor f_diagramRoot f_nodeCount (nI m') (nI M) a_kindOf a_setP a_setQ a_clauses a_table a_memo a_choiceOf a_secondTry a_knownBefore a_onesBefore a_nodeVariable a_nodeLow a_nodeHigh a_nodeNext a_listFirst a_recentKey a_recentNode a_workF a_workG a_workPhase a_workLow a_nodeValue l' md a_onesOfVariable a_tableBefore) →
    wX_resolve_88 post J ((1 : Int32) <<< (nI v &&& 31)) ((1 : Int32) <<< ((8 + nI v) &&& 31)) (nI c) n (nI d) f_theirs f_ruleCount f_wayNow f_clausesOf f_clauseCount f_tableFor f_memoFor f_memoSide f_depth f_known f_ones f_diagramFor f_diagramRoot f_nodeCount (nI m) (nI M) a_kindOf a_setP a_setQ a_clauses a_table a_memo a_choiceOf a_secondTry a_knownBefore a_onesBefore a_nodeVariable a_nodeLow a_nodeHigh a_nodeNext a_listFirst a_recentKey a_recentNode a_workF a_workG a_workPhase a_workLow a_nodeValue l md a_onesOfVariable a_tableBefore := by
  have e8 : 8 + nI v = nI (8 + v) := nI_add 8 v
  have hz : ∀ x : Int32, x &&& ((1 : Int32) <<< ((8 + nI v) &&& 31)) = 0 ↔ bt x (8 + v) = false := by
    intro x
    rw [qb_and0, e8]
    constructor
    · intro h
      cases e : bt x (8 + v) with
      | false => rfl
      | true => have := h (8 + v) (by omega) e; rw [qb_one (by omega), decide_eq_true rfl] at this; exact absurd this (by decide)
    · intro h i hi e
      rw [qb_one (by omega)]
      apply decide_eq_false
      intro e1
      subst e1
      rw [h] at e; exact absurd e (by decide)
  intro n
  induction n with
  | zero => intro d m l h1 h2; omega
  | succ n ih =>
    intro d m l hd hf ha hl K
    refine pk_le M d (fun e => ?_) (fun e => ?_)
    · refine nm_r (nI_1 c) (K m l ha hl ?_)
      intro s
      exact ⟨fun z => ⟨z, fun j h1 h2 => by omega⟩, fun z => z.1⟩
    · have hin : vp_in (nI d) 700 := vp_in_nI (by omega) (by omega)
      refine ⟨hin, ?_⟩
      rw [nI_clamp (by omega), nI_clamp (by omega : c < 2 ^ 31)]
      refine ek_if (hz _) (fun h => nm_r (nI_1 d) ?_) (fun h => ⟨vp_in_nI (by omega) (by omega), hin, ?_⟩)
      · apply ih (d + 1) m l (by omega) (by omega) ha hl
        intro m' l' a1 a2 a3
        apply K m' l' a1 a2
        intro s
        rw [a3 s]
        refine ⟨fun z => ⟨z.1, fun j h1 h2 h3 => ?_⟩, fun z => ⟨z.1, fun j h1 h2 h3 => z.2 j (by omega) h2 h3⟩⟩
        by_cases e1 : j = d
        · subst e1; rw [h] at h3; exact absurd h3 (by decide)
        · exact z.2 j (by omega) h2 h3
      · have hdv : bt (md d) (8 + v) = true := ts_nf h
        refine qx_join hv (hq c hcM) (hq d e) hcv hdv hl ha ?_
        intro m1 l1 b1 b2 b3
        refine nm_r (nI_1 d) (ih (d + 1) m1 l1 (by omega) (by omega) b1 b2 ?_)
        intro m' l' a1 a2 a3
        apply K m' l' a1 a2
        intro s
        rw [a3 s, b3 s]
        constructor
        · intro ⟨⟨z1, z2⟩, z3⟩
          refine ⟨z1, fun j h1 h2 h3 => ?_⟩
          by_cases e1 : j = d
          · subst e1; exact z2
          · exact z3 j (by omega) h2 h3
        · intro ⟨z1, z2⟩
          exact ⟨⟨z1, z2 d (Nat.le_refl d) e hdv⟩, fun j h1 h2 h3 => z2 j (by omega) h2 h3⟩
theorem qr_one0 {v : Nat} (hv : v < 8) (x : Int32) : x &&& ((1 : Int32) <<< (nI v &&& 31)) = 0 ↔ bt x v = false := by
  rw [qb_and0]
  constructor
  · intro h
    cases e : bt x v with
    | false => rfl
    | true => have := h v (by omega) e; rw [qb_one (by omega), decide_eq_true rfl] at this; exact absurd this (by decide)
  · intro h i hi e
    rw [qb_one (by omega)]
    apply decide_eq_false
    intro e1
    subst e1
    rw [h] at e; exact absurd e (by decide)
theorem qx_resolve_61 {post : SX → Prop} {k v M : Nat} {md : Nat → Int32} (hv : v < 8) (hM : M ≤ 672) (hq : ∀ j, j < M → qr_Q k (v + 1) (md j))
    : ∀ (n c m : Nat) (l : Nat → Int32), c ≤ M → M < n + c → qr_anti l m → (∀ i, i < m → qr_Q k v (l i)) →
    (∀ m' l', qr_anti l' m' → (∀ i, i < m' → qr_Q k v (l' i)) → (∀ s, qc_All l' m' s ↔ qc_All l m s ∧ ∀ i j, c ≤ i → i < M → j < M → bt (md i) v = true → bt (md j) (8 + v) = true → qr_J v (md i) (md j) s) → post (f_theirs, f_ruleCount, f_wayNow, f_clausesOf, f_clauseCount, f_tableFor, f_memoFor, f_memoSide, f_depth, f_known, f_ones, f_diagramFor, f_diagramRoot, f_nodeCount, nI m', nI M, a_kindOf, a_setP, a_setQ, a_clauses, a_table, a_memo, a_choiceOf, a_secondTry, a_knownBefore, a_onesBefore, a_nodeVariable, a_nodeLow, a_nodeHigh, a_nodeNext, a_listFirst, a_recentKey, a_recentNode, a_workF, a_workG, a_workPhase, a_workLow, a_nodeValue, l', md, a_onesOfVariable, a_tableBefore)) →
    wX_resolve_61 post ((1 : Int32) <<< (nI v &&& 31)) ((1 : Int32) <<< ((8 + nI v) &&& 31)) n (nI c) f_theirs f_ruleCount f_wayNow f_clausesOf f_clauseCount f_tableFor f_memoFor f_memoSide f_depth f_known f_ones f_diagramFor f_diagramRoot f_nodeCount (nI m) (nI M) a_kindOf a_setP a_setQ a_clauses a_table a_memo a_choiceOf a_secondTry a_knownBefore a_onesBefore a_nodeVariable a_nodeLow a_nodeHigh a_nodeNext a_listFirst a_recentKey a_recentNode a_workF a_workG a_workPhase a_workLow a_nodeValue l md a_onesOfVariable a_tableBefore := by
  intro n
  induction n with
  | zero => intro c m l h1 h2; omega
  | succ n ih =>
    intro c m l hc hf ha hl K
    refine pk_le M c (fun e => ?_) (fun e => ?_)
    · apply K m l ha hl
      intro s
      exact ⟨fun z => ⟨z, fun i j h1 h2 => by omega⟩, fun z => z.1⟩
    · refine ⟨vp_in_nI (by omega) (by omega), ?_⟩
      rw [nI_clamp (by omega)]
      refine ek_if (qr_one0 hv _) (fun h => nm_r (nI_1 c) ?_) (fun h => ⟨M + 1, ?_⟩)
      · apply ih (c + 1) m l (by omega) (by omega) ha hl
        intro m' l' a1 a2 a3
        apply K m' l' a1 a2
        intro s
        rw [a3 s]
        refine ⟨fun z => ⟨z.1, fun i j h1 h2 h3 h4 h5 => ?_⟩, fun z => ⟨z.1, fun i j h1 h2 h3 h4 h5 => z.2 i j (by omega) h2 h3 h4 h5⟩⟩
        by_cases e1 : i = c
        · subst e1; rw [h] at h4; exact absurd h4 (by decide)
        · exact z.2 i j (by omega) h2 h3 h4 h5
      · have hcv : bt (md c) v = true := ts_nf h
        refine qx_resolve_88 hv hM hq e hcv (M + 1) 0 m l (by omega) (by omega) ha hl ?_
        intro m1 l1 b1 b2 b3
        apply ih (c + 1) m1 l1 (by omega) (by omega) b1 b2
        intro m' l' a1 a2 a3
        apply K m' l' a1 a2
        intro s
        rw [a3 s, b3 s]
        constructor
        · intro ⟨⟨z1, z2⟩, z3⟩
          refine ⟨z1, fun i j h1 h2 h3 h4 h5 => ?_⟩
          by_cases e1 : i = c
          · subst e1; exact z2 j (by omega) h3 h5
          · exact z3 i j (by omega) h2 h3 h4 h5
        · intro ⟨z1, z2⟩
          exact ⟨⟨z1, fun j _ h3 h5 => z2 c j (Nat.le_refl c) e h3 hcv h5⟩, fun i j h1 h2 h3 h4 h5 => z2 i j (by omega) h2 h3 h4 h5⟩
theorem qx_resolve_18 {post : SX → Prop} {k v M : Nat} {md : Nat → Int32} (hv : v < 8) (hM : M ≤ 672) (hq : ∀ j, j < M → qr_Q k (v + 1) (md j))
    (K : ∀ m' l', qr_anti l' m' → (∀ i, i < m' → qr_Q k v (l' i)) → (∀ s, qc_All l' m' s ↔ (∀ j, j < M → bt (md j) v = false → bt (md j) (8 + v) = false → qc_cs (md j) s) ∧ ∀ i j, i < M → j < M → bt (md i) v = true → bt (md j) (8 + v) = true → qr_J v (md i) (md j) s) → post (f_theirs, f_ruleCount, f_wayNow, f_clausesOf, f_clauseCount, f_tableFor, f_memoFor, f_memoSide, f_depth, f_known, f_ones, f_diagramFor, f_diagramRoot, f_nodeCount, nI m', nI M, a_kindOf, a_setP, a_setQ, a_clauses, a_table, a_memo, a_choiceOf, a_secondTry, a_knownBefore, a_onesBefore, a_nodeVariable, a_nodeLow, a_nodeHigh, a_nodeNext, a_listFirst, a_recentKey, a_recentNode, a_workF, a_workG, a_workPhase, a_workLow, a_nodeValue, l', md, a_onesOfVariable, a_tableBefore))
    : ∀ (n c m : Nat) (l : Nat → Int32), c ≤ M → M < n + c → qr_anti l m → (∀ i, i < m → qr_Q k v (l i)) → (∀ s, qc_All l m s ↔ ∀ j, j < c → bt (md j) v = false → bt (md j) (8 + v) = false → qc_cs (md j) s) →
    wX_resolve_18 post ((1 : Int32) <<< (nI v &&& 31)) ((1 : Int32) <<< ((8 + nI v) &&& 31)) n (nI c) f_theirs f_ruleCount f_wayNow f_clausesOf f_clauseCount f_tableFor f_memoFor f_memoSide f_depth f_known f_ones f_diagramFor f_diagramRoot f_nodeCount (nI m) (nI M) a_kindOf a_setP a_setQ a_clauses a_table a_memo a_choiceOf a_secondTry a_knownBefore a_onesBefore a_nodeVariable a_nodeLow a_nodeHigh a_nodeNext a_listFirst a_recentKey a_recentNode a_workF a_workG a_workPhase a_workLow a_nodeValue l md a_onesOfVariable a_tableBefore := by
  have e8 : 8 + nI v = nI (8 + v) := nI_add 8 v
  have hz : ∀ x : Int32, x &&& (((1 : Int32) <<< (nI v &&& 31)) ||| ((1 : Int32) <<< ((8 + nI v) &&& 31))) = 0 ↔ (bt x v = false ∧ bt x (8 + v) = false) := by
    intro x
    rw [qb_and0, e8]
    constructor
    · intro h
      constructor
      · cases e : bt x v with
        | false => rfl
        | true => have := h v (by omega) e; rw [b_or, qb_one (by omega), decide_eq_true rfl] at this; exact absurd this (by simp)
      · cases e : bt x (8 + v) with
        | false => rfl
        | true => have := h (8 + v) (by omega) e; rw [b_or, qb_one (v := 8 + v) (by omega), decide_eq_true rfl, Bool.or_true] at this; exact absurd this (by simp)
    · intro ⟨h1, h2⟩ i hi e
      rw [b_or, qb_one (by omega), qb_one (by omega), decide_eq_false, decide_eq_false]
      · rfl
      · intro e1; subst e1; rw [h2] at e; exact absurd e (by decide)
      · intro e1; subst e1; rw [h1] at e; exact absurd e (by decide)
  intro n
  induction n with
  | zero => intro c m l h1 h2; omega
  | succ n ih =>
    intro c m l hc hf ha hl hA
    have hm := qr_Q_bound (by omega) hl ha
    refine pk_le M c (fun e => ?_) (fun e => ?_)
    · refine ⟨M + 1, qx_resolve_61 hv hM hq (M + 1) 0 m l (by omega) (by omega) ha hl ?_⟩
      intro m' l' a1 a2 a3
      apply K m' l' a1 a2
      intro s
      rw [a3 s, hA s, show c = M by omega]
      exact ⟨fun z => ⟨z.1, fun i j h2 h3 h4 h5 => z.2 i j (by omega) h2 h3 h4 h5⟩, fun z => ⟨z.1, fun i j _ h2 h3 h4 h5 => z.2 i j h2 h3 h4 h5⟩⟩
    · have hin : vp_in (nI c) 700 := vp_in_nI (by omega) (by omega)
      refine ⟨hin, ?_⟩
      rw [nI_clamp (by omega)]
      refine ek_if (hz _) (fun h => ⟨hin, ?_⟩) (fun h => nm_r (nI_1 c) ?_)
      · refine qx_keep (by omega) ha ?_
        intro m' l' ⟨b1, b2, b3, b4⟩
        refine nm_r (nI_1 c) (ih (c + 1) m' l' (by omega) (by omega) b2 (b4 _ hl (qr_Q_sub rfl (hq c e) (fun _ z => z) h.1 h.2)) ?_)
        intro s
        rw [b3 s, hA s]
        constructor
        · intro ⟨z1, z2⟩ j hj h1 h2
          by_cases e1 : j = c
          · subst e1; exact z2
          · exact z1 j (by omega) h1 h2
        · intro z
          exact ⟨fun j hj h1 h2 => z j (by omega) h1 h2, z c (by omega) h.1 h.2⟩
      · apply ih (c + 1) m l (by omega) (by omega) ha hl
        intro s
        rw [hA s]
        refine ⟨fun z j hj h1 h2 => ?_, fun z j hj h1 h2 => z j (by omega) h1 h2⟩
        by_cases e1 : j = c
        · subst e1; exact absurd ⟨h1, h2⟩ h
        · exact z j (by omega) h1 h2
theorem qx_resolve {post : SX → Prop} {k v m : Nat} (hv : v < 8) (hm : m ≤ 672) (hq : ∀ j, j < m → qr_Q k (v + 1) (a_left j))
    (K : ∀ m' l md, m' ≤ 672 → qr_anti l m' → (∀ i, i < m' → qr_Q k v (l i)) → (∀ s, qc_All l m' s ↔ (qc_All a_left m (qg_up s v false) ∨ qc_All a_left m (qg_up s v true))) → post (f_theirs, f_ruleCount, f_wayNow, f_clausesOf, f_clauseCount, f_tableFor, f_memoFor, f_memoSide, f_depth, f_known, f_ones, f_diagramFor, f_diagramRoot, f_nodeCount, nI m', nI m, a_kindOf, a_setP, a_setQ, a_clauses, a_table, a_memo, a_choiceOf, a_secondTry, a_knownBefore, a_onesBefore, a_nodeVariable, a_nodeLow, a_nodeHigh, a_nodeNext, a_listFirst, a_recentKey, a_recentNode, a_workF, a_workG, a_workPhase, a_workLow, a_nodeValue, l, md, a_onesOfVariable, a_tableBefore)) :
    wpX_resolve post (f_theirs, f_ruleCount, f_wayNow, f_clausesOf, f_clauseCount, f_tableFor, f_memoFor, f_memoSide, f_depth, f_known, f_ones, f_diagramFor, f_diagramRoot, f_nodeCount, nI m, f_madeCount, a_kindOf, a_setP, a_setQ, a_clauses, a_table, a_memo, a_choiceOf, a_secondTry, a_knownBefore, a_onesBefore, a_nodeVariable, a_nodeLow, a_nodeHigh, a_nodeNext, a_listFirst, a_recentKey, a_recentNode, a_workF, a_workG, a_workPhase, a_workLow, a_nodeValue, a_left, a_made, a_onesOfVariable, a_tableBefore) (nI v) := by
  refine nm_e (nm_e ?_)
  refine qx_setAside (by omega) ?_
  intro md hmd
  have hq' : ∀ j, j < m → qr_Q k (v + 1) (md j) := fun j hj => by rw [hmd j hj]; exact hq j hj
  refine ⟨m + 1, qx_resolve_18 hv hm hq' ?_ (m + 1) 0 0 a_left (by omega) (by omega) qr_anti0 (fun i hi => by omega) (fun s => ⟨fun _ j hj => by omega, fun _ => qr_all0⟩)⟩
  intro m' l h1 h2 h3
  apply K m' l md (qr_Q_bound (by omega) h2 h1) h1 h2
  intro s
  have hA : ∀ t, qc_All a_left m t ↔ qc_All md m t := fun t => ⟨fun z j hj => by rw [hmd j hj]; exact z j hj, fun z j hj => by rw [← hmd j hj]; exact z j hj⟩
  rw [h3 s, hA, hA, qc_exists (fun j hj => ⟨(hq' j hj).1, (hq' j hj).2.1⟩) hv]
  exact Iff.rfl
theorem qx_wonByResolving_111 {post : Int32 → SX → Prop} {k : Nat} {s0 : Nat → Bool} {W : Prop} (hk : k ≤ 8)
    (K : ∀ m l mc md, post (qb_p W) (f_theirs, f_ruleCount, f_wayNow, f_clausesOf, f_clauseCount, f_tableFor, f_memoFor, f_memoSide, f_depth, f_known, f_ones, f_diagramFor, f_diagramRoot, f_nodeCount, m, mc, a_kindOf, a_setP, a_setQ, a_clauses, a_table, a_memo, a_choiceOf, a_secondTry, a_knownBefore, a_onesBefore, a_nodeVariable, a_nodeLow, a_nodeHigh, a_nodeNext, a_listFirst, a_recentKey, a_recentNode, a_workF, a_workG, a_workPhase, a_workLow, a_nodeValue, l, md, a_onesOfVariable, a_tableBefore)) :
    ∀ (n w m : Nat) (l : Nat → Int32) (mc : Int32) (md : Nat → Int32), k ≤ w → w ≤ 8 → w < n + k → m ≤ 672 → qr_anti l m → (∀ i, i < m → qr_Q k w (l i)) → (W ↔ qg_G (bt f_theirs) (qc_All l m) (w - k) k s0) →
    wX_wonByResolving_111 post (nI k) n (qx_dn w) f_theirs f_ruleCount f_wayNow f_clausesOf f_clauseCount f_tableFor f_memoFor f_memoSide f_depth f_known f_ones f_diagramFor f_diagramRoot f_nodeCount (nI m) mc a_kindOf a_setP a_setQ a_clauses a_table a_memo a_choiceOf a_secondTry a_knownBefore a_onesBefore a_nodeVariable a_nodeLow a_nodeHigh a_nodeNext a_listFirst a_recentKey a_recentNode a_workF a_workG a_workPhase a_workLow a_nodeValue l md a_onesOfVariable a_tableBefore := by
  intro n
  induction n with
  | zero => intro w m l mc md h1 h2 h3; omega
  | succ n ih =>
    intro w m l mc md hkw hw hf hm ha hl hW
    refine ek_if (qx_dn_lt (by omega) (by omega)) (fun e => ?_) (fun e => ?_)
    · have e : w = k := by omega
      subst e
      rw [Nat.sub_self] at hW
      refine pk_eq m 0 (fun e1 => ?_) (fun e1 => ?_)
      · subst e1
        have := K (nI 0) l mc md
        rw [qb_p_t (hW.mpr qr_all0)] at this; exact this
      · have hn : ¬ W := by
          rw [hW]
          intro z
          obtain ⟨i, hi, h⟩ := z 0 (by omega)
          have h0 := (hl 0 (by omega)).2.2 i hi (by omega)
          rw [h0.1, h0.2] at h
          rcases h with ⟨h, _⟩ | ⟨h, _⟩
          · exact absurd h (by decide)
          · exact absurd h (by decide)
        have := K (nI m) l mc md
        rw [qb_p_f hn] at this; exact this
    · obtain ⟨v, rfl⟩ : ∃ v, w = v + 1 := ⟨w - 1, by omega⟩
      have hd : v + 1 - k = (v - k) + 1 := by omega
      have hvk : k + (v - k) = v := by omega
      have go : wX_wonByResolving_136 post (wX_wonByResolving_111 post (nI k) n) (nI k) (nI v) f_theirs f_ruleCount f_wayNow f_clausesOf f_clauseCount f_tableFor f_memoFor f_memoSide f_depth f_known f_ones f_diagramFor f_diagramRoot f_nodeCount (nI m) mc a_kindOf a_setP a_setQ a_clauses a_table a_memo a_choiceOf a_secondTry a_knownBefore a_onesBefore a_nodeVariable a_nodeLow a_nodeHigh a_nodeNext a_listFirst a_recentKey a_recentNode a_workF a_workG a_workPhase a_workLow a_nodeValue l md a_onesOfVariable a_tableBefore := by
        refine ek_if (qb_bit0 f_theirs (by omega)) (fun ht => ?_) (fun ht => ?_)
        · refine qx_resolve (k := k) (by omega) hm hl ?_
          intro m' l' md' a1 a2 a3 a4
          refine nm_r (qx_dn_m1 v) (ih v m' l' _ md' (by omega) (by omega) (by omega) a1 a2 a3 ?_)
          rw [hW, hd, qg_G_last, hvk, ht]
          apply qg_G_congr
          intro t
          rw [a4 t]; exact Iff.rfl
        · have ht' : bt f_theirs v = true := ts_nf ht
          refine qx_leaveOut (k := k) (by omega) hm hl ?_
          intro m' l' md' a1 a2 a3 a4
          refine nm_r (qx_dn_m1 v) (ih v m' l' _ md' (by omega) (by omega) (by omega) a1 a2 a3 ?_)
          rw [hW, hd, qg_G_last, hvk, ht']
          apply qg_G_congr
          intro t
          rw [a4 t]; exact Iff.rfl
      refine br_c (fun e1 => br_c (fun e2 => ?_) (fun e2 => go)) (fun e1 => go)
      have em : m = 1 := by
        have : nI m = nI 1 := e1
        rw [nI_eq (by omega) (by omega)] at this; exact this
      have hn : ¬ W := by
        rw [hW]
        intro z
        obtain ⟨t, ht⟩ := qg_G_ex z
        obtain ⟨i, hi, h⟩ := ht 0 (by omega)
        rw [e2, b_0, b_0] at h
        rcases h with ⟨h, _⟩ | ⟨h, _⟩
        · exact absurd h (by decide)
        · exact absurd h (by decide)
      have := K (nI m) l mc md
      rw [qb_p_f hn] at this; exact this
theorem qb_mask : ∀ k, k < 31 → ((1 : Int32) <<< (nI k &&& 31)) - 1 = nI (2 ^ k - 1) := by decide +kernel
theorem qb_mask_bit {k i : Nat} (hk : k < 31) : bt (((1 : Int32) <<< (nI k &&& 31)) - 1) i = decide (i < k) := by
  rw [qb_mask k hk, qb_nIs, Nat.testBit_two_pow_sub_one]
  have : 2 ^ k ≤ 2 ^ 31 := Nat.pow_le_pow_right (by decide) (by omega)
  omega
theorem qx_wonByResolving_20 {post : Int32 → SX → Prop} {k M : Nat} {vl : Int32} {W : Prop} {H : (Nat → Bool) → Prop} (hk : k ≤ 8) (hM : M ≤ 168) (hw : qc_wf a_clauses M) (hvl : qb_lt vl 8)
    (hH : ∀ s, qc_All a_clauses M s ↔ H s) (hW : W ↔ qg_G (bt f_theirs) H (8 - k) k (bt vl))
    (K : ∀ m l mc md, post (qb_p W) (f_theirs, f_ruleCount, f_wayNow, f_clausesOf, nI M, f_tableFor, f_memoFor, f_memoSide, f_depth, f_known, f_ones, f_diagramFor, f_diagramRoot, f_nodeCount, m, mc, a_kindOf, a_setP, a_setQ, a_clauses, a_table, a_memo, a_choiceOf, a_secondTry, a_knownBefore, a_onesBefore, a_nodeVariable, a_nodeLow, a_nodeHigh, a_nodeNext, a_listFirst, a_recentKey, a_recentNode, a_workF, a_workG, a_workPhase, a_workLow, a_nodeValue, l, md, a_onesOfVariable, a_tableBefore)) :
    ∀ (n c m : Nat) (l : Nat → Int32), c ≤ M → M < n + c → m ≤ c → qr_anti l m → (∀ i, i < m → qr_Q k 8 (l i)) → (∀ s : Nat → Bool, (∀ i, i < k → s i = bt vl i) → (qc_All l m s ↔ qc_All a_clauses c s)) →
    wX_wonByResolving_20 post (nI k) vl (((1 : Int32) <<< (nI k &&& 31)) - 1) n (nI c) f_theirs f_ruleCount f_wayNow f_clausesOf (nI M) f_tableFor f_memoFor f_memoSide f_depth f_known f_ones f_diagramFor f_diagramRoot f_nodeCount (nI m) f_madeCount a_kindOf a_setP a_setQ a_clauses a_table a_memo a_choiceOf a_secondTry a_knownBefore a_onesBefore a_nodeVariable a_nodeLow a_nodeHigh a_nodeNext a_listFirst a_recentKey a_recentNode a_workF a_workG a_workPhase a_workLow a_nodeValue l a_made a_onesOfVariable a_tableBefore := by
  intro n
  induction n with
  | zero => intro c m l h1 h2; omega
  | succ n ih =>
    intro c m l hc hf hm ha hl hA
    refine pk_le M c (fun e => ?_) (fun e => ?_)
    · have ec : c = M := by omega
      refine ⟨9, qx_wonByResolving_111 (s0 := bt vl) (W := W) hk K 9 8 m l _ _ hk (by omega) (by omega) (by omega) ha hl ?_⟩
      rw [hW]
      apply qg_G_on
      intro t ht
      rw [← hH t, hA t ht, ec]
    · have hin : vp_in (nI c) 170 := vp_in_nI (by omega) (by omega)
      have hcl : (nI c).toNatClampNeg = c := nI_clamp (by omega)
      have hwc := hw c e
      refine ⟨hin, nm_r (e' := a_clauses c &&& 255) (by rw [hcl]) ⟨hin, nm_r (e' := a_clauses c >>> ((8 : Int32) &&& 31)) (by rw [hcl]) ?_⟩⟩
      have hp : ∀ i, bt (a_clauses c &&& 255) i = (bt (a_clauses c) i && decide (i < 8)) := qb_m255 _
      have hn : ∀ i, bt (a_clauses c >>> ((8 : Int32) &&& 31)) i = bt (a_clauses c) (8 + i) := qb_sh8 hwc.1
      have hb : ∀ i, bt (((1 : Int32) <<< (nI k &&& 31)) - 1) i = decide (i < k) := fun i => qb_mask_bit (by omega)
      have skip : (∀ s : Nat → Bool, (∀ i, i < k → s i = bt vl i) → qc_cs (a_clauses c) s) → wX_wonByResolving_20 post (nI k) vl (((1 : Int32) <<< (nI k &&& 31)) - 1) n (nI (c + 1)) f_theirs f_ruleCount f_wayNow f_clausesOf (nI M) f_tableFor f_memoFor f_memoSide f_depth f_known f_ones f_diagramFor f_diagramRoot f_nodeCount (nI m) f_madeCount a_kindOf a_setP a_setQ a_clauses a_table a_memo a_choiceOf a_secondTry a_knownBefore a_onesBefore a_nodeVariable a_nodeLow a_nodeHigh a_nodeNext a_listFirst a_recentKey a_recentNode a_workF a_workG a_workPhase a_workLow a_nodeValue l a_made a_onesOfVariable a_tableBefore := by
        intro hs
        apply ih (c + 1) m l (by omega) (by omega) (by omega) ha hl
        intro s h
        rw [hA s h]
        refine ⟨fun z j hj => ?_, fun z j hj => z j (by omega)⟩
        by_cases e1 : j = c
        · subst e1; exact hs s h
        · exact z j (by omega)
      refine br_c (fun h1 => br_c (fun h2 => ?_) (fun h2 => nm_r (nI_1 c) (skip ?_))) (fun h1 => nm_r (nI_1 c) (skip ?_))
      · -- what is left of it
        have l1 : qb_lt ((a_clauses c &&& 255) &&& ((((1 : Int32) <<< (nI k &&& 31)) - 1) ^^^ (-1))) 8 := qb_lt_and (qb_lt_255 _)
        have l2 : qb_lt ((a_clauses c >>> ((8 : Int32) &&& 31)) &&& ((((1 : Int32) <<< (nI k &&& 31)) - 1) ^^^ (-1))) 8 := qb_lt_and (qb_sh8_lt hwc.1)
        have b1 : ∀ i, i < 8 → bt ((a_clauses c &&& 255) &&& ((((1 : Int32) <<< (nI k &&& 31)) - 1) ^^^ (-1))) i = (bt (a_clauses c) i && !decide (i < k)) := by
          intro i hi
          rw [b_and, hp, qb_not _ (by omega), hb, decide_eq_true hi, Bool.and_true]
        have b2 : ∀ i, i < 8 → bt ((a_clauses c >>> ((8 : Int32) &&& 31)) &&& ((((1 : Int32) <<< (nI k &&& 31)) - 1) ^^^ (-1))) i = (bt (a_clauses c) (8 + i) && !decide (i < k)) := by
          intro i hi
          rw [b_and, hn, qb_not _ (by omega), hb]
        have n1 : ∀ i, i < k → bt (a_clauses c) i = true → bt vl i = false := by
          intro i hi h
          have := qb_and0.mp h1 i (by omega)
          rw [b_and, hp, hb, h, decide_eq_true (by omega : i < 8), decide_eq_true hi] at this
          exact this rfl
        have n2 : ∀ i, i < k → bt (a_clauses c) (8 + i) = true → bt vl i = true := by
          intro i hi h
          have := qb_and0.mp h2 i (by omega)
          rw [b_and, hn, hb, h, decide_eq_true hi, qb_not _ (by omega)] at this
          have := this rfl
          cases e : bt vl i with
          | true => rfl
          | false => rw [e] at this; exact absurd this (by decide)
        have hred : ∀ s : Nat → Bool, (∀ i, i < k → s i = bt vl i) → (qc_cs (a_clauses c) s ↔ qc_CC ((a_clauses c &&& 255) &&& ((((1 : Int32) <<< (nI k &&& 31)) - 1) ^^^ (-1))) ((a_clauses c >>> ((8 : Int32) &&& 31)) &&& ((((1 : Int32) <<< (nI k &&& 31)) - 1) ^^^ (-1))) s) := by
          intro s hs
          constructor
          · intro ⟨i, hi, z⟩
            have hik : ¬ i < k := by
              intro hik
              rcases z with ⟨a, b⟩ | ⟨a, b⟩
              · rw [hs i hik, n1 i hik a] at b; exact absurd b (by decide)
              · rw [hs i hik, n2 i hik a] at b; exact absurd b (by decide)
            rcases z with ⟨a, b⟩ | ⟨a, b⟩
            · exact Or.inl ⟨i, hi, by rw [b1 i hi, a, decide_eq_false hik]; rfl, b⟩
            · exact Or.inr ⟨i, hi, by rw [b2 i hi, a, decide_eq_false hik]; rfl, b⟩
          · intro z
            rcases z with ⟨i, hi, a, b⟩ | ⟨i, hi, a, b⟩
            · rw [b1 i hi, Bool.and_eq_true] at a
              exact ⟨i, hi, Or.inl ⟨a.1, b⟩⟩
            · rw [b2 i hi, Bool.and_eq_true] at a
              exact ⟨i, hi, Or.inr ⟨a.1, b⟩⟩
        refine qx_keep (by omega) ha ?_
        intro m' l' ⟨c1, c2, c3, c4⟩
        refine nm_r (nI_1 c) (ih (c + 1) m' l' (by omega) (by omega) (by omega) c2 (c4 _ hl ⟨qc_mk_lt l1 l2, ?_, ?_⟩) ?_)
        · apply qc_mk_nt l1 l2
          rw [qb_and0]
          intro i hi h
          rcases Nat.lt_or_ge i 8 with h8 | h8
          · rw [b1 i h8, Bool.and_eq_true] at h
            rw [b2 i h8, hwc.2 i h8 h.1, Bool.false_and]
          · exact l2 i h8
        · intro i hi h
          have hik : i < k := by omega
          rw [qc_mk_lo l1 l2 hi, qc_mk_hi l1 l2, b1 i hi, b2 i hi, decide_eq_true hik]
          simp
        · intro s hs
          rw [c3 s, hA s hs, qc_mk_cs l1 l2, ← hred s hs]
          constructor
          · intro ⟨z1, z2⟩ j hj
            by_cases e1 : j = c
            · subst e1; exact z2
            · exact z1 j (by omega)
          · intro z
            exact ⟨fun j hj => z j (by omega), z c (by omega)⟩
      · intro s hs
        obtain ⟨i, hi, h⟩ := qb_nz h2
        rw [b_and, b_and, hn, hb, qb_not _ hi, Bool.and_eq_true, Bool.and_eq_true, decide_eq_true_eq] at h
        refine ⟨i, by omega, Or.inr ⟨h.1.1, ?_⟩⟩
        rw [hs i h.1.2]
        cases e1 : bt vl i with
        | false => rfl
        | true => rw [e1] at h; exact absurd h.2 (by decide)
      · intro s hs
        obtain ⟨i, hi, h⟩ := qb_nz h1
        rw [b_and, b_and, hp, hb, Bool.and_eq_true, Bool.and_eq_true, Bool.and_eq_true, decide_eq_true_eq] at h
        exact ⟨i, by omega, Or.inl ⟨h.1.1.1, by rw [hs i (of_decide_eq_true h.1.2)]; exact h.2⟩⟩
theorem qx_wonByResolving {post : Int32 → SX → Prop} {M k v : Nat} {rules : Int32} (hM : M ≤ 12) (hV : qc_Vs M a_kindOf a_setP a_setQ) (hr : rules ≠ -1) (hc : qc_Cache M a_kindOf a_setP a_setQ f_clausesOf f_clauseCount a_clauses)
    (hk : k ≤ 8) (hv : v < 2 ^ k)
    (K : ∀ m' cl' lc mc l md, qc_OK M a_kindOf a_setP a_setQ rules m' cl' → post (qb_p (qg_G (bt f_theirs) (qc_H M a_kindOf a_setP a_setQ rules) (8 - k) k (bt (nI v)))) (f_theirs, nI M, f_wayNow, rules, nI m', f_tableFor, f_memoFor, f_memoSide, f_depth, f_known, f_ones, f_diagramFor, f_diagramRoot, f_nodeCount, lc, mc, a_kindOf, a_setP, a_setQ, cl', a_table, a_memo, a_choiceOf, a_secondTry, a_knownBefore, a_onesBefore, a_nodeVariable, a_nodeLow, a_nodeHigh, a_nodeNext, a_listFirst, a_recentKey, a_recentNode, a_workF, a_workG, a_workPhase, a_workLow, a_nodeValue, l, md, a_onesOfVariable, a_tableBefore)) :
    wpX_wonByResolving post (f_theirs, nI M, f_wayNow, f_clausesOf, f_clauseCount, f_tableFor, f_memoFor, f_memoSide, f_depth, f_known, f_ones, f_diagramFor, f_diagramRoot, f_nodeCount, f_leftCount, f_madeCount, a_kindOf, a_setP, a_setQ, a_clauses, a_table, a_memo, a_choiceOf, a_secondTry, a_knownBefore, a_onesBefore, a_nodeVariable, a_nodeLow, a_nodeHigh, a_nodeNext, a_listFirst, a_recentKey, a_recentNode, a_workF, a_workG, a_workPhase, a_workLow, a_nodeValue, a_left, a_made, a_onesOfVariable, a_tableBefore) rules (nI k) (nI v) := by
  unfold wpX_wonByResolving
  dsimp only
  refine qx_makeClauses hM hV hr hc ?_
  intro m cl hok
  have p8 : 2 ^ k ≤ 2 ^ 8 := Nat.pow_le_pow_right (by decide) hk
  refine nm_e ⟨m + 1, qx_wonByResolving_20 (H := qc_H M a_kindOf a_setP a_setQ rules) hk hok.1 hok.2.1 (qb_lt_nI (by omega)) hok.2.2 Iff.rfl (fun lc l mc md => K m cl lc mc l md hok) (m + 1) 0 0 a_left (by omega) (by omega) (by omega) qr_anti0 (fun i hi => by omega) (fun s _ => ⟨fun _ j hj => by omega, fun _ j hj => by omega⟩)⟩
end
end
section
/-! move by move: what must be is set -/
theorem qn_cnt_set {f g : Nat → Bool} {k n : Nat} (hk : k < n) (h1 : f k = true) (h2 : g k = false) (h : ∀ i, i ≠ k → g i = f i) : qn_cnt g n + 1 = qn_cnt f n := by
  induction n with
  | zero => omega
  | succ n ih =>
    simp only [qn_cnt]
    by_cases e : k = n
    · subst e
      rw [h1, h2, qn_cnt_congr (fun i hi => h i (by omega))]
      rfl
    · rw [h n (by omega)]
      have := ih (by omega)
      omega
theorem qs_least (P : Nat → Prop) (h : ∃ k, P k) : ∃ k, P k ∧ ∀ j, j < k → ¬ P j := by
  obtain ⟨k, hk⟩ := h
  induction k using Nat.strongRecOn with
  | ind k ih =>
    rcases Classical.em (∃ j, j < k ∧ P j) with ⟨j, h1, h2⟩ | z
    · exact ih j h1 h2
    · exact ⟨k, hk, fun j h1 h2 => z ⟨j, h1, h2⟩⟩
/-- how many have no value -/
def qs_u (K : Nat → Bool) : Nat := qn_cnt (fun i => !K i) 8
theorem qs_u_set {K : Nat → Bool} {v : Nat} (hv : v < 8) (h : K v = false) : qs_u (qg_up K v true) + 1 = qs_u K := by
  apply qn_cnt_set hv
  · show (!K v) = true; rw [h]; rfl
  · show (!qg_up K v true v) = false; rw [qg_up_s]; rfl
  · intro i hi; show (!qg_up K v true i) = (!K i); rw [qg_up_n hi]
theorem qs_u_pos {K : Nat → Bool} {v : Nat} (hv : v < 8) (h : K v = false) : 0 < qs_u K := qn_cnt_pos hv (by show (!K v) = true; rw [h]; rfl)
theorem qs_lt_set {K : Int32} {kn : Int32} {v : Nat} (hv : v < 8) (h : qb_lt K 8) (hk : bt kn = qg_up (bt K) v true) : qb_lt kn 8 := by
  intro i hi
  rw [hk, qg_up_n (by omega)]; exact h i hi
section
variable {f_theirs f_ruleCount f_wayNow f_clausesOf f_clauseCount f_tableFor f_memoFor f_memoSide f_depth f_known f_ones f_diagramFor f_diagramRoot f_nodeCount f_leftCount f_madeCount : Int32} {a_kindOf a_setP a_setQ a_clauses a_memo a_choiceOf a_secondTry a_knownBefore a_onesBefore a_nodeVariable a_nodeLow a_nodeHigh a_nodeNext a_listFirst a_recentKey a_recentNode a_workF a_workG a_workPhase a_workLow a_nodeValue a_left a_made : Nat → Int32} {a_table a_onesOfVariable a_tableBefore : Nat → Int64}
theorem qx_set {post : SX → Prop} {v : Nat} (b : Bool) (hv : v < 8) (K : ∀ kn on, bt kn = qg_up (bt f_known) v true → bt on = qg_up (bt f_ones) v b → post (f_theirs, f_ruleCount, f_wayNow, f_clausesOf, f_clauseCount, f_tableFor, f_memoFor, f_memoSide, f_depth, kn, on, f_diagramFor, f_diagramRoot, f_nodeCount, f_leftCount, f_madeCount, a_kindOf, a_setP, a_setQ, a_clauses, a_table, a_memo, a_choiceOf, a_secondTry, a_knownBefore, a_onesBefore, a_nodeVariable, a_nodeLow, a_nodeHigh, a_nodeNext, a_listFirst, a_recentKey, a_recentNode, a_workF, a_workG, a_workPhase, a_workLow, a_nodeValue, a_left, a_made, a_onesOfVariable, a_tableBefore)) : wpX_set post (f_theirs, f_ruleCount, f_wayNow, f_clausesOf, f_clauseCount, f_tableFor, f_memoFor, f_memoSide, f_depth, f_known, f_ones, f_diagramFor, f_diagramRoot, f_nodeCount, f_leftCount, f_madeCount, a_kindOf, a_setP, a_setQ, a_clauses, a_table, a_memo, a_choiceOf, a_secondTry, a_knownBefore, a_onesBefore, a_nodeVariable, a_nodeLow, a_nodeHigh, a_nodeNext, a_listFirst, a_recentKey, a_recentNode, a_workF, a_workG, a_workPhase, a_workLow, a_nodeValue, a_left, a_made, a_onesOfVariable, a_tableBefore) (nI v) (qb_i b) := by
  refine nm_e ?_
  have h1 : ∀ x : Int32, bt (x ||| ((1 : Int32) <<< (nI v &&& 31))) = qg_up (bt x) v true := by
    intro x
    funext i
    rw [b_or, qb_one (by omega)]
    by_cases e : i = v
    · subst e; rw [decide_eq_true rfl, Bool.or_true, qg_up_s]
    · rw [decide_eq_false e, Bool.or_false, qg_up_n e]
  have h0 : ∀ x : Int32, bt (x &&& (((1 : Int32) <<< (nI v &&& 31)) ^^^ (-1))) = qg_up (bt x) v false := by
    intro x
    funext i
    rcases Nat.lt_or_ge i 32 with hi | hi
    · rw [b_and, qb_not _ hi, qb_one (by omega)]
      by_cases e : i = v
      · subst e; rw [decide_eq_true rfl, qg_up_s]; exact Bool.and_false _
      · rw [decide_eq_false e, qg_up_n e]; exact Bool.and_true _
    · rw [b_big hi, qg_up_n (by omega), b_big hi]
  cases b with
  | true => exact br_t rfl (nm_e (K _ _ (h1 _) (h1 _)))
  | false => exact br_f (by decide) (nm_e (K _ _ (h1 _) (h0 _)))
theorem qs_pow : ∀ o, o < 256 → o ≠ 0 → o &&& (o - 1) = 0 → (Nat.log2 o < 8 ∧ o = 2 ^ Nat.log2 o) := by decide +kernel
theorem qs_pow' {o : Nat} (h : o < 256) (h0 : o ≠ 0) (h1 : o &&& (o - 1) = 0) : ∃ v, v < 8 ∧ o = 2 ^ v := ⟨Nat.log2 o, qs_pow o h h0 h1⟩
theorem qx_forceIn_43 {post : Int32 → SX → Prop} {v : Nat} {p o : Int32} (hv : v < 8) (ho : ∀ i, i < 32 → bt o i = decide (i = v))
    (K : ∀ kn on, bt kn = qg_up (bt f_known) v true → bt on = qg_up (bt f_ones) v (bt p v) → post 1 (f_theirs, f_ruleCount, f_wayNow, f_clausesOf, f_clauseCount, f_tableFor, f_memoFor, f_memoSide, f_depth, kn, on, f_diagramFor, f_diagramRoot, f_nodeCount, f_leftCount, f_madeCount, a_kindOf, a_setP, a_setQ, a_clauses, a_table, a_memo, a_choiceOf, a_secondTry, a_knownBefore, a_onesBefore, a_nodeVariable, a_nodeLow, a_nodeHigh, a_nodeNext, a_listFirst, a_recentKey, a_recentNode, a_workF, a_workG, a_workPhase, a_workLow, a_nodeValue, a_left, a_made, a_onesOfVariable, a_tableBefore)) :
    ∀ (n j : Nat), j ≤ v → v < n + j → wX_forceIn_43 post p o f_theirs f_ruleCount f_wayNow f_clausesOf f_clauseCount f_tableFor f_memoFor f_memoSide f_depth f_known f_ones f_diagramFor f_diagramRoot f_nodeCount f_leftCount f_madeCount a_kindOf a_setP a_setQ a_clauses a_table a_memo a_choiceOf a_secondTry a_knownBefore a_onesBefore a_nodeVariable a_nodeLow a_nodeHigh a_nodeNext a_listFirst a_recentKey a_recentNode a_workF a_workG a_workPhase a_workLow a_nodeValue a_left a_made a_onesOfVariable a_tableBefore n (nI j) := by
  intro n
  induction n with
  | zero => intro j h1 h2; omega
  | succ n ih =>
    intro j hj hf
    refine ek_if (qb_bit0 o (by omega)) (fun h => nm_r (nI_1 j) (ih (j + 1) ?_ (by omega))) (fun h => ?_)
    · by_cases e : j = v
      · subst e; rw [ho j (by omega), decide_eq_true rfl] at h; exact absurd h (by decide)
      · omega
    · have e : j = v := by
        apply Classical.byContradiction
        intro e
        exact h (by rw [ho j (by omega), decide_eq_false e])
      subst e
      have hp : p &&& o = 0 ↔ bt p j = false := by
        rw [qb_and0]
        constructor
        · intro z
          cases e : bt p j with
          | false => rfl
          | true => have := z j (by omega) e; rw [ho j (by omega), decide_eq_true rfl] at this; exact absurd this (by decide)
        · intro z i hi e
          rw [ho i hi]
          apply decide_eq_false
          intro e1
          subst e1
          rw [z] at e; exact absurd e (by decide)
      refine ek_if hp (fun z => ?_) (fun z => ?_)
      · exact qx_set (post := fun u => match u with | (f_theirs, f_ruleCount, f_wayNow, f_clausesOf, f_clauseCount, f_tableFor, f_memoFor, f_memoSide, f_depth, f_known, f_ones, f_diagramFor, f_diagramRoot, f_nodeCount, f_leftCount, f_madeCount, a_kindOf, a_setP, a_setQ, a_clauses, a_table, a_memo, a_choiceOf, a_secondTry, a_knownBefore, a_onesBefore, a_nodeVariable, a_nodeLow, a_nodeHigh, a_nodeNext, a_listFirst, a_recentKey, a_recentNode, a_workF, a_workG, a_workPhase, a_workLow, a_nodeValue, a_left, a_made, a_onesOfVariable, a_tableBefore) => post 1 (f_theirs, f_ruleCount, f_wayNow, f_clausesOf, f_clauseCount, f_tableFor, f_memoFor, f_memoSide, f_depth, f_known, f_ones, f_diagramFor, f_diagramRoot, f_nodeCount, f_leftCount, f_madeCount, a_kindOf, a_setP, a_setQ, a_clauses, a_table, a_memo, a_choiceOf, a_secondTry, a_knownBefore, a_onesBefore, a_nodeVariable, a_nodeLow, a_nodeHigh, a_nodeNext, a_listFirst, a_recentKey, a_recentNode, a_workF, a_workG, a_workPhase, a_workLow, a_nodeValue, a_left, a_made, a_onesOfVariable, a_tableBefore)) false hv (fun kn on h1 h2 => K kn on h1 (by rw [z]; exact h2))
      · exact qx_set (post := fun u => match u with | (f_theirs, f_ruleCount, f_wayNow, f_clausesOf, f_clauseCount, f_tableFor, f_memoFor, f_memoSide, f_depth, f_known, f_ones, f_diagramFor, f_diagramRoot, f_nodeCount, f_leftCount, f_madeCount, a_kindOf, a_setP, a_setQ, a_clauses, a_table, a_memo, a_choiceOf, a_secondTry, a_knownBefore, a_onesBefore, a_nodeVariable, a_nodeLow, a_nodeHigh, a_nodeNext, a_listFirst, a_recentKey, a_recentNode, a_workF, a_workG, a_workPhase, a_workLow, a_nodeValue, a_left, a_made, a_onesOfVariable, a_tableBefore) => post 1 (f_theirs, f_ruleCount, f_wayNow, f_clausesOf, f_clauseCount, f_tableFor, f_memoFor, f_memoSide, f_depth, f_known, f_ones, f_diagramFor, f_diagramRoot, f_nodeCount, f_leftCount, f_madeCount, a_kindOf, a_setP, a_setQ, a_clauses, a_table, a_memo, a_choiceOf, a_secondTry, a_knownBefore, a_onesBefore, a_nodeVariable, a_nodeLow, a_nodeHigh, a_nodeNext, a_listFirst, a_recentKey, a_recentNode, a_workF, a_workG, a_workPhase, a_workLow, a_nodeValue, a_left, a_made, a_onesOfVariable, a_tableBefore)) true hv (fun kn on h1 h2 => K kn on h1 (by rw [ts_nf z]; exact h2))
theorem qx_forceIn {post : Int32 → SX → Prop} {p q : Int32} (hp : qb_lt p 8) (hq : qb_lt q 8) (hne : ¬ (p ||| q) &&& (f_theirs ^^^ (-1)) = 0) (K0 : post 0 (f_theirs, f_ruleCount, f_wayNow, f_clausesOf, f_clauseCount, f_tableFor, f_memoFor, f_memoSide, f_depth, f_known, f_ones, f_diagramFor, f_diagramRoot, f_nodeCount, f_leftCount, f_madeCount, a_kindOf, a_setP, a_setQ, a_clauses, a_table, a_memo, a_choiceOf, a_secondTry, a_knownBefore, a_onesBefore, a_nodeVariable, a_nodeLow, a_nodeHigh, a_nodeNext, a_listFirst, a_recentKey, a_recentNode, a_workF, a_workG, a_workPhase, a_workLow, a_nodeValue, a_left, a_made, a_onesOfVariable, a_tableBefore))
    (K : ∀ v kn on, v < 8 → bt f_theirs v = false → (bt p v || bt q v) = true → (∀ i, i < 8 → i ≠ v → (bt p i || bt q i) = true → v < i ∧ bt f_theirs i = true) → bt kn = qg_up (bt f_known) v true → bt on = qg_up (bt f_ones) v (bt p v) → post 1 (f_theirs, f_ruleCount, f_wayNow, f_clausesOf, f_clauseCount, f_tableFor, f_memoFor, f_memoSide, f_depth, kn, on, f_diagramFor, f_diagramRoot, f_nodeCount, f_leftCount, f_madeCount, a_kindOf, a_setP, a_setQ, a_clauses, a_table, a_memo, a_choiceOf, a_secondTry, a_knownBefore, a_onesBefore, a_nodeVariable, a_nodeLow, a_nodeHigh, a_nodeNext, a_listFirst, a_recentKey, a_recentNode, a_workF, a_workG, a_workPhase, a_workLow, a_nodeValue, a_left, a_made, a_onesOfVariable, a_tableBefore)) :
    wpX_forceIn post (f_theirs, f_ruleCount, f_wayNow, f_clausesOf, f_clauseCount, f_tableFor, f_memoFor, f_memoSide, f_depth, f_known, f_ones, f_diagramFor, f_diagramRoot, f_nodeCount, f_leftCount, f_madeCount, a_kindOf, a_setP, a_setQ, a_clauses, a_table, a_memo, a_choiceOf, a_secondTry, a_knownBefore, a_onesBefore, a_nodeVariable, a_nodeLow, a_nodeHigh, a_nodeNext, a_listFirst, a_recentKey, a_recentNode, a_workF, a_workG, a_workPhase, a_workLow, a_nodeValue, a_left, a_made, a_onesOfVariable, a_tableBefore) p q := by
  refine nm_e (nm_e ?_)
  have hb : ∀ i, i < 32 → bt ((p ||| q) &&& (f_theirs ^^^ (-1))) i = ((bt p i || bt q i) && !bt f_theirs i) := fun i hi => by rw [b_and, b_or, qb_not _ hi]
  have hlt : qb_lt ((p ||| q) &&& (f_theirs ^^^ (-1))) 8 := qb_lt_and (qb_lt_or hp hq)
  obtain ⟨o, ho, eo⟩ := qb_lt_of (by omega) hlt
  rw [eo] at hne ⊢
  have h0 : o ≠ 0 := by intro z; subst z; exact hne rfl
  have hm1 : nI o - 1 = nI (o - 1) := pk_sub (b := 1) (by omega)
  rw [hm1, nx_and]
  refine br_c (fun e1 => br_c (fun e2 => ?_) (fun _ => K0)) (fun _ => K0)
  have e1' : o &&& (o - 1) = 0 := by
    have h1 : nI (o &&& (o - 1)) = nI 0 := e1
    have h2 : o &&& (o - 1) ≤ o := Nat.and_le_left
    rw [nI_eq (by omega) (by omega)] at h1; exact h1
  obtain ⟨v, hv, ev⟩ := qs_pow' ho h0 e1'
  have hob : ∀ i, i < 32 → bt (nI o) i = decide (i = v) := by
    intro i hi
    rw [qb_nI' hi, ev, Nat.testBit_two_pow]
    by_cases e : v = i
    · rw [decide_eq_true e, decide_eq_true e.symm]
    · rw [decide_eq_false e, decide_eq_false (fun z => e z.symm)]
  have hbv := hb v (by omega)
  rw [eo, hob v (by omega), decide_eq_true rfl] at hbv
  have hbv' := (Bool.and_eq_true _ _).mp hbv.symm
  have htv : bt f_theirs v = false := by
    cases e : bt f_theirs v with
    | false => rfl
    | true => rw [e] at hbv'; exact absurd hbv'.2 (by decide)
  refine ⟨v + 1, qx_forceIn_43 hv hob (fun kn on a1 a2 => K v kn on hv htv hbv'.1 ?_ a1 a2) (v + 1) 0 (by omega) (by omega)⟩
  intro i hi hne' hbi
  have h1 := hb i (by omega)
  rw [eo, hob i (by omega), decide_eq_false hne', hbi, Bool.true_and] at h1
  have hti : bt f_theirs i = true := by
    cases e : bt f_theirs i with
    | true => rfl
    | false => rw [e] at h1; exact absurd h1 (by decide)
  refine ⟨?_, hti⟩
  have h2 := qb_and0.mp e2 i (by omega) (by rw [b_and, b_or, hbi, hti]; rfl)
  rw [ev, qb_nIs (by have : 2 ^ v ≤ 2 ^ 8 := Nat.pow_le_pow_right (by decide) (by omega)
                     omega), Nat.testBit_two_pow_sub_one, decide_eq_false_iff_not] at h2
  omega
theorem qx_setPure_2 {post : Int32 → SX → Prop} {p q : Int32} (K0 : (∀ i, i < 8 → (bt p i || bt q i) = false) → post 0 (f_theirs, f_ruleCount, f_wayNow, f_clausesOf, f_clauseCount, f_tableFor, f_memoFor, f_memoSide, f_depth, f_known, f_ones, f_diagramFor, f_diagramRoot, f_nodeCount, f_leftCount, f_madeCount, a_kindOf, a_setP, a_setQ, a_clauses, a_table, a_memo, a_choiceOf, a_secondTry, a_knownBefore, a_onesBefore, a_nodeVariable, a_nodeLow, a_nodeHigh, a_nodeNext, a_listFirst, a_recentKey, a_recentNode, a_workF, a_workG, a_workPhase, a_workLow, a_nodeValue, a_left, a_made, a_onesOfVariable, a_tableBefore))
    (K : ∀ v kn on, v < 8 → (bt p v || bt q v) = true → bt kn = qg_up (bt f_known) v true → bt on = qg_up (bt f_ones) v (bt p v == !bt f_theirs v) → post 1 (f_theirs, f_ruleCount, f_wayNow, f_clausesOf, f_clauseCount, f_tableFor, f_memoFor, f_memoSide, f_depth, kn, on, f_diagramFor, f_diagramRoot, f_nodeCount, f_leftCount, f_madeCount, a_kindOf, a_setP, a_setQ, a_clauses, a_table, a_memo, a_choiceOf, a_secondTry, a_knownBefore, a_onesBefore, a_nodeVariable, a_nodeLow, a_nodeHigh, a_nodeNext, a_listFirst, a_recentKey, a_recentNode, a_workF, a_workG, a_workPhase, a_workLow, a_nodeValue, a_left, a_made, a_onesOfVariable, a_tableBefore)) :
    ∀ (n v : Nat), v ≤ 8 → 8 < n + v → (∀ i, i < v → (bt p i || bt q i) = false) → wX_setPure_2 post p q f_theirs f_ruleCount f_wayNow f_clausesOf f_clauseCount f_tableFor f_memoFor f_memoSide f_depth f_known f_ones f_diagramFor f_diagramRoot f_nodeCount f_leftCount f_madeCount a_kindOf a_setP a_setQ a_clauses a_table a_memo a_choiceOf a_secondTry a_knownBefore a_onesBefore a_nodeVariable a_nodeLow a_nodeHigh a_nodeNext a_listFirst a_recentKey a_recentNode a_workF a_workG a_workPhase a_workLow a_nodeValue a_left a_made a_onesOfVariable a_tableBefore n (nI v) := by
  intro n
  induction n with
  | zero => intro v h1 h2; omega
  | succ n ih =>
    intro v hv hf hI
    refine pk_le 8 v (fun e => K0 (fun i hi => hI i (by omega))) (fun e => nm_e ?_)
    refine ek_if (qr_one0 (by omega) _) (fun h => nm_r (nI_1 v) (ih (v + 1) (by omega) (by omega) ?_)) (fun h => ?_)
    · rw [b_or] at h
      intro i hi
      by_cases e1 : i = v
      · subst e1; exact h
      · exact hI i (by omega)
    · rw [b_or] at h
      have hs : ∀ b, b = (bt p v == !bt f_theirs v) → wX_setPure_74 post (qb_i b) (nI v) f_theirs f_ruleCount f_wayNow f_clausesOf f_clauseCount f_tableFor f_memoFor f_memoSide f_depth f_known f_ones f_diagramFor f_diagramRoot f_nodeCount f_leftCount f_madeCount a_kindOf a_setP a_setQ a_clauses a_table a_memo a_choiceOf a_secondTry a_knownBefore a_onesBefore a_nodeVariable a_nodeLow a_nodeHigh a_nodeNext a_listFirst a_recentKey a_recentNode a_workF a_workG a_workPhase a_workLow a_nodeValue a_left a_made a_onesOfVariable a_tableBefore := by
        intro b hb
        exact qx_set (post := fun u => match u with | (f_theirs, f_ruleCount, f_wayNow, f_clausesOf, f_clauseCount, f_tableFor, f_memoFor, f_memoSide, f_depth, f_known, f_ones, f_diagramFor, f_diagramRoot, f_nodeCount, f_leftCount, f_madeCount, a_kindOf, a_setP, a_setQ, a_clauses, a_table, a_memo, a_choiceOf, a_secondTry, a_knownBefore, a_onesBefore, a_nodeVariable, a_nodeLow, a_nodeHigh, a_nodeNext, a_listFirst, a_recentKey, a_recentNode, a_workF, a_workG, a_workPhase, a_workLow, a_nodeValue, a_left, a_made, a_onesOfVariable, a_tableBefore) => post 1 (f_theirs, f_ruleCount, f_wayNow, f_clausesOf, f_clauseCount, f_tableFor, f_memoFor, f_memoSide, f_depth, f_known, f_ones, f_diagramFor, f_diagramRoot, f_nodeCount, f_leftCount, f_madeCount, a_kindOf, a_setP, a_setQ, a_clauses, a_table, a_memo, a_choiceOf, a_secondTry, a_knownBefore, a_onesBefore, a_nodeVariable, a_nodeLow, a_nodeHigh, a_nodeNext, a_listFirst, a_recentKey, a_recentNode, a_workF, a_workG, a_workPhase, a_workLow, a_nodeValue, a_left, a_made, a_onesOfVariable, a_tableBefore)) b (by omega) (fun kn on h1 h2 => K v kn on (by omega) (ts_nf h) h1 (by rw [← hb]; exact h2))
      have h60 : ∀ b, b = (bt p v == !bt f_theirs v) → wX_setPure_60 post (nI v) (qb_i b) f_theirs f_ruleCount f_wayNow f_clausesOf f_clauseCount f_tableFor f_memoFor f_memoSide f_depth f_known f_ones f_diagramFor f_diagramRoot f_nodeCount f_leftCount f_madeCount a_kindOf a_setP a_setQ a_clauses a_table a_memo a_choiceOf a_secondTry a_knownBefore a_onesBefore a_nodeVariable a_nodeLow a_nodeHigh a_nodeNext a_listFirst a_recentKey a_recentNode a_workF a_workG a_workPhase a_workLow a_nodeValue a_left a_made a_onesOfVariable a_tableBefore := by
        intro b hb
        cases b with
        | false => exact br_t rfl (hs false hb)
        | true => exact br_f (by decide) (hs true hb)
      have h37 : ∀ b, b = bt p v → wX_setPure_37 post (nI v) ((1 : Int32) <<< (nI v &&& 31)) (qb_i b) f_theirs f_ruleCount f_wayNow f_clausesOf f_clauseCount f_tableFor f_memoFor f_memoSide f_depth f_known f_ones f_diagramFor f_diagramRoot f_nodeCount f_leftCount f_madeCount a_kindOf a_setP a_setQ a_clauses a_table a_memo a_choiceOf a_secondTry a_knownBefore a_onesBefore a_nodeVariable a_nodeLow a_nodeHigh a_nodeNext a_listFirst a_recentKey a_recentNode a_workF a_workG a_workPhase a_workLow a_nodeValue a_left a_made a_onesOfVariable a_tableBefore := by
        intro b hb
        refine ek_if (qr_one0 (by omega) _) (fun ht => ?_) (fun ht => ?_)
        · cases b with
          | false => exact br_f (by decide) (h60 false (by rw [← hb, ht]; rfl))
          | true => exact br_t rfl (h60 true (by rw [← hb, ht]; rfl))
        · cases b with
          | false => exact br_t rfl (h60 true (by rw [← hb, ts_nf ht]; rfl))
          | true => exact br_f (by decide) (h60 false (by rw [← hb, ts_nf ht]; rfl))
      exact ek_if (qr_one0 (by omega) _) (fun hp => h37 false hp.symm) (fun hp => h37 true (ts_nf hp).symm)
theorem qx_setPure {post : Int32 → SX → Prop} {p q : Int32} (K0 : (∀ i, i < 8 → (bt p i || bt q i) = false) → post 0 (f_theirs, f_ruleCount, f_wayNow, f_clausesOf, f_clauseCount, f_tableFor, f_memoFor, f_memoSide, f_depth, f_known, f_ones, f_diagramFor, f_diagramRoot, f_nodeCount, f_leftCount, f_madeCount, a_kindOf, a_setP, a_setQ, a_clauses, a_table, a_memo, a_choiceOf, a_secondTry, a_knownBefore, a_onesBefore, a_nodeVariable, a_nodeLow, a_nodeHigh, a_nodeNext, a_listFirst, a_recentKey, a_recentNode, a_workF, a_workG, a_workPhase, a_workLow, a_nodeValue, a_left, a_made, a_onesOfVariable, a_tableBefore))
    (K : ∀ v kn on, v < 8 → (bt p v || bt q v) = true → bt kn = qg_up (bt f_known) v true → bt on = qg_up (bt f_ones) v (bt p v == !bt f_theirs v) → post 1 (f_theirs, f_ruleCount, f_wayNow, f_clausesOf, f_clauseCount, f_tableFor, f_memoFor, f_memoSide, f_depth, kn, on, f_diagramFor, f_diagramRoot, f_nodeCount, f_leftCount, f_madeCount, a_kindOf, a_setP, a_setQ, a_clauses, a_table, a_memo, a_choiceOf, a_secondTry, a_knownBefore, a_onesBefore, a_nodeVariable, a_nodeLow, a_nodeHigh, a_nodeNext, a_listFirst, a_recentKey, a_recentNode, a_workF, a_workG, a_workPhase, a_workLow, a_nodeValue, a_left, a_made, a_onesOfVariable, a_tableBefore)) : wpX_setPure post (f_theirs, f_ruleCount, f_wayNow, f_clausesOf, f_clauseCount, f_tableFor, f_memoFor, f_memoSide, f_depth, f_known, f_ones, f_diagramFor, f_diagramRoot, f_nodeCount, f_leftCount, f_madeCount, a_kindOf, a_setP, a_setQ, a_clauses, a_table, a_memo, a_choiceOf, a_secondTry, a_knownBefore, a_onesBefore, a_nodeVariable, a_nodeLow, a_nodeHigh, a_nodeNext, a_listFirst, a_recentKey, a_recentNode, a_workF, a_workG, a_workPhase, a_workLow, a_nodeValue, a_left, a_made, a_onesOfVariable, a_tableBefore) p q :=
  ⟨9, qx_setPure_2 K0 K 9 0 (by omega) (by omega) (fun i hi => by omega)⟩
/-- a clause against the given values -/
theorem qs_sat_bits {c kn on : Int32} (hc : qb_lt c 16) : qc_sat c (bt kn) (bt on) ↔ ¬ (((c &&& 255) &&& kn) &&& on = 0 ∧ ((c >>> ((8 : Int32) &&& 31)) &&& kn) &&& (on ^^^ (-1)) = 0) := by
  rw [qb_and0, qb_and0]
  constructor
  · intro ⟨i, hi, hk, hl⟩ ⟨h1, h2⟩
    cases e : bt on i with
    | true =>
      rw [e] at hl
      have := h1 i (by omega) (by rw [b_and, qb_m255, hk, show bt c i = true from hl, decide_eq_true hi]; rfl)
      rw [e] at this; exact absurd this (by decide)
    | false =>
      rw [e] at hl
      have := h2 i (by omega) (by rw [b_and, qb_sh8 hc, hk, show bt c (8 + i) = true from hl]; rfl)
      rw [qb_not _ (by omega), e] at this; exact absurd this (by decide)
  · intro z
    apply Classical.byContradiction
    intro hn
    apply z
    constructor
    · intro i hi h
      rw [b_and, qb_m255, Bool.and_eq_true, Bool.and_eq_true, decide_eq_true_eq] at h
      cases e : bt on i with
      | false => rfl
      | true => exact absurd ⟨i, h.1.2, h.2, by rw [e]; exact h.1.1⟩ hn
    · intro i hi h
      rw [b_and, qb_sh8 hc, Bool.and_eq_true] at h
      rw [qb_not _ hi]
      cases e : bt on i with
      | true => rfl
      | false =>
        have h8 : i < 8 := by
          rcases Nat.lt_or_ge i 8 with h8 | h8
          · exact h8
          · rw [hc (8 + i) (by omega)] at h; exact absurd h.1 (by decide)
        exact absurd ⟨i, h8, h.2, by rw [e]; exact h.1⟩ hn
/-- what an answer of the propagation says -/
def qs_ans (r : Int32) (W : Prop) (kn : Int32) : Prop := (r = 1 ∧ W) ∨ (r = 0 ∧ ¬ W) ∨ (r = 2 ∧ ∃ i, i < 8 ∧ bt kn i = false)
theorem qx_propagate_12 {post : Int32 → SX → Prop} {J : (Int32 → Int32 → Int32 → Int32 → Int32 → Int32 → Int32 → Int32 → Int32 → Int32 → Int32 → Int32 → Int32 → Int32 → Int32 → Int32 → (Nat → Int32) → (Nat → Int32) → (Nat → Int32) → (Nat → Int32) → (Nat → Int64) → (Nat → Int32) → (Nat → Int32) → (Nat → Int32) → (Nat → Int32) → (Nat → Int32) → (Nat → Int32) → (Nat → Int32) → (Nat → Int32) → (Nat → Int32) → (Nat → Int32) → (Nat → Int32) → (Nat → Int32) → (Nat → Int32) → (Nat → Int32) → (Nat → Int32) → (Nat → Int32) → (Nat → Int32) → (Nat → Int32) → (Nat → Int32) → (Nat → Int64) → (Nat → Int64) → Prop)} {m : Nat} {W : Prop} {s0 : Nat → Bool} (hm : m ≤ 168) (hw : qc_wf a_clauses m) (hkn : qb_lt f_known 8)
    (hW : W ↔ qg_GP (bt f_theirs) (bt f_known) (bt f_ones) (qc_All a_clauses m) 8 0 s0)
    (KJ : ∀ kn on, qb_lt kn 8 → qs_u (bt kn) + 1 = qs_u (bt f_known) → (W ↔ qg_GP (bt f_theirs) (bt kn) (bt on) (qc_All a_clauses m) 8 0 s0) → J f_theirs f_ruleCount f_wayNow f_clausesOf (nI m) f_tableFor f_memoFor f_memoSide f_depth kn on f_diagramFor f_diagramRoot f_nodeCount f_leftCount f_madeCount a_kindOf a_setP a_setQ a_clauses a_table a_memo a_choiceOf a_secondTry a_knownBefore a_onesBefore a_nodeVariable a_nodeLow a_nodeHigh a_nodeNext a_listFirst a_recentKey a_recentNode a_workF a_workG a_workPhase a_workLow a_nodeValue a_left a_made a_onesOfVariable a_tableBefore)
    (K : ∀ r, qs_ans r W f_known → post r (f_theirs, f_ruleCount, f_wayNow, f_clausesOf, nI m, f_tableFor, f_memoFor, f_memoSide, f_depth, f_known, f_ones, f_diagramFor, f_diagramRoot, f_nodeCount, f_leftCount, f_madeCount, a_kindOf, a_setP, a_setQ, a_clauses, a_table, a_memo, a_choiceOf, a_secondTry, a_knownBefore, a_onesBefore, a_nodeVariable, a_nodeLow, a_nodeHigh, a_nodeNext, a_listFirst, a_recentKey, a_recentNode, a_workF, a_workG, a_workPhase, a_workLow, a_nodeValue, a_left, a_made, a_onesOfVariable, a_tableBefore)) :
    ∀ (n c : Nat) (al : Bool) (x3 x4 : Int32), c ≤ m → m + 1 < n + c → (al = true → ∀ j, j < c → qc_sat (a_clauses j) (bt f_known) (bt f_ones)) → (al = false → ∃ i, i < 8 ∧ bt f_known i = false) →
      (∀ i, bt x3 i = true → i < 8 ∧ bt f_known i = false) → (∀ i, bt x4 i = true → i < 8 ∧ bt f_known i = false) →
      (∀ j i, j < c → ¬ qc_sat (a_clauses j) (bt f_known) (bt f_ones) → i < 8 → bt f_known i = false → (bt (a_clauses j) i = true → bt x3 i = true) ∧ (bt (a_clauses j) (8 + i) = true → bt x4 i = true)) →
    wX_propagate_12 post J n (qb_i al) 0 x3 x4 (nI c) f_theirs f_ruleCount f_wayNow f_clausesOf (nI m) f_tableFor f_memoFor f_memoSide f_depth f_known f_ones f_diagramFor f_diagramRoot f_nodeCount f_leftCount f_madeCount a_kindOf a_setP a_setQ a_clauses a_table a_memo a_choiceOf a_secondTry a_knownBefore a_onesBefore a_nodeVariable a_nodeLow a_nodeHigh a_nodeNext a_listFirst a_recentKey a_recentNode a_workF a_workG a_workPhase a_workLow a_nodeValue a_left a_made a_onesOfVariable a_tableBefore := by
  intro n
  induction n with
  | zero => intro c al x3 x4 h1 h2; omega
  | succ n ih =>
    intro c al x3 x4 hc hf hal hnal h3 h4 h34
    refine pk_le m c (fun e => ?_) (fun e => br_t rfl ?_)
    · -- all clauses looked at
      have ec : c = m := by omega
      subst ec
      refine br_t rfl ?_
      cases al with
      | true =>
        refine br_f (by decide) (K 1 (Or.inl ⟨rfl, ?_⟩))
        rw [hW]
        apply qg_GP_won (n := 8) _ rfl qg_Cp_0
        intro s hs j hj
        exact qc_sat_cs (hal rfl j hj) hs
      | false =>
        refine br_t rfl ?_
        have hb1 : ∀ i, i < 32 → bt (x3 &&& (x4 ^^^ (-1))) i = (bt x3 i && !bt x4 i) := fun i hi => by rw [b_and, qb_not _ hi]
        have hb2 : ∀ i, i < 32 → bt (x4 &&& (x3 ^^^ (-1))) i = (bt x4 i && !bt x3 i) := fun i hi => by rw [b_and, qb_not _ hi]
        refine qx_setPure (fun _ => br_t rfl (K 2 (Or.inr (Or.inr ⟨rfl, hnal rfl⟩)))) ?_
        intro v kn on hv hor hkn' hon
        refine br_f (by decide) ?_
        rw [hb1 v (by omega), hb2 v (by omega)] at hor
        have hkv : bt f_known v = false := by
          cases e3 : bt x3 v with
          | true => exact (h3 v e3).2
          | false =>
            cases e4 : bt x4 v with
            | true => exact (h4 v e4).2
            | false => rw [e3, e4] at hor; exact absurd hor (by decide)
        apply KJ kn on (qs_lt_set hv hkn hkn')
        · rw [hkn']; exact qs_u_set hv hkv
        · rw [hW, hkn', hon]
          rw [hb1 v (by omega)]
          have lit3 : bt x3 v = false → ∀ j, j < c → ¬ qc_sat (a_clauses j) (bt f_known) (bt f_ones) → qc_lit (a_clauses j) v true = false := by
            intro z j hj hs
            show bt (a_clauses j) v = false
            cases e5 : bt (a_clauses j) v with
            | false => rfl
            | true => have := (h34 j v hj hs hv hkv).1 e5; rw [z] at this; exact absurd this (by decide)
          have lit4 : bt x4 v = false → ∀ j, j < c → ¬ qc_sat (a_clauses j) (bt f_known) (bt f_ones) → qc_lit (a_clauses j) v false = false := by
            intro z j hj hs
            show bt (a_clauses j) (8 + v) = false
            cases e5 : bt (a_clauses j) (8 + v) with
            | false => rfl
            | true => have := (h34 j v hj hs hv hkv).2 e5; rw [z] at this; exact absurd this (by decide)
          apply qc_pure hv hkv
          · intro ht
            rw [ht]
            cases e3 : bt x3 v with
            | true =>
              cases e4 : bt x4 v with
              | true => rw [e3, e4] at hor; exact absurd hor (by decide)
              | false => exact lit4 e4
            | false => exact lit3 e3
          · intro ht
            rw [ht]
            cases e3 : bt x3 v with
            | true =>
              cases e4 : bt x4 v with
              | true => rw [e3, e4] at hor; exact absurd hor (by decide)
              | false => exact lit4 e4
            | false => exact lit3 e3
    · have hin : vp_in (nI c) 170 := vp_in_nI (by omega) (by omega)
      have hcl : (nI c).toNatClampNeg = c := nI_clamp (by omega)
      have hwc := hw c e
      refine ⟨hin, nm_r (e' := a_clauses c &&& 255) (by rw [hcl]) ⟨hin, nm_r (e' := a_clauses c >>> ((8 : Int32) &&& 31)) (by rw [hcl]) ?_⟩⟩
      have hsb := qs_sat_bits (kn := f_known) (on := f_ones) hwc.1
      have skip : qc_sat (a_clauses c) (bt f_known) (bt f_ones) → wX_propagate_12 post J n (qb_i al) 0 x3 x4 (nI (c + 1)) f_theirs f_ruleCount f_wayNow f_clausesOf (nI m) f_tableFor f_memoFor f_memoSide f_depth f_known f_ones f_diagramFor f_diagramRoot f_nodeCount f_leftCount f_madeCount a_kindOf a_setP a_setQ a_clauses a_table a_memo a_choiceOf a_secondTry a_knownBefore a_onesBefore a_nodeVariable a_nodeLow a_nodeHigh a_nodeNext a_listFirst a_recentKey a_recentNode a_workF a_workG a_workPhase a_workLow a_nodeValue a_left a_made a_onesOfVariable a_tableBefore := by
        intro hs
        apply ih (c + 1) al x3 x4 (by omega) (by omega) _ hnal h3 h4
        · intro j i hj hns hi hki
          by_cases e1 : j = c
          · subst e1; exact absurd hs hns
          · exact h34 j i (by omega) hns hi hki
        · intro z j hj
          by_cases e1 : j = c
          · subst e1; exact hs
          · exact hal z j (by omega)
      refine br_c (fun e1 => br_c (fun e2 => ?_) (fun e2 => nm_r (nI_1 c) (skip (hsb.mpr (fun z => e2 z.2))))) (fun e1 => nm_r (nI_1 c) (skip (hsb.mpr (fun z => e1 z.1))))
      have hns : ¬ qc_sat (a_clauses c) (bt f_known) (bt f_ones) := fun z => hsb.mp z ⟨e1, e2⟩
      refine nm_e (nm_e ?_)
      have hb8 : ∀ i, i < 32 → bt ((a_clauses c &&& 255) &&& (f_known ^^^ (-1))) i = (bt (a_clauses c) i && decide (i < 8) && !bt f_known i) := fun i hi => by rw [b_and, qb_m255, qb_not _ hi]
      have hb9 : ∀ i, i < 32 → bt ((a_clauses c >>> ((8 : Int32) &&& 31)) &&& (f_known ^^^ (-1))) i = (bt (a_clauses c) (8 + i) && !bt f_known i) := fun i hi => by rw [b_and, qb_sh8 hwc.1, qb_not _ hi]
      have l8 : qb_lt ((a_clauses c &&& 255) &&& (f_known ^^^ (-1))) 8 := qb_lt_and (qb_lt_255 _)
      have l9 : qb_lt ((a_clauses c >>> ((8 : Int32) &&& 31)) &&& (f_known ^^^ (-1))) 8 := qb_lt_and (qb_sh8_lt hwc.1)
      generalize hx8 : (a_clauses c &&& 255) &&& (f_known ^^^ (-1)) = x8 at hb8 l8 ⊢
      generalize hx9 : (a_clauses c >>> ((8 : Int32) &&& 31)) &&& (f_known ^^^ (-1)) = x9 at hb9 l9 ⊢
      have u8 : ∀ i, bt x8 i = true → i < 8 ∧ bt f_known i = false := by
        intro i h
        have hi : i < 8 := by
          rcases Nat.lt_or_ge i 8 with h8 | h8
          · exact h8
          · rw [l8 i h8] at h; exact absurd h (by decide)
        rw [hb8 i (by omega), Bool.and_eq_true] at h
        refine ⟨hi, ?_⟩
        cases e5 : bt f_known i with
        | false => rfl
        | true => rw [e5] at h; exact absurd h.2 (by decide)
      have u9 : ∀ i, bt x9 i = true → i < 8 ∧ bt f_known i = false := by
        intro i h
        have hi : i < 8 := by
          rcases Nat.lt_or_ge i 8 with h8 | h8
          · exact h8
          · rw [l9 i h8] at h; exact absurd h (by decide)
        rw [hb9 i (by omega), Bool.and_eq_true] at h
        refine ⟨hi, ?_⟩
        cases e5 : bt f_known i with
        | false => rfl
        | true => rw [e5] at h; exact absurd h.2 (by decide)
      have f8 : ∀ i, i < 8 → bt f_known i = false → bt x8 i = bt (a_clauses c) i := by
        intro i hi hk
        rw [hb8 i (by omega), hk, decide_eq_true hi]; simp
      have f9 : ∀ i, i < 8 → bt f_known i = false → bt x9 i = bt (a_clauses c) (8 + i) := by
        intro i hi hk
        rw [hb9 i (by omega), hk]; simp
      have litf : ∀ i, i < 8 → bt f_known i = false → (bt x8 i || bt x9 i) = false → ∀ b, qc_lit (a_clauses c) i b = false := by
        intro i hi hk h b
        rw [f8 i hi hk, f9 i hi hk, Bool.or_eq_false_iff] at h
        cases b
        · exact h.2
        · exact h.1
      refine br_c (fun e3 => K 0 (Or.inr (Or.inl ⟨rfl, ?_⟩))) (fun e3 => ?_)
      · -- nothing of ours is left in it
        rw [hW]
        apply qc_lost hwc.2 (fun s z => z c e) rfl (fun i hi => by omega)
        intro i _ hi
        cases hk : bt f_known i with
        | true => exact Or.inl ⟨rfl, qc_nsat hns hi hk⟩
        | false =>
          refine Or.inr ⟨rfl, ?_⟩
          cases hor : (bt x8 i || bt x9 i) with
          | false => exact Or.inr (litf i hi hk hor)
          | true =>
            left
            have := qb_and0.mp e3 i (by omega) (by rw [b_or]; exact hor)
            rw [qb_not _ (by omega)] at this
            cases et : bt f_theirs i with
            | true => rfl
            | false => rw [et] at this; exact absurd this (by decide)
      · have hex : ∃ i, i < 8 ∧ bt f_known i = false := by
          obtain ⟨i, hi, hb⟩ := qb_nz e3
          rw [b_and, b_or, Bool.and_eq_true, Bool.or_eq_true] at hb
          rcases hb.1 with z | z
          · exact ⟨i, u8 i z⟩
          · exact ⟨i, u9 i z⟩
        refine qx_forceIn l8 l9 e3 ?_ ?_
        · -- not forced
          refine nm_e (nm_e (nm_r (nI_1 c) ?_))
          apply ih (c + 1) false (x3 ||| x8) (x4 ||| x9) (by omega) (by omega) (fun z => by simp at z) (fun _ => hex)
          · intro i h
            rw [b_or, Bool.or_eq_true] at h
            exact h.elim (h3 i) (u8 i)
          · intro i h
            rw [b_or, Bool.or_eq_true] at h
            exact h.elim (h4 i) (u9 i)
          · intro j i hj hns' hi hki
            rw [b_or, b_or]
            by_cases e4 : j = c
            · subst e4
              rw [f8 i hi hki, f9 i hi hki]
              exact ⟨fun z => by rw [z, Bool.or_true], fun z => by rw [z, Bool.or_true]⟩
            · have := h34 j i (by omega) hns' hi hki
              exact ⟨fun z => by rw [this.1 z]; rfl, fun z => by rw [this.2 z]; rfl⟩
        · -- forced
          intro v kn on hv htv hor hoth hkn' hon
          refine nm_e (nm_e (nm_r (nI_1 c) ?_))
          have hkv : bt f_known v = false := by
            rcases (Bool.or_eq_true _ _).mp hor with z | z
            · exact (u8 v z).2
            · exact (u9 v z).2
          have hJ : J f_theirs f_ruleCount f_wayNow f_clausesOf (nI m) f_tableFor f_memoFor f_memoSide f_depth kn on f_diagramFor f_diagramRoot f_nodeCount f_leftCount f_madeCount a_kindOf a_setP a_setQ a_clauses a_table a_memo a_choiceOf a_secondTry a_knownBefore a_onesBefore a_nodeVariable a_nodeLow a_nodeHigh a_nodeNext a_listFirst a_recentKey a_recentNode a_workF a_workG a_workPhase a_workLow a_nodeValue a_left a_made a_onesOfVariable a_tableBefore := by
            apply KJ kn on (qs_lt_set hv hkn hkn')
            · rw [hkn']; exact qs_u_set hv hkv
            · rw [hW, hkn', hon]
              apply qc_force hwc.2 (fun s z => z c e) hns hv hkv htv
              · rw [f8 v hv hkv, f9 v hv hkv] at hor
                rw [f8 v hv hkv]
                cases e5 : bt (a_clauses c) v with
                | true => exact e5
                | false => rw [e5, Bool.false_or] at hor; exact hor
              · intro i hi hne hk
                cases hor' : (bt x8 i || bt x9 i) with
                | false => exact Or.inr (litf i hi hk hor')
                | true => exact Or.inl (hoth i hi hne hor')
          obtain ⟨n', rfl⟩ : ∃ n', n = n' + 1 := ⟨n - 1, by omega⟩
          refine br_c (fun _ => br_f (by decide) hJ) (fun _ => br_f (by decide) (br_f (by decide) hJ))
theorem qx_propagate_0 {post : Int32 → SX → Prop} {m : Nat} {W : Prop} {s0 : Nat → Bool} (hm : m ≤ 168) (hw : qc_wf a_clauses m) :
    ∀ (n : Nat) (kn on : Int32), qb_lt kn 8 → qs_u (bt kn) < n → (W ↔ qg_GP (bt f_theirs) (bt kn) (bt on) (qc_All a_clauses m) 8 0 s0) →
    (∀ r kn' on', qb_lt kn' 8 → qs_u (bt kn') ≤ qs_u (bt kn) → (W ↔ qg_GP (bt f_theirs) (bt kn') (bt on') (qc_All a_clauses m) 8 0 s0) → qs_ans r W kn' → post r (f_theirs, f_ruleCount, f_wayNow, f_clausesOf, nI m, f_tableFor, f_memoFor, f_memoSide, f_depth, kn', on', f_diagramFor, f_diagramRoot, f_nodeCount, f_leftCount, f_madeCount, a_kindOf, a_setP, a_setQ, a_clauses, a_table, a_memo, a_choiceOf, a_secondTry, a_knownBefore, a_onesBefore, a_nodeVariable, a_nodeLow, a_nodeHigh, a_nodeNext, a_listFirst, a_recentKey, a_recentNode, a_workF, a_workG, a_workPhase, a_workLow, a_nodeValue, a_left, a_made, a_onesOfVariable, a_tableBefore)) →
    wX_propagate_0 post n f_theirs f_ruleCount f_wayNow f_clausesOf (nI m) f_tableFor f_memoFor f_memoSide f_depth kn on f_diagramFor f_diagramRoot f_nodeCount f_leftCount f_madeCount a_kindOf a_setP a_setQ a_clauses a_table a_memo a_choiceOf a_secondTry a_knownBefore a_onesBefore a_nodeVariable a_nodeLow a_nodeHigh a_nodeNext a_listFirst a_recentKey a_recentNode a_workF a_workG a_workPhase a_workLow a_nodeValue a_left a_made a_onesOfVariable a_tableBefore := by
  intro n
  induction n with
  | zero => intro kn on _ h; omega
  | succ n ih =>
    intro kn on hkn hu hW K
    refine ⟨m + 2, qx_propagate_12 hm hw hkn hW ?_ ?_ (m + 2) 0 true 0 0 (by omega) (by omega) (fun _ j hj => by omega) (fun z => by simp at z) (fun i h => by rw [b_0] at h; exact absurd h (by decide)) (fun i h => by rw [b_0] at h; exact absurd h (by decide)) (fun j i hj => by omega)⟩
    · intro kn' on' h1 h2 h3
      apply ih kn' on' h1 (by omega) h3
      intro r kn'' on'' a1 a2 a3 a4
      exact K r kn'' on'' a1 (by omega) a3 a4
    · intro r hr
      exact K r kn on hkn (Nat.le_refl _) hW hr
theorem qx_propagate {post : Int32 → SX → Prop} {m : Nat} {W : Prop} {s0 : Nat → Bool} (hm : m ≤ 168) (hw : qc_wf a_clauses m) (hkn : qb_lt f_known 8)
    (hW : W ↔ qg_GP (bt f_theirs) (bt f_known) (bt f_ones) (qc_All a_clauses m) 8 0 s0)
    (K : ∀ r kn' on', qb_lt kn' 8 → qs_u (bt kn') ≤ qs_u (bt f_known) → (W ↔ qg_GP (bt f_theirs) (bt kn') (bt on') (qc_All a_clauses m) 8 0 s0) → qs_ans r W kn' → post r (f_theirs, f_ruleCount, f_wayNow, f_clausesOf, nI m, f_tableFor, f_memoFor, f_memoSide, f_depth, kn', on', f_diagramFor, f_diagramRoot, f_nodeCount, f_leftCount, f_madeCount, a_kindOf, a_setP, a_setQ, a_clauses, a_table, a_memo, a_choiceOf, a_secondTry, a_knownBefore, a_onesBefore, a_nodeVariable, a_nodeLow, a_nodeHigh, a_nodeNext, a_listFirst, a_recentKey, a_recentNode, a_workF, a_workG, a_workPhase, a_workLow, a_nodeValue, a_left, a_made, a_onesOfVariable, a_tableBefore)) :
    wpX_propagate post (f_theirs, f_ruleCount, f_wayNow, f_clausesOf, nI m, f_tableFor, f_memoFor, f_memoSide, f_depth, f_known, f_ones, f_diagramFor, f_diagramRoot, f_nodeCount, f_leftCount, f_madeCount, a_kindOf, a_setP, a_setQ, a_clauses, a_table, a_memo, a_choiceOf, a_secondTry, a_knownBefore, a_onesBefore, a_nodeVariable, a_nodeLow, a_nodeHigh, a_nodeNext, a_listFirst, a_recentKey, a_recentNode, a_workF, a_workG, a_workPhase, a_workLow, a_nodeValue, a_left, a_made, a_onesOfVariable, a_tableBefore) :=
  ⟨_, qx_propagate_0 hm hw (qs_u (bt f_known) + 1) f_known f_ones hkn (by omega) hW K⟩
end
end
section
/-! move by move: the search -/
theorem qs_byte : ∀ v, v < 8 → vp_nar .byte (nI v).toInt8.toInt32 = nI v := by
  intro v hv
  rw [pk_vb]
  exact (by decide +kernel : ∀ v, v < 8 → (nI v).toInt8.toInt32 = nI v) v hv
theorem qs_first {K : Nat → Bool} (h : ∃ i, i < 8 ∧ K i = false) : ∃ v, v < 8 ∧ K v = false ∧ ∀ i, i < v → K i = true := by
  obtain ⟨v, ⟨h1, h2⟩, h3⟩ := qs_least (fun i => i < 8 ∧ K i = false) h
  refine ⟨v, h1, h2, fun i hi => ?_⟩
  cases e : K i with
  | true => rfl
  | false => exact absurd ⟨by omega, e⟩ (h3 i hi)
section
variable {f_theirs f_ruleCount f_wayNow f_clausesOf f_clauseCount f_tableFor f_memoFor f_memoSide f_depth f_known f_ones f_diagramFor f_diagramRoot f_nodeCount f_leftCount f_madeCount : Int32} {a_kindOf a_setP a_setQ a_clauses a_memo a_choiceOf a_secondTry a_knownBefore a_onesBefore a_nodeVariable a_nodeLow a_nodeHigh a_nodeNext a_listFirst a_recentKey a_recentNode a_workF a_workG a_workPhase a_workLow a_nodeValue a_left a_made : Nat → Int32} {a_table a_onesOfVariable a_tableBefore : Nat → Int64}
theorem qx_choose_2 {post : SX → Prop} {v dp : Nat} (hv : v < 8) (hd : dp < 8) (hkv : bt f_known v = false) (hlt : ∀ i, i < v → bt f_known i = true)
    (K : ∀ kn on, bt kn = qg_up (bt f_known) v true → bt on = qg_up (bt f_ones) v true → post (f_theirs, f_ruleCount, f_wayNow, f_clausesOf, f_clauseCount, f_tableFor, f_memoFor, f_memoSide, nI (dp + 1), kn, on, f_diagramFor, f_diagramRoot, f_nodeCount, f_leftCount, f_madeCount, a_kindOf, a_setP, a_setQ, a_clauses, a_table, a_memo, upd a_choiceOf dp (nI v), upd a_secondTry dp 0, upd a_knownBefore dp f_known, upd a_onesBefore dp f_ones, a_nodeVariable, a_nodeLow, a_nodeHigh, a_nodeNext, a_listFirst, a_recentKey, a_recentNode, a_workF, a_workG, a_workPhase, a_workLow, a_nodeValue, a_left, a_made, a_onesOfVariable, a_tableBefore)) :
    ∀ (n j : Nat), j ≤ v → v < n + j → wX_choose_2 post f_theirs f_ruleCount f_wayNow f_clausesOf f_clauseCount f_tableFor f_memoFor f_memoSide (nI dp) f_known f_ones f_diagramFor f_diagramRoot f_nodeCount f_leftCount f_madeCount a_kindOf a_setP a_setQ a_clauses a_table a_memo a_choiceOf a_secondTry a_knownBefore a_onesBefore a_nodeVariable a_nodeLow a_nodeHigh a_nodeNext a_listFirst a_recentKey a_recentNode a_workF a_workG a_workPhase a_workLow a_nodeValue a_left a_made a_onesOfVariable a_tableBefore n (nI j) := by
  intro n
  induction n with
  | zero => intro j h1 h2; omega
  | succ n ih =>
    intro j hj hf
    refine ek_if (qb_bit0 f_known (by omega)) (fun h => ?_) (fun h => nm_r (nI_1 j) (ih (j + 1) ?_ (by omega)))
    · have e : j = v := by
        apply Classical.byContradiction
        intro e
        rw [hlt j (by omega)] at h; exact absurd h (by decide)
      subst e
      have hin : vp_in (nI dp) 8 := vp_in_nI hd (by omega)
      have hcl : (nI dp).toNatClampNeg = dp := nI_clamp (by omega)
      refine ⟨hin, nm_r (e' := upd a_choiceOf dp (nI j)) (by rw [hcl, qs_byte j hv]) ⟨hin, nm_r (e' := upd a_secondTry dp 0) (by rw [hcl]; rfl) ⟨hin, nm_r (e' := upd a_knownBefore dp f_known) (by rw [hcl]) ⟨hin, nm_r (e' := upd a_onesBefore dp f_ones) (by rw [hcl]) (nm_r (nI_1 dp) ?_)⟩⟩⟩⟩
      exact qx_set (post := fun u => match u with | (f_theirs, f_ruleCount, f_wayNow, f_clausesOf, f_clauseCount, f_tableFor, f_memoFor, f_memoSide, f_depth, f_known, f_ones, f_diagramFor, f_diagramRoot, f_nodeCount, f_leftCount, f_madeCount, a_kindOf, a_setP, a_setQ, a_clauses, a_table, a_memo, a_choiceOf, a_secondTry, a_knownBefore, a_onesBefore, a_nodeVariable, a_nodeLow, a_nodeHigh, a_nodeNext, a_listFirst, a_recentKey, a_recentNode, a_workF, a_workG, a_workPhase, a_workLow, a_nodeValue, a_left, a_made, a_onesOfVariable, a_tableBefore) => post (f_theirs, f_ruleCount, f_wayNow, f_clausesOf, f_clauseCount, f_tableFor, f_memoFor, f_memoSide, f_depth, f_known, f_ones, f_diagramFor, f_diagramRoot, f_nodeCount, f_leftCount, f_madeCount, a_kindOf, a_setP, a_setQ, a_clauses, a_table, a_memo, a_choiceOf, a_secondTry, a_knownBefore, a_onesBefore, a_nodeVariable, a_nodeLow, a_nodeHigh, a_nodeNext, a_listFirst, a_recentKey, a_recentNode, a_workF, a_workG, a_workPhase, a_workLow, a_nodeValue, a_left, a_made, a_onesOfVariable, a_tableBefore)) true hv (fun kn on h1 h2 => K kn on h1 h2)
    · by_cases e : j = v
      · subst e; exact absurd hkv h
      · omega
theorem qx_choose {post : SX → Prop} {dp : Nat} (hd : dp < 8) (hex : ∃ i, i < 8 ∧ bt f_known i = false)
    (K : ∀ v kn on, v < 8 → bt f_known v = false → (∀ i, i < v → bt f_known i = true) → bt kn = qg_up (bt f_known) v true → bt on = qg_up (bt f_ones) v true → post (f_theirs, f_ruleCount, f_wayNow, f_clausesOf, f_clauseCount, f_tableFor, f_memoFor, f_memoSide, nI (dp + 1), kn, on, f_diagramFor, f_diagramRoot, f_nodeCount, f_leftCount, f_madeCount, a_kindOf, a_setP, a_setQ, a_clauses, a_table, a_memo, upd a_choiceOf dp (nI v), upd a_secondTry dp 0, upd a_knownBefore dp f_known, upd a_onesBefore dp f_ones, a_nodeVariable, a_nodeLow, a_nodeHigh, a_nodeNext, a_listFirst, a_recentKey, a_recentNode, a_workF, a_workG, a_workPhase, a_workLow, a_nodeValue, a_left, a_made, a_onesOfVariable, a_tableBefore)) :
    wpX_choose post (f_theirs, f_ruleCount, f_wayNow, f_clausesOf, f_clauseCount, f_tableFor, f_memoFor, f_memoSide, nI dp, f_known, f_ones, f_diagramFor, f_diagramRoot, f_nodeCount, f_leftCount, f_madeCount, a_kindOf, a_setP, a_setQ, a_clauses, a_table, a_memo, a_choiceOf, a_secondTry, a_knownBefore, a_onesBefore, a_nodeVariable, a_nodeLow, a_nodeHigh, a_nodeNext, a_listFirst, a_recentKey, a_recentNode, a_workF, a_workG, a_workPhase, a_workLow, a_nodeValue, a_left, a_made, a_onesOfVariable, a_tableBefore) := by
  obtain ⟨v, h1, h2, h3⟩ := qs_first hex
  exact ⟨v + 1, qx_choose_2 h1 hd h2 h3 (fun kn on a1 a2 => K v kn on h1 h2 h3 a1 a2) (v + 1) 0 (by omega) (by omega)⟩
theorem qx_isSettled {post : Int32 → Prop} {dp v : Nat} {x : Bool} (hd : dp < 8) (hv : v < 8) (hc : a_choiceOf dp = nI v) (hs : a_secondTry dp = qb_i x) (r : Bool)
    (K : post (qb_i (x || (r == !bt f_theirs v)))) : wpX_isSettled post (f_theirs, f_ruleCount, f_wayNow, f_clausesOf, f_clauseCount, f_tableFor, f_memoFor, f_memoSide, nI (dp + 1), f_known, f_ones, f_diagramFor, f_diagramRoot, f_nodeCount, f_leftCount, f_madeCount, a_kindOf, a_setP, a_setQ, a_clauses, a_table, a_memo, a_choiceOf, a_secondTry, a_knownBefore, a_onesBefore, a_nodeVariable, a_nodeLow, a_nodeHigh, a_nodeNext, a_listFirst, a_recentKey, a_recentNode, a_workF, a_workG, a_workPhase, a_workLow, a_nodeValue, a_left, a_made, a_onesOfVariable, a_tableBefore) (qb_i r) := by
  refine nm_r (e' := nI dp) (nI_pred dp) ⟨vp_in_nI hd (by omega), ?_⟩
  have hcl : (nI dp).toNatClampNeg = dp := nI_clamp (by omega)
  have h28 : ∀ o, o = !bt f_theirs v → wX_isSettled_28 post (qb_i r) (nI dp) (qb_i o) f_theirs f_ruleCount f_wayNow f_clausesOf f_clauseCount f_tableFor f_memoFor f_memoSide (nI (dp + 1)) f_known f_ones f_diagramFor f_diagramRoot f_nodeCount f_leftCount f_madeCount a_kindOf a_setP a_setQ a_clauses a_table a_memo a_choiceOf a_secondTry a_knownBefore a_onesBefore a_nodeVariable a_nodeLow a_nodeHigh a_nodeNext a_listFirst a_recentKey a_recentNode a_workF a_workG a_workPhase a_workLow a_nodeValue a_left a_made a_onesOfVariable a_tableBefore := by
    intro o ho
    refine ⟨vp_in_nI hd (by omega), ?_⟩
    rw [hcl, hs]
    cases x with
    | true => exact br_f (by decide) K
    | false =>
      rw [← ho] at K
      refine br_t rfl ?_
      cases r with
      | true =>
        refine br_t rfl ?_
        cases o with
        | true => exact br_t rfl K
        | false => exact br_f (by decide) K
      | false =>
        refine br_f (by decide) ?_
        cases o with
        | true => exact br_f (by decide) K
        | false => exact br_t rfl K
  rw [hcl, hc]
  exact ek_if (qb_bit0 f_theirs (by omega)) (fun h => h28 true (by rw [h]; rfl)) (fun h => h28 false (by rw [ts_nf h]; rfl))
theorem qx_tryOther {post : SX → Prop} {dp v : Nat} (hd : dp < 8) (hv : v < 8) (hc : a_choiceOf dp = nI v)
    (K : ∀ kn on, bt kn = qg_up (bt (a_knownBefore dp)) v true → bt on = qg_up (bt (a_onesBefore dp)) v false → post (f_theirs, f_ruleCount, f_wayNow, f_clausesOf, f_clauseCount, f_tableFor, f_memoFor, f_memoSide, nI (dp + 1), kn, on, f_diagramFor, f_diagramRoot, f_nodeCount, f_leftCount, f_madeCount, a_kindOf, a_setP, a_setQ, a_clauses, a_table, a_memo, a_choiceOf, upd a_secondTry dp 1, a_knownBefore, a_onesBefore, a_nodeVariable, a_nodeLow, a_nodeHigh, a_nodeNext, a_listFirst, a_recentKey, a_recentNode, a_workF, a_workG, a_workPhase, a_workLow, a_nodeValue, a_left, a_made, a_onesOfVariable, a_tableBefore)) :
    wpX_tryOther post (f_theirs, f_ruleCount, f_wayNow, f_clausesOf, f_clauseCount, f_tableFor, f_memoFor, f_memoSide, nI (dp + 1), f_known, f_ones, f_diagramFor, f_diagramRoot, f_nodeCount, f_leftCount, f_madeCount, a_kindOf, a_setP, a_setQ, a_clauses, a_table, a_memo, a_choiceOf, a_secondTry, a_knownBefore, a_onesBefore, a_nodeVariable, a_nodeLow, a_nodeHigh, a_nodeNext, a_listFirst, a_recentKey, a_recentNode, a_workF, a_workG, a_workPhase, a_workLow, a_nodeValue, a_left, a_made, a_onesOfVariable, a_tableBefore) := by
  have hin : vp_in (nI dp) 8 := vp_in_nI hd (by omega)
  have hcl : (nI dp).toNatClampNeg = dp := nI_clamp (by omega)
  refine nm_r (e' := nI dp) (nI_pred dp) ⟨hin, nm_r (e' := upd a_secondTry dp 1) (by rw [hcl]; rfl) ⟨hin, nm_r (e' := a_knownBefore dp) (by rw [hcl]) ⟨hin, nm_r (e' := a_onesBefore dp) (by rw [hcl]) ⟨hin, ?_⟩⟩⟩⟩
  rw [hcl, hc]
  exact qx_set (post := fun u => match u with | (f_theirs, f_ruleCount, f_wayNow, f_clausesOf, f_clauseCount, f_tableFor, f_memoFor, f_memoSide, f_depth, f_known, f_ones, f_diagramFor, f_diagramRoot, f_nodeCount, f_leftCount, f_madeCount, a_kindOf, a_setP, a_setQ, a_clauses, a_table, a_memo, a_choiceOf, a_secondTry, a_knownBefore, a_onesBefore, a_nodeVariable, a_nodeLow, a_nodeHigh, a_nodeNext, a_listFirst, a_recentKey, a_recentNode, a_workF, a_workG, a_workPhase, a_workLow, a_nodeValue, a_left, a_made, a_onesOfVariable, a_tableBefore) => post (f_theirs, f_ruleCount, f_wayNow, f_clausesOf, f_clauseCount, f_tableFor, f_memoFor, f_memoSide, f_depth, f_known, f_ones, f_diagramFor, f_diagramRoot, f_nodeCount, f_leftCount, f_madeCount, a_kindOf, a_setP, a_setQ, a_clauses, a_table, a_memo, a_choiceOf, a_secondTry, a_knownBefore, a_onesBefore, a_nodeVariable, a_nodeLow, a_nodeHigh, a_nodeNext, a_listFirst, a_recentKey, a_recentNode, a_workF, a_workG, a_workPhase, a_workLow, a_nodeValue, a_left, a_made, a_onesOfVariable, a_tableBefore)) false hv (fun kn on h1 h2 => K kn on h1 h2)
/-- rounds for u variables without a value -/
def qs_c : Nat → Nat
  | 0 => 1
  | u + 1 => 2 * qs_c u + 1
theorem qs_c_pos (u : Nat) : 1 ≤ qs_c u := by cases u with
  | zero => exact Nat.le_refl 1
  | succ u => simp only [qs_c]; omega
/-- the lists of choices agree below a depth -/
def qs_ag (d : Nat) (ch st kb ob ch' st' kb' ob' : Nat → Int32) : Prop := ∀ i, i < d → ch' i = ch i ∧ st' i = st i ∧ kb' i = kb i ∧ ob' i = ob i
theorem qs_ag_up {d : Nat} {ch st kb ob ch' st' kb' ob' : Nat → Int32} {x y z w : Int32} (h : qs_ag (d + 1) (upd ch d x) (upd st d y) (upd kb d z) (upd ob d w) ch' st' kb' ob') : qs_ag d ch st kb ob ch' st' kb' ob' ∧ ch' d = x ∧ st' d = y ∧ kb' d = z ∧ ob' d = w := by
  refine ⟨fun i hi => ?_, ?_⟩
  · have := h i (by omega)
    rw [pk_un (by omega), pk_un (by omega), pk_un (by omega), pk_un (by omega)] at this
    exact this
  · have := h d (by omega)
    rw [pk_us, pk_us, pk_us, pk_us] at this
    exact this
theorem qx_search_19 {post : Int32 → SX → Prop} {m : Nat} {s0 : Nat → Bool} (hm : m ≤ 168) (hw : qc_wf a_clauses m) : ∀ (u n dp : Nat) (kn on : Int32) (ch st kb ob : Nat → Int32) (W : Prop),
    qb_lt kn 8 → qs_u (bt kn) ≤ u → dp + qs_u (bt kn) ≤ 8 → (W ↔ qg_GP (bt f_theirs) (bt kn) (bt on) (qc_All a_clauses m) 8 0 s0) → qs_c u ≤ n →
    (∀ n' kn' on' ch' st' kb' ob', n ≤ n' + qs_c u → qs_ag dp ch st kb ob ch' st' kb' ob' → ∃ f, wX_search_36 post (wX_search_19 post n') (qb_p W) f_theirs f_ruleCount f_wayNow f_clausesOf (nI m) f_tableFor f_memoFor f_memoSide kn' on' f_diagramFor f_diagramRoot f_nodeCount f_leftCount f_madeCount a_kindOf a_setP a_setQ a_clauses a_table a_memo ch' st' kb' ob' a_nodeVariable a_nodeLow a_nodeHigh a_nodeNext a_listFirst a_recentKey a_recentNode a_workF a_workG a_workPhase a_workLow a_nodeValue a_left a_made a_onesOfVariable a_tableBefore f (nI dp)) →
    wX_search_19 post n f_theirs f_ruleCount f_wayNow f_clausesOf (nI m) f_tableFor f_memoFor f_memoSide (nI dp) kn on f_diagramFor f_diagramRoot f_nodeCount f_leftCount f_madeCount a_kindOf a_setP a_setQ a_clauses a_table a_memo ch st kb ob a_nodeVariable a_nodeLow a_nodeHigh a_nodeNext a_listFirst a_recentKey a_recentNode a_workF a_workG a_workPhase a_workLow a_nodeValue a_left a_made a_onesOfVariable a_tableBefore := by
  intro u
  induction u with
  | zero =>
    intro n dp kn on ch st kb ob W hkn hu hd hW hn C
    obtain ⟨n1, rfl⟩ : ∃ n1, n = n1 + 1 := ⟨n - 1, by simp only [qs_c] at hn; omega⟩
    refine qx_propagate hm hw hkn hW ?_
    intro r kn1 on1 h1 h2 h3 h4
    rcases h4 with ⟨rfl, h4⟩ | ⟨rfl, h4⟩ | ⟨_, i, hi, h5⟩
    · refine br_f (by decide) ?_
      have := C n1 kn1 on1 ch st kb ob (by simp only [qs_c]; omega) (fun i _ => ⟨rfl, rfl, rfl, rfl⟩)
      rw [qb_p_t h4] at this; exact this
    · refine br_f (by decide) ?_
      have := C n1 kn1 on1 ch st kb ob (by simp only [qs_c]; omega) (fun i _ => ⟨rfl, rfl, rfl, rfl⟩)
      rw [qb_p_f h4] at this; exact this
    · have := qs_u_pos hi h5
      omega
  | succ u ih =>
    intro n dp kn on ch st kb ob W hkn hu hd hW hn C
    have hcu := qs_c_pos u
    simp only [qs_c] at hn C
    obtain ⟨n1, rfl⟩ : ∃ n1, n = n1 + 1 := ⟨n - 1, by omega⟩
    refine qx_propagate hm hw hkn hW ?_
    intro r kn1 on1 h1 h2 h3 h4
    rcases h4 with ⟨rfl, h4⟩ | ⟨rfl, h4⟩ | ⟨rfl, h5⟩
    · refine br_f (by decide) ?_
      have := C n1 kn1 on1 ch st kb ob (by omega) (fun i _ => ⟨rfl, rfl, rfl, rfl⟩)
      rw [qb_p_t h4] at this; exact this
    · refine br_f (by decide) ?_
      have := C n1 kn1 on1 ch st kb ob (by omega) (fun i _ => ⟨rfl, rfl, rfl, rfl⟩)
      rw [qb_p_f h4] at this; exact this
    · have hpos : 0 < qs_u (bt kn1) := by obtain ⟨i, hi, h6⟩ := h5; exact qs_u_pos hi h6
      refine br_t rfl ?_
      refine qx_choose (by omega) h5 ?_
      intro v kn2 on2 hv hkv hbelow hk2 ho2
      have hu2 : qs_u (bt kn2) + 1 = qs_u (bt kn1) := by rw [hk2]; exact qs_u_set hv hkv
      have hQ : W ↔ qg_Q (bt f_theirs v) (fun b => qg_GP (bt f_theirs) (qg_up (bt kn1) v true) (qg_up (bt on1) v b) (qc_All a_clauses m) 8 0 s0) := by
        rw [h3]; exact qg_GP_first hkv (Nat.zero_le v) (by omega) (fun i _ hi => hbelow i hi)
      refine ih n1 (dp + 1) kn2 on2 _ _ _ _ (qg_GP (bt f_theirs) (qg_up (bt kn1) v true) (qg_up (bt on1) v true) (qc_All a_clauses m) 8 0 s0) (qs_lt_set hv h1 hk2) (by omega) (by omega) (by rw [hk2, ho2]) (by omega) ?_
      intro n' kn' on' ch' st' kb' ob' hn' hag
      obtain ⟨hag0, hch, hst, hkb, hob⟩ := qs_ag_up hag
      generalize hW1 : qg_GP (bt f_theirs) (qg_up (bt kn1) v true) (qg_up (bt on1) v true) (qc_All a_clauses m) 8 0 s0 = W1 at hQ ⊢
      have hQ' : W ↔ qg_Q (bt f_theirs v) (fun b => match b with | true => W1 | false => qg_GP (bt f_theirs) (qg_up (bt kn1) v true) (qg_up (bt on1) v false) (qc_All a_clauses m) 8 0 s0) := by
        rw [hQ]
        apply qg_Q_congr
        intro b
        cases b with
        | true => show _ ↔ W1; rw [hW1]
        | false => exact Iff.rfl
      generalize hW0 : qg_GP (bt f_theirs) (qg_up (bt kn1) v true) (qg_up (bt on1) v false) (qc_All a_clauses m) 8 0 s0 = W0 at hQ'
      -- up to the choice, when it is settled
      have up : ∀ n'' kn'' on'' ch'' st'' kb'' ob'', n1 + 1 ≤ n'' + (2 * qs_c u + 1) → qs_ag dp ch st kb ob ch'' st'' kb'' ob'' → ∃ f, wX_search_36 post (wX_search_19 post n'') (qb_p W) f_theirs f_ruleCount f_wayNow f_clausesOf (nI m) f_tableFor f_memoFor f_memoSide kn'' on'' f_diagramFor f_diagramRoot f_nodeCount f_leftCount f_madeCount a_kindOf a_setP a_setQ a_clauses a_table a_memo ch'' st'' kb'' ob'' a_nodeVariable a_nodeLow a_nodeHigh a_nodeNext a_listFirst a_recentKey a_recentNode a_workF a_workG a_workPhase a_workLow a_nodeValue a_left a_made a_onesOfVariable a_tableBefore f (nI dp) := C
      have hstep : ∀ (n'' : Nat) (kn'' on'' : Int32) (ch'' st'' kb'' ob'' : Nat → Int32) (r : Bool) (x : Bool), ch'' dp = nI v → st'' dp = qb_i x → (x || (r == !bt f_theirs v)) = true → qb_p W = qb_i r → n1 + 1 ≤ n'' + (2 * qs_c u + 1) → qs_ag dp ch st kb ob ch'' st'' kb'' ob'' →
          ∃ f, wX_search_36 post (wX_search_19 post n'') (qb_i r) f_theirs f_ruleCount f_wayNow f_clausesOf (nI m) f_tableFor f_memoFor f_memoSide kn'' on'' f_diagramFor f_diagramRoot f_nodeCount f_leftCount f_madeCount a_kindOf a_setP a_setQ a_clauses a_table a_memo ch'' st'' kb'' ob'' a_nodeVariable a_nodeLow a_nodeHigh a_nodeNext a_listFirst a_recentKey a_recentNode a_workF a_workG a_workPhase a_workLow a_nodeValue a_left a_made a_onesOfVariable a_tableBefore f (nI (dp + 1)) := by
        intro n'' kn'' on'' ch'' st'' kb'' ob'' r x z1 z2 z3 z4 z5 z6
        obtain ⟨f, hf⟩ := C n'' kn'' on'' ch'' st'' kb'' ob'' z5 z6
        refine ⟨f + 1, br_f (nI_nle (by omega) (by omega)) (qx_isSettled (by omega) hv z1 z2 r ?_)⟩
        rw [z3]
        refine br_f (by decide) (nm_r (e' := nI dp) (nI_pred dp) ?_)
        rw [← z4]; exact hf
      -- settled, or the other value
      have hp1 : qb_p W1 = qb_i (qb_dec W1) := rfl
      rw [hp1]
      cases hset : ((qb_dec W1) == !bt f_theirs v) with
      | true =>
        apply hstep n' kn' on' ch' st' kb' ob' (qb_dec W1) false hch hst (by rw [hset]; rfl) _ (by omega) hag0
        show qb_i (qb_dec W) = qb_i (qb_dec W1)
        congr 1
        apply qb_dec_congr
        rw [hQ']
        cases ht : bt f_theirs v with
        | true =>
          rw [ht] at hset
          have hn1 : ¬ W1 := qb_dec_nf.mp (by cases h : qb_dec W1 with | false => rfl | true => rw [h] at hset; exact absurd hset (by decide))
          exact ⟨fun z => z.2, fun z => absurd z hn1⟩
        | false =>
          rw [ht] at hset
          have hy1 : W1 := qb_dec_iff.mp (by cases h : qb_dec W1 with | true => rfl | false => rw [h] at hset; exact absurd hset (by decide))
          exact ⟨fun _ => hy1, fun z => Or.inr z⟩
      | false =>
        refine ⟨1, br_f (nI_nle (by omega) (by omega)) (qx_isSettled (by omega) hv hch (x := false) hst (qb_dec W1) ?_)⟩
        rw [hset]
        refine br_t rfl (br_f (nI_ne0 (by omega) (by omega)) (qx_tryOther (by omega) hv hch ?_))
        intro kn3 on3 hk3 ho3
        rw [hkb] at hk3
        rw [hob] at ho3
        have hu3 : qs_u (bt kn3) + 1 = qs_u (bt kn1) := by rw [hk3]; exact qs_u_set hv hkv
        refine ih n' (dp + 1) kn3 on3 ch' (upd st' dp 1) kb' ob' W0 (qs_lt_set hv h1 hk3) (by omega) (by omega) (by rw [hk3, ho3, hW0]) (by omega) ?_
        intro n'' kn'' on'' ch'' st'' kb'' ob'' hn'' hag''
        have hd' := hag'' dp (by omega)
        rw [pk_us] at hd'
        apply hstep n'' kn'' on'' ch'' st'' kb'' ob'' (qb_dec W0) true (by rw [hd'.1]; exact hch) hd'.2.1 rfl _ (by omega)
        · intro i hi
          have a1 := hag'' i (by omega)
          rw [pk_un (by omega)] at a1
          have a2 := hag0 i hi
          exact ⟨a1.1.trans a2.1, a1.2.1.trans a2.2.1, a1.2.2.1.trans a2.2.2.1, a1.2.2.2.trans a2.2.2.2⟩
        · show qb_i (qb_dec W) = qb_i (qb_dec W0)
          congr 1
          apply qb_dec_congr
          rw [hQ']
          cases ht : bt f_theirs v with
          | true =>
            rw [ht] at hset
            have hy1 : W1 := qb_dec_iff.mp (by cases h : qb_dec W1 with | true => rfl | false => rw [h] at hset; exact absurd hset (by decide))
            exact ⟨fun z => z.1, fun z => ⟨z, hy1⟩⟩
          | false =>
            rw [ht] at hset
            have hn1 : ¬ W1 := qb_dec_nf.mp (by cases h : qb_dec W1 with | false => rfl | true => rw [h] at hset; exact absurd hset (by decide))
            exact ⟨fun z => z.elim id (fun y => absurd y hn1), fun z => Or.inl z⟩
theorem qs_u_le (K : Nat → Bool) : qs_u K ≤ 8 := qn_cnt_le _ _
theorem qx_search {post : Int32 → SX → Prop} {m k : Nat} {vl : Int32} (hm : m ≤ 168) (hw : qc_wf a_clauses m) (hk : k ≤ 8)
    (K : ∀ dp kn on ch st kb ob, post (qb_p (qg_G (bt f_theirs) (qc_All a_clauses m) (8 - k) k (bt vl))) (f_theirs, f_ruleCount, f_wayNow, f_clausesOf, nI m, f_tableFor, f_memoFor, f_memoSide, dp, kn, on, f_diagramFor, f_diagramRoot, f_nodeCount, f_leftCount, f_madeCount, a_kindOf, a_setP, a_setQ, a_clauses, a_table, a_memo, ch, st, kb, ob, a_nodeVariable, a_nodeLow, a_nodeHigh, a_nodeNext, a_listFirst, a_recentKey, a_recentNode, a_workF, a_workG, a_workPhase, a_workLow, a_nodeValue, a_left, a_made, a_onesOfVariable, a_tableBefore)) :
    wpX_search post (f_theirs, f_ruleCount, f_wayNow, f_clausesOf, nI m, f_tableFor, f_memoFor, f_memoSide, f_depth, f_known, f_ones, f_diagramFor, f_diagramRoot, f_nodeCount, f_leftCount, f_madeCount, a_kindOf, a_setP, a_setQ, a_clauses, a_table, a_memo, a_choiceOf, a_secondTry, a_knownBefore, a_onesBefore, a_nodeVariable, a_nodeLow, a_nodeHigh, a_nodeNext, a_listFirst, a_recentKey, a_recentNode, a_workF, a_workG, a_workPhase, a_workLow, a_nodeValue, a_left, a_made, a_onesOfVariable, a_tableBefore) (nI k) vl := by
  refine nm_e ⟨qs_c 8, ?_⟩
  have hkn : qb_lt (((1 : Int32) <<< (nI k &&& 31)) - 1) 8 := fun i hi => by rw [qb_mask_bit (by omega), decide_eq_false (by omega)]
  refine qx_search_19 (s0 := fun _ => false) hm hw 8 (qs_c 8) 0 _ vl a_choiceOf a_secondTry a_knownBefore a_onesBefore (qg_G (bt f_theirs) (qc_All a_clauses m) (8 - k) k (bt vl)) hkn (qs_u_le _) (by have := qs_u_le (bt (((1 : Int32) <<< (nI k &&& 31)) - 1)); omega) ?_ (Nat.le_refl _) ?_
  · have h8 : k + (8 - k) = 8 := by omega
    have := qg_GP_start (th := bt f_theirs) (K := bt (((1 : Int32) <<< (nI k &&& 31)) - 1)) (O := bt vl) (P := qc_All a_clauses m) (e := k) (d := 8 - k) (k := 0) (s := fun _ => false) ?_ ?_ (fun i hi => by omega)
    · rw [h8, Nat.zero_add] at this; exact this.symm
    · intro i _ hi
      rw [qb_mask_bit (by omega), Nat.zero_add]
    · rw [Nat.zero_add, h8]; exact qc_All_dep
  · intro n' kn' on' ch' st' kb' ob' _ _
    exact ⟨1, br_t (by decide) (br_t rfl (K _ kn' on' ch' st' kb' ob'))⟩
end
end
section
/-! how many by search; what has been found out about starts -/
theorem qg_free_cnt (K : Nat → Bool) : ∀ d k, qg_free K d k + qn_cnt (fun i => K (k + i)) d = d := by
  intro d
  induction d with
  | zero => intro k; rfl
  | succ d ih =>
    intro k
    have h := ih (k + 1)
    have e : ∀ i, K (k + 1 + i) = K (k + (i + 1)) := fun i => by rw [Nat.add_assoc, Nat.add_comm 1 i]
    simp only [e] at h
    rw [qn_cnt_shift]
    simp only [qg_free, Nat.add_zero]
    cases K k
    · simp only [Bool.not_false, Bool.toNat_true, Bool.toNat_false]; omega
    · simp only [Bool.not_true, Bool.toNat_true, Bool.toNat_false]; omega
theorem qg_free_cnt0 (K : Nat → Bool) : qg_free K 8 0 + qn_cnt K 8 = 8 := by
  have h := qg_free_cnt K 8 0
  simp only [Nat.zero_add] at h
  exact h
theorem qs_one_shl : ∀ f, f < 31 → (1 : Int32) <<< (nI f &&& 31) = nI (2 ^ f) := by decide +kernel
def qs_st (r : Int32) (cl : Nat → Int32) (m : Nat) (kn on : Int32) : Prop :=
  (r = 1 ∧ ∀ s, qg_Cp (bt kn) (bt on) 8 s → qc_All cl m s) ∨ (r = 0 ∧ ∀ s, qg_Cp (bt kn) (bt on) 8 s → ¬ qc_All cl m s) ∨ (r = 2 ∧ ∃ i, i < 8 ∧ bt kn i = false)
section
variable {f_theirs f_ruleCount f_wayNow f_clausesOf f_clauseCount f_tableFor f_memoFor f_memoSide f_depth f_known f_ones f_diagramFor f_diagramRoot f_nodeCount f_leftCount f_madeCount : Int32} {a_kindOf a_setP a_setQ a_clauses a_memo a_choiceOf a_secondTry a_knownBefore a_onesBefore a_nodeVariable a_nodeLow a_nodeHigh a_nodeNext a_listFirst a_recentKey a_recentNode a_workF a_workG a_workPhase a_workLow a_nodeValue a_left a_made : Nat → Int32} {a_table a_onesOfVariable a_tableBefore : Nat → Int64}
theorem qx_stateNow_4 {post : Int32 → Prop} {m : Nat} (hm : m ≤ 168) (hw : qc_wf a_clauses m) (K : ∀ r, qs_st r a_clauses m f_known f_ones → post r) :
    ∀ (n c : Nat) (al : Bool), c ≤ m → m < n + c → (al = true → ∀ j, j < c → qc_sat (a_clauses j) (bt f_known) (bt f_ones)) → (al = false → ∃ i, i < 8 ∧ bt f_known i = false) →
    wX_stateNow_4 post f_theirs f_ruleCount f_wayNow f_clausesOf (nI m) f_tableFor f_memoFor f_memoSide f_depth f_known f_ones f_diagramFor f_diagramRoot f_nodeCount f_leftCount f_madeCount a_kindOf a_setP a_setQ a_clauses a_table a_memo a_choiceOf a_secondTry a_knownBefore a_onesBefore a_nodeVariable a_nodeLow a_nodeHigh a_nodeNext a_listFirst a_recentKey a_recentNode a_workF a_workG a_workPhase a_workLow a_nodeValue a_left a_made a_onesOfVariable a_tableBefore n (qb_i al) (nI c) := by
  intro n
  induction n with
  | zero => intro c al h1 h2; omega
  | succ n ih =>
    intro c al hc hf hal hnal
    refine pk_le m c (fun e => ?_) (fun e => ?_)
    · cases al with
      | true => exact br_f (by decide) (K 1 (Or.inl ⟨rfl, fun s hs j hj => qc_sat_cs (hal rfl j (by omega)) hs⟩))
      | false => exact br_t rfl (K 2 (Or.inr (Or.inr ⟨rfl, hnal rfl⟩)))
    · have hin : vp_in (nI c) 170 := vp_in_nI (by omega) (by omega)
      have hcl : (nI c).toNatClampNeg = c := nI_clamp (by omega)
      have hwc := hw c e
      refine ⟨hin, nm_r (e' := a_clauses c &&& 255) (by rw [hcl]) ⟨hin, nm_r (e' := a_clauses c >>> ((8 : Int32) &&& 31)) (by rw [hcl]) ?_⟩⟩
      have hsb := qs_sat_bits (kn := f_known) (on := f_ones) hwc.1
      have skip : qc_sat (a_clauses c) (bt f_known) (bt f_ones) → wX_stateNow_4 post f_theirs f_ruleCount f_wayNow f_clausesOf (nI m) f_tableFor f_memoFor f_memoSide f_depth f_known f_ones f_diagramFor f_diagramRoot f_nodeCount f_leftCount f_madeCount a_kindOf a_setP a_setQ a_clauses a_table a_memo a_choiceOf a_secondTry a_knownBefore a_onesBefore a_nodeVariable a_nodeLow a_nodeHigh a_nodeNext a_listFirst a_recentKey a_recentNode a_workF a_workG a_workPhase a_workLow a_nodeValue a_left a_made a_onesOfVariable a_tableBefore n (qb_i al) (nI (c + 1)) := by
        intro hs
        apply ih (c + 1) al (by omega) (by omega) _ hnal
        intro z j hj
        by_cases e1 : j = c
        · subst e1; exact hs
        · exact hal z j (by omega)
      refine br_c (fun e1 => br_c (fun e2 => ?_) (fun e2 => nm_r (nI_1 c) (skip (hsb.mpr (fun z => e2 z.2))))) (fun e1 => nm_r (nI_1 c) (skip (hsb.mpr (fun z => e1 z.1))))
      have hns : ¬ qc_sat (a_clauses c) (bt f_known) (bt f_ones) := fun z => hsb.mp z ⟨e1, e2⟩
      refine br_c (fun e3 => K 0 (Or.inr (Or.inl ⟨rfl, ?_⟩))) (fun e3 => nm_r (nI_1 c) ?_)
      · intro s hs hA
        apply hns
        obtain ⟨i, hi, hl⟩ := qc_cs_lit.mp (hA c e)
        have hk : bt f_known i = true := by
          apply qb_andn.mp e3 i (by omega)
          rw [b_or, qb_m255, qb_sh8 hwc.1, decide_eq_true hi, Bool.and_true]
          cases hsi : s i with
          | true => rw [hsi] at hl; rw [show bt (a_clauses c) i = true from hl]; rfl
          | false => rw [hsi] at hl; rw [show bt (a_clauses c) (8 + i) = true from hl, Bool.or_true]
        exact ⟨i, hi, hk, by rw [← hs i hi hk]; exact hl⟩
      · apply ih (c + 1) false (by omega) (by omega) (fun z => by simp at z)
        intro _
        obtain ⟨i, hi, hb⟩ := qb_nz e3
        rw [b_and, b_or, qb_m255, qb_sh8 hwc.1, qb_not _ hi, Bool.and_eq_true] at hb
        have h8 : i < 8 := by
          rcases Nat.lt_or_ge i 8 with h8 | h8
          · exact h8
          · rw [hwc.1 (8 + i) (by omega), decide_eq_false (by omega)] at hb
            simp at hb
        refine ⟨i, h8, ?_⟩
        cases e5 : bt f_known i with
        | false => rfl
        | true => rw [e5] at hb; exact absurd hb.2 (by decide)
theorem qx_countBySearch_22 {post : Int32 → SX → Prop} {m : Nat} {s0 : Nat → Bool} (hm : m ≤ 168) (hw : qc_wf a_clauses m) : ∀ (u n dp t : Nat) (kn on : Int32) (ch st kb ob : Nat → Int32),
    qb_lt kn 8 → qs_u (bt kn) ≤ u → dp + qs_u (bt kn) ≤ 8 → qs_c u ≤ n →
    (∀ n' kn' on' ch' st' kb' ob', n ≤ n' + qs_c u → qs_ag dp ch st kb ob ch' st' kb' ob' → ∃ f, wX_countBySearch_64 post (wX_countBySearch_22 post n') (nI (t + qg_CP (bt kn) (bt on) (qc_All a_clauses m) 8 0 s0)) f_theirs f_ruleCount f_wayNow f_clausesOf (nI m) f_tableFor f_memoFor f_memoSide kn' on' f_diagramFor f_diagramRoot f_nodeCount f_leftCount f_madeCount a_kindOf a_setP a_setQ a_clauses a_table a_memo ch' st' kb' ob' a_nodeVariable a_nodeLow a_nodeHigh a_nodeNext a_listFirst a_recentKey a_recentNode a_workF a_workG a_workPhase a_workLow a_nodeValue a_left a_made a_onesOfVariable a_tableBefore f (nI dp)) →
    wX_countBySearch_22 post n (nI t) f_theirs f_ruleCount f_wayNow f_clausesOf (nI m) f_tableFor f_memoFor f_memoSide (nI dp) kn on f_diagramFor f_diagramRoot f_nodeCount f_leftCount f_madeCount a_kindOf a_setP a_setQ a_clauses a_table a_memo ch st kb ob a_nodeVariable a_nodeLow a_nodeHigh a_nodeNext a_listFirst a_recentKey a_recentNode a_workF a_workG a_workPhase a_workLow a_nodeValue a_left a_made a_onesOfVariable a_tableBefore := by
  intro u
  induction u with
  | zero =>
    intro n dp t kn on ch st kb ob hkn hu hd hn C
    obtain ⟨n1, rfl⟩ : ∃ n1, n = n1 + 1 := ⟨n - 1, by simp only [qs_c] at hn; omega⟩
    refine ⟨m + 1, qx_stateNow_4 hm hw ?_ (m + 1) 0 true (by omega) (by omega) (fun _ j hj => by omega) (fun z => by simp at z)⟩
    intro r hr
    have C' := C n1 kn on ch st kb ob (by simp only [qs_c]; omega) (fun i _ => ⟨rfl, rfl, rfl, rfl⟩)
    have h8 := qn_cnt_le (bt kn) 8
    rcases hr with ⟨rfl, hr⟩ | ⟨rfl, hr⟩ | ⟨_, i, hi, h5⟩
    · refine br_f (by decide) (qx_onesIn hkn (nm_r (e' := nI (8 - qn_cnt (bt kn) 8)) (pk_sub (a := 8) h8) (br_t rfl (nm_r (e' := nI (t + qg_CP (bt kn) (bt on) (qc_All a_clauses m) 8 0 s0)) ?_ C'))))
      have hf := qg_free_cnt0 (bt kn)
      rw [qg_CP_won (n := 8) hr rfl qg_Cp_0, qs_one_shl _ (by omega), nI_add, show qg_free (bt kn) 8 0 = 8 - qn_cnt (bt kn) 8 by omega]
    · refine br_f (by decide) (qx_onesIn hkn (nm_r (e' := nI (8 - qn_cnt (bt kn) 8)) (pk_sub (a := 8) h8) (br_f (by decide) ?_)))
      rw [qg_CP_lost (n := 8) hr rfl qg_Cp_0] at C'
      exact C'
    · have := qs_u_pos hi h5
      omega
  | succ u ih =>
    intro n dp t kn on ch st kb ob hkn hu hd hn C
    have hcu := qs_c_pos u
    simp only [qs_c] at hn C
    obtain ⟨n1, rfl⟩ : ∃ n1, n = n1 + 1 := ⟨n - 1, by omega⟩
    refine ⟨m + 1, qx_stateNow_4 hm hw ?_ (m + 1) 0 true (by omega) (by omega) (fun _ j hj => by omega) (fun z => by simp at z)⟩
    intro r hr
    have h8 := qn_cnt_le (bt kn) 8
    rcases hr with ⟨rfl, hr⟩ | ⟨rfl, hr⟩ | ⟨rfl, h5⟩
    · have C' := C n1 kn on ch st kb ob (by omega) (fun i _ => ⟨rfl, rfl, rfl, rfl⟩)
      refine br_f (by decide) (qx_onesIn hkn (nm_r (e' := nI (8 - qn_cnt (bt kn) 8)) (pk_sub (a := 8) h8) (br_t rfl (nm_r (e' := nI (t + qg_CP (bt kn) (bt on) (qc_All a_clauses m) 8 0 s0)) ?_ C'))))
      have hf := qg_free_cnt0 (bt kn)
      rw [qg_CP_won (n := 8) hr rfl qg_Cp_0, qs_one_shl _ (by omega), nI_add, show qg_free (bt kn) 8 0 = 8 - qn_cnt (bt kn) 8 by omega]
    · have C' := C n1 kn on ch st kb ob (by omega) (fun i _ => ⟨rfl, rfl, rfl, rfl⟩)
      refine br_f (by decide) (qx_onesIn hkn (nm_r (e' := nI (8 - qn_cnt (bt kn) 8)) (pk_sub (a := 8) h8) (br_f (by decide) ?_)))
      rw [qg_CP_lost (n := 8) hr rfl qg_Cp_0] at C'
      exact C'
    · have hpos : 0 < qs_u (bt kn) := by obtain ⟨i, hi, h6⟩ := h5; exact qs_u_pos hi h6
      refine br_t rfl (qx_choose (by omega) h5 ?_)
      intro v kn2 on2 hv hkv hbelow hk2 ho2
      have hu2 : qs_u (bt kn2) + 1 = qs_u (bt kn) := by rw [hk2]; exact qs_u_set hv hkv
      refine ih n1 (dp + 1) t kn2 on2 _ _ _ _ (qs_lt_set hv hkn hk2) (by omega) (by omega) (by omega) ?_
      intro n' kn' on' ch' st' kb' ob' hn' hag
      obtain ⟨hag0, hch, hst, hkb, hob⟩ := qs_ag_up hag
      have hin : vp_in (nI (dp + 1) - 1) 8 := by rw [nI_pred]; exact vp_in_nI (by omega) (by omega)
      have hcl : (nI (dp + 1) - 1).toNatClampNeg = dp := by rw [nI_pred]; exact nI_clamp (by omega)
      refine ⟨1, br_f (nI_nle (by omega) (by omega)) ⟨hin, ?_⟩⟩
      rw [hcl]
      refine br_t hst (br_f (nI_ne0 (by omega) (by omega)) (qx_tryOther (by omega) hv hch ?_))
      intro kn3 on3 hk3 ho3
      rw [hkb] at hk3
      rw [hob] at ho3
      have hu3 : qs_u (bt kn3) + 1 = qs_u (bt kn) := by rw [hk3]; exact qs_u_set hv hkv
      refine ih n' (dp + 1) _ kn3 on3 ch' (upd st' dp 1) kb' ob' (qs_lt_set hv hkn hk3) (by omega) (by omega) (by omega) ?_
      intro n'' kn'' on'' ch'' st'' kb'' ob'' hn'' hag''
      have hd' := hag'' dp (by omega)
      rw [pk_us] at hd'
      obtain ⟨f, hf⟩ := C n'' kn'' on'' ch'' st'' kb'' ob'' (by omega) (by
        intro i hi
        have a1 := hag'' i (by omega)
        rw [pk_un (by omega)] at a1
        have a2 := hag0 i hi
        exact ⟨a1.1.trans a2.1, a1.2.1.trans a2.2.1, a1.2.2.1.trans a2.2.2.1, a1.2.2.2.trans a2.2.2.2⟩)
      refine ⟨f + 1, br_f (nI_nle (by omega) (by omega)) ⟨hin, ?_⟩⟩
      rw [hcl]
      refine br_f (by rw [hd'.2.1]; decide) (nm_r (nI_pred dp) ?_)
      rw [qg_CP_first hkv (Nat.zero_le v) (by omega) (fun i _ hi => hbelow i hi), ← hk2, ← ho2] at hf
      rw [hk3, ho3, ← hk2, Nat.add_assoc]
      exact hf
theorem qx_countBySearch {post : Int32 → SX → Prop} {M : Nat} {rules : Int32} (hM : M ≤ 12) (hV : qc_Vs M a_kindOf a_setP a_setQ) (hr : rules ≠ -1) (hc : qc_Cache M a_kindOf a_setP a_setQ f_clausesOf f_clauseCount a_clauses)
    (K : ∀ m' cl' dp kn on ch st kb ob, qc_OK M a_kindOf a_setP a_setQ rules m' cl' → post (nI (qg_C (qc_H M a_kindOf a_setP a_setQ rules) 8 0 (fun _ => false))) (f_theirs, nI M, f_wayNow, rules, nI m', f_tableFor, f_memoFor, f_memoSide, dp, kn, on, f_diagramFor, f_diagramRoot, f_nodeCount, f_leftCount, f_madeCount, a_kindOf, a_setP, a_setQ, cl', a_table, a_memo, ch, st, kb, ob, a_nodeVariable, a_nodeLow, a_nodeHigh, a_nodeNext, a_listFirst, a_recentKey, a_recentNode, a_workF, a_workG, a_workPhase, a_workLow, a_nodeValue, a_left, a_made, a_onesOfVariable, a_tableBefore)) :
    wpX_countBySearch post (f_theirs, nI M, f_wayNow, f_clausesOf, f_clauseCount, f_tableFor, f_memoFor, f_memoSide, f_depth, f_known, f_ones, f_diagramFor, f_diagramRoot, f_nodeCount, f_leftCount, f_madeCount, a_kindOf, a_setP, a_setQ, a_clauses, a_table, a_memo, a_choiceOf, a_secondTry, a_knownBefore, a_onesBefore, a_nodeVariable, a_nodeLow, a_nodeHigh, a_nodeNext, a_listFirst, a_recentKey, a_recentNode, a_workF, a_workG, a_workPhase, a_workLow, a_nodeValue, a_left, a_made, a_onesOfVariable, a_tableBefore) rules := by
  unfold wpX_countBySearch
  dsimp only
  refine qx_makeClauses hM hV hr hc ?_
  intro m cl hok
  refine ⟨qs_c 8, qx_countBySearch_22 (s0 := fun _ => false) hok.1 hok.2.1 8 (qs_c 8) 0 0 0 0 a_choiceOf a_secondTry a_knownBefore a_onesBefore qb_lt_0 (qs_u_le _) (by have := qs_u_le (bt 0); omega) (Nat.le_refl _) ?_⟩
  intro n' kn' on' ch' st' kb' ob' _ _
  refine ⟨1, br_t (by decide) (br_t rfl ?_)⟩
  have := K m cl (nI 0) kn' on' ch' st' kb' ob' hok
  rw [Nat.zero_add, qg_CP_none (fun i _ _ => b_0 i), qg_C_on (P' := qc_H M a_kindOf a_setP a_setQ rules) (fun t _ => hok.2.2 t)]
  exact this
/-- what is kept about starts is right -/
def qs_Memo (H : (Nat → Bool) → Prop) (th : Int32) (memo : Nat → Int32) : Prop := ∀ k v, k ≤ 8 → v < 2 ^ k → memo (2 ^ k - 1 + v) = 2 ∨ memo (2 ^ k - 1 + v) = qb_p (qg_G (bt th) H (8 - k) k (bt (nI v)))
theorem qs_place {k k' v v' : Nat} (hv : v < 2 ^ k) (hv' : v' < 2 ^ k') (h : 2 ^ k - 1 + v = 2 ^ k' - 1 + v') : k = k' ∧ v = v' := by
  have p1 : 0 < 2 ^ k := Nat.pow_pos (by decide)
  have p2 : 0 < 2 ^ k' := Nat.pow_pos (by decide)
  have hk : k = k' := by
    rcases Nat.lt_trichotomy k k' with z | z | z
    · have : 2 ^ (k + 1) ≤ 2 ^ k' := Nat.pow_le_pow_right (by decide) (by omega)
      rw [Nat.pow_succ] at this; omega
    · exact z
    · have : 2 ^ (k' + 1) ≤ 2 ^ k := Nat.pow_le_pow_right (by decide) (by omega)
      rw [Nat.pow_succ] at this; omega
  subst hk
  exact ⟨rfl, by omega⟩
def qs_MC (M : Nat) (kd p q : Nat → Int32) (mf ms : Int32) (memo : Nat → Int32) : Prop := mf = -1 ∨ qs_Memo (qc_H M kd p q mf) ms memo
theorem qs_byte01 (b : Bool) : vp_nar .byte (qb_i b).toInt8.toInt32 = qb_i b := by
  rw [pk_vb]
  cases b <;> decide
theorem qx_wonBySearch_57 {post : Int32 → SX → Prop} {M k v : Nat} {rules : Int32} (hM : M ≤ 12) (hV : qc_Vs M a_kindOf a_setP a_setQ) (hr : rules ≠ -1) (hc : qc_Cache M a_kindOf a_setP a_setQ f_clausesOf f_clauseCount a_clauses)
    (hk : k ≤ 8) (hv : v < 2 ^ k) (hmm : qs_Memo (qc_H M a_kindOf a_setP a_setQ rules) f_theirs a_memo)
    (K : ∀ co cc cl dp kn on ch st kb ob mm, qc_Cache M a_kindOf a_setP a_setQ co cc cl → qs_Memo (qc_H M a_kindOf a_setP a_setQ rules) f_theirs mm → post (qb_p (qg_G (bt f_theirs) (qc_H M a_kindOf a_setP a_setQ rules) (8 - k) k (bt (nI v)))) (f_theirs, nI M, f_wayNow, co, cc, f_tableFor, f_memoFor, f_memoSide, dp, kn, on, f_diagramFor, f_diagramRoot, f_nodeCount, f_leftCount, f_madeCount, a_kindOf, a_setP, a_setQ, cl, a_table, mm, ch, st, kb, ob, a_nodeVariable, a_nodeLow, a_nodeHigh, a_nodeNext, a_listFirst, a_recentKey, a_recentNode, a_workF, a_workG, a_workPhase, a_workLow, a_nodeValue, a_left, a_made, a_onesOfVariable, a_tableBefore)) :
    wX_wonBySearch_57 post rules (nI k) (nI v) f_theirs (nI M) f_wayNow f_clausesOf f_clauseCount f_tableFor f_memoFor f_memoSide f_depth f_known f_ones f_diagramFor f_diagramRoot f_nodeCount f_leftCount f_madeCount a_kindOf a_setP a_setQ a_clauses a_table a_memo a_choiceOf a_secondTry a_knownBefore a_onesBefore a_nodeVariable a_nodeLow a_nodeHigh a_nodeNext a_listFirst a_recentKey a_recentNode a_workF a_workG a_workPhase a_workLow a_nodeValue a_left a_made a_onesOfVariable a_tableBefore := by
  have p1 : 0 < 2 ^ k := Nat.pow_pos (by decide)
  have p8 : 2 ^ k ≤ 2 ^ 8 := Nat.pow_le_pow_right (by decide) hk
  have hpl : (((1 : Int32) <<< (nI k &&& 31)) - 1) + nI v = nI (2 ^ k - 1 + v) := by rw [qb_mask k (by omega), nI_add]
  refine nm_r hpl ?_
  have hin : vp_in (nI (2 ^ k - 1 + v)) 511 := vp_in_nI (by omega) (by omega)
  have hcl : (nI (2 ^ k - 1 + v)).toNatClampNeg = 2 ^ k - 1 + v := nI_clamp (by omega)
  refine ⟨hin, ?_⟩
  rw [hcl]
  refine br_c (fun e => ?_) (fun e => ?_)
  · refine qx_makeClauses hM hV hr hc ?_
    intro m cl hok
    refine qx_search hok.1 hok.2.1 hk ?_
    intro dp kn on ch st kb ob
    refine ⟨hin, nm_r (e' := upd a_memo (2 ^ k - 1 + v) (qb_p (qg_G (bt f_theirs) (qc_H M a_kindOf a_setP a_setQ rules) (8 - k) k (bt (nI v))))) ?_ ?_⟩
    · have hg : qb_p (qg_G (bt f_theirs) (qc_All cl m) (8 - k) k (bt (nI v))) = qb_p (qg_G (bt f_theirs) (qc_H M a_kindOf a_setP a_setQ rules) (8 - k) k (bt (nI v))) := qb_p_congr (qg_G_congr hok.2.2)
      have hb : vp_nar .byte (qb_p (qg_G (bt f_theirs) (qc_All cl m) (8 - k) k (bt (nI v)))).toInt8.toInt32 = qb_p (qg_G (bt f_theirs) (qc_H M a_kindOf a_setP a_setQ rules) (8 - k) k (bt (nI v))) := (qs_byte01 _).trans hg
      exact congrArg (upd a_memo _) hb
    · refine ⟨hin, ?_⟩
      rw [hcl, pk_us]
      have K' := K rules (nI m) cl dp kn on ch st kb ob (upd a_memo (2 ^ k - 1 + v) (qb_p (qg_G (bt f_theirs) (qc_H M a_kindOf a_setP a_setQ rules) (8 - k) k (bt (nI v))))) (Or.inr ⟨m, rfl, hok⟩) (by
        intro k' v' hk' hv'
        by_cases e1 : 2 ^ k' - 1 + v' = 2 ^ k - 1 + v
        · rw [e1, pk_us]
          obtain ⟨rfl, rfl⟩ := qs_place hv' hv e1
          exact Or.inr rfl
        · rw [pk_un e1]; exact hmm k' v' hk' hv')
      refine br_c (fun z => ?_) (fun z => ?_)
      · exact ek_v (P := fun r => post r _) z.symm K'
      · exact ek_v (P := fun r => post r _) (qb_p_0.mpr (fun y => z (qb_p_t y))).symm K'
  · refine ⟨hin, ?_⟩
    rw [hcl]
    have hme : a_memo (2 ^ k - 1 + v) = qb_p (qg_G (bt f_theirs) (qc_H M a_kindOf a_setP a_setQ rules) (8 - k) k (bt (nI v))) := (hmm k v hk hv).elim (fun z => absurd z e) id
    have K' := K f_clausesOf f_clauseCount a_clauses f_depth f_known f_ones a_choiceOf a_secondTry a_knownBefore a_onesBefore a_memo hc hmm
    rw [hme]
    refine br_c (fun z => ?_) (fun z => ?_)
    · rw [z] at K'; exact K'
    · have : qb_p (qg_G (bt f_theirs) (qc_H M a_kindOf a_setP a_setQ rules) (8 - k) k (bt (nI v))) = 0 := by
        rw [qb_p_0]; intro y; exact z (qb_p_t y)
      rw [this] at K'; exact K'
theorem qx_wonBySearch_22 {post : Int32 → SX → Prop} {M k v : Nat} {rules : Int32} (hM : M ≤ 12) (hV : qc_Vs M a_kindOf a_setP a_setQ) (hr : rules ≠ -1) (hc : qc_Cache M a_kindOf a_setP a_setQ f_clausesOf f_clauseCount a_clauses)
    (hk : k ≤ 8) (hv : v < 2 ^ k)
    (K : ∀ co cc cl dp kn on ch st kb ob mm, qc_Cache M a_kindOf a_setP a_setQ co cc cl → qs_Memo (qc_H M a_kindOf a_setP a_setQ rules) f_theirs mm → post (qb_p (qg_G (bt f_theirs) (qc_H M a_kindOf a_setP a_setQ rules) (8 - k) k (bt (nI v)))) (f_theirs, nI M, f_wayNow, co, cc, f_tableFor, rules, f_theirs, dp, kn, on, f_diagramFor, f_diagramRoot, f_nodeCount, f_leftCount, f_madeCount, a_kindOf, a_setP, a_setQ, cl, a_table, mm, ch, st, kb, ob, a_nodeVariable, a_nodeLow, a_nodeHigh, a_nodeNext, a_listFirst, a_recentKey, a_recentNode, a_workF, a_workG, a_workPhase, a_workLow, a_nodeValue, a_left, a_made, a_onesOfVariable, a_tableBefore)) :
    ∀ (n j : Nat) (mm : Nat → Int32), j ≤ 511 → 511 < n + j → (∀ i, i < j → mm i = 2) → wX_wonBySearch_22 post rules (nI k) (nI v) f_theirs (nI M) f_wayNow f_clausesOf f_clauseCount f_tableFor f_memoFor f_memoSide f_depth f_known f_ones f_diagramFor f_diagramRoot f_nodeCount f_leftCount f_madeCount n (nI j) a_kindOf a_setP a_setQ a_clauses a_table mm a_choiceOf a_secondTry a_knownBefore a_onesBefore a_nodeVariable a_nodeLow a_nodeHigh a_nodeNext a_listFirst a_recentKey a_recentNode a_workF a_workG a_workPhase a_workLow a_nodeValue a_left a_made a_onesOfVariable a_tableBefore := by
  intro n
  induction n with
  | zero => intro j mm h1 h2; omega
  | succ n ih =>
    intro j mm hj hf hI
    refine pk_le 511 j (fun e => ?_) (fun e => ?_)
    · refine qx_wonBySearch_57 hM hV hr hc hk hv ?_ K
      intro k' v' hk' hv'
      left
      apply hI
      have p8 : 2 ^ k' ≤ 2 ^ 8 := Nat.pow_le_pow_right (by decide) hk'
      omega
    · refine ⟨vp_in_nI (by omega) (by omega), nm_r (e' := upd mm j 2) (by rw [nI_clamp (by omega), vp_nar_byte]; rfl) (nm_r (nI_1 j) (ih (j + 1) _ (by omega) (by omega) ?_))⟩
      intro i hi
      by_cases e1 : i = j
      · subst e1; exact pk_us
      · rw [pk_un e1]; exact hI i (by omega)
theorem qx_wonBySearch {post : Int32 → SX → Prop} {M k v : Nat} {rules : Int32} (hM : M ≤ 12) (hV : qc_Vs M a_kindOf a_setP a_setQ) (hr : rules ≠ -1) (hc : qc_Cache M a_kindOf a_setP a_setQ f_clausesOf f_clauseCount a_clauses)
    (hk : k ≤ 8) (hv : v < 2 ^ k) (hmc : qs_MC M a_kindOf a_setP a_setQ f_memoFor f_memoSide a_memo)
    (K : ∀ co cc cl dp kn on ch st kb ob mm, qc_Cache M a_kindOf a_setP a_setQ co cc cl → qs_Memo (qc_H M a_kindOf a_setP a_setQ rules) f_theirs mm → post (qb_p (qg_G (bt f_theirs) (qc_H M a_kindOf a_setP a_setQ rules) (8 - k) k (bt (nI v)))) (f_theirs, nI M, f_wayNow, co, cc, f_tableFor, rules, f_theirs, dp, kn, on, f_diagramFor, f_diagramRoot, f_nodeCount, f_leftCount, f_madeCount, a_kindOf, a_setP, a_setQ, cl, a_table, mm, ch, st, kb, ob, a_nodeVariable, a_nodeLow, a_nodeHigh, a_nodeNext, a_listFirst, a_recentKey, a_recentNode, a_workF, a_workG, a_workPhase, a_workLow, a_nodeValue, a_left, a_made, a_onesOfVariable, a_tableBefore)) :
    wpX_wonBySearch post (f_theirs, nI M, f_wayNow, f_clausesOf, f_clauseCount, f_tableFor, f_memoFor, f_memoSide, f_depth, f_known, f_ones, f_diagramFor, f_diagramRoot, f_nodeCount, f_leftCount, f_madeCount, a_kindOf, a_setP, a_setQ, a_clauses, a_table, a_memo, a_choiceOf, a_secondTry, a_knownBefore, a_onesBefore, a_nodeVariable, a_nodeLow, a_nodeHigh, a_nodeNext, a_listFirst, a_recentKey, a_recentNode, a_workF, a_workG, a_workPhase, a_workLow, a_nodeValue, a_left, a_made, a_onesOfVariable, a_tableBefore) rules (nI k) (nI v) := by
  have fresh : wX_wonBySearch_22 post rules (nI k) (nI v) f_theirs (nI M) f_wayNow f_clausesOf f_clauseCount f_tableFor f_memoFor f_memoSide f_depth f_known f_ones f_diagramFor f_diagramRoot f_nodeCount f_leftCount f_madeCount 512 (nI 0) a_kindOf a_setP a_setQ a_clauses a_table a_memo a_choiceOf a_secondTry a_knownBefore a_onesBefore a_nodeVariable a_nodeLow a_nodeHigh a_nodeNext a_listFirst a_recentKey a_recentNode a_workF a_workG a_workPhase a_workLow a_nodeValue a_left a_made a_onesOfVariable a_tableBefore := qx_wonBySearch_22 (post := post) hM hV hr hc hk hv K 512 0 a_memo (by omega) (by omega) (fun i hi => by omega)
  refine br_c (fun e1 => br_c (fun e2 => ?_) (fun _ => ⟨512, fresh⟩)) (fun _ => ⟨512, fresh⟩)
  subst e1
  rcases hmc with h | h
  · exact absurd h hr
  · rw [e2] at h ⊢
    exact qx_wonBySearch_57 hM hV hr hc hk hv h K
end
end
section
/-! words of 64 bits -/
def qt_b (w : Int64) (j : Nat) : Bool := w.toBitVec.getLsbD j
theorem qt_ext {x y : Int64} (h : ∀ j, j < 64 → qt_b x j = qt_b y j) : x = y := Int64.toBitVec_inj.mp (BitVec.eq_of_getLsbD_eq (fun i hi => h i hi))
theorem qt_or (x y : Int64) (j : Nat) : qt_b (x ||| y) j = (qt_b x j || qt_b y j) := by unfold qt_b; rw [Int64.toBitVec_or, BitVec.getLsbD_or]
theorem qt_and (x y : Int64) (j : Nat) : qt_b (x &&& y) j = (qt_b x j && qt_b y j) := by unfold qt_b; rw [Int64.toBitVec_and, BitVec.getLsbD_and]
theorem qt_xor (x y : Int64) (j : Nat) : qt_b (x ^^^ y) j = (qt_b x j ^^ qt_b y j) := by unfold qt_b; rw [Int64.toBitVec_xor, BitVec.getLsbD_xor]
theorem qt_m1 : ∀ j, j < 64 → qt_b (-1) j = true := by decide +kernel
theorem qt_0 (j : Nat) : qt_b 0 j = false := BitVec.getLsbD_zero
theorem qt_not (x : Int64) {j : Nat} (h : j < 64) : qt_b (x ^^^ (-1)) j = !qt_b x j := by
  rw [qt_xor, qt_m1 j h]; cases qt_b x j <;> rfl
theorem qt_lN {n j : Nat} (h : j < 64) : qt_b (lN n) j = n.testBit j := by
  show (BitVec.ofNat 64 n).getLsbD j = _
  rw [BitVec.getLsbD_ofNat, decide_eq_true h, Bool.true_and]
theorem qt_one {k j : Nat} (hk : k < 64) (hj : j < 64) : qt_b ((1 : Int64) <<< ((nI k).toInt64 &&& 63)) j = decide (j = k) := by
  have h := wb_shl 1 hk
  have e : (1 : Int64) <<< ((nI k).toInt64 &&& 63) = lN (2 ^ k) := by rw [Nat.one_mul] at h; exact h
  rw [e, qt_lN hj, Nat.testBit_two_pow]
  by_cases z : k = j
  · rw [decide_eq_true z, decide_eq_true z.symm]
  · rw [decide_eq_false z, decide_eq_false (fun y => z y.symm)]
/-- the bit of the case 64 * w + j at variable v -/
theorem qt_case_lo {w j v : Nat} (hj : j < 64) (hv : v < 6) : (64 * w + j).testBit v = j.testBit v := by
  have := Nat.testBit_two_pow_mul_add w (i := 6) (b := j) hj v
  rw [if_pos hv] at this; exact this
theorem qt_case_hi {w j v : Nat} (hj : j < 64) (hv : 6 ≤ v) : (64 * w + j).testBit v = w.testBit (v - 6) := by
  have := Nat.testBit_two_pow_mul_add w (i := 6) (b := j) hj v
  rw [if_neg (by omega)] at this; exact this
/-- all assignments are numbers below 256 -/
theorem qt_all {P : (Nat → Bool) → Prop} (hP : qg_Dep 8 P) : (∀ s, P s) ↔ ∀ a, a < 256 → P (fun i => a.testBit i) := by
  constructor
  · intro z a _; exact z _
  · intro z s
    exact (hP (fun i => (qn_num s 8).testBit i) s (fun i hi => qn_num_bit 8 s i hi)).mp (z _ (qn_num_lt 8 s))
theorem qt_bits {a : Nat} (h : a < 256) : bt (nI a) = fun i => a.testBit i := by
  funext i
  exact qb_nIs (by omega)
section
variable {f_theirs f_ruleCount f_wayNow f_clausesOf f_clauseCount f_tableFor f_memoFor f_memoSide f_depth f_known f_ones f_diagramFor f_diagramRoot f_nodeCount f_leftCount f_madeCount : Int32} {a_kindOf a_setP a_setQ a_clauses a_memo a_choiceOf a_secondTry a_knownBefore a_onesBefore a_nodeVariable a_nodeLow a_nodeHigh a_nodeNext a_listFirst a_recentKey a_recentNode a_workF a_workG a_workPhase a_workLow a_nodeValue a_left a_made : Nat → Int32} {a_table a_onesOfVariable a_tableBefore : Nat → Int64}
theorem qx_casesOf_45 {post : Int64 → Prop} {v : Nat} (hv : v < 6) (K : ∀ r, (∀ j, j < 64 → qt_b r j = j.testBit v) → post r) :
    ∀ (n i : Nat) (x : Int64), i ≤ 64 → 64 < n + i → (∀ j, j < 64 → qt_b x j = (decide (j < i) && j.testBit v)) → wX_casesOf_45 post (nI v) f_theirs f_ruleCount f_wayNow f_clausesOf f_clauseCount f_tableFor f_memoFor f_memoSide f_depth f_known f_ones f_diagramFor f_diagramRoot f_nodeCount f_leftCount f_madeCount a_kindOf a_setP a_setQ a_clauses a_table a_memo a_choiceOf a_secondTry a_knownBefore a_onesBefore a_nodeVariable a_nodeLow a_nodeHigh a_nodeNext a_listFirst a_recentKey a_recentNode a_workF a_workG a_workPhase a_workLow a_nodeValue a_left a_made a_onesOfVariable a_tableBefore n x (nI i) := by
  intro n
  induction n with
  | zero => intro i x h1 h2; omega
  | succ n ih =>
    intro i x hi hf hI
    refine pk_le 64 i (fun e => K x (fun j hj => by rw [hI j hj, decide_eq_true (by omega), Bool.true_and])) (fun e => ?_)
    have hb := qb_bit0 (nI i) (v := v) (by omega)
    rw [qb_nIs (by omega)] at hb
    refine ek_if hb (fun h => nm_r (nI_1 i) (ih (i + 1) x (by omega) (by omega) ?_)) (fun h => nm_e (nm_r (nI_1 i) (ih (i + 1) _ (by omega) (by omega) ?_)))
    · intro j hj
      rw [hI j hj]
      by_cases e1 : j = i
      · subst e1; rw [h, Bool.and_false, Bool.and_false]
      · by_cases e2 : j < i
        · rw [decide_eq_true e2, decide_eq_true (by omega)]
        · rw [decide_eq_false e2, decide_eq_false (by omega)]
    · intro j hj
      rw [qt_or, hI j hj, qt_one e hj]
      by_cases e1 : j = i
      · subst e1; rw [ts_nf h, decide_eq_true (by omega : j < j + 1), decide_eq_true (rfl : j = j)]; simp
      · rw [decide_eq_false e1, Bool.or_false]
        by_cases e2 : j < i
        · rw [decide_eq_true e2, decide_eq_true (by omega)]
        · rw [decide_eq_false e2, decide_eq_false (by omega)]
theorem qx_casesOf {post : Int64 → Prop} {v w : Nat} (hv : v < 8) (hw : w < 4) (K : ∀ r, (∀ j, j < 64 → qt_b r j = (64 * w + j).testBit v) → post r) : wpX_casesOf post (f_theirs, f_ruleCount, f_wayNow, f_clausesOf, f_clauseCount, f_tableFor, f_memoFor, f_memoSide, f_depth, f_known, f_ones, f_diagramFor, f_diagramRoot, f_nodeCount, f_leftCount, f_madeCount, a_kindOf, a_setP, a_setQ, a_clauses, a_table, a_memo, a_choiceOf, a_secondTry, a_knownBefore, a_onesBefore, a_nodeVariable, a_nodeLow, a_nodeHigh, a_nodeNext, a_listFirst, a_recentKey, a_recentNode, a_workF, a_workG, a_workPhase, a_workLow, a_nodeValue, a_left, a_made, a_onesOfVariable, a_tableBefore) (nI v) (nI w) := by
  have hall : ∀ (b : Bool) (r : Int64), (∀ j, j < 64 → qt_b r j = b) → w.testBit (v - 6) = b → 6 ≤ v → post r := by
    intro b r h1 h2 h3
    apply K
    intro j hj
    rw [h1 j hj, qt_case_hi hj h3, h2]
  refine pk_eq v 6 (fun e => ?_) (fun e => pk_eq v 7 (fun e7 => ?_) (fun e7 => ?_))
  · have hb : nI w &&& 1 = 0 ↔ w.testBit (v - 6) = false := by
      subst e
      exact (by decide +kernel : ∀ w, w < 4 → (nI w &&& 1 = 0 ↔ w.testBit 0 = false)) w hw
    exact ek_if hb (fun h => hall false 0 (fun j _ => qt_0 j) h (by omega)) (fun h => hall true (-1) qt_m1 (ts_nf h) (by omega))
  · have hb : nI w &&& 2 = 0 ↔ w.testBit (v - 6) = false := by
      subst e7
      exact (by decide +kernel : ∀ w, w < 4 → (nI w &&& 2 = 0 ↔ w.testBit 1 = false)) w hw
    exact ek_if hb (fun h => hall false 0 (fun j _ => qt_0 j) h (by omega)) (fun h => hall true (-1) qt_m1 (ts_nf h) (by omega))
  · refine ⟨65, qx_casesOf_45 (by omega) (fun r h => K r (fun j hj => by rw [h j hj, qt_case_lo hj (by omega)])) 65 0 0 (by omega) (by omega) (fun j hj => by rw [qt_0, decide_eq_false (by omega)]; rfl)⟩
/-- what is laid for a word: the cases of each variable -/
def qt_V (ov : Nat → Int64) (w n : Nat) : Prop := ∀ v, v < n → ∀ j, j < 64 → qt_b (ov v) j = (64 * w + j).testBit v
theorem qx_nodeCases {post : SX → Prop} {v w : Nat} (hv : v < 8) (hw : w < 4) (K : ∀ r, (∀ j, j < 64 → qt_b r j = (64 * w + j).testBit v) → post (f_theirs, f_ruleCount, f_wayNow, f_clausesOf, f_clauseCount, f_tableFor, f_memoFor, f_memoSide, f_depth, f_known, f_ones, f_diagramFor, f_diagramRoot, f_nodeCount, f_leftCount, f_madeCount, a_kindOf, a_setP, a_setQ, a_clauses, a_table, a_memo, a_choiceOf, a_secondTry, a_knownBefore, a_onesBefore, a_nodeVariable, a_nodeLow, a_nodeHigh, a_nodeNext, a_listFirst, a_recentKey, a_recentNode, a_workF, a_workG, a_workPhase, a_workLow, a_nodeValue, a_left, a_made, vp_updL a_onesOfVariable v r, a_tableBefore)) : wpX_nodeCases post (f_theirs, f_ruleCount, f_wayNow, f_clausesOf, f_clauseCount, f_tableFor, f_memoFor, f_memoSide, f_depth, f_known, f_ones, f_diagramFor, f_diagramRoot, f_nodeCount, f_leftCount, f_madeCount, a_kindOf, a_setP, a_setQ, a_clauses, a_table, a_memo, a_choiceOf, a_secondTry, a_knownBefore, a_onesBefore, a_nodeVariable, a_nodeLow, a_nodeHigh, a_nodeNext, a_listFirst, a_recentKey, a_recentNode, a_workF, a_workG, a_workPhase, a_workLow, a_nodeValue, a_left, a_made, a_onesOfVariable, a_tableBefore) (nI v) (nI w) := by
  unfold wpX_nodeCases
  dsimp only
  refine qx_casesOf hv hw ?_
  intro r hr
  exact ⟨vp_in_nI hv (by omega), nm_r (e' := vp_updL a_onesOfVariable v r) (by rw [nI_clamp (by omega)]) (K r hr)⟩
theorem qx_clauseCases_5 {post : Int64 → Prop} {w : Nat} {c : Int32} (hV : qt_V a_onesOfVariable w 8) (K : ∀ r, (∀ j, j < 64 → (qt_b r j = true ↔ qc_cs c (fun i => (64 * w + j).testBit i))) → post r) :
    ∀ (n v : Nat) (x : Int64), v ≤ 8 → 8 < n + v → (∀ j, j < 64 → (qt_b x j = true ↔ ∃ i, i < v ∧ ((bt c i = true ∧ (64 * w + j).testBit i = true) ∨ (bt c (8 + i) = true ∧ (64 * w + j).testBit i = false)))) →
    wX_clauseCases_5 post c f_theirs f_ruleCount f_wayNow f_clausesOf f_clauseCount f_tableFor f_memoFor f_memoSide f_depth f_known f_ones f_diagramFor f_diagramRoot f_nodeCount f_leftCount f_madeCount a_kindOf a_setP a_setQ a_clauses a_table a_memo a_choiceOf a_secondTry a_knownBefore a_onesBefore a_nodeVariable a_nodeLow a_nodeHigh a_nodeNext a_listFirst a_recentKey a_recentNode a_workF a_workG a_workPhase a_workLow a_nodeValue a_left a_made a_onesOfVariable a_tableBefore n x (nI v) := by
  intro n
  induction n with
  | zero => intro v x h1 h2; omega
  | succ n ih =>
    intro v x hv hf hI
    refine pk_le 8 v (fun e => K x (fun j hj => by rw [hI j hj, show v = 8 by omega]; exact Iff.rfl)) (fun e => ?_)
    have hin : vp_in (nI v) 8 := vp_in_nI (by omega) (by omega)
    have hcl : (nI v).toNatClampNeg = v := nI_clamp (by omega)
    have e8 : 8 + nI v = nI (8 + v) := nI_add 8 v
    have rest : ∀ y : Int64, (∀ j, j < 64 → (qt_b y j = true ↔ qt_b x j = true ∨ (bt c v = true ∧ (64 * w + j).testBit v = true))) → wX_clauseCases_31 post (wX_clauseCases_5 post c f_theirs f_ruleCount f_wayNow f_clausesOf f_clauseCount f_tableFor f_memoFor f_memoSide f_depth f_known f_ones f_diagramFor f_diagramRoot f_nodeCount f_leftCount f_madeCount a_kindOf a_setP a_setQ a_clauses a_table a_memo a_choiceOf a_secondTry a_knownBefore a_onesBefore a_nodeVariable a_nodeLow a_nodeHigh a_nodeNext a_listFirst a_recentKey a_recentNode a_workF a_workG a_workPhase a_workLow a_nodeValue a_left a_made a_onesOfVariable a_tableBefore n) c y (nI v) f_theirs f_ruleCount f_wayNow f_clausesOf f_clauseCount f_tableFor f_memoFor f_memoSide f_depth f_known f_ones f_diagramFor f_diagramRoot f_nodeCount f_leftCount f_madeCount a_kindOf a_setP a_setQ a_clauses a_table a_memo a_choiceOf a_secondTry a_knownBefore a_onesBefore a_nodeVariable a_nodeLow a_nodeHigh a_nodeNext a_listFirst a_recentKey a_recentNode a_workF a_workG a_workPhase a_workLow a_nodeValue a_left a_made a_onesOfVariable a_tableBefore := by
      intro y hy
      unfold wX_clauseCases_31
      rw [e8, hcl]
      refine ek_if (qb_bit0 c (by omega)) (fun h => nm_r (nI_1 v) (ih (v + 1) y (by omega) (by omega) ?_)) (fun h => ⟨hin, nm_e (nm_r (nI_1 v) (ih (v + 1) _ (by omega) (by omega) ?_))⟩)
      · intro j hj
        rw [hy j hj, hI j hj]
        constructor
        · intro z
          rcases z with ⟨i, hi, z⟩ | z
          · exact ⟨i, by omega, z⟩
          · exact ⟨v, by omega, Or.inl z⟩
        · intro ⟨i, hi, z⟩
          by_cases e1 : i = v
          · subst e1
            rcases z with z | z
            · exact Or.inr z
            · rw [h] at z; exact absurd z.1 (by decide)
          · exact Or.inl ⟨i, by omega, z⟩
      · intro j hj
        rw [qt_or, qt_not _ hj, hV v (by omega) j hj, Bool.or_eq_true, hy j hj, hI j hj, Bool.not_eq_true']
        constructor
        · intro z
          rcases z with (⟨i, hi, z⟩ | z) | z
          · exact ⟨i, by omega, z⟩
          · exact ⟨v, by omega, Or.inl z⟩
          · exact ⟨v, by omega, Or.inr ⟨ts_nf h, z⟩⟩
        · intro ⟨i, hi, z⟩
          by_cases e1 : i = v
          · subst e1
            rcases z with z | z
            · exact Or.inl (Or.inr z)
            · exact Or.inr z.2
          · exact Or.inl (Or.inl ⟨i, by omega, z⟩)
    refine ek_if (qb_bit0 c (by omega)) (fun h => rest x (fun j hj => ?_)) (fun h => ⟨hin, ?_⟩)
    · exact ⟨Or.inl, fun z => z.elim id (fun y => by rw [h] at y; exact absurd y.1 (by decide))⟩
    · rw [hcl]
      refine nm_e (rest _ (fun j hj => ?_))
      rw [qt_or, hV v (by omega) j hj, Bool.or_eq_true]
      exact ⟨fun z => z.elim Or.inl (fun y => Or.inr ⟨ts_nf h, y⟩), fun z => z.elim Or.inl (fun y => Or.inr y.2)⟩
theorem qx_clauseCases {post : Int64 → Prop} {w : Nat} {c : Int32} (hV : qt_V a_onesOfVariable w 8) (K : ∀ r, (∀ j, j < 64 → (qt_b r j = true ↔ qc_cs c (fun i => (64 * w + j).testBit i))) → post r) : wpX_clauseCases post (f_theirs, f_ruleCount, f_wayNow, f_clausesOf, f_clauseCount, f_tableFor, f_memoFor, f_memoSide, f_depth, f_known, f_ones, f_diagramFor, f_diagramRoot, f_nodeCount, f_leftCount, f_madeCount, a_kindOf, a_setP, a_setQ, a_clauses, a_table, a_memo, a_choiceOf, a_secondTry, a_knownBefore, a_onesBefore, a_nodeVariable, a_nodeLow, a_nodeHigh, a_nodeNext, a_listFirst, a_recentKey, a_recentNode, a_workF, a_workG, a_workPhase, a_workLow, a_nodeValue, a_left, a_made, a_onesOfVariable, a_tableBefore) c :=
  ⟨9, qx_clauseCases_5 hV K 9 0 0 (by omega) (by omega) (fun j _ => by rw [qt_0]; exact ⟨fun z => absurd z (by decide), fun ⟨i, hi, _⟩ => by omega⟩)⟩
/-- the words below w are right for the first m clauses -/
def qt_W (tb : Nat → Int64) (cl : Nat → Int32) (m w : Nat) : Prop := ∀ j, j < 64 → (qt_b (tb w) j = true ↔ qc_All cl m (fun i => (64 * w + j).testBit i))
theorem qx_buildTable_70 {post : SX → Prop} {J : (Int32 → Int32 → Int32 → Int32 → Int32 → Int32 → Int32 → Int32 → Int32 → Int32 → Int32 → Int32 → Int32 → Int32 → Int32 → Int32 → Int32 → (Nat → Int32) → (Nat → Int32) → (Nat → Int32) → (Nat → Int32) → (Nat → Int64) → (Nat → Int32) → (Nat → Int32) → (Nat → Int32) → (Nat → Int32) → (Nat → Int32) → (Nat → Int32) → (Nat → Int32) → (Nat → Int32) → (Nat → Int32) → (Nat → Int32) → (Nat → Int32) → (Nat → Int32) → (Nat → Int32) → (Nat → Int32) → (Nat → Int32) → (Nat → Int32) → (Nat → Int32) → (Nat → Int32) → (Nat → Int32) → (Nat → Int64) → (Nat → Int64) → Prop)} {m w : Nat} (hm : m ≤ 168) (hw : w < 4) (hV : qt_V a_onesOfVariable w 8)
    (K : ∀ tb, (∀ i, i ≠ w → tb i = a_table i) → qt_W tb a_clauses m w → J (nI (w + 1)) f_theirs f_ruleCount f_wayNow f_clausesOf (nI m) f_tableFor f_memoFor f_memoSide f_depth f_known f_ones f_diagramFor f_diagramRoot f_nodeCount f_leftCount f_madeCount a_kindOf a_setP a_setQ a_clauses tb a_memo a_choiceOf a_secondTry a_knownBefore a_onesBefore a_nodeVariable a_nodeLow a_nodeHigh a_nodeNext a_listFirst a_recentKey a_recentNode a_workF a_workG a_workPhase a_workLow a_nodeValue a_left a_made a_onesOfVariable a_tableBefore) :
    ∀ (n c : Nat) (tb : Nat → Int64), c ≤ m → m < n + c → (∀ i, i ≠ w → tb i = a_table i) → qt_W tb a_clauses c w → wX_buildTable_70 post J (nI w) f_theirs f_ruleCount f_wayNow f_clausesOf (nI m) f_tableFor f_memoFor f_memoSide f_depth f_known f_ones f_diagramFor f_diagramRoot f_nodeCount f_leftCount f_madeCount n (nI c) a_kindOf a_setP a_setQ a_clauses tb a_memo a_choiceOf a_secondTry a_knownBefore a_onesBefore a_nodeVariable a_nodeLow a_nodeHigh a_nodeNext a_listFirst a_recentKey a_recentNode a_workF a_workG a_workPhase a_workLow a_nodeValue a_left a_made a_onesOfVariable a_tableBefore := by
  intro n
  induction n with
  | zero => intro c tb h1 h2; omega
  | succ n ih =>
    intro c tb hc hf h1 h2
    refine pk_le m c (fun e => nm_r (nI_1 w) (K tb h1 ?_)) (fun e => ?_)
    · rw [show m = c by omega]; exact h2
    · have hin : vp_in (nI w) 4 := vp_in_nI hw (by omega)
      refine ⟨hin, vp_in_nI (by omega) (by omega), ?_⟩
      rw [nI_clamp (by omega : c < 2 ^ 31), nI_clamp (by omega : w < 2 ^ 31)]
      refine qx_clauseCases hV ?_
      intro r hr
      refine ⟨hin, nm_e (nm_r (nI_1 c) (ih (c + 1) _ (by omega) (by omega) ?_ ?_))⟩
      · intro i hi
        rw [pk_uLn hi]; exact h1 i hi
      · intro j hj
        rw [pk_uLs, qt_and, Bool.and_eq_true, h2 j hj, hr j hj]
        constructor
        · intro ⟨z1, z2⟩ j' hj'
          by_cases e1 : j' = c
          · subst e1; exact z2
          · exact z1 j' (by omega)
        · intro z
          exact ⟨fun j' hj' => z j' (by omega), z c (by omega)⟩
theorem qx_buildTable_50 {post : SX → Prop} {J : (Int32 → Int32 → Int32 → Int32 → Int32 → Int32 → Int32 → Int32 → Int32 → Int32 → Int32 → Int32 → Int32 → Int32 → Int32 → Int32 → Int32 → (Nat → Int32) → (Nat → Int32) → (Nat → Int32) → (Nat → Int32) → (Nat → Int64) → (Nat → Int32) → (Nat → Int32) → (Nat → Int32) → (Nat → Int32) → (Nat → Int32) → (Nat → Int32) → (Nat → Int32) → (Nat → Int32) → (Nat → Int32) → (Nat → Int32) → (Nat → Int32) → (Nat → Int32) → (Nat → Int32) → (Nat → Int32) → (Nat → Int32) → (Nat → Int32) → (Nat → Int32) → (Nat → Int32) → (Nat → Int32) → (Nat → Int64) → (Nat → Int64) → Prop)} {m w : Nat} (hm : m ≤ 168) (hw : w < 4) (h0 : ∀ j, j < 64 → qt_b (a_table w) j = true)
    (K : ∀ tb ov, (∀ i, i ≠ w → tb i = a_table i) → qt_W tb a_clauses m w → J (nI (w + 1)) f_theirs f_ruleCount f_wayNow f_clausesOf (nI m) f_tableFor f_memoFor f_memoSide f_depth f_known f_ones f_diagramFor f_diagramRoot f_nodeCount f_leftCount f_madeCount a_kindOf a_setP a_setQ a_clauses tb a_memo a_choiceOf a_secondTry a_knownBefore a_onesBefore a_nodeVariable a_nodeLow a_nodeHigh a_nodeNext a_listFirst a_recentKey a_recentNode a_workF a_workG a_workPhase a_workLow a_nodeValue a_left a_made ov a_tableBefore) :
    ∀ (n v : Nat) (ov : Nat → Int64), v ≤ 8 → 8 < n + v → qt_V ov w v → wX_buildTable_50 post J (nI w) n (nI v) f_theirs f_ruleCount f_wayNow f_clausesOf (nI m) f_tableFor f_memoFor f_memoSide f_depth f_known f_ones f_diagramFor f_diagramRoot f_nodeCount f_leftCount f_madeCount a_kindOf a_setP a_setQ a_clauses a_table a_memo a_choiceOf a_secondTry a_knownBefore a_onesBefore a_nodeVariable a_nodeLow a_nodeHigh a_nodeNext a_listFirst a_recentKey a_recentNode a_workF a_workG a_workPhase a_workLow a_nodeValue a_left a_made ov a_tableBefore := by
  intro n
  induction n with
  | zero => intro v ov h1 h2; omega
  | succ n ih =>
    intro v ov hv hf hI
    refine pk_le 8 v (fun e => ?_) (fun e => ?_)
    · have ev : v = 8 := by omega
      subst ev
      exact ⟨m + 1, qx_buildTable_70 hm hw hI (fun tb h1 h2 => K tb ov h1 h2) (m + 1) 0 a_table (by omega) (by omega) (fun i _ => rfl) (fun j hj => ⟨fun _ j' hj' => by omega, fun _ => h0 j hj⟩)⟩
    · refine qx_nodeCases (by omega) hw ?_
      intro r hr
      refine nm_r (nI_1 v) (ih (v + 1) _ (by omega) (by omega) ?_)
      intro v' hv' j hj
      by_cases e1 : v' = v
      · subst e1; rw [pk_uLs]; exact hr j hj
      · rw [pk_uLn e1]; exact hI v' (by omega) j hj
theorem qx_buildTable_43 {post : SX → Prop} {m : Nat} (hm : m ≤ 168) (K : ∀ tb ov, (∀ w, w < 4 → qt_W tb a_clauses m w) → post (f_theirs, f_ruleCount, f_wayNow, f_clausesOf, nI m, f_tableFor, f_memoFor, f_memoSide, f_depth, f_known, f_ones, f_diagramFor, f_diagramRoot, f_nodeCount, f_leftCount, f_madeCount, a_kindOf, a_setP, a_setQ, a_clauses, tb, a_memo, a_choiceOf, a_secondTry, a_knownBefore, a_onesBefore, a_nodeVariable, a_nodeLow, a_nodeHigh, a_nodeNext, a_listFirst, a_recentKey, a_recentNode, a_workF, a_workG, a_workPhase, a_workLow, a_nodeValue, a_left, a_made, ov, a_tableBefore)) :
    ∀ (n w : Nat) (tb ov : Nat → Int64), w ≤ 4 → 4 < n + w → (∀ w', w' < w → qt_W tb a_clauses m w') → (∀ w', w ≤ w' → w' < 4 → ∀ j, j < 64 → qt_b (tb w') j = true) → wX_buildTable_43 post n (nI w) f_theirs f_ruleCount f_wayNow f_clausesOf (nI m) f_tableFor f_memoFor f_memoSide f_depth f_known f_ones f_diagramFor f_diagramRoot f_nodeCount f_leftCount f_madeCount a_kindOf a_setP a_setQ a_clauses tb a_memo a_choiceOf a_secondTry a_knownBefore a_onesBefore a_nodeVariable a_nodeLow a_nodeHigh a_nodeNext a_listFirst a_recentKey a_recentNode a_workF a_workG a_workPhase a_workLow a_nodeValue a_left a_made ov a_tableBefore := by
  intro n
  induction n with
  | zero => intro w tb ov h1 h2; omega
  | succ n ih =>
    intro w tb ov hw hf h1 h2
    refine pk_le 4 w (fun e => K tb ov (fun w' hw' => h1 w' (by omega))) (fun e => ⟨9, ?_⟩)
    refine qx_buildTable_50 hm e (h2 w (Nat.le_refl w) e) ?_ 9 0 ov (by omega) (by omega) (fun v hv => by omega)
    intro tb' ov' a1 a2
    apply ih (w + 1) tb' ov' (by omega) (by omega)
    · intro w' hw'
      by_cases e1 : w' = w
      · subst e1; exact a2
      · intro j hj
        rw [a1 w' e1]; exact h1 w' (by omega) j hj
    · intro w' hw1 hw2 j hj
      rw [a1 w' (by omega)]; exact h2 w' (by omega) hw2 j hj
theorem qx_buildTable_21 {post : SX → Prop} {m : Nat} (hm : m ≤ 168) (K : ∀ tb ov, (∀ w, w < 4 → qt_W tb a_clauses m w) → post (f_theirs, f_ruleCount, f_wayNow, f_clausesOf, nI m, f_tableFor, f_memoFor, f_memoSide, f_depth, f_known, f_ones, f_diagramFor, f_diagramRoot, f_nodeCount, f_leftCount, f_madeCount, a_kindOf, a_setP, a_setQ, a_clauses, tb, a_memo, a_choiceOf, a_secondTry, a_knownBefore, a_onesBefore, a_nodeVariable, a_nodeLow, a_nodeHigh, a_nodeNext, a_listFirst, a_recentKey, a_recentNode, a_workF, a_workG, a_workPhase, a_workLow, a_nodeValue, a_left, a_made, ov, a_tableBefore)) :
    ∀ (n w : Nat) (tb : Nat → Int64), w ≤ 4 → 4 < n + w → (∀ w', w' < w → tb w' = -1) → wX_buildTable_21 post f_theirs f_ruleCount f_wayNow f_clausesOf (nI m) f_tableFor f_memoFor f_memoSide f_depth f_known f_ones f_diagramFor f_diagramRoot f_nodeCount f_leftCount f_madeCount n (nI w) a_kindOf a_setP a_setQ a_clauses tb a_memo a_choiceOf a_secondTry a_knownBefore a_onesBefore a_nodeVariable a_nodeLow a_nodeHigh a_nodeNext a_listFirst a_recentKey a_recentNode a_workF a_workG a_workPhase a_workLow a_nodeValue a_left a_made a_onesOfVariable a_tableBefore := by
  intro n
  induction n with
  | zero => intro w tb h1 h2; omega
  | succ n ih =>
    intro w tb hw hf hI
    refine pk_le 4 w (fun e => ?_) (fun e => ?_)
    · exact ⟨5, qx_buildTable_43 hm K 5 0 tb a_onesOfVariable (by omega) (by omega) (fun w' hw' => by omega) (fun w' _ hw' j hj => by rw [hI w' (by omega)]; exact qt_m1 j hj)⟩
    · refine ⟨vp_in_nI (by omega) (by omega), nm_r (e' := vp_updL tb w (-1)) (by rw [nI_clamp (by omega)]) (nm_r (nI_1 w) (ih (w + 1) _ (by omega) (by omega) ?_))⟩
      intro w' hw'
      by_cases e1 : w' = w
      · subst e1; exact pk_uLs
      · rw [pk_uLn e1]; exact hI w' (by omega)
/-- the table says for each case whether H -/
def qt_T (H : (Nat → Bool) → Prop) (tb : Nat → Int64) : Prop := ∀ a, a < 256 → (qt_b (tb (a / 64)) (a % 64) = true ↔ H (fun i => a.testBit i))
def qt_TC (M : Nat) (kd p q : Nat → Int32) (tf : Int32) (tb : Nat → Int64) : Prop := tf = -1 ∨ qt_T (qc_H M kd p q tf) tb
theorem qx_buildTable {post : SX → Prop} {M : Nat} {rules : Int32} (hM : M ≤ 12) (hV : qc_Vs M a_kindOf a_setP a_setQ) (hr : rules ≠ -1) (hc : qc_Cache M a_kindOf a_setP a_setQ f_clausesOf f_clauseCount a_clauses) (ht : qt_TC M a_kindOf a_setP a_setQ f_tableFor a_table)
    (K : ∀ co cc cl tb ov, qc_Cache M a_kindOf a_setP a_setQ co cc cl → qt_T (qc_H M a_kindOf a_setP a_setQ rules) tb → post (f_theirs, nI M, f_wayNow, co, cc, rules, f_memoFor, f_memoSide, f_depth, f_known, f_ones, f_diagramFor, f_diagramRoot, f_nodeCount, f_leftCount, f_madeCount, a_kindOf, a_setP, a_setQ, cl, tb, a_memo, a_choiceOf, a_secondTry, a_knownBefore, a_onesBefore, a_nodeVariable, a_nodeLow, a_nodeHigh, a_nodeNext, a_listFirst, a_recentKey, a_recentNode, a_workF, a_workG, a_workPhase, a_workLow, a_nodeValue, a_left, a_made, ov, a_tableBefore)) :
    wpX_buildTable post (f_theirs, nI M, f_wayNow, f_clausesOf, f_clauseCount, f_tableFor, f_memoFor, f_memoSide, f_depth, f_known, f_ones, f_diagramFor, f_diagramRoot, f_nodeCount, f_leftCount, f_madeCount, a_kindOf, a_setP, a_setQ, a_clauses, a_table, a_memo, a_choiceOf, a_secondTry, a_knownBefore, a_onesBefore, a_nodeVariable, a_nodeLow, a_nodeHigh, a_nodeNext, a_listFirst, a_recentKey, a_recentNode, a_workF, a_workG, a_workPhase, a_workLow, a_nodeValue, a_left, a_made, a_onesOfVariable, a_tableBefore) rules := by
  refine br_c (fun e => ?_) (fun e => ?_)
  · subst e
    rcases ht with h | h
    · exact absurd h hr
    · exact K _ _ _ _ _ hc h
  · refine qx_makeClauses hM hV hr hc ?_
    intro m cl hok
    refine ⟨5, qx_buildTable_21 hok.1 ?_ 5 0 a_table (by omega) (by omega) (fun w hw => by omega)⟩
    intro tb ov h
    apply K _ _ _ _ _ (Or.inr ⟨m, rfl, hok⟩)
    intro a ha
    rw [h (a / 64) (by omega) (a % 64) (by omega), hok.2.2, show 64 * (a / 64) + a % 64 = a by omega]
theorem qx_holdsInTable {post : Int32 → Prop} {a : Nat} {H : (Nat → Bool) → Prop} (ha : a < 256) (hT : qt_T H a_table) (K : post (qb_p (H (fun i => a.testBit i)))) : wpX_holdsInTable post (f_theirs, f_ruleCount, f_wayNow, f_clausesOf, f_clauseCount, f_tableFor, f_memoFor, f_memoSide, f_depth, f_known, f_ones, f_diagramFor, f_diagramRoot, f_nodeCount, f_leftCount, f_madeCount, a_kindOf, a_setP, a_setQ, a_clauses, a_table, a_memo, a_choiceOf, a_secondTry, a_knownBefore, a_onesBefore, a_nodeVariable, a_nodeLow, a_nodeHigh, a_nodeNext, a_listFirst, a_recentKey, a_recentNode, a_workF, a_workG, a_workPhase, a_workLow, a_nodeValue, a_left, a_made, a_onesOfVariable, a_tableBefore) (nI a) := by
  have h6 : nI a >>> ((6 : Int32) &&& 31) = nI (a / 64) := pk_shrN (by omega) _ 6 (by decide)
  have h63 : nI a &&& 63 = nI (a % 64) := pk_andN (by omega) 6 (by decide)
  unfold wpX_holdsInTable
  dsimp only
  rw [h6, h63, nI_clamp (by omega)]
  refine ⟨vp_in_nI (by omega) (by omega), ?_⟩
  have hs : ((nI (a % 64)).toInt64.toUInt64 &&& Int64.toUInt64 63).toNat = a % 64 := by
    rw [wb_cu (a % 64) (by omega)]
    exact Nat.mod_eq_of_lt (by omega)
  refine ek_if (ts_bit (by omega) hs) (fun h => ?_) (fun h => ?_)
  · have : ¬ H (fun i => a.testBit i) := by
      rw [← hT a ha]
      intro z
      exact absurd (z.symm.trans h) (by decide)
    rw [qb_p_f this] at K; exact K
  · rw [qb_p_t ((hT a ha).mp (ts_nf h))] at K; exact K
theorem qx_onesInWord_5 {post : Int32 → Prop} : ∀ (f n c : Nat), n < 2 ^ 64 → qn_cnt (fun i => n.testBit i) 64 < f → post (nI (c + qn_cnt (fun i => n.testBit i) 64)) → wX_onesInWord_5 post f_theirs f_ruleCount f_wayNow f_clausesOf f_clauseCount f_tableFor f_memoFor f_memoSide f_depth f_known f_ones f_diagramFor f_diagramRoot f_nodeCount f_leftCount f_madeCount a_kindOf a_setP a_setQ a_clauses a_table a_memo a_choiceOf a_secondTry a_knownBefore a_onesBefore a_nodeVariable a_nodeLow a_nodeHigh a_nodeNext a_listFirst a_recentKey a_recentNode a_workF a_workG a_workPhase a_workLow a_nodeValue a_left a_made a_onesOfVariable a_tableBefore f (nI c) (lN n) := by
  intro f
  induction f with
  | zero => intro n c _ h; omega
  | succ f ih =>
    intro n c hn hf hp
    have hz : lN n = 0 ↔ n = 0 := by
      constructor
      · intro h
        have h1 := wb_tn hn
        rw [h] at h1
        exact h1.symm
      · intro h; rw [h]; rfl
    refine ek_if hz (fun e => ?_) (fun e => ?_)
    · subst e
      rw [qn_cnt_0 (fun i _ => Nat.zero_testBit i), Nat.add_zero] at hp
      exact hp
    · have h1 : lN n &&& (lN n - 1) = lN (n &&& (n - 1)) := by
        have : lN n - 1 = lN (n - 1) := lN_sub (b := 1) (by omega)
        rw [this, wb_and hn (by omega)]
      have h2 : n &&& (n - 1) ≤ n - 1 := Nat.and_le_right
      have h3 := qn_clear 64 n hn e
      refine nm_r h1 (nm_r (nI_1 c) (ih _ _ (by omega) (by omega) ?_))
      rw [show c + 1 + qn_cnt (fun i => (n &&& (n - 1)).testBit i) 64 = c + qn_cnt (fun i => n.testBit i) 64 by omega]
      exact hp
theorem qx_onesInWord {post : Int32 → Prop} {w : Int64} (K : post (nI (qn_cnt (qt_b w) 64))) : wpX_onesInWord post (f_theirs, f_ruleCount, f_wayNow, f_clausesOf, f_clauseCount, f_tableFor, f_memoFor, f_memoSide, f_depth, f_known, f_ones, f_diagramFor, f_diagramRoot, f_nodeCount, f_leftCount, f_madeCount, a_kindOf, a_setP, a_setQ, a_clauses, a_table, a_memo, a_choiceOf, a_secondTry, a_knownBefore, a_onesBefore, a_nodeVariable, a_nodeLow, a_nodeHigh, a_nodeNext, a_listFirst, a_recentKey, a_recentNode, a_workF, a_workG, a_workPhase, a_workLow, a_nodeValue, a_left, a_made, a_onesOfVariable, a_tableBefore) w := by
  obtain ⟨n, hn, rfl⟩ := wb_of w
  refine ⟨65, qx_onesInWord_5 65 n 0 hn (by have := qn_cnt_le (fun i => n.testBit i) 64; omega) ?_⟩
  rw [Nat.zero_add, qn_cnt_congr (g := qt_b (lN n)) (fun i hi => (qt_lN hi).symm)]
  exact K
theorem qn_cnt_add (f : Nat → Bool) (n m : Nat) : qn_cnt f (n + m) = qn_cnt f n + qn_cnt (fun i => f (n + i)) m := by
  induction m with
  | zero => rfl
  | succ m ih =>
    rw [← Nat.add_assoc]
    simp only [qn_cnt]
    rw [ih]; omega
theorem qx_count_45 {post : Int32 → SX → Prop} {H : (Nat → Bool) → Prop} (hT : qt_T H a_table) (K : post (nI (qn_cnt (fun a => qb_dec (H (fun i => a.testBit i))) 256)) (f_theirs, f_ruleCount, f_wayNow, f_clausesOf, f_clauseCount, f_tableFor, f_memoFor, f_memoSide, f_depth, f_known, f_ones, f_diagramFor, f_diagramRoot, f_nodeCount, f_leftCount, f_madeCount, a_kindOf, a_setP, a_setQ, a_clauses, a_table, a_memo, a_choiceOf, a_secondTry, a_knownBefore, a_onesBefore, a_nodeVariable, a_nodeLow, a_nodeHigh, a_nodeNext, a_listFirst, a_recentKey, a_recentNode, a_workF, a_workG, a_workPhase, a_workLow, a_nodeValue, a_left, a_made, a_onesOfVariable, a_tableBefore)) :
    ∀ (n w : Nat), w ≤ 4 → 4 < n + w → wX_count_45 post f_theirs f_ruleCount f_wayNow f_clausesOf f_clauseCount f_tableFor f_memoFor f_memoSide f_depth f_known f_ones f_diagramFor f_diagramRoot f_nodeCount f_leftCount f_madeCount a_kindOf a_setP a_setQ a_clauses a_table a_memo a_choiceOf a_secondTry a_knownBefore a_onesBefore a_nodeVariable a_nodeLow a_nodeHigh a_nodeNext a_listFirst a_recentKey a_recentNode a_workF a_workG a_workPhase a_workLow a_nodeValue a_left a_made a_onesOfVariable a_tableBefore n (nI (qn_cnt (fun a => qb_dec (H (fun i => a.testBit i))) (64 * w))) (nI w) := by
  intro n
  induction n with
  | zero => intro w h1 h2; omega
  | succ n ih =>
    intro w hw hf
    refine pk_le 4 w (fun e => ?_) (fun e => ⟨vp_in_nI (by omega) (by omega), ?_⟩)
    · rw [show w = 4 by omega]; exact K
    · rw [nI_clamp (by omega)]
      refine qx_onesInWord (nm_r (e' := nI (qn_cnt (fun a => qb_dec (H (fun i => a.testBit i))) (64 * (w + 1)))) ?_ (nm_r (nI_1 w) (ih (w + 1) (by omega) (by omega))))
      rw [nI_add, show 64 * (w + 1) = 64 * w + 64 by omega, qn_cnt_add]
      congr 2
      apply qn_cnt_congr
      intro j hj
      have h := hT (64 * w + j) (by omega)
      rw [show (64 * w + j) / 64 = w by omega, show (64 * w + j) % 64 = j by omega] at h
      cases e1 : qt_b (a_table w) j with
      | true => rw [qb_dec_t (h.mp e1)]
      | false => rw [qb_dec_f (fun z => by rw [h.mpr z] at e1; exact absurd e1 (by decide))]
end
end
section
/-! diagrams: nodes with a variable V, the nodes L for 0 and H for 1, and what they mean: D -/
abbrev qd_Gh : Type := (Nat → Nat) × (Nat → Nat) × (Nat → Nat) × (Nat → (Nat → Bool) → Bool)
def qd_V (g : qd_Gh) : Nat → Nat := g.1
def qd_L (g : qd_Gh) : Nat → Nat := g.2.1
def qd_H (g : qd_Gh) : Nat → Nat := g.2.2.1
def qd_D (g : qd_Gh) : Nat → (Nat → Bool) → Bool := g.2.2.2
def qd_u {α : Type} (f : Nat → α) (k : Nat) (x : α) : Nat → α := fun j => if j = k then x else f j
theorem qd_us {α : Type} {f : Nat → α} {k : Nat} {x : α} : qd_u f k x k = x := if_pos rfl
theorem qd_un {α : Type} {f : Nat → α} {k j : Nat} {x : α} (h : j ≠ k) : qd_u f k x j = f j := if_neg h
def qd_Rep (N : Nat) (nv lo hi : Nat → Int32) (g : qd_Gh) : Prop := ∀ j, j < N → nv j = nI (qd_V g j) ∧ (2 ≤ j → lo j = nI (qd_L g j) ∧ hi j = nI (qd_H g j))
def qd_WF (N : Nat) (g : qd_Gh) : Prop := 2 ≤ N ∧ qd_V g 0 = 8 ∧ qd_V g 1 = 8 ∧
  (∀ j, 2 ≤ j → j < N → qd_V g j < 8 ∧ qd_L g j < j ∧ qd_H g j < j ∧ qd_L g j ≠ qd_H g j ∧ qd_V g j < qd_V g (qd_L g j) ∧ qd_V g j < qd_V g (qd_H g j)) ∧
  (∀ i j, 2 ≤ i → i < N → 2 ≤ j → j < N → qd_V g i = qd_V g j → qd_L g i = qd_L g j → qd_H g i = qd_H g j → i = j)
def qd_hash (g : qd_Gh) (j : Nat) : Nat := (qd_V g j * 5 + qd_L g j * 7 + qd_H g j * 11) % 64
/-- x is the last below M in the list l, or 0 -/
def qd_last (h : Nat → Nat) (M l x : Nat) : Prop := (x = 0 ∨ (2 ≤ x ∧ x < M ∧ h x = l)) ∧ ∀ i, 2 ≤ i → x < i → i < M → h i ≠ l
def qd_Hash (N : Nat) (nx lf : Nat → Int32) (g : qd_Gh) : Prop :=
  (∀ l, l < 64 → ∃ x, lf l = nI x ∧ qd_last (qd_hash g) N l x) ∧ (∀ j, 2 ≤ j → j < N → ∃ x, nx j = nI x ∧ qd_last (qd_hash g) j (qd_hash g j) x)
def qd_Sem (N : Nat) (g : qd_Gh) : Prop := (∀ s, qd_D g 0 s = false) ∧ (∀ s, qd_D g 1 s = true) ∧ ∀ j, 2 ≤ j → j < N → ∀ s, qd_D g j s = cond (s (qd_V g j)) (qd_D g (qd_H g j) s) (qd_D g (qd_L g j) s)
def qd_Rec (N : Nat) (rk rn : Nat → Int32) (g : qd_Gh) : Prop := ∀ l, l < 64 → rk l = -1 ∨ ∃ p q r, p < N ∧ q < N ∧ r < N ∧ rk l = nI (1024 * p + q) ∧ rn l = nI r ∧ (∀ s, qd_D g r s = (qd_D g p s && qd_D g q s)) ∧ (∀ m, m ≤ qd_V g p → m ≤ qd_V g q → m ≤ qd_V g r)
def qd_OK (N : Nat) (nv lo hi nx lf rk rn : Nat → Int32) (g : qd_Gh) : Prop := qd_Rep N nv lo hi g ∧ qd_WF N g ∧ qd_Hash N nx lf g ∧ qd_Sem N g ∧ qd_Rec N rk rn g
def qd_Ext (N : Nat) (g : qd_Gh) (N' : Nat) (g' : qd_Gh) : Prop := N ≤ N' ∧ ∀ j, j < N → qd_V g' j = qd_V g j ∧ qd_L g' j = qd_L g j ∧ qd_H g' j = qd_H g j ∧ qd_D g' j = qd_D g j
theorem qd_Ext_rf {N : Nat} {g : qd_Gh} : qd_Ext N g N g := ⟨Nat.le_refl N, fun _ _ => ⟨rfl, rfl, rfl, rfl⟩⟩
theorem qd_Ext_tr {N N' N'' : Nat} {g g' g'' : qd_Gh} (h : qd_Ext N g N' g') (h' : qd_Ext N' g' N'' g'') : qd_Ext N g N'' g'' :=
  ⟨Nat.le_trans h.1 h'.1, fun j hj => by
    have a := h.2 j hj
    have b := h'.2 j (Nat.lt_of_lt_of_le hj h.1)
    exact ⟨b.1.trans a.1, b.2.1.trans a.2.1, b.2.2.1.trans a.2.2.1, b.2.2.2.trans a.2.2.2⟩⟩
theorem qd_V_le {N : Nat} {g : qd_Gh} (h : qd_WF N g) {j : Nat} (hj : j < N) : qd_V g j ≤ 8 := by
  by_cases h0 : j = 0
  · rw [h0, h.2.1]; exact Nat.le_refl 8
  · by_cases h1 : j = 1
    · rw [h1, h.2.2.1]; exact Nat.le_refl 8
    · exact Nat.le_of_lt (h.2.2.2.1 j (by omega) hj).1
theorem qd_V_8 {N : Nat} {g : qd_Gh} (h : qd_WF N g) {j : Nat} (hj : j < N) (h8 : 8 ≤ qd_V g j) : j < 2 := by
  apply Classical.byContradiction
  intro z
  have := (h.2.2.2.1 j (by omega) hj).1
  omega
/-- a node asks from its own variable on -/
theorem qd_supp {N : Nat} {g : qd_Gh} (hw : qd_WF N g) (hs : qd_Sem N g) : ∀ (j : Nat), j < N → ∀ s s' : Nat → Bool, (∀ i, qd_V g j ≤ i → i < 8 → s i = s' i) → qd_D g j s = qd_D g j s' := by
  intro j
  induction j using Nat.strongRecOn with
  | ind j ih =>
    intro hj s s' h
    by_cases h0 : j = 0
    · rw [h0, hs.1, hs.1]
    · by_cases h1 : j = 1
      · rw [h1, hs.2.1, hs.2.1]
      · have w := hw.2.2.2.1 j (by omega) hj
        rw [hs.2.2 j (by omega) hj, hs.2.2 j (by omega) hj, h _ (Nat.le_refl _) w.1,
          ih _ w.2.1 (by omega) s s' (fun i a b => h i (by omega) b), ih _ w.2.2.1 (by omega) s s' (fun i a b => h i (by omega) b)]
/-- one meaning, one node -/
theorem qd_canon {N : Nat} {g : qd_Gh} (hw : qd_WF N g) (hs : qd_Sem N g) : ∀ (n i j : Nat), i < n → j < n → i < N → j < N → (∀ s, qd_D g i s = qd_D g j s) → i = j := by
  intro n
  induction n with
  | zero => intro i j h; omega
  | succ n ih =>
    -- one with an earlier variable than the other
    have early : ∀ i j, i < n + 1 → i < N → j < N → qd_V g i < qd_V g j → (∀ s, qd_D g i s = qd_D g j s) → False := by
      intro i j hi hiN hjN hv he
      have hi2 : 2 ≤ i := by
        apply Classical.byContradiction
        intro z
        have h8 := qd_V_le hw hjN
        have : qd_V g i = 8 := by
          have h01 : i = 0 ∨ i = 1 := by omega
          rcases h01 with h | h
          · rw [h]; exact hw.2.1
          · rw [h]; exact hw.2.2.1
        omega
      have w := hw.2.2.2.1 i hi2 hiN
      apply w.2.2.2.1
      apply ih _ _ (by omega) (by omega) (by omega) (by omega)
      intro s
      have e0 : qd_D g (qd_L g i) s = qd_D g j (qg_up s (qd_V g i) false) := by
        rw [← he, hs.2.2 i hi2 hiN, qg_up_s]
        apply qd_supp hw hs _ (by omega)
        intro k a b
        rw [qg_up_n (by omega)]
      have e1 : qd_D g (qd_H g i) s = qd_D g j (qg_up s (qd_V g i) true) := by
        rw [← he, hs.2.2 i hi2 hiN, qg_up_s]
        apply qd_supp hw hs _ (by omega)
        intro k a b
        rw [qg_up_n (by omega)]
      rw [e0, e1]
      apply qd_supp hw hs j hjN
      intro k a b
      rw [qg_up_n (by omega), qg_up_n (by omega)]
    intro i j hi hj hiN hjN he
    rcases Nat.lt_trichotomy (qd_V g i) (qd_V g j) with hv | hv | hv
    · exact (early i j hi hiN hjN hv he).elim
    · by_cases hi2 : 2 ≤ i
      · have hj2 : 2 ≤ j := by
          apply Classical.byContradiction
          intro z
          have := (hw.2.2.2.1 i hi2 hiN).1
          have : qd_V g j = 8 := by
            have h01 : j = 0 ∨ j = 1 := by omega
            rcases h01 with h | h
            · rw [h]; exact hw.2.1
            · rw [h]; exact hw.2.2.1
          omega
        have wi := hw.2.2.2.1 i hi2 hiN
        have wj := hw.2.2.2.1 j hj2 hjN
        apply hw.2.2.2.2 i j hi2 hiN hj2 hjN hv
        · apply ih _ _ (by omega) (by omega) (by omega) (by omega)
          intro s
          have := he (qg_up s (qd_V g i) false)
          rw [hs.2.2 i hi2 hiN, hs.2.2 j hj2 hjN, ← hv, qg_up_s] at this
          have a1 : qd_D g (qd_L g i) (qg_up s (qd_V g i) false) = qd_D g (qd_L g i) s := qd_supp hw hs _ (by omega) _ _ (fun k a b => by rw [qg_up_n (by omega)])
          have a2 : qd_D g (qd_L g j) (qg_up s (qd_V g i) false) = qd_D g (qd_L g j) s := qd_supp hw hs _ (by omega) _ _ (fun k a b => by rw [qg_up_n (by omega)])
          rw [← a1, ← a2]; exact this
        · apply ih _ _ (by omega) (by omega) (by omega) (by omega)
          intro s
          have := he (qg_up s (qd_V g i) true)
          rw [hs.2.2 i hi2 hiN, hs.2.2 j hj2 hjN, ← hv, qg_up_s] at this
          have a1 : qd_D g (qd_H g i) (qg_up s (qd_V g i) true) = qd_D g (qd_H g i) s := qd_supp hw hs _ (by omega) _ _ (fun k a b => by rw [qg_up_n (by omega)])
          have a2 : qd_D g (qd_H g j) (qg_up s (qd_V g i) true) = qd_D g (qd_H g j) s := qd_supp hw hs _ (by omega) _ _ (fun k a b => by rw [qg_up_n (by omega)])
          rw [← a1, ← a2]; exact this
      · have hj2 : j < 2 := by
          apply qd_V_8 hw hjN
          rw [← hv]
          have h01 : i = 0 ∨ i = 1 := by omega
          rcases h01 with h | h
          · rw [h, hw.2.1]; exact Nat.le_refl 8
          · rw [h, hw.2.2.1]; exact Nat.le_refl 8
        have h01 : i = 0 ∨ i = 1 := by omega
        have h02 : j = 0 ∨ j = 1 := by omega
        have he0 := he (fun _ => false)
        rcases h01 with h | h <;> rcases h02 with h' | h' <;> subst h <;> subst h'
        · rfl
        · rw [hs.1, hs.2.1] at he0; exact absurd he0 (by decide)
        · rw [hs.1, hs.2.1] at he0; exact absurd he0 (by decide)
        · rfl
    · exact (early j i hj hjN hiN hv (fun s => (he s).symm)).elim
theorem qd_can {N : Nat} {g : qd_Gh} (hw : qd_WF N g) (hs : qd_Sem N g) {i j : Nat} (hi : i < N) (hj : j < N) (h : ∀ s, qd_D g i s = qd_D g j s) : i = j :=
  qd_canon hw hs N i j hi hj hi hj h
/-- a new node -/
def qd_new (g : qd_Gh) (N v l h : Nat) : qd_Gh := (qd_u (qd_V g) N v, qd_u (qd_L g) N l, qd_u (qd_H g) N h, qd_u (qd_D g) N (fun s => cond (s v) (qd_D g h s) (qd_D g l s)))
theorem qd_new_Ext {g : qd_Gh} {N v l h : Nat} : qd_Ext N g (N + 1) (qd_new g N v l h) :=
  ⟨Nat.le_succ N, fun j hj => ⟨qd_un (by omega), qd_un (by omega), qd_un (by omega), qd_un (by omega)⟩⟩
theorem qd_last_up {h h' : Nat → Nat} {N l x : Nat} (H : qd_last h N l x) (e : ∀ i, i < N → h' i = h i) : qd_last h' N l x := by
  refine ⟨?_, fun i a b c => ?_⟩
  · rcases H.1 with z | ⟨a, b, c⟩
    · exact Or.inl z
    · exact Or.inr ⟨a, b, by rw [e x b]; exact c⟩
  · rw [e i c]; exact H.2 i a b c
theorem qd_new_OK {N v l h : Nat} {nv lo hi nx lf rk rn : Nat → Int32} {g : qd_Gh} (ok : qd_OK N nv lo hi nx lf rk rn g) (hv : v < 8) (hl : l < N) (hh : h < N) (hne : l ≠ h) (hvl : v < qd_V g l) (hvh : v < qd_V g h)
    (hnew : ∀ j, 2 ≤ j → j < N → ¬ (qd_V g j = v ∧ qd_L g j = l ∧ qd_H g j = h)) :
    qd_OK (N + 1) (upd nv N (nI v)) (upd lo N (nI l)) (upd hi N (nI h)) (upd nx N (lf ((v * 5 + l * 7 + h * 11) % 64))) (upd lf ((v * 5 + l * 7 + h * 11) % 64) (nI N)) rk rn (qd_new g N v l h) := by
  obtain ⟨hR, hW, hH, hS, hC⟩ := ok
  have X := qd_new_Ext (g := g) (N := N) (v := v) (l := l) (h := h)
  have eV : qd_V (qd_new g N v l h) N = v := qd_us
  have eL : qd_L (qd_new g N v l h) N = l := qd_us
  have eH : qd_H (qd_new g N v l h) N = h := qd_us
  have eD : ∀ s, qd_D (qd_new g N v l h) N s = cond (s v) (qd_D g h s) (qd_D g l s) := fun s => congrFun qd_us s
  have hN2 := hW.1
  have ehash : ∀ i, i < N → qd_hash (qd_new g N v l h) i = qd_hash g i := by
    intro i hi'
    have := X.2 i hi'
    unfold qd_hash
    rw [this.1, this.2.1, this.2.2.1]
  have ehN : qd_hash (qd_new g N v l h) N = (v * 5 + l * 7 + h * 11) % 64 := by unfold qd_hash; rw [eV, eL, eH]
  refine ⟨?_, ⟨by omega, ?_, ?_, ?_, ?_⟩, ⟨?_, ?_⟩, ⟨?_, ?_, ?_⟩, ?_⟩
  · intro j hj
    by_cases e : j = N
    · subst e
      rw [pk_us, pk_us, pk_us, eV, eL, eH]
      exact ⟨rfl, fun _ => ⟨rfl, rfl⟩⟩
    · have := X.2 j (by omega)
      rw [pk_un e, pk_un e, pk_un e, this.1, this.2.1, this.2.2.1]
      exact hR j (by omega)
  · rw [(X.2 0 (by omega)).1]; exact hW.2.1
  · rw [(X.2 1 (by omega)).1]; exact hW.2.2.1
  · intro j h2 hj
    by_cases e : j = N
    · subst e
      rw [eV, eL, eH, (X.2 l hl).1, (X.2 h hh).1]
      exact ⟨hv, hl, hh, hne, hvl, hvh⟩
    · have w := hW.2.2.2.1 j h2 (by omega)
      have := X.2 j (by omega)
      rw [this.1, this.2.1, this.2.2.1, (X.2 _ (by omega : qd_L g j < N)).1, (X.2 _ (by omega : qd_H g j < N)).1]
      exact w
  · intro i j h1 h2 h3 h4 a b c
    by_cases e : i = N
    · by_cases e' : j = N
      · omega
      · subst e
        have := X.2 j (by omega)
        rw [this.1, eV] at a
        rw [this.2.1, eL] at b
        rw [this.2.2.1, eH] at c
        exact absurd ⟨a.symm, b.symm, c.symm⟩ (hnew j h3 (by omega))
    · by_cases e' : j = N
      · subst e'
        have := X.2 i (by omega)
        rw [this.1, eV] at a
        rw [this.2.1, eL] at b
        rw [this.2.2.1, eH] at c
        exact absurd ⟨a, b, c⟩ (hnew i h1 (by omega))
      · have xi := X.2 i (by omega)
        have xj := X.2 j (by omega)
        rw [xi.1, xj.1] at a
        rw [xi.2.1, xj.2.1] at b
        rw [xi.2.2.1, xj.2.2.1] at c
        exact hW.2.2.2.2 i j h1 (by omega) h3 (by omega) a b c
  · intro l' hl'
    by_cases e : l' = (v * 5 + l * 7 + h * 11) % 64
    · subst e
      refine ⟨N, pk_us, Or.inr ⟨hN2, by omega, ehN⟩, fun i a b c => by omega⟩
    · obtain ⟨x, hx, hlast⟩ := hH.1 l' hl'
      refine ⟨x, by rw [pk_un e]; exact hx, ?_, fun i a b c => ?_⟩
      · rcases hlast.1 with z | ⟨a, b, c⟩
        · exact Or.inl z
        · exact Or.inr ⟨a, by omega, by rw [ehash x b]; exact c⟩
      · by_cases e1 : i = N
        · subst e1; rw [ehN]; exact fun z => e z.symm
        · rw [ehash i (by omega)]; exact hlast.2 i a b (by omega)
  · intro j h2 hj
    by_cases e : j = N
    · subst e
      obtain ⟨x, hx, hlast⟩ := hH.1 ((v * 5 + l * 7 + h * 11) % 64) (Nat.mod_lt _ (by decide))
      refine ⟨x, by rw [pk_us]; exact hx, ?_⟩
      rw [ehN]
      exact qd_last_up hlast ehash
    · obtain ⟨x, hx, hlast⟩ := hH.2 j h2 (by omega)
      refine ⟨x, by rw [pk_un e]; exact hx, ?_⟩
      rw [ehash j (by omega)]
      exact qd_last_up hlast (fun i hi' => ehash i (by omega))
  · intro s; rw [(X.2 0 (by omega)).2.2.2]; exact hS.1 s
  · intro s; rw [(X.2 1 (by omega)).2.2.2]; exact hS.2.1 s
  · intro j h2 hj s
    by_cases e : j = N
    · subst e
      rw [eD, eV, eL, eH, (X.2 l hl).2.2.2, (X.2 h hh).2.2.2]
    · have w := hW.2.2.2.1 j h2 (by omega)
      have := X.2 j (by omega)
      rw [this.1, this.2.1, this.2.2.1, this.2.2.2, (X.2 _ (by omega : qd_L g j < N)).2.2.2, (X.2 _ (by omega : qd_H g j < N)).2.2.2]
      exact hS.2.2 j h2 (by omega) s
  · intro l' hl'
    rcases hC l' hl' with z | ⟨p, q, r, a1, a2, a3, a4, a5, a6, a7⟩
    · exact Or.inl z
    · refine Or.inr ⟨p, q, r, by omega, by omega, by omega, a4, a5, ?_, ?_⟩
      · rw [(X.2 p a1).2.2.2, (X.2 q a2).2.2.2, (X.2 r a3).2.2.2]; exact a6
      · rw [(X.2 p a1).1, (X.2 q a2).1, (X.2 r a3).1]; exact a7
/-- no nodes but the ends -/
def qd_g0 : qd_Gh := (fun _ => 8, fun _ => 0, fun _ => 0, fun j _ => decide (j = 1))
theorem qd_start {nv lo hi nx lf rk rn : Nat → Int32} (h0 : nv 0 = 8) (h1 : nv 1 = 8) (hl : ∀ l, l < 64 → lf l = 0) (hr : ∀ l, l < 64 → rk l = -1) : qd_OK 2 nv lo hi nx lf rk rn qd_g0 := by
  refine ⟨fun j hj => ⟨?_, fun h => by omega⟩, ⟨Nat.le_refl 2, rfl, rfl, fun j a b => by omega, fun i j a b => by omega⟩, ⟨fun l h => ⟨0, hl l h, Or.inl rfl, fun i a b c => by omega⟩, fun j a b => by omega⟩, ⟨fun s => rfl, fun s => rfl, fun j a b => by omega⟩, fun l h => Or.inl (hr l h)⟩
  have h01 : j = 0 ∨ j = 1 := by omega
  rcases h01 with h | h
  · subst h; exact h0
  · subst h; exact h1
/-! what is reached from a root, and how much that can be -/
def qd_Re (g : qd_Gh) (r n : Nat) : Prop := ∃ s : Nat → Bool, ∀ t : Nat → Bool, (∀ i, i < qd_V g n → t i = s i) → qd_D g r t = qd_D g n t
theorem qd_Re_rf {g : qd_Gh} {r : Nat} : qd_Re g r r := ⟨fun _ => false, fun _ _ => rfl⟩
theorem qd_Re_c {N : Nat} {g : qd_Gh} (hw : qd_WF N g) (hs : qd_Sem N g) {r n : Nat} (h2 : 2 ≤ n) (hn : n < N) (h : qd_Re g r n) : qd_Re g r (qd_L g n) ∧ qd_Re g r (qd_H g n) := by
  obtain ⟨s, hs'⟩ := h
  have w := hw.2.2.2.1 n h2 hn
  constructor
  · refine ⟨qg_up s (qd_V g n) false, fun t ht => ?_⟩
    rw [hs' t (fun i hi => by rw [ht i (by omega), qg_up_n (by omega)]), hs.2.2 n h2 hn, ht _ w.2.2.2.2.1, qg_up_s]; rfl
  · refine ⟨qg_up s (qd_V g n) true, fun t ht => ?_⟩
    rw [hs' t (fun i hi => by rw [ht i (by omega), qg_up_n (by omega)]), hs.2.2 n h2 hn, ht _ w.2.2.2.2.2, qg_up_s]; rfl
theorem qn_pigeon2 {B n : Nat} {f : Nat → Bool} (P : Nat → Nat → Prop) (hu : ∀ c i j, P c i → P c j → i = j) (h : ∀ i, i < n → f i = true → ∃ c, c < B ∧ P c i) : qn_cnt f n ≤ B := by
  have hg : ∀ c, ∃ i, (∃ j, P c j) → P c i := by
    intro c
    rcases Classical.em (∃ j, P c j) with ⟨j, z⟩ | z
    · exact ⟨j, fun _ => z⟩
    · exact ⟨0, fun y => absurd y z⟩
  apply qn_pigeon (fun c => (hg c).choose)
  intro i hi hf
  obtain ⟨c, hc, hp⟩ := h i hi hf
  exact ⟨c, hc, hu c _ _ ((hg c).choose_spec ⟨i, hp⟩) hp⟩
/-- a number with given bits below v, and a last one at v -/
theorem qn_code (v : Nat) (s : Nat → Bool) : ∃ m, 2 ^ v ≤ m ∧ m < 2 ^ (v + 1) ∧ ∀ i, i < v → m.testBit i = s i := by
  have h := qn_num_lt v s
  refine ⟨2 ^ v + qn_num s v, by omega, by rw [Nat.pow_succ]; omega, fun i hi => ?_⟩
  rw [Nat.testBit_two_pow_add_gt hi]
  exact qn_num_bit v s i hi
/-- the same beginning, the same node -/
theorem qd_pre {N : Nat} {g : qd_Gh} (hw : qd_WF N g) (hs : qd_Sem N g) {r i j : Nat} {s : Nat → Bool} (hi : i < N) (hj : j < N) (hv : qd_V g i = qd_V g j)
    (h1 : ∀ t : Nat → Bool, (∀ k, k < qd_V g i → t k = s k) → qd_D g r t = qd_D g i t) (h2 : ∀ t : Nat → Bool, (∀ k, k < qd_V g j → t k = s k) → qd_D g r t = qd_D g j t) : i = j := by
  apply qd_can hw hs hi hj
  intro t
  have a1 : qd_D g i t = qd_D g i (fun k => if k < qd_V g i then s k else t k) := qd_supp hw hs i hi _ _ (fun k a b => by rw [if_neg (by omega)])
  have a2 : qd_D g j t = qd_D g j (fun k => if k < qd_V g i then s k else t k) := qd_supp hw hs j hj _ _ (fun k a b => by rw [if_neg (by omega)])
  rw [a1, a2, ← h1 _ (fun k hk => if_pos hk), ← h2 _ (fun k hk => if_pos (by omega))]
theorem qd_count {N : Nat} {g : qd_Gh} (hw : qd_WF N g) (hs : qd_Sem N g) {r1 r2 : Nat} {f : Nat → Bool} (hf : ∀ n, n < N → f n = true → 2 ≤ n ∧ (qd_Re g r1 n ∨ qd_Re g r2 n)) : qn_cnt f N ≤ 256 := by
  have key : ∀ (r m i j : Nat), i < N → j < N → 2 ^ qd_V g i ≤ m → m < 2 ^ (qd_V g i + 1) → 2 ^ qd_V g j ≤ m → m < 2 ^ (qd_V g j + 1) →
      (∀ t : Nat → Bool, (∀ k, k < qd_V g i → t k = m.testBit k) → qd_D g r t = qd_D g i t) → (∀ t : Nat → Bool, (∀ k, k < qd_V g j → t k = m.testBit k) → qd_D g r t = qd_D g j t) → i = j := by
    intro r m i j hi hj a1 a2 b1 b2 h1 h2
    have hv : qd_V g i = qd_V g j := by
      rcases Nat.lt_trichotomy (qd_V g i) (qd_V g j) with z | z | z
      · have : 2 ^ (qd_V g i + 1) ≤ 2 ^ qd_V g j := Nat.pow_le_pow_right (by decide) (by omega)
        omega
      · exact z
      · have : 2 ^ (qd_V g j + 1) ≤ 2 ^ qd_V g i := Nat.pow_le_pow_right (by decide) (by omega)
        omega
    exact qd_pre hw hs hi hj hv h1 h2
  -- which node a number stands for
  apply qn_pigeon2 (fun c i => i < N ∧ 2 ≤ i ∧ (
    (c < 127 ∧ 2 ^ qd_V g i ≤ c + 1 ∧ c + 1 < 2 ^ (qd_V g i + 1) ∧ ∀ t : Nat → Bool, (∀ k, k < qd_V g i → t k = (c + 1).testBit k) → qd_D g r1 t = qd_D g i t) ∨
    (127 ≤ c ∧ c < 254 ∧ 2 ^ qd_V g i ≤ c - 126 ∧ c - 126 < 2 ^ (qd_V g i + 1) ∧ ∀ t : Nat → Bool, (∀ k, k < qd_V g i → t k = (c - 126).testBit k) → qd_D g r2 t = qd_D g i t) ∨
    (254 ≤ c ∧ qd_V g i = 7 ∧ qd_L g i = c - 254)))
  · intro c i j ⟨hi, hi2, zi⟩ ⟨hj, hj2, zj⟩
    rcases zi with ⟨a, b, c', d⟩ | ⟨a, a', b, c', d⟩ | ⟨a, b, c'⟩
    · rcases zj with ⟨x, y, z, w⟩ | ⟨x, x', y, z, w⟩ | ⟨x, y, z⟩
      · exact key r1 (c + 1) i j hi hj b c' y z d w
      · omega
      · omega
    · rcases zj with ⟨x, y, z, w⟩ | ⟨x, x', y, z, w⟩ | ⟨x, y, z⟩
      · omega
      · exact key r2 (c - 126) i j hi hj b c' y z d w
      · omega
    · rcases zj with ⟨x, y, z, w⟩ | ⟨x, x', y, z, w⟩ | ⟨x, y, z⟩
      · omega
      · omega
      · have wi := hw.2.2.2.1 i hi2 hi
        have wj := hw.2.2.2.1 j hj2 hj
        apply hw.2.2.2.2 i j hi2 hi hj2 hj (by omega) (by omega)
        have i1 := qd_V_8 hw (by omega : qd_L g i < N) (by omega)
        have i2 := qd_V_8 hw (by omega : qd_H g i < N) (by omega)
        have j1 := qd_V_8 hw (by omega : qd_L g j < N) (by omega)
        have j2 := qd_V_8 hw (by omega : qd_H g j < N) (by omega)
        omega
  · intro i hi hfi
    obtain ⟨hi2, hre⟩ := hf i hi hfi
    have w := hw.2.2.2.1 i hi2 hi
    by_cases h7 : qd_V g i = 7
    · have i1 := qd_V_8 hw (by omega : qd_L g i < N) (by omega)
      exact ⟨254 + qd_L g i, by omega, hi, hi2, Or.inr (Or.inr ⟨by omega, h7, by omega⟩)⟩
    · have h128 : 2 ^ (qd_V g i + 1) ≤ 2 ^ 7 := Nat.pow_le_pow_right (by decide) (by omega)
      have hpos : 0 < 2 ^ qd_V g i := Nat.pow_pos (by decide)
      rcases hre with ⟨s, h⟩ | ⟨s, h⟩
      · obtain ⟨m, m1, m2, m3⟩ := qn_code (qd_V g i) s
        refine ⟨m - 1, by omega, hi, hi2, Or.inl ⟨by omega, by omega, by omega, fun t ht => h t (fun k hk => ?_)⟩⟩
        rw [ht k hk, show m - 1 + 1 = m by omega]; exact m3 k hk
      · obtain ⟨m, m1, m2, m3⟩ := qn_code (qd_V g i) s
        refine ⟨m + 126, by omega, hi, hi2, Or.inr (Or.inl ⟨by omega, by omega, by omega, by omega, fun t ht => h t (fun k hk => ?_)⟩)⟩
        rw [ht k hk, show m + 126 - 126 = m by omega]; exact m3 k hk
end
section
/-! diagrams: nodes are found again or made; clauses -/
theorem qd_short : ∀ x, x < 1024 → (nI x).toInt16.toInt32 = nI x := by decide +kernel
theorem qd_vs {x : Nat} (h : x < 1024) : vp_nar .short (nI x).toInt16.toInt32 = nI x := by rw [pk_vs, qd_short x h]
theorem qd_vs' {x : Nat} (h : x < 1024) : vp_nar .short (nI x) = nI x := by rw [vp_nar_short, qd_short x h]
section
variable {f_theirs f_ruleCount f_wayNow f_clausesOf f_clauseCount f_tableFor f_memoFor f_memoSide f_depth f_known f_ones f_diagramFor f_diagramRoot f_nodeCount f_leftCount f_madeCount : Int32} {a_kindOf a_setP a_setQ a_clauses a_memo a_choiceOf a_secondTry a_knownBefore a_onesBefore a_nodeVariable a_nodeLow a_nodeHigh a_nodeNext a_listFirst a_recentKey a_recentNode a_workF a_workG a_workPhase a_workLow a_nodeValue a_left a_made : Nat → Int32} {a_table a_onesOfVariable a_tableBefore : Nat → Int64}
theorem qx_startDiagram_23 {post : SX → Prop} (K : ∀ lf rk, (∀ l, l < 64 → lf l = 0) → (∀ l, l < 64 → rk l = -1) → post (f_theirs, f_ruleCount, f_wayNow, f_clausesOf, f_clauseCount, f_tableFor, f_memoFor, f_memoSide, f_depth, f_known, f_ones, f_diagramFor, f_diagramRoot, f_nodeCount, f_leftCount, f_madeCount, a_kindOf, a_setP, a_setQ, a_clauses, a_table, a_memo, a_choiceOf, a_secondTry, a_knownBefore, a_onesBefore, a_nodeVariable, a_nodeLow, a_nodeHigh, a_nodeNext, lf, rk, a_recentNode, a_workF, a_workG, a_workPhase, a_workLow, a_nodeValue, a_left, a_made, a_onesOfVariable, a_tableBefore)) :
    ∀ (n i : Nat) (lf rk : Nat → Int32), i ≤ 64 → 64 < n + i → (∀ l, l < i → lf l = 0) → (∀ l, l < i → rk l = -1) → wX_startDiagram_23 post f_theirs f_ruleCount f_wayNow f_clausesOf f_clauseCount f_tableFor f_memoFor f_memoSide f_depth f_known f_ones f_diagramFor f_diagramRoot f_nodeCount f_leftCount f_madeCount n (nI i) a_kindOf a_setP a_setQ a_clauses a_table a_memo a_choiceOf a_secondTry a_knownBefore a_onesBefore a_nodeVariable a_nodeLow a_nodeHigh a_nodeNext lf rk a_recentNode a_workF a_workG a_workPhase a_workLow a_nodeValue a_left a_made a_onesOfVariable a_tableBefore := by
  intro n
  induction n with
  | zero => intro i lf rk h1 h2; omega
  | succ n ih =>
    intro i lf rk hi hf h1 h2
    have hcl : (nI i).toNatClampNeg = i := nI_clamp (by omega)
    refine pk_le 64 i (fun e => K lf rk (fun l hl => h1 l (by omega)) (fun l hl => h2 l (by omega))) (fun e => ?_)
    refine ⟨vp_in_nI e (by omega), nm_r (e' := upd lf i 0) (by rw [hcl, vp_nar_short]; rfl) ⟨vp_in_nI e (by omega), nm_r (e' := upd rk i (-1)) (by rw [hcl]) (nm_r (nI_1 i) (ih (i + 1) _ _ (by omega) (by omega) ?_ ?_))⟩⟩
    · intro l hl
      by_cases e1 : l = i
      · subst e1; exact pk_us
      · rw [pk_un e1]; exact h1 l (by omega)
    · intro l hl
      by_cases e1 : l = i
      · subst e1; exact pk_us
      · rw [pk_un e1]; exact h2 l (by omega)
theorem qx_startDiagram {post : SX → Prop} (K : ∀ (a_nodeVariable' a_listFirst' a_recentKey' : Nat → Int32), (∀ j, 2 ≤ j → a_nodeVariable' j = a_nodeVariable j) → qd_OK 2 a_nodeVariable' a_nodeLow a_nodeHigh a_nodeNext a_listFirst' a_recentKey' a_recentNode qd_g0 → post (f_theirs, f_ruleCount, f_wayNow, f_clausesOf, f_clauseCount, f_tableFor, f_memoFor, f_memoSide, f_depth, f_known, f_ones, f_diagramFor, f_diagramRoot, 2, f_leftCount, f_madeCount, a_kindOf, a_setP, a_setQ, a_clauses, a_table, a_memo, a_choiceOf, a_secondTry, a_knownBefore, a_onesBefore, a_nodeVariable', a_nodeLow, a_nodeHigh, a_nodeNext, a_listFirst', a_recentKey', a_recentNode, a_workF, a_workG, a_workPhase, a_workLow, a_nodeValue, a_left, a_made, a_onesOfVariable, a_tableBefore)) :
    wpX_startDiagram post (f_theirs, f_ruleCount, f_wayNow, f_clausesOf, f_clauseCount, f_tableFor, f_memoFor, f_memoSide, f_depth, f_known, f_ones, f_diagramFor, f_diagramRoot, f_nodeCount, f_leftCount, f_madeCount, a_kindOf, a_setP, a_setQ, a_clauses, a_table, a_memo, a_choiceOf, a_secondTry, a_knownBefore, a_onesBefore, a_nodeVariable, a_nodeLow, a_nodeHigh, a_nodeNext, a_listFirst, a_recentKey, a_recentNode, a_workF, a_workG, a_workPhase, a_workLow, a_nodeValue, a_left, a_made, a_onesOfVariable, a_tableBefore) := by
  refine nm_r (e' := upd a_nodeVariable 0 8) (by rw [vp_nar_byte]; rfl) (nm_r (e' := upd (upd a_nodeVariable 0 8) 1 8) (by rw [vp_nar_byte]; rfl) ⟨65, ?_⟩)
  refine qx_startDiagram_23 ?_ 65 0 a_listFirst a_recentKey (by omega) (by omega) (fun l hl => by omega) (fun l hl => by omega)
  intro lf rk h1 h2
  apply K
  · intro j hj
    rw [pk_un (by omega), pk_un (by omega)]
  · exact qd_start (by rw [pk_un (by omega), pk_us]) pk_us h1 h2
theorem qx_node_34 {post : Int32 → SX → Prop} {N v l h : Nat} {g : qd_Gh} (ok : qd_OK N a_nodeVariable a_nodeLow a_nodeHigh a_nodeNext a_listFirst a_recentKey a_recentNode g) (hN : N < 600) (hv : v < 8) (hl : l < N) (hh : h < N) (hne : l ≠ h) (hvl : v < qd_V g l) (hvh : v < qd_V g h)
    (K : ∀ (r N' : Nat) (g' : qd_Gh) (a_nodeVariable' a_nodeLow' a_nodeHigh' a_nodeNext' a_listFirst' : Nat → Int32), qd_OK N' a_nodeVariable' a_nodeLow' a_nodeHigh' a_nodeNext' a_listFirst' a_recentKey a_recentNode g' → qd_Ext N g N' g' → N' ≤ N + 1 → r < N' → v ≤ qd_V g' r → (∀ s, qd_D g' r s = cond (s v) (qd_D g h s) (qd_D g l s)) →
      (∀ j, N < j → a_nodeVariable' j = a_nodeVariable j ∧ a_nodeLow' j = a_nodeLow j ∧ a_nodeHigh' j = a_nodeHigh j) → post (nI r) (f_theirs, f_ruleCount, f_wayNow, f_clausesOf, f_clauseCount, f_tableFor, f_memoFor, f_memoSide, f_depth, f_known, f_ones, f_diagramFor, f_diagramRoot, nI N', f_leftCount, f_madeCount, a_kindOf, a_setP, a_setQ, a_clauses, a_table, a_memo, a_choiceOf, a_secondTry, a_knownBefore, a_onesBefore, a_nodeVariable', a_nodeLow', a_nodeHigh', a_nodeNext', a_listFirst', a_recentKey, a_recentNode, a_workF, a_workG, a_workPhase, a_workLow, a_nodeValue, a_left, a_made, a_onesOfVariable, a_tableBefore)) :
    ∀ (n x : Nat), x < n → (x = 0 ∨ (2 ≤ x ∧ x < N ∧ qd_hash g x = (v * 5 + l * 7 + h * 11) % 64)) → (∀ i, 2 ≤ i → x < i → i < N → ¬ (qd_V g i = v ∧ qd_L g i = l ∧ qd_H g i = h)) →
    wX_node_34 post (nI v) (nI l) (nI h) (nI ((v * 5 + l * 7 + h * 11) % 64)) f_theirs f_ruleCount f_wayNow f_clausesOf f_clauseCount f_tableFor f_memoFor f_memoSide f_depth f_known f_ones f_diagramFor f_diagramRoot (nI N) f_leftCount f_madeCount a_kindOf a_setP a_setQ a_clauses a_table a_memo a_choiceOf a_secondTry a_knownBefore a_onesBefore a_nodeVariable a_nodeLow a_nodeHigh a_nodeNext a_listFirst a_recentKey a_recentNode a_workF a_workG a_workPhase a_workLow a_nodeValue a_left a_made a_onesOfVariable a_tableBefore n (nI x) := by
  have h64 : (v * 5 + l * 7 + h * 11) % 64 < 64 := Nat.mod_lt _ (by decide)
  intro n
  induction n with
  | zero => intro x hx; omega
  | succ n ih =>
    intro x hx hx0 hnot
    have hxN : x < 600 := by omega
    refine pk_le x 0 (fun e => ?_) (fun e => ?_)
    · have e : x = 0 := by omega
      have hinN : vp_in (nI N) 600 := vp_in_nI hN (by omega)
      have hclN : (nI N).toNatClampNeg = N := nI_clamp (by omega)
      have hin4 : vp_in (nI ((v * 5 + l * 7 + h * 11) % 64)) 64 := vp_in_nI h64 (by omega)
      have hcl4 : (nI ((v * 5 + l * 7 + h * 11) % 64)).toNatClampNeg = (v * 5 + l * 7 + h * 11) % 64 := nI_clamp (by omega)
      obtain ⟨y, hy, hlast⟩ := ok.2.2.1.1 _ h64
      have hyN : y < 1024 := by rcases hlast.1 with z | z <;> omega
      refine nm_r (nI_1 N) ⟨hinN, nm_r (e' := upd a_nodeVariable N (nI v)) (by rw [hclN, qs_byte v hv]) ⟨hinN, nm_r (e' := upd a_nodeLow N (nI l)) (by rw [hclN, qd_vs (by omega)]) ⟨hinN, nm_r (e' := upd a_nodeHigh N (nI h)) (by rw [hclN, qd_vs (by omega)]) ⟨hin4, hinN, nm_r (e' := upd a_nodeNext N (a_listFirst ((v * 5 + l * 7 + h * 11) % 64))) (by rw [hclN, hcl4, hy, qd_vs' hyN]) ⟨hin4, nm_r (e' := upd a_listFirst ((v * 5 + l * 7 + h * 11) % 64) (nI N)) (by rw [hcl4, qd_vs (by omega)]) ?_⟩⟩⟩⟩⟩
      refine K N (N + 1) (qd_new g N v l h) _ _ _ _ _ (qd_new_OK ok hv hl hh hne hvl hvh (fun j a b => hnot j a (by omega) b)) qd_new_Ext (by omega) (by omega) (Nat.le_of_eq qd_us.symm) (fun s => congrFun qd_us s) (fun j hj => ⟨pk_un (by omega), pk_un (by omega), pk_un (by omega)⟩)
    · obtain ⟨hx2, hxN', hxh⟩ : 2 ≤ x ∧ x < N ∧ qd_hash g x = (v * 5 + l * 7 + h * 11) % 64 := hx0.elim (fun z => by omega) id
      have hin : vp_in (nI x) 600 := vp_in_nI hxN (by omega)
      have hcl : (nI x).toNatClampNeg = x := nI_clamp (by omega)
      have hrep := ok.1 x hxN'
      have hrep2 := hrep.2 hx2
      have w := ok.2.1.2.2.2.1 x hx2 hxN'
      obtain ⟨y, hy, hlast⟩ := ok.2.2.1.2 x hx2 hxN'
      have hyx : y < x := by rcases hlast.1 with z | z <;> omega
      have next : ¬ (qd_V g x = v ∧ qd_L g x = l ∧ qd_H g x = h) → wX_node_34 post (nI v) (nI l) (nI h) (nI ((v * 5 + l * 7 + h * 11) % 64)) f_theirs f_ruleCount f_wayNow f_clausesOf f_clauseCount f_tableFor f_memoFor f_memoSide f_depth f_known f_ones f_diagramFor f_diagramRoot (nI N) f_leftCount f_madeCount a_kindOf a_setP a_setQ a_clauses a_table a_memo a_choiceOf a_secondTry a_knownBefore a_onesBefore a_nodeVariable a_nodeLow a_nodeHigh a_nodeNext a_listFirst a_recentKey a_recentNode a_workF a_workG a_workPhase a_workLow a_nodeValue a_left a_made a_onesOfVariable a_tableBefore n (nI y) := by
        intro hno
        apply ih y (by omega)
        · rcases hlast.1 with z | ⟨a, b, c⟩
          · exact Or.inl z
          · exact Or.inr ⟨a, by omega, by rw [c]; exact hxh⟩
        · intro i a b c
          by_cases e1 : i = x
          · subst e1; exact hno
          · by_cases e2 : i < x
            · intro ⟨z1, z2, z3⟩
              apply hlast.2 i a b e2
              rw [hxh]
              unfold qd_hash
              rw [z1, z2, z3]
            · exact hnot i a (by omega) c
      refine ⟨hin, ?_⟩
      rw [hcl, hrep.1, hrep2.1, hrep2.2, hy]
      refine pk_eq (qd_V g x) v (fun e1 => ⟨hin, pk_eq (qd_L g x) l (fun e2 => ⟨hin, pk_eq (qd_H g x) h (fun e3 => ?_) (fun e3 => ⟨hin, nm_e (next (fun z => e3 z.2.2))⟩)⟩) (fun e2 => ⟨hin, nm_e (next (fun z => e2 z.2.1))⟩)⟩) (fun e1 => ⟨hin, nm_e (next (fun z => e1 z.1))⟩)
      refine K x N g _ _ _ _ _ ok qd_Ext_rf (by omega) hxN' (by omega) (fun s => ?_) (fun j hj => ⟨rfl, rfl, rfl⟩)
      rw [ok.2.2.2.1.2.2 x hx2 hxN', e1, e2, e3]
theorem qx_node {post : Int32 → SX → Prop} {N v l h : Nat} {g : qd_Gh} (ok : qd_OK N a_nodeVariable a_nodeLow a_nodeHigh a_nodeNext a_listFirst a_recentKey a_recentNode g) (hN : N < 600) (hv : v < 8) (hl : l < N) (hh : h < N) (hvl : v < qd_V g l) (hvh : v < qd_V g h)
    (K : ∀ (r N' : Nat) (g' : qd_Gh) (a_nodeVariable' a_nodeLow' a_nodeHigh' a_nodeNext' a_listFirst' : Nat → Int32), qd_OK N' a_nodeVariable' a_nodeLow' a_nodeHigh' a_nodeNext' a_listFirst' a_recentKey a_recentNode g' → qd_Ext N g N' g' → N' ≤ N + 1 → r < N' → v ≤ qd_V g' r → (∀ s, qd_D g' r s = cond (s v) (qd_D g h s) (qd_D g l s)) →
      (∀ j, N < j → a_nodeVariable' j = a_nodeVariable j ∧ a_nodeLow' j = a_nodeLow j ∧ a_nodeHigh' j = a_nodeHigh j) → post (nI r) (f_theirs, f_ruleCount, f_wayNow, f_clausesOf, f_clauseCount, f_tableFor, f_memoFor, f_memoSide, f_depth, f_known, f_ones, f_diagramFor, f_diagramRoot, nI N', f_leftCount, f_madeCount, a_kindOf, a_setP, a_setQ, a_clauses, a_table, a_memo, a_choiceOf, a_secondTry, a_knownBefore, a_onesBefore, a_nodeVariable', a_nodeLow', a_nodeHigh', a_nodeNext', a_listFirst', a_recentKey, a_recentNode, a_workF, a_workG, a_workPhase, a_workLow, a_nodeValue, a_left, a_made, a_onesOfVariable, a_tableBefore)) :
    wpX_node post (f_theirs, f_ruleCount, f_wayNow, f_clausesOf, f_clauseCount, f_tableFor, f_memoFor, f_memoSide, f_depth, f_known, f_ones, f_diagramFor, f_diagramRoot, nI N, f_leftCount, f_madeCount, a_kindOf, a_setP, a_setQ, a_clauses, a_table, a_memo, a_choiceOf, a_secondTry, a_knownBefore, a_onesBefore, a_nodeVariable, a_nodeLow, a_nodeHigh, a_nodeNext, a_listFirst, a_recentKey, a_recentNode, a_workF, a_workG, a_workPhase, a_workLow, a_nodeValue, a_left, a_made, a_onesOfVariable, a_tableBefore) (nI v) (nI l) (nI h) := by
  have h64 : (v * 5 + l * 7 + h * 11) % 64 < 64 := Nat.mod_lt _ (by decide)
  refine pk_eq l h (fun e => ?_) (fun e => ?_)
  · subst e
    refine K l N g _ _ _ _ _ ok qd_Ext_rf (by omega) hl (by omega) (fun s => ?_) (fun j hj => ⟨rfl, rfl, rfl⟩)
    cases s v <;> rfl
  · have hh' : (((nI v * 5) + (nI l * 7)) + (nI h * 11)) &&& 63 = nI ((v * 5 + l * 7 + h * 11) % 64) := by
      have a1 : nI v * 5 = nI (v * 5) := pk_mul v 5
      have a2 : nI l * 7 = nI (l * 7) := pk_mul l 7
      have a3 : nI h * 11 = nI (h * 11) := pk_mul h 11
      rw [a1, a2, a3, nI_add, nI_add]
      exact pk_andN (by omega) 6 (by decide)
    obtain ⟨y, hy, hlast⟩ := ok.2.2.1.1 _ h64
    refine nm_r hh' ⟨vp_in_nI h64 (by omega), nm_r (e' := nI y) (by rw [nI_clamp (by omega)]; exact hy) ⟨y + 1, ?_⟩⟩
    apply qx_node_34 ok hN hv hl hh e hvl hvh K (y + 1) y (by omega) hlast.1
    intro i a b c ⟨z1, z2, z3⟩
    apply hlast.2 i a b c
    unfold qd_hash
    rw [z1, z2, z3]
theorem qx_clauseDiagram_5 {post : Int32 → SX → Prop} {c : Int32} (hn : qc_nt c) {N0 : Nat} {g0 : qd_Gh} (hN0 : N0 + 8 ≤ 600)
    (K : ∀ (r N' : Nat) (g' : qd_Gh) (a_nodeVariable' a_nodeLow' a_nodeHigh' a_nodeNext' a_listFirst' : Nat → Int32), qd_OK N' a_nodeVariable' a_nodeLow' a_nodeHigh' a_nodeNext' a_listFirst' a_recentKey a_recentNode g' → qd_Ext N0 g0 N' g' → N' ≤ N0 + 8 → r < N' → (∀ s, qd_D g' r s = true ↔ qc_cs c s) → post (nI r) (f_theirs, f_ruleCount, f_wayNow, f_clausesOf, f_clauseCount, f_tableFor, f_memoFor, f_memoSide, f_depth, f_known, f_ones, f_diagramFor, f_diagramRoot, nI N', f_leftCount, f_madeCount, a_kindOf, a_setP, a_setQ, a_clauses, a_table, a_memo, a_choiceOf, a_secondTry, a_knownBefore, a_onesBefore, a_nodeVariable', a_nodeLow', a_nodeHigh', a_nodeNext', a_listFirst', a_recentKey, a_recentNode, a_workF, a_workG, a_workPhase, a_workLow, a_nodeValue, a_left, a_made, a_onesOfVariable, a_tableBefore)) :
    ∀ (n w x N : Nat) (g : qd_Gh) (a_nodeVariable' a_nodeLow' a_nodeHigh' a_nodeNext' a_listFirst' : Nat → Int32), w ≤ 8 → w < n → qd_OK N a_nodeVariable' a_nodeLow' a_nodeHigh' a_nodeNext' a_listFirst' a_recentKey a_recentNode g → qd_Ext N0 g0 N g → N + w ≤ N0 + 8 → x < N → w ≤ qd_V g x → (∀ s, qd_D g x s = true ↔ ∃ i, w ≤ i ∧ i < 8 ∧ qc_lit c i (s i) = true) →
    wX_clauseDiagram_5 post c n (nI x) (qx_dn w) f_theirs f_ruleCount f_wayNow f_clausesOf f_clauseCount f_tableFor f_memoFor f_memoSide f_depth f_known f_ones f_diagramFor f_diagramRoot (nI N) f_leftCount f_madeCount a_kindOf a_setP a_setQ a_clauses a_table a_memo a_choiceOf a_secondTry a_knownBefore a_onesBefore a_nodeVariable' a_nodeLow' a_nodeHigh' a_nodeNext' a_listFirst' a_recentKey a_recentNode a_workF a_workG a_workPhase a_workLow a_nodeValue a_left a_made a_onesOfVariable a_tableBefore := by
  intro n
  induction n with
  | zero => intro w x N g _ _ _ _ _ h1 h2; omega
  | succ n ih =>
    intro w x N g a_nodeVariable' a_nodeLow' a_nodeHigh' a_nodeNext' a_listFirst' hw hf ok hX hNw hx hVx hD
    have hlt0 : qx_dn w < 0 ↔ w ≤ 0 := qx_dn_lt (k := 0) (by omega) (by omega)
    refine ek_if hlt0 (fun e => ?_) (fun e => ?_)
    · have e : w = 0 := by omega
      subst e
      refine K x N g _ _ _ _ _ ok hX (by omega) hx (fun s => ?_)
      rw [hD s, qc_cs_lit]
      exact ⟨fun ⟨i, _, b, z⟩ => ⟨i, b, z⟩, fun ⟨i, b, z⟩ => ⟨i, by omega, b, z⟩⟩
    · obtain ⟨v, rfl⟩ : ∃ v, w = v + 1 := ⟨w - 1, by omega⟩
      have e8 : 8 + nI v = nI (8 + v) := nI_add 8 v
      show ((c >>> (nI v &&& 31)) &&& 1 = 0 → _) ∧ _
      have hV1 : qd_V g 1 = 8 := ok.2.1.2.2.1
      have hD1 : ∀ s, qd_D g 1 s = true := ok.2.2.2.1.2.1
      have hN2 : 2 ≤ N := ok.2.1.1
      refine ek_if (qb_bit0 c (by omega)) (fun hp => ?_) (fun hp => ?_)
      · have hb8 : (c >>> ((8 + qx_dn (v + 1)) &&& 31)) &&& 1 = 0 ↔ bt c (8 + v) = false := by
          show (c >>> ((8 + nI v) &&& 31)) &&& 1 = 0 ↔ _
          rw [e8]
          exact qb_bit0 c (by omega)
        refine ek_if hb8 (fun hq => nm_r (qx_dn_m1 v) ?_) (fun hq => ?_)
        · apply ih v x N g _ _ _ _ _ (by omega) (by omega) ok hX (by omega) hx (by omega)
          intro s
          rw [hD s]
          refine ⟨fun ⟨i, a, b, z⟩ => ⟨i, by omega, b, z⟩, fun ⟨i, a, b, z⟩ => ⟨i, ?_, b, z⟩⟩
          by_cases e1 : i = v
          · subst e1
            have : qc_lit c i (s i) = false := by cases s i; exact hq; exact hp
            rw [this] at z; exact absurd z (by decide)
          · omega
        · refine qx_node (v := v) (l := 1) (h := x) ok (by omega) (by omega) (by omega) hx (by omega) (by omega) ?_
          intro r N' g' b1 b2 b3 b4 b5 ok' hX' hN' hr hVr hDr _
          refine nm_r (qx_dn_m1 v) (ih v r N' g' b1 b2 b3 b4 b5 (by omega) (by omega) ok' (qd_Ext_tr hX hX') (by omega) hr hVr ?_)
          intro s
          rw [hDr s, hD1]
          have hq' : bt c (8 + v) = true := ts_nf hq
          constructor
          · intro z
            cases e1 : s v with
            | false => exact ⟨v, Nat.le_refl v, by omega, by rw [e1]; exact hq'⟩
            | true =>
              rw [e1] at z
              obtain ⟨i, a, b, y⟩ := (hD s).mp z
              exact ⟨i, by omega, b, y⟩
          · intro ⟨i, a, b, y⟩
            cases e1 : s v with
            | false => rfl
            | true =>
              show qd_D g x s = true
              rw [hD s]
              refine ⟨i, ?_, b, y⟩
              by_cases e2 : i = v
              · subst e2
                rw [e1] at y
                rw [show qc_lit c i true = false from hp] at y; exact absurd y (by decide)
              · omega
      · refine qx_node (v := v) (l := x) (h := 1) ok (by omega) (by omega) hx (by omega) (by omega) (by omega) ?_
        intro r N' g' b1 b2 b3 b4 b5 ok' hX' hN' hr hVr hDr _
        refine nm_r (qx_dn_m1 v) (ih v r N' g' b1 b2 b3 b4 b5 (by omega) (by omega) ok' (qd_Ext_tr hX hX') (by omega) hr hVr ?_)
        intro s
        rw [hDr s, hD1]
        have hp' : bt c v = true := ts_nf hp
        constructor
        · intro z
          cases e1 : s v with
          | true => exact ⟨v, Nat.le_refl v, by omega, by rw [e1]; exact hp'⟩
          | false =>
            rw [e1] at z
            obtain ⟨i, a, b, y⟩ := (hD s).mp z
            exact ⟨i, by omega, b, y⟩
        · intro ⟨i, a, b, y⟩
          cases e1 : s v with
          | true => rfl
          | false =>
            show qd_D g x s = true
            rw [hD s]
            refine ⟨i, ?_, b, y⟩
            by_cases e2 : i = v
            · subst e2
              rw [e1] at y
              rw [show qc_lit c i false = false from hn i (by omega) hp'] at y; exact absurd y (by decide)
            · omega
theorem qx_clauseDiagram {post : Int32 → SX → Prop} {c : Int32} (hn : qc_nt c) {N : Nat} {g : qd_Gh} (ok : qd_OK N a_nodeVariable a_nodeLow a_nodeHigh a_nodeNext a_listFirst a_recentKey a_recentNode g) (hN : N + 8 ≤ 600)
    (K : ∀ (r N' : Nat) (g' : qd_Gh) (a_nodeVariable' a_nodeLow' a_nodeHigh' a_nodeNext' a_listFirst' : Nat → Int32), qd_OK N' a_nodeVariable' a_nodeLow' a_nodeHigh' a_nodeNext' a_listFirst' a_recentKey a_recentNode g' → qd_Ext N g N' g' → N' ≤ N + 8 → r < N' → (∀ s, qd_D g' r s = true ↔ qc_cs c s) → post (nI r) (f_theirs, f_ruleCount, f_wayNow, f_clausesOf, f_clauseCount, f_tableFor, f_memoFor, f_memoSide, f_depth, f_known, f_ones, f_diagramFor, f_diagramRoot, nI N', f_leftCount, f_madeCount, a_kindOf, a_setP, a_setQ, a_clauses, a_table, a_memo, a_choiceOf, a_secondTry, a_knownBefore, a_onesBefore, a_nodeVariable', a_nodeLow', a_nodeHigh', a_nodeNext', a_listFirst', a_recentKey, a_recentNode, a_workF, a_workG, a_workPhase, a_workLow, a_nodeValue, a_left, a_made, a_onesOfVariable, a_tableBefore)) :
    wpX_clauseDiagram post (f_theirs, f_ruleCount, f_wayNow, f_clausesOf, f_clauseCount, f_tableFor, f_memoFor, f_memoSide, f_depth, f_known, f_ones, f_diagramFor, f_diagramRoot, nI N, f_leftCount, f_madeCount, a_kindOf, a_setP, a_setQ, a_clauses, a_table, a_memo, a_choiceOf, a_secondTry, a_knownBefore, a_onesBefore, a_nodeVariable, a_nodeLow, a_nodeHigh, a_nodeNext, a_listFirst, a_recentKey, a_recentNode, a_workF, a_workG, a_workPhase, a_workLow, a_nodeValue, a_left, a_made, a_onesOfVariable, a_tableBefore) c := by
  refine ⟨9, qx_clauseDiagram_5 hn hN K 9 8 0 N g _ _ _ _ _ (by omega) (by omega) ok qd_Ext_rf (by omega) (by have := ok.2.1.1; omega) (by rw [ok.2.1.2.1]; exact Nat.le_refl 8) ?_⟩
  intro s
  rw [ok.2.2.2.1.1]
  exact ⟨fun z => absurd z (by decide), fun ⟨i, a, b, _⟩ => by omega⟩
end
end
section
/-! diagrams: both together -/
theorem qd_nm1 {k : Nat} (h : k < 2 ^ 31) : nI k ≠ -1 := by
  intro e
  have := congrArg Int32.toInt e
  rw [nI_toInt h, show (-1 : Int32).toInt = -1 by decide] at this
  omega
/-- the first variable of two nodes; a part at it -/
def qd_mv (g : qd_Gh) (p q : Nat) : Nat := if qd_V g q ≤ qd_V g p then qd_V g q else qd_V g p
def qd_pt (g : qd_Gh) (v p : Nat) (b : Bool) : Nat := if qd_V g p = v then (match b with | true => qd_H g p | false => qd_L g p) else p
theorem qd_mv_le {g : qd_Gh} {p q : Nat} : qd_mv g p q ≤ qd_V g p ∧ qd_mv g p q ≤ qd_V g q := by
  unfold qd_mv
  split <;> omega
theorem qd_mv_ge {g : qd_Gh} {p q k : Nat} (h1 : k ≤ qd_V g p) (h2 : k ≤ qd_V g q) : k ≤ qd_mv g p q := by
  unfold qd_mv
  split <;> omega
theorem qd_pt_lt {N : Nat} {g : qd_Gh} (hw : qd_WF N g) {v p : Nat} (h2 : 2 ≤ p) (hp : p < N) {b : Bool} : qd_pt g v p b < N := by
  have w := hw.2.2.2.1 p h2 hp
  unfold qd_pt
  split
  · cases b
    · show qd_L g p < N; omega
    · show qd_H g p < N; omega
  · exact hp
theorem qd_pt_V {N : Nat} {g : qd_Gh} (hw : qd_WF N g) {v p : Nat} (h2 : 2 ≤ p) (hp : p < N) (hv : v ≤ qd_V g p) {b : Bool} : v + 1 ≤ qd_V g (qd_pt g v p b) := by
  have w := hw.2.2.2.1 p h2 hp
  unfold qd_pt
  split
  · cases b
    · show v + 1 ≤ qd_V g (qd_L g p); omega
    · show v + 1 ≤ qd_V g (qd_H g p); omega
  · omega
theorem qd_pt_D {N : Nat} {g : qd_Gh} (hs : qd_Sem N g) {v p : Nat} (h2 : 2 ≤ p) (hp : p < N) (s : Nat → Bool) : qd_D g p s = cond (s v) (qd_D g (qd_pt g v p true) s) (qd_D g (qd_pt g v p false) s) := by
  unfold qd_pt
  by_cases e : qd_V g p = v
  · rw [if_pos e, if_pos e, hs.2.2 p h2 hp, e]
  · rw [if_neg e, if_neg e]
    cases s v <;> rfl
theorem qd_mv_ext {N N' : Nat} {g g' : qd_Gh} (h : qd_Ext N g N' g') {p q : Nat} (hp : p < N) (hq : q < N) : qd_mv g' p q = qd_mv g p q := by
  unfold qd_mv
  rw [(h.2 p hp).1, (h.2 q hq).1]
theorem qd_pt_ext {N N' : Nat} {g g' : qd_Gh} (h : qd_Ext N g N' g') {v p : Nat} (hp : p < N) {b : Bool} : qd_pt g' v p b = qd_pt g v p b := by
  unfold qd_pt
  rw [(h.2 p hp).1, (h.2 p hp).2.1, (h.2 p hp).2.2.1]
def qd_bc : Nat → Nat
  | 0 => 1
  | m + 1 => 2 * qd_bc m + 3
theorem qd_bc_pos (m : Nat) : 1 ≤ qd_bc m := by cases m with
  | zero => exact Nat.le_refl 1
  | succ m => simp only [qd_bc]; omega
section
variable {f_theirs f_ruleCount f_wayNow f_clausesOf f_clauseCount f_tableFor f_memoFor f_memoSide f_depth f_known f_ones f_diagramFor f_diagramRoot f_nodeCount f_leftCount f_madeCount : Int32} {a_kindOf a_setP a_setQ a_clauses a_memo a_choiceOf a_secondTry a_knownBefore a_onesBefore a_nodeVariable a_nodeLow a_nodeHigh a_nodeNext a_listFirst a_recentKey a_recentNode a_workF a_workG a_workPhase a_workLow a_nodeValue a_left a_made : Nat → Int32} {a_table a_onesOfVariable a_tableBefore : Nat → Int64}
theorem qx_slot {p q : Nat} (hp : p < 600) (hq : q < 600) : ((nI p * 3) + (nI q * 17)) &&& 63 = nI ((p * 3 + q * 17) % 64) := by
  have a1 : nI p * 3 = nI (p * 3) := pk_mul p 3
  have a2 : nI q * 17 = nI (q * 17) := pk_mul q 17
  rw [a1, a2, nI_add]
  exact pk_andN (by omega) 6 (by decide)
theorem qx_key {p q : Nat} : (1024 * nI p) + nI q = nI (1024 * p + q) := by
  have a1 : 1024 * nI p = nI (1024 * p) := pk_mul 1024 p
  rw [a1, nI_add]
theorem qx_easyBoth {post : Int32 → Prop} {N p q : Nat} {g : qd_Gh} (ok : qd_OK N a_nodeVariable a_nodeLow a_nodeHigh a_nodeNext a_listFirst a_recentKey a_recentNode g) (hN : N ≤ 600) (hp : p < N) (hq : q < N)
    (K1 : ∀ r, r < N → (∀ s, qd_D g r s = (qd_D g p s && qd_D g q s)) → (∀ m, m ≤ qd_V g p → m ≤ qd_V g q → m ≤ qd_V g r) → post (nI r)) (K2 : 2 ≤ p → 2 ≤ q → post (-1)) : wpX_easyBoth post (f_theirs, f_ruleCount, f_wayNow, f_clausesOf, f_clauseCount, f_tableFor, f_memoFor, f_memoSide, f_depth, f_known, f_ones, f_diagramFor, f_diagramRoot, f_nodeCount, f_leftCount, f_madeCount, a_kindOf, a_setP, a_setQ, a_clauses, a_table, a_memo, a_choiceOf, a_secondTry, a_knownBefore, a_onesBefore, a_nodeVariable, a_nodeLow, a_nodeHigh, a_nodeNext, a_listFirst, a_recentKey, a_recentNode, a_workF, a_workG, a_workPhase, a_workLow, a_nodeValue, a_left, a_made, a_onesOfVariable, a_tableBefore) (nI p) (nI q) := by
  have hS := ok.2.2.2.1
  have hN2 := ok.2.1.1
  have hV0 := ok.2.1.2.1
  refine pk_eq p 0 (fun e => ?_) (fun e0 => pk_eq q 0 (fun e => ?_) (fun e1 => pk_eq p 1 (fun e => ?_) (fun e2 => pk_eq p q (fun e => ?_) (fun e3 => pk_eq q 1 (fun e => ?_) (fun e4 => ?_)))))
  · subst e
    exact K1 0 (by omega) (fun s => by rw [hS.1, Bool.false_and]) (fun m h1 _ => h1)
  · subst e
    exact K1 0 (by omega) (fun s => by rw [hS.1, Bool.and_false]) (fun m _ h1 => h1)
  · subst e
    exact K1 q hq (fun s => by rw [hS.2.1, Bool.true_and]) (fun m _ h1 => h1)
  · subst e
    exact K1 p hq (fun s => by rw [Bool.and_self]) (fun m _ h1 => h1)
  · subst e
    exact K1 p hp (fun s => by rw [hS.2.1, Bool.and_true]) (fun m h1 _ => h1)
  · show vp_in (((nI p * 3) + (nI q * 17)) &&& 63) 64 ∧ _
    have h64 : (p * 3 + q * 17) % 64 < 64 := Nat.mod_lt _ (by decide)
    have hin : vp_in (nI ((p * 3 + q * 17) % 64)) 64 := vp_in_nI h64 (by omega)
    rw [qx_slot (by omega) (by omega)]
    refine ⟨hin, ?_⟩
    rw [nI_clamp (by omega), qx_key]
    refine br_c (fun e => ⟨hin, ?_⟩) (fun _ => K2 (by omega) (by omega))
    rcases ok.2.2.2.2 _ h64 with z | ⟨p', q', r, a1, a2, a3, a4, a5, a6, a7⟩
    · exact absurd (e.symm.trans z) (qd_nm1 (by omega))
    · have h := e.symm.trans a4
      rw [nI_eq (by omega) (by omega)] at h
      obtain ⟨rfl, rfl⟩ : p = p' ∧ q = q' := by omega
      rw [a5]
      exact K1 r a3 a6 a7
theorem qx_pushParts {post : SX → Prop} {N k p q : Nat} {b : Bool} {g : qd_Gh} (ok : qd_OK N a_nodeVariable a_nodeLow a_nodeHigh a_nodeNext a_listFirst a_recentKey a_recentNode g) (hN : N ≤ 600) (hk : k < 10) (hp : p < N) (hq : q < N) (hp2 : 2 ≤ p) (hq2 : 2 ≤ q)
    (K : post (f_theirs, f_ruleCount, f_wayNow, f_clausesOf, f_clauseCount, f_tableFor, f_memoFor, f_memoSide, f_depth, f_known, f_ones, f_diagramFor, f_diagramRoot, f_nodeCount, f_leftCount, f_madeCount, a_kindOf, a_setP, a_setQ, a_clauses, a_table, a_memo, a_choiceOf, a_secondTry, a_knownBefore, a_onesBefore, a_nodeVariable, a_nodeLow, a_nodeHigh, a_nodeNext, a_listFirst, a_recentKey, a_recentNode, upd a_workF k (nI (qd_pt g (qd_mv g p q) p b)), upd a_workG k (nI (qd_pt g (qd_mv g p q) q b)), upd a_workPhase k 0, a_workLow, a_nodeValue, a_left, a_made, a_onesOfVariable, a_tableBefore)) : wpX_pushParts post (f_theirs, f_ruleCount, f_wayNow, f_clausesOf, f_clauseCount, f_tableFor, f_memoFor, f_memoSide, f_depth, f_known, f_ones, f_diagramFor, f_diagramRoot, f_nodeCount, f_leftCount, f_madeCount, a_kindOf, a_setP, a_setQ, a_clauses, a_table, a_memo, a_choiceOf, a_secondTry, a_knownBefore, a_onesBefore, a_nodeVariable, a_nodeLow, a_nodeHigh, a_nodeNext, a_listFirst, a_recentKey, a_recentNode, a_workF, a_workG, a_workPhase, a_workLow, a_nodeValue, a_left, a_made, a_onesOfVariable, a_tableBefore) (nI k) (nI p) (nI q) (qb_i b) := by
  have inp : vp_in (nI p) 600 := vp_in_nI (by omega) (by omega)
  have inq : vp_in (nI q) 600 := vp_in_nI (by omega) (by omega)
  have clp : (nI p).toNatClampNeg = p := nI_clamp (by omega)
  have clq : (nI q).toNatClampNeg = q := nI_clamp (by omega)
  have ink : vp_in (nI k) 10 := vp_in_nI hk (by omega)
  have clk : (nI k).toNatClampNeg = k := nI_clamp (by omega)
  have rp := ok.1 p hp
  have rq := ok.1 q hq
  have vp8 := qd_V_le ok.2.1 hp
  have vq8 := qd_V_le ok.2.1 hq
  have lp := qd_pt_lt ok.2.1 (v := qd_mv g p q) (b := b) hp2 hp
  have lq := qd_pt_lt ok.2.1 (v := qd_mv g p q) (b := b) hq2 hq
  have s104 : ∀ x y : Nat, x = qd_pt g (qd_mv g p q) p b → y = qd_pt g (qd_mv g p q) q b → wX_pushParts_104 post (nI k) (nI x) (nI y) f_theirs f_ruleCount f_wayNow f_clausesOf f_clauseCount f_tableFor f_memoFor f_memoSide f_depth f_known f_ones f_diagramFor f_diagramRoot f_nodeCount f_leftCount f_madeCount a_kindOf a_setP a_setQ a_clauses a_table a_memo a_choiceOf a_secondTry a_knownBefore a_onesBefore a_nodeVariable a_nodeLow a_nodeHigh a_nodeNext a_listFirst a_recentKey a_recentNode a_workF a_workG a_workPhase a_workLow a_nodeValue a_left a_made a_onesOfVariable a_tableBefore := by
    intro x y hx hy
    subst hx hy
    refine ⟨ink, nm_r (e' := upd a_workF k (nI (qd_pt g (qd_mv g p q) p b))) (by rw [clk, qd_vs (by omega)]) ⟨ink, nm_r (e' := upd a_workG k (nI (qd_pt g (qd_mv g p q) q b))) (by rw [clk, qd_vs (by omega)]) ⟨ink, nm_r (e' := upd a_workPhase k 0) (by rw [clk, vp_nar_byte]; rfl) K⟩⟩⟩
  have s67 : ∀ x : Nat, x = qd_pt g (qd_mv g p q) p b → wX_pushParts_67 post (nI k) (nI q) (qb_i b) (nI (qd_mv g p q)) (nI x) f_theirs f_ruleCount f_wayNow f_clausesOf f_clauseCount f_tableFor f_memoFor f_memoSide f_depth f_known f_ones f_diagramFor f_diagramRoot f_nodeCount f_leftCount f_madeCount a_kindOf a_setP a_setQ a_clauses a_table a_memo a_choiceOf a_secondTry a_knownBefore a_onesBefore a_nodeVariable a_nodeLow a_nodeHigh a_nodeNext a_listFirst a_recentKey a_recentNode a_workF a_workG a_workPhase a_workLow a_nodeValue a_left a_made a_onesOfVariable a_tableBefore := by
    intro x hx
    have hm := (qd_mv_le (g := g) (p := p) (q := q)).2
    refine ⟨inq, ?_⟩
    rw [clq, rq.1, (rq.2 hq2).1, (rq.2 hq2).2]
    refine pk_eq (qd_V g q) (qd_mv g p q) (fun e => ?_) (fun e => s104 x q hx (by unfold qd_pt; rw [if_neg e]))
    cases b with
    | false => exact br_t rfl ⟨inq, s104 x (qd_L g q) hx (by unfold qd_pt; rw [if_pos e])⟩
    | true => exact br_f (by decide) ⟨inq, s104 x (qd_H g q) hx (by unfold qd_pt; rw [if_pos e])⟩
  have s30 : wX_pushParts_30 post (nI k) (nI p) (nI q) (qb_i b) (nI (qd_mv g p q)) f_theirs f_ruleCount f_wayNow f_clausesOf f_clauseCount f_tableFor f_memoFor f_memoSide f_depth f_known f_ones f_diagramFor f_diagramRoot f_nodeCount f_leftCount f_madeCount a_kindOf a_setP a_setQ a_clauses a_table a_memo a_choiceOf a_secondTry a_knownBefore a_onesBefore a_nodeVariable a_nodeLow a_nodeHigh a_nodeNext a_listFirst a_recentKey a_recentNode a_workF a_workG a_workPhase a_workLow a_nodeValue a_left a_made a_onesOfVariable a_tableBefore := by
    have hm := (qd_mv_le (g := g) (p := p) (q := q)).1
    refine ⟨inp, ?_⟩
    rw [clp, rp.1, (rp.2 hp2).1, (rp.2 hp2).2]
    refine pk_eq (qd_V g p) (qd_mv g p q) (fun e => ?_) (fun e => s67 p (by unfold qd_pt; rw [if_neg e]))
    cases b with
    | false => exact br_t rfl ⟨inp, s67 (qd_L g p) (by unfold qd_pt; rw [if_pos e])⟩
    | true => exact br_f (by decide) ⟨inp, s67 (qd_H g p) (by unfold qd_pt; rw [if_pos e])⟩
  refine ⟨inp, inq, ?_⟩
  rw [clp, clq, rp.1, rq.1]
  refine pk_le (qd_V g q) (qd_V g p) (fun e => ⟨inq, ?_⟩) (fun e => ⟨inp, ?_⟩)
  · have : qd_mv g p q = qd_V g q := by unfold qd_mv; rw [if_pos e]
    rw [← this]; exact s30
  · have : qd_mv g p q = qd_V g p := by unfold qd_mv; rw [if_neg (by omega)]
    rw [← this]; exact s30
/-- the two parts are known: the node of the couple -/
theorem qx_both_fin {post : Int32 → SX → Prop} {J : (Int32 → Int32 → Int32 → Int32 → Int32 → Int32 → Int32 → Int32 → Int32 → Int32 → Int32 → Int32 → Int32 → Int32 → Int32 → Int32 → Int32 → Int32 → (Nat → Int32) → (Nat → Int32) → (Nat → Int32) → (Nat → Int32) → (Nat → Int64) → (Nat → Int32) → (Nat → Int32) → (Nat → Int32) → (Nat → Int32) → (Nat → Int32) → (Nat → Int32) → (Nat → Int32) → (Nat → Int32) → (Nat → Int32) → (Nat → Int32) → (Nat → Int32) → (Nat → Int32) → (Nat → Int32) → (Nat → Int32) → (Nat → Int32) → (Nat → Int32) → (Nat → Int32) → (Nat → Int32) → (Nat → Int32) → (Nat → Int64) → (Nat → Int64) → Prop)} {N t p q r1 r2 : Nat} {g : qd_Gh} (ok : qd_OK N a_nodeVariable a_nodeLow a_nodeHigh a_nodeNext a_listFirst a_recentKey a_recentNode g) (hN : N < 600) (ht : t < 10) (hp : p < N) (hq : q < N) (hp2 : 2 ≤ p) (hq2 : 2 ≤ q) (hr1 : r1 < N) (hr2 : r2 < N)
    (h1 : qd_mv g p q + 1 ≤ qd_V g r1) (h2 : qd_mv g p q + 1 ≤ qd_V g r2) (hl : a_workLow t = nI r1)
    (d1 : ∀ s, qd_D g r1 s = (qd_D g (qd_pt g (qd_mv g p q) p false) s && qd_D g (qd_pt g (qd_mv g p q) q false) s)) (d2 : ∀ s, qd_D g r2 s = (qd_D g (qd_pt g (qd_mv g p q) p true) s && qd_D g (qd_pt g (qd_mv g p q) q true) s))
    (K : ∀ (r N' : Nat) (g' : qd_Gh) (a_nodeVariable' a_nodeLow' a_nodeHigh' a_nodeNext' a_listFirst' a_recentKey' a_recentNode' : Nat → Int32), qd_OK N' a_nodeVariable' a_nodeLow' a_nodeHigh' a_nodeNext' a_listFirst' a_recentKey' a_recentNode' g' → qd_Ext N g N' g' → N' ≤ N + 1 → r < N' → (∀ m, m ≤ qd_V g p → m ≤ qd_V g q → m ≤ qd_V g' r) → (∀ s, qd_D g' r s = (qd_D g p s && qd_D g q s)) → J (qx_dn t) (nI r) f_theirs f_ruleCount f_wayNow f_clausesOf f_clauseCount f_tableFor f_memoFor f_memoSide f_depth f_known f_ones f_diagramFor f_diagramRoot (nI N') f_leftCount f_madeCount a_kindOf a_setP a_setQ a_clauses a_table a_memo a_choiceOf a_secondTry a_knownBefore a_onesBefore a_nodeVariable' a_nodeLow' a_nodeHigh' a_nodeNext' a_listFirst' a_recentKey' a_recentNode' a_workF a_workG a_workPhase a_workLow a_nodeValue a_left a_made a_onesOfVariable a_tableBefore) :
    wX_both_105 post J (nI t) (nI r2) (nI p) (nI q) 2 f_theirs f_ruleCount f_wayNow f_clausesOf f_clauseCount f_tableFor f_memoFor f_memoSide f_depth f_known f_ones f_diagramFor f_diagramRoot (nI N) f_leftCount f_madeCount a_kindOf a_setP a_setQ a_clauses a_table a_memo a_choiceOf a_secondTry a_knownBefore a_onesBefore a_nodeVariable a_nodeLow a_nodeHigh a_nodeNext a_listFirst a_recentKey a_recentNode a_workF a_workG a_workPhase a_workLow a_nodeValue a_left a_made a_onesOfVariable a_tableBefore := by
  have inp : vp_in (nI p) 600 := vp_in_nI (by omega) (by omega)
  have inq : vp_in (nI q) 600 := vp_in_nI (by omega) (by omega)
  have clp : (nI p).toNatClampNeg = p := nI_clamp (by omega)
  have clq : (nI q).toNatClampNeg = q := nI_clamp (by omega)
  have clt : (nI t).toNatClampNeg = t := nI_clamp (by omega)
  have rp := ok.1 p hp
  have rq := ok.1 q hq
  have vp8 := qd_V_le ok.2.1 hp
  have vq8 := qd_V_le ok.2.1 hq
  have hv8 : qd_mv g p q < 8 := by
    have := (ok.2.1.2.2.2.1 p hp2 hp).1
    have := (qd_mv_le (g := g) (p := p) (q := q)).1
    omega
  have s145 : wX_both_145 post J (nI t) (nI r2) (nI p) (nI q) (nI (qd_mv g p q)) f_theirs f_ruleCount f_wayNow f_clausesOf f_clauseCount f_tableFor f_memoFor f_memoSide f_depth f_known f_ones f_diagramFor f_diagramRoot (nI N) f_leftCount f_madeCount a_kindOf a_setP a_setQ a_clauses a_table a_memo a_choiceOf a_secondTry a_knownBefore a_onesBefore a_nodeVariable a_nodeLow a_nodeHigh a_nodeNext a_listFirst a_recentKey a_recentNode a_workF a_workG a_workPhase a_workLow a_nodeValue a_left a_made a_onesOfVariable a_tableBefore := by
    unfold wX_both_145
    refine ⟨vp_in_nI ht (by omega), ?_⟩
    rw [clt, hl]
    refine qx_node ok hN hv8 hr1 hr2 (by omega) (by omega) ?_
    intro r N' g' b1 b2 b3 b4 b5 ok' hX hN' hr hVr hDr _
    have h64 : (p * 3 + q * 17) % 64 < 64 := Nat.mod_lt _ (by decide)
    have hin : vp_in (nI ((p * 3 + q * 17) % 64)) 64 := vp_in_nI h64 (by omega)
    have cls : (nI ((p * 3 + q * 17) % 64)).toNatClampNeg = (p * 3 + q * 17) % 64 := nI_clamp (by omega)
    have hD : ∀ s, qd_D g' r s = (qd_D g p s && qd_D g q s) := by
      intro s
      rw [hDr s, qd_pt_D (v := qd_mv g p q) ok.2.2.2.1 hp2 hp s, qd_pt_D (v := qd_mv g p q) ok.2.2.2.1 hq2 hq s, d1, d2]
      cases s (qd_mv g p q) <;> rfl
    have hVm : ∀ m, m ≤ qd_V g p → m ≤ qd_V g q → m ≤ qd_V g' r := fun m a b => Nat.le_trans (qd_mv_ge a b) hVr
    show vp_in (((nI p * 3) + (nI q * 17)) &&& 63) 64 ∧ _
    rw [qx_slot (by omega) (by omega)]
    refine ⟨hin, nm_r (e' := upd a_recentKey ((p * 3 + q * 17) % 64) (nI (1024 * p + q))) (by rw [cls, qx_key]) ⟨hin, nm_r (e' := upd a_recentNode ((p * 3 + q * 17) % 64) (nI r)) (by rw [cls, qd_vs (by omega)]) (nm_r (qx_dn_m1 t) ?_)⟩⟩
    refine K r N' g' b1 b2 b3 b4 b5 _ _ ⟨ok'.1, ok'.2.1, ok'.2.2.1, ok'.2.2.2.1, ?_⟩ hX hN' hr hVm hD
    intro l hl'
    by_cases e : l = (p * 3 + q * 17) % 64
    · subst e
      have xp := hX.2 p hp
      have xq := hX.2 q hq
      have hle := hX.1
      refine Or.inr ⟨p, q, r, by omega, by omega, hr, pk_us, pk_us, fun s => ?_, ?_⟩
      · rw [xp.2.2.2, xq.2.2.2]; exact hD s
      · rw [xp.1, xq.1]; exact hVm
    · rw [pk_un e, pk_un e]
      exact ok'.2.2.2.2 l hl'
  refine br_t rfl ⟨inp, inq, ?_⟩
  rw [clp, clq, rp.1, rq.1]
  refine pk_le (qd_V g q) (qd_V g p) (fun e => ⟨inq, ?_⟩) (fun e => ⟨inp, ?_⟩)
  · have : qd_mv g p q = qd_V g q := by unfold qd_mv; rw [if_pos e]
    rw [← this]; exact s145
  · have : qd_mv g p q = qd_V g p := by unfold qd_mv; rw [if_neg (by omega)]
    rw [← this]; exact s145
theorem qd_inc0 : vp_nar .byte (((0 : Int32) + 1).toInt8.toInt32) = 1 := by rw [vp_nar_byte]; decide
theorem qd_inc1 : vp_nar .byte (((1 : Int32) + 1).toInt8.toInt32) = 2 := by rw [vp_nar_byte]; decide
theorem qx_both_push {post : Int32 → SX → Prop} {J : (Int32 → Int32 → Int32 → Int32 → Int32 → Int32 → Int32 → Int32 → Int32 → Int32 → Int32 → Int32 → Int32 → Int32 → Int32 → Int32 → Int32 → Int32 → (Nat → Int32) → (Nat → Int32) → (Nat → Int32) → (Nat → Int32) → (Nat → Int64) → (Nat → Int32) → (Nat → Int32) → (Nat → Int32) → (Nat → Int32) → (Nat → Int32) → (Nat → Int32) → (Nat → Int32) → (Nat → Int32) → (Nat → Int32) → (Nat → Int32) → (Nat → Int32) → (Nat → Int32) → (Nat → Int32) → (Nat → Int32) → (Nat → Int32) → (Nat → Int32) → (Nat → Int32) → (Nat → Int32) → (Nat → Int32) → (Nat → Int64) → (Nat → Int64) → Prop)} {N t p q : Nat} {x4 : Int32} {g : qd_Gh} (b : Bool) (ok : qd_OK N a_nodeVariable a_nodeLow a_nodeHigh a_nodeNext a_listFirst a_recentKey a_recentNode g) (hN : N ≤ 600) (ht : t < 9) (hp : p < N) (hq : q < N) (hp2 : 2 ≤ p) (hq2 : 2 ≤ q) (hph : a_workPhase t = qb_i b)
    (K : J (nI (t + 1)) x4 f_theirs f_ruleCount f_wayNow f_clausesOf f_clauseCount f_tableFor f_memoFor f_memoSide f_depth f_known f_ones f_diagramFor f_diagramRoot (nI N) f_leftCount f_madeCount a_kindOf a_setP a_setQ a_clauses a_table a_memo a_choiceOf a_secondTry a_knownBefore a_onesBefore a_nodeVariable a_nodeLow a_nodeHigh a_nodeNext a_listFirst a_recentKey a_recentNode (upd a_workF (t + 1) (nI (qd_pt g (qd_mv g p q) p b))) (upd a_workG (t + 1) (nI (qd_pt g (qd_mv g p q) q b))) (upd (upd a_workPhase t (qb_i b + 1)) (t + 1) 0) a_workLow a_nodeValue a_left a_made a_onesOfVariable a_tableBefore) :
    wX_both_105 post J (nI t) x4 (nI p) (nI q) (qb_i b) f_theirs f_ruleCount f_wayNow f_clausesOf f_clauseCount f_tableFor f_memoFor f_memoSide f_depth f_known f_ones f_diagramFor f_diagramRoot (nI N) f_leftCount f_madeCount a_kindOf a_setP a_setQ a_clauses a_table a_memo a_choiceOf a_secondTry a_knownBefore a_onesBefore a_nodeVariable a_nodeLow a_nodeHigh a_nodeNext a_listFirst a_recentKey a_recentNode a_workF a_workG a_workPhase a_workLow a_nodeValue a_left a_made a_onesOfVariable a_tableBefore := by
  have int' : vp_in (nI t) 10 := vp_in_nI (by omega) (by omega)
  have clt : (nI t).toNatClampNeg = t := nI_clamp (by omega)
  have h2 : ¬ qb_i b = 2 := by cases b <;> decide
  refine br_f h2 ⟨int', int', nm_r (e' := upd a_workPhase t (qb_i b + 1)) ?_ ?_⟩
  · rw [clt, hph]
    cases b
    · exact congrArg (upd a_workPhase t) qd_inc0
    · exact congrArg (upd a_workPhase t) qd_inc1
  · have go : wX_both_235 post J (nI t) x4 (qb_i b) (nI q) (nI p) (nI t + 1) f_theirs f_ruleCount f_wayNow f_clausesOf f_clauseCount f_tableFor f_memoFor f_memoSide f_depth f_known f_ones f_diagramFor f_diagramRoot (nI N) f_leftCount f_madeCount a_kindOf a_setP a_setQ a_clauses a_table a_memo a_choiceOf a_secondTry a_knownBefore a_onesBefore a_nodeVariable a_nodeLow a_nodeHigh a_nodeNext a_listFirst a_recentKey a_recentNode a_workF a_workG (upd a_workPhase t (qb_i b + 1)) a_workLow a_nodeValue a_left a_made a_onesOfVariable a_tableBefore := by
      unfold wX_both_235
      rw [nI_1]
      refine qx_pushParts ok hN (by omega) hp hq hp2 hq2 ?_
      exact nm_e K
    cases b with
    | false => exact br_f (by decide) go
    | true => exact br_t rfl go
theorem qx_both_28 {post : Int32 → SX → Prop} : ∀ (m n t p q N : Nat) (g : qd_Gh) (x4 : Int32) (a_nodeVariable' a_nodeLow' a_nodeHigh' a_nodeNext' a_listFirst' a_recentKey' a_recentNode' a_workF' a_workG' a_workPhase' a_workLow' : Nat → Int32),
    qd_OK N a_nodeVariable' a_nodeLow' a_nodeHigh' a_nodeNext' a_listFirst' a_recentKey' a_recentNode' g → p < N → q < N → 8 ≤ m + qd_V g p → 8 ≤ m + qd_V g q → t + m ≤ 8 → N + 2 ^ m ≤ 601 → a_workF' t = nI p → a_workG' t = nI q → a_workPhase' t = 0 → qd_bc m ≤ n →
    (∀ (n' r N' : Nat) (g' : qd_Gh) (a_nodeVariable'' a_nodeLow'' a_nodeHigh'' a_nodeNext'' a_listFirst'' a_recentKey'' a_recentNode'' a_workF'' a_workG'' a_workPhase'' a_workLow'' : Nat → Int32), n ≤ n' + qd_bc m → qd_OK N' a_nodeVariable'' a_nodeLow'' a_nodeHigh'' a_nodeNext'' a_listFirst'' a_recentKey'' a_recentNode'' g' → qd_Ext N g N' g' → N' + 1 ≤ N + 2 ^ m → r < N' → (∀ k, k ≤ qd_V g p → k ≤ qd_V g q → k ≤ qd_V g' r) → (∀ s, qd_D g' r s = (qd_D g p s && qd_D g q s)) →
      (∀ i, i < t → a_workF'' i = a_workF' i ∧ a_workG'' i = a_workG' i ∧ a_workPhase'' i = a_workPhase' i ∧ a_workLow'' i = a_workLow' i) → wX_both_28 post n' (qx_dn t) (nI r) f_theirs f_ruleCount f_wayNow f_clausesOf f_clauseCount f_tableFor f_memoFor f_memoSide f_depth f_known f_ones f_diagramFor f_diagramRoot (nI N') f_leftCount f_madeCount a_kindOf a_setP a_setQ a_clauses a_table a_memo a_choiceOf a_secondTry a_knownBefore a_onesBefore a_nodeVariable'' a_nodeLow'' a_nodeHigh'' a_nodeNext'' a_listFirst'' a_recentKey'' a_recentNode'' a_workF'' a_workG'' a_workPhase'' a_workLow'' a_nodeValue a_left a_made a_onesOfVariable a_tableBefore) →
    wX_both_28 post n (nI t) x4 f_theirs f_ruleCount f_wayNow f_clausesOf f_clauseCount f_tableFor f_memoFor f_memoSide f_depth f_known f_ones f_diagramFor f_diagramRoot (nI N) f_leftCount f_madeCount a_kindOf a_setP a_setQ a_clauses a_table a_memo a_choiceOf a_secondTry a_knownBefore a_onesBefore a_nodeVariable' a_nodeLow' a_nodeHigh' a_nodeNext' a_listFirst' a_recentKey' a_recentNode' a_workF' a_workG' a_workPhase' a_workLow' a_nodeValue a_left a_made a_onesOfVariable a_tableBefore := by
  intro m
  induction m with
  | zero =>
    intro n t p q N g x4 b1 b2 b3 b4 b5 b6 b7 c1 c2 c3 c4 ok hp hq hVp hVq htm hN hF hG hP hn C
    obtain ⟨n1, rfl⟩ : ∃ n1, n = n1 + 1 := ⟨n - 1, by simp only [qd_bc] at hn; omega⟩
    have int' : vp_in (nI t) 10 := vp_in_nI (by omega) (by omega)
    have clt : (nI t).toNatClampNeg = t := nI_clamp (by omega)
    refine br_f (nI_pos (by omega)) ⟨int', nm_r (e' := nI p) (by rw [clt]; exact hF) ⟨int', nm_r (e' := nI q) (by rw [clt]; exact hG) ⟨int', nm_r (e' := 0) (by rw [clt]; exact hP) (br_t rfl ?_)⟩⟩⟩
    refine qx_easyBoth ok (by omega) hp hq ?_ ?_
    · intro r hr hD hV
      have hrN : r < 2 ^ 31 := by omega
      exact br_f (nI_pos hrN) (nm_r (qx_dn_m1 t) (C n1 r N g b1 b2 b3 b4 b5 b6 b7 c1 c2 c3 c4 (by simp only [qd_bc]; omega) ok qd_Ext_rf (by omega) hr hV hD (fun i _ => ⟨rfl, rfl, rfl, rfl⟩)))
    · intro hp2 _
      have := (ok.2.1.2.2.2.1 p hp2 hp).1
      omega
  | succ m ih =>
    intro n t p q N g x4 b1 b2 b3 b4 b5 b6 b7 c1 c2 c3 c4 ok hp hq hVp hVq htm hN hF hG hP hn C
    have hbc := qd_bc_pos m
    have hpm : 0 < 2 ^ m := Nat.pow_pos (by decide)
    simp only [qd_bc] at hn C
    rw [Nat.pow_succ] at hN C
    obtain ⟨n1, rfl⟩ : ∃ n1, n = n1 + 1 := ⟨n - 1, by omega⟩
    have int' : vp_in (nI t) 10 := vp_in_nI (by omega) (by omega)
    have clt : (nI t).toNatClampNeg = t := nI_clamp (by omega)
    refine br_f (nI_pos (by omega)) ⟨int', nm_r (e' := nI p) (by rw [clt]; exact hF) ⟨int', nm_r (e' := nI q) (by rw [clt]; exact hG) ⟨int', nm_r (e' := 0) (by rw [clt]; exact hP) (br_t rfl ?_)⟩⟩⟩
    refine qx_easyBoth ok (by omega) hp hq ?_ ?_
    · intro r hr hD hV
      have hrN : r < 2 ^ 31 := by omega
      exact br_f (nI_pos hrN) (nm_r (qx_dn_m1 t) (C n1 r N g b1 b2 b3 b4 b5 b6 b7 c1 c2 c3 c4 (by omega) ok qd_Ext_rf (by omega) hr hV hD (fun i _ => ⟨rfl, rfl, rfl, rfl⟩)))
    · intro hp2 hq2
      refine br_t (by decide) (br_f (by decide) ?_)
      have hmv := qd_mv_le (g := g) (p := p) (q := q)
      have hmg : 8 ≤ m + 1 + qd_mv g p q := by
        have := qd_mv_ge (g := g) (p := p) (q := q) (k := 8 - (m + 1)) (by omega) (by omega)
        omega
      refine qx_both_push false ok (by omega) (by omega) hp hq hp2 hq2 hP ?_
      have pl := qd_pt_lt ok.2.1 (v := qd_mv g p q) (b := false) hp2 hp
      have ql := qd_pt_lt ok.2.1 (v := qd_mv g p q) (b := false) hq2 hq
      have pV := qd_pt_V ok.2.1 (b := false) hp2 hp hmv.1
      have qV := qd_pt_V ok.2.1 (b := false) hq2 hq hmv.2
      refine ih n1 (t + 1) (qd_pt g (qd_mv g p q) p false) (qd_pt g (qd_mv g p q) q false) N g x4 b1 b2 b3 b4 b5 b6 b7 _ _ _ c4 ok pl ql (by omega) (by omega) (by omega) (by omega) pk_us pk_us pk_us (by omega) ?_
      intro n2 r1 N1 g1 d1 d2 d3 d4 d5 d6 d7 e1 e2 e3 e4 hn2 ok1 hX1 hN1 hr1 hV1 hD1 hag1
      -- back at the couple, with the part for 0
      have ag1 := hag1 t (by omega)
      rw [pk_un (by omega), pk_un (by omega), pk_un (by omega), pk_us] at ag1
      have hp1 : p < N1 := Nat.lt_of_lt_of_le hp hX1.1
      have hq1 : q < N1 := Nat.lt_of_lt_of_le hq hX1.1
      have hmv1 : qd_mv g1 p q = qd_mv g p q := qd_mv_ext hX1 hp hq
      obtain ⟨n3, rfl⟩ : ∃ n3, n2 = n3 + 1 := ⟨n2 - 1, by omega⟩
      show wX_both_28 post (n3 + 1) (nI t) (nI r1) _ _ _ _ _ _ _ _ _ _ _ _ _ _ _ _ _ _ _ _ _ _ _ _ _ _ _ _ _ _ _ _ _ _ _ _ _ _ _ _ _ _
      refine br_f (nI_pos (by omega)) ⟨int', nm_r (e' := nI p) (by rw [clt, ag1.1]; exact hF) ⟨int', nm_r (e' := nI q) (by rw [clt, ag1.2.1]; exact hG) ⟨int', nm_r (e' := 1) (by rw [clt, ag1.2.2.1]; rfl) (br_f (by decide) ?_)⟩⟩⟩
      refine br_t (by decide) (br_t rfl ⟨int', nm_r (e' := upd e4 t (nI r1)) (by rw [clt, qd_vs (by omega)]) ?_⟩)
      refine qx_both_push true ok1 (by omega) (by omega) hp1 hq1 hp2 hq2 (by rw [ag1.2.2.1]; rfl) ?_
      rw [hmv1, qd_pt_ext hX1 hp, qd_pt_ext hX1 hq]
      have pl' := qd_pt_lt ok.2.1 (v := qd_mv g p q) (b := true) hp2 hp
      have ql' := qd_pt_lt ok.2.1 (v := qd_mv g p q) (b := true) hq2 hq
      have pV' := qd_pt_V ok.2.1 (b := true) hp2 hp hmv.1
      have qV' := qd_pt_V ok.2.1 (b := true) hq2 hq hmv.2
      have xP := hX1.2 _ pl'
      have xQ := hX1.2 _ ql'
      have hle1 := hX1.1
      refine ih n3 (t + 1) (qd_pt g (qd_mv g p q) p true) (qd_pt g (qd_mv g p q) q true) N1 g1 (nI r1) d1 d2 d3 d4 d5 d6 d7 _ _ _ _ ok1 (by omega) (by omega) (by omega) (by omega) (by omega) (by omega) pk_us pk_us pk_us (by omega) ?_
      intro n4 r2 N2 g2 f1 f2 f3 f4 f5 f6 f7 h1 h2 h3 h4 hn4 ok2 hX2 hN2 hr2 hV2 hD2 hag2
      have ag2 := hag2 t (by omega)
      rw [pk_un (by omega), pk_un (by omega), pk_un (by omega), pk_us, pk_us] at ag2
      have hp3 : p < N2 := Nat.lt_of_lt_of_le hp1 hX2.1
      have hq3 : q < N2 := Nat.lt_of_lt_of_le hq1 hX2.1
      have hX02 := qd_Ext_tr hX1 hX2
      have hmv2 : qd_mv g2 p q = qd_mv g p q := qd_mv_ext hX02 hp hq
      obtain ⟨n5, rfl⟩ : ∃ n5, n4 = n5 + 1 := ⟨n4 - 1, by omega⟩
      show wX_both_28 post (n5 + 1) (nI t) (nI r2) _ _ _ _ _ _ _ _ _ _ _ _ _ _ _ _ _ _ _ _ _ _ _ _ _ _ _ _ _ _ _ _ _ _ _ _ _ _ _ _ _ _
      refine br_f (nI_pos (by omega)) ⟨int', nm_r (e' := nI p) (by rw [clt, ag2.1, ag1.1]; exact hF) ⟨int', nm_r (e' := nI q) (by rw [clt, ag2.2.1, ag1.2.1]; exact hG) ⟨int', nm_r (e' := 2) (by rw [clt, ag2.2.2.1]; rfl) (br_f (by decide) ?_)⟩⟩⟩
      refine br_t (by decide) (br_f (by decide) ?_)
      have hle2 := hX2.1
      have xr1 := hX2.2 r1 hr1
      refine qx_both_fin ok2 (by omega) (by omega) hp3 hq3 hp2 hq2 (by omega) hr2 ?_ ?_ ag2.2.2.2 ?_ ?_ ?_
      · rw [hmv2, xr1.1]
        exact hV1 _ pV qV
      · rw [hmv2]
        exact hV2 _ (by rw [xP.1]; exact pV') (by rw [xQ.1]; exact qV')
      · intro s
        rw [hmv2, qd_pt_ext hX02 hp, qd_pt_ext hX02 hq, xr1.2.2.2, hD1 s, (hX02.2 _ pl).2.2.2, (hX02.2 _ ql).2.2.2]
      · intro s
        rw [hmv2, qd_pt_ext hX02 hp, qd_pt_ext hX02 hq, hD2 s, (hX02.2 _ pl').2.2.2, (hX02.2 _ ql').2.2.2, xP.2.2.2, xQ.2.2.2]
      · intro r3 N3 g3 k1 k2 k3 k4 k5 k6 k7 ok3 hX3 hN3 hr3 hV3 hD3
        refine C n5 r3 N3 g3 k1 k2 k3 k4 k5 k6 k7 _ _ _ _ (by omega) ok3 (qd_Ext_tr hX02 hX3) (by omega) hr3 ?_ ?_ ?_
        · intro k a b
          exact hV3 k (by rw [(hX02.2 p hp).1]; exact a) (by rw [(hX02.2 q hq).1]; exact b)
        · intro s
          rw [hD3 s, (hX02.2 p hp).2.2.2, (hX02.2 q hq).2.2.2]
        · intro i hi
          have a1 := hag1 i (by omega)
          have a2 := hag2 i (by omega)
          rw [pk_un (by omega), pk_un (by omega), pk_un (by omega), pk_un (by omega)] at a1
          rw [pk_un (by omega), pk_un (by omega), pk_un (by omega), pk_un (by omega), pk_un (by omega)] at a2
          exact ⟨a2.1.trans a1.1, a2.2.1.trans a1.2.1, a2.2.2.1.trans a1.2.2.1, a2.2.2.2.trans a1.2.2.2⟩
theorem qx_both {post : Int32 → SX → Prop} {N p q : Nat} {g : qd_Gh} (ok : qd_OK N a_nodeVariable a_nodeLow a_nodeHigh a_nodeNext a_listFirst a_recentKey a_recentNode g) (hN : N + 255 ≤ 600) (hp : p < N) (hq : q < N)
    (K : ∀ (r N' : Nat) (g' : qd_Gh) (a_nodeVariable' a_nodeLow' a_nodeHigh' a_nodeNext' a_listFirst' a_recentKey' a_recentNode' a_workF' a_workG' a_workPhase' a_workLow' : Nat → Int32), qd_OK N' a_nodeVariable' a_nodeLow' a_nodeHigh' a_nodeNext' a_listFirst' a_recentKey' a_recentNode' g' → qd_Ext N g N' g' → N' ≤ N + 255 → r < N' → (∀ s, qd_D g' r s = (qd_D g p s && qd_D g q s)) → post (nI r) (f_theirs, f_ruleCount, f_wayNow, f_clausesOf, f_clauseCount, f_tableFor, f_memoFor, f_memoSide, f_depth, f_known, f_ones, f_diagramFor, f_diagramRoot, nI N', f_leftCount, f_madeCount, a_kindOf, a_setP, a_setQ, a_clauses, a_table, a_memo, a_choiceOf, a_secondTry, a_knownBefore, a_onesBefore, a_nodeVariable', a_nodeLow', a_nodeHigh', a_nodeNext', a_listFirst', a_recentKey', a_recentNode', a_workF', a_workG', a_workPhase', a_workLow', a_nodeValue, a_left, a_made, a_onesOfVariable, a_tableBefore)) :
    wpX_both post (f_theirs, f_ruleCount, f_wayNow, f_clausesOf, f_clauseCount, f_tableFor, f_memoFor, f_memoSide, f_depth, f_known, f_ones, f_diagramFor, f_diagramRoot, nI N, f_leftCount, f_madeCount, a_kindOf, a_setP, a_setQ, a_clauses, a_table, a_memo, a_choiceOf, a_secondTry, a_knownBefore, a_onesBefore, a_nodeVariable, a_nodeLow, a_nodeHigh, a_nodeNext, a_listFirst, a_recentKey, a_recentNode, a_workF, a_workG, a_workPhase, a_workLow, a_nodeValue, a_left, a_made, a_onesOfVariable, a_tableBefore) (nI p) (nI q) := by
  refine nm_r (e' := upd a_workF 0 (nI p)) (by rw [qd_vs (by omega)]) (nm_r (e' := upd a_workG 0 (nI q)) (by rw [qd_vs (by omega)]) (nm_r (e' := upd a_workPhase 0 0) (by rw [vp_nar_byte]; rfl) ⟨qd_bc 8 + 1, ?_⟩))
  refine qx_both_28 8 (qd_bc 8 + 1) 0 p q N g 0 _ _ _ _ _ _ _ _ _ _ _ ok hp hq (by omega) (by omega) (by omega) (by omega) pk_us pk_us pk_us (by omega) ?_
  intro n' r N' g' b1 b2 b3 b4 b5 b6 b7 c1 c2 c3 c4 hn' ok' hX hN' hr _ hD _
  obtain ⟨n1, rfl⟩ : ∃ n1, n' = n1 + 1 := ⟨n' - 1, by omega⟩
  exact br_t (by decide) (K r N' g' b1 b2 b3 b4 b5 b6 b7 c1 c2 c3 c4 ok' hX (by omega) hr hD)
end
end
section
/-! diagrams: what is reached is marked, and only that is kept -/
def qd_Mk (N : Nat) (g : qd_Gh) (r1 r2 : Nat) (mk : Nat → Int32) (k : Nat) : Prop :=
  mk r1 = 1 ∧ mk r2 = 1 ∧ (∀ j, j < N → mk j = 0 ∨ mk j = 1) ∧ (∀ j, 2 ≤ j → k ≤ j → j < N → mk j = 1 → mk (qd_L g j) = 1 ∧ mk (qd_H g j) = 1) ∧ (∀ j, j < N → mk j = 1 → qd_Re g r1 j ∨ qd_Re g r2 j)
theorem qd_01 {x : Int32} (h : x = 0 ∨ x = 1) : (x = 0 ↔ ¬ x = 1) := by
  rcases h with h | h <;> rw [h] <;> decide
theorem qd_Mk_skip {N k r1 r2 : Nat} {g : qd_Gh} {mk : Nat → Int32} (h : qd_Mk N g r1 r2 mk (k + 1)) (hz : mk k = 0) : qd_Mk N g r1 r2 mk k := by
  refine ⟨h.1, h.2.1, h.2.2.1, fun j a b c d => ?_, h.2.2.2.2⟩
  by_cases e : j = k
  · subst e; rw [hz] at d; exact absurd d (by decide)
  · exact h.2.2.2.1 j a (by omega) c d
theorem qd_Mk_step {N k r1 r2 : Nat} {g : qd_Gh} {mk : Nat → Int32} (hw : qd_WF N g) (hs : qd_Sem N g) (h : qd_Mk N g r1 r2 mk (k + 1)) (h2 : 2 ≤ k) (hk : k < N) (hz : mk k = 1) : qd_Mk N g r1 r2 (upd (upd mk (qd_L g k) 1) (qd_H g k) 1) k := by
  have one : ∀ j, mk j = 1 → upd (upd mk (qd_L g k) 1) (qd_H g k) 1 j = 1 := by
    intro j hj
    by_cases e : j = qd_H g k
    · subst e; exact pk_us
    · rw [pk_un e]
      by_cases e' : j = qd_L g k
      · subst e'; exact pk_us
      · rw [pk_un e']; exact hj
  have what : ∀ j, upd (upd mk (qd_L g k) 1) (qd_H g k) 1 j = 1 → j = qd_L g k ∨ j = qd_H g k ∨ mk j = 1 := by
    intro j hj
    by_cases e : j = qd_H g k
    · exact Or.inr (Or.inl e)
    · by_cases e' : j = qd_L g k
      · exact Or.inl e'
      · rw [pk_un e, pk_un e'] at hj; exact Or.inr (Or.inr hj)
  have w := hw.2.2.2.1 k h2 hk
  refine ⟨one _ h.1, one _ h.2.1, fun j hj => ?_, fun j a b c d => ?_, fun j hj d => ?_⟩
  · by_cases e : j = qd_H g k
    · subst e; exact Or.inr pk_us
    · rw [pk_un e]
      by_cases e' : j = qd_L g k
      · subst e'; exact Or.inr pk_us
      · rw [pk_un e']; exact h.2.2.1 j hj
  · by_cases e : j = k
    · subst e
      refine ⟨?_, pk_us⟩
      rw [pk_un w.2.2.2.1]; exact pk_us
    · rcases what j d with z | z | z
      · omega
      · omega
      · have := h.2.2.2.1 j a (by omega) c z
        exact ⟨one _ this.1, one _ this.2⟩
  · rcases what j d with z | z | z
    · rw [z]
      rcases h.2.2.2.2 k hk hz with y | y
      · exact Or.inl (qd_Re_c hw hs h2 hk y).1
      · exact Or.inr (qd_Re_c hw hs h2 hk y).1
    · rw [z]
      rcases h.2.2.2.2 k hk hz with y | y
      · exact Or.inl (qd_Re_c hw hs h2 hk y).2
      · exact Or.inr (qd_Re_c hw hs h2 hk y).2
    · exact h.2.2.2.2 j hj z
/-- while what is marked is made anew -/
def qd_cm (mk : Nat → Int32) (n : Nat) : Nat := qn_cnt (fun j => decide (2 ≤ j) && decide (mk j = 1)) n
theorem qd_cm_le (mk : Nat → Int32) : ∀ n, 2 ≤ n → 2 + qd_cm mk n ≤ n := by
  intro n
  induction n with
  | zero => intro h; omega
  | succ n ih =>
    intro h
    by_cases e : n = 1
    · subst e
      have h0 : qd_cm mk (1 + 1) = 0 := qn_cnt_0 (fun i hi => by rw [decide_eq_false (by omega), Bool.false_and])
      rw [h0]; omega
    · have h1 := ih (by omega)
      have h2 : qd_cm mk (n + 1) = qd_cm mk n + (decide (2 ≤ n) && decide (mk n = 1)).toNat := rfl
      have h3 := Bool.toNat_le (decide (2 ≤ n) && decide (mk n = 1))
      omega
def qd_GC (N0 : Nat) (g0 : qd_Gh) (mk : Nat → Int32) (n N' : Nat) (g' : qd_Gh) (nv lo hi nvl : Nat → Int32) : Prop :=
  N' ≤ 2 + qd_cm mk n ∧ (∀ j, n ≤ j → j < N0 → nv j = nI (qd_V g0 j) ∧ lo j = nI (qd_L g0 j) ∧ hi j = nI (qd_H g0 j)) ∧ (∀ j, n ≤ j → j < N0 → nvl j = mk j) ∧
  (∀ j, j < n → (j < 2 ∨ mk j = 1) → ∃ r, nvl j = nI r ∧ r < N' ∧ qd_V g0 j ≤ qd_V g' r ∧ ∀ s, qd_D g' r s = qd_D g0 j s)
theorem qd_GC_skip {N0 n N' : Nat} {g0 g' : qd_Gh} {mk nv lo hi nvl : Nat → Int32} (h : qd_GC N0 g0 mk n N' g' nv lo hi nvl) (h2 : 2 ≤ n) (hz : mk n = 0) : qd_GC N0 g0 mk (n + 1) N' g' nv lo hi nvl := by
  have : qd_cm mk n ≤ qd_cm mk (n + 1) := qn_cnt_up (by omega)
  refine ⟨by have := h.1; omega, fun j a b => h.2.1 j (by omega) b, fun j a b => h.2.2.1 j (by omega) b, fun j a b => ?_⟩
  by_cases e : j = n
  · subst e
    rcases b with z | z
    · omega
    · rw [hz] at z; exact absurd z (by decide)
  · exact h.2.2.2 j (by omega) b
theorem qd_GC_keep {N0 n N' N'' r : Nat} {g0 g' g'' : qd_Gh} {mk nv lo hi nvl nv' lo' hi' : Nat → Int32} (h : qd_GC N0 g0 mk n N' g' nv lo hi nvl) (h2 : 2 ≤ n) (hz : mk n = 1) (hX : qd_Ext N' g' N'' g'') (hN : N'' ≤ N' + 1) (hr : r < N'') (hV : qd_V g0 n ≤ qd_V g'' r)
    (hD : ∀ s, qd_D g'' r s = qd_D g0 n s) (hF : ∀ j, N' < j → nv' j = nv j ∧ lo' j = lo j ∧ hi' j = hi j) : qd_GC N0 g0 mk (n + 1) N'' g'' nv' lo' hi' (upd nvl n (nI r)) := by
  have hcm := qd_cm_le mk n h2
  have h1 : qd_cm mk (n + 1) = qd_cm mk n + 1 := by
    show qd_cm mk n + (decide (2 ≤ n) && decide (mk n = 1)).toNat = _
    rw [decide_eq_true h2, decide_eq_true hz]; rfl
  have hh1 := h.1
  refine ⟨by omega, fun j a b => ?_, fun j a b => ?_, fun j a b => ?_⟩
  · have := hF j (by omega)
    rw [this.1, this.2.1, this.2.2]
    exact h.2.1 j (by omega) b
  · rw [pk_un (by omega)]; exact h.2.2.1 j (by omega) b
  · by_cases e : j = n
    · subst e; exact ⟨r, pk_us, hr, hV, hD⟩
    · obtain ⟨r', a1, a2, a3, a4⟩ := h.2.2.2 j (by omega) b
      have x := hX.2 r' a2
      have hle := hX.1
      exact ⟨r', by rw [pk_un e]; exact a1, by omega, by rw [x.1]; exact a3, fun s => by rw [x.2.2.2]; exact a4 s⟩
section
variable {f_theirs f_ruleCount f_wayNow f_clausesOf f_clauseCount f_tableFor f_memoFor f_memoSide f_depth f_known f_ones f_diagramFor f_diagramRoot f_nodeCount f_leftCount f_madeCount : Int32} {a_kindOf a_setP a_setQ a_clauses a_memo a_choiceOf a_secondTry a_knownBefore a_onesBefore a_nodeVariable a_nodeLow a_nodeHigh a_nodeNext a_listFirst a_recentKey a_recentNode a_workF a_workG a_workPhase a_workLow a_nodeValue a_left a_made : Nat → Int32} {a_table a_onesOfVariable a_tableBefore : Nat → Int64}
theorem qx_markFrom_37 {post : SX → Prop} {N r1 r2 : Nat} {g : qd_Gh} (ok : qd_OK N a_nodeVariable a_nodeLow a_nodeHigh a_nodeNext a_listFirst a_recentKey a_recentNode g) (hN : N ≤ 600)
    (K : ∀ mk, qd_Mk N g r1 r2 mk 2 → post (f_theirs, f_ruleCount, f_wayNow, f_clausesOf, f_clauseCount, f_tableFor, f_memoFor, f_memoSide, f_depth, f_known, f_ones, f_diagramFor, f_diagramRoot, nI N, f_leftCount, f_madeCount, a_kindOf, a_setP, a_setQ, a_clauses, a_table, a_memo, a_choiceOf, a_secondTry, a_knownBefore, a_onesBefore, a_nodeVariable, a_nodeLow, a_nodeHigh, a_nodeNext, a_listFirst, a_recentKey, a_recentNode, a_workF, a_workG, a_workPhase, a_workLow, mk, a_left, a_made, a_onesOfVariable, a_tableBefore)) : ∀ (n x : Nat) (mk : Nat → Int32), 1 ≤ x → x < N → x < n → qd_Mk N g r1 r2 mk (x + 1) → wX_markFrom_37 post f_theirs f_ruleCount f_wayNow f_clausesOf f_clauseCount f_tableFor f_memoFor f_memoSide f_depth f_known f_ones f_diagramFor f_diagramRoot (nI N) f_leftCount f_madeCount n (nI x) a_kindOf a_setP a_setQ a_clauses a_table a_memo a_choiceOf a_secondTry a_knownBefore a_onesBefore a_nodeVariable a_nodeLow a_nodeHigh a_nodeNext a_listFirst a_recentKey a_recentNode a_workF a_workG a_workPhase a_workLow mk a_left a_made a_onesOfVariable a_tableBefore := by
  intro n
  induction n with
  | zero => intro x mk _ _ h; omega
  | succ n ih =>
    intro x mk hx1 hxN hf hM
    refine pk_le x 1 (fun e => ?_) (fun e => ?_)
    · have e : x = 1 := by omega
      subst e
      exact K mk hM
    · have hin : vp_in (nI x) 600 := vp_in_nI (by omega) (by omega)
      have hcl : (nI x).toNatClampNeg = x := nI_clamp (by omega)
      have hr := (ok.1 x hxN).2 (by omega)
      have w := ok.2.1.2.2.2.1 x (by omega) hxN
      refine ⟨hin, ?_⟩
      rw [hcl, hr.1, hr.2]
      refine br_c (fun z => nm_r (sb_m1 (by omega)) (ih (x - 1) mk (by omega) (by omega) (by omega) ?_)) (fun z => ⟨hin, vp_in_nI (by omega) (by omega), nm_r (e' := upd mk (qd_L g x) 1) (by rw [nI_clamp (by omega), vp_nar_short]; rfl) ⟨hin, vp_in_nI (by omega) (by omega), nm_r (e' := upd (upd mk (qd_L g x) 1) (qd_H g x) 1) (by rw [nI_clamp (by omega), vp_nar_short]; rfl) (nm_r (sb_m1 (by omega)) (ih (x - 1) _ (by omega) (by omega) (by omega) ?_))⟩⟩)
      · rw [show x - 1 + 1 = x by omega]; exact qd_Mk_skip hM z
      · rw [show x - 1 + 1 = x by omega]
        exact qd_Mk_step ok.2.1 ok.2.2.2.1 hM (by omega) hxN ((hM.2.2.1 x hxN).elim (fun y => absurd y z) id)
theorem qx_markFrom_2 {post : SX → Prop} {N r : Nat} {g : qd_Gh} (ok : qd_OK N a_nodeVariable a_nodeLow a_nodeHigh a_nodeNext a_listFirst a_recentKey a_recentNode g) (hN : N ≤ 600) (hr : r < N)
    (K : ∀ mk, qd_Mk N g r r mk 2 → post (f_theirs, f_ruleCount, f_wayNow, f_clausesOf, f_clauseCount, f_tableFor, f_memoFor, f_memoSide, f_depth, f_known, f_ones, f_diagramFor, f_diagramRoot, nI N, f_leftCount, f_madeCount, a_kindOf, a_setP, a_setQ, a_clauses, a_table, a_memo, a_choiceOf, a_secondTry, a_knownBefore, a_onesBefore, a_nodeVariable, a_nodeLow, a_nodeHigh, a_nodeNext, a_listFirst, a_recentKey, a_recentNode, a_workF, a_workG, a_workPhase, a_workLow, mk, a_left, a_made, a_onesOfVariable, a_tableBefore)) : ∀ (n i : Nat) (mk : Nat → Int32), i ≤ N → N < n + i → (∀ j, j < i → mk j = 0) → wX_markFrom_2 post (nI r) f_theirs f_ruleCount f_wayNow f_clausesOf f_clauseCount f_tableFor f_memoFor f_memoSide f_depth f_known f_ones f_diagramFor f_diagramRoot (nI N) f_leftCount f_madeCount n (nI i) a_kindOf a_setP a_setQ a_clauses a_table a_memo a_choiceOf a_secondTry a_knownBefore a_onesBefore a_nodeVariable a_nodeLow a_nodeHigh a_nodeNext a_listFirst a_recentKey a_recentNode a_workF a_workG a_workPhase a_workLow mk a_left a_made a_onesOfVariable a_tableBefore := by
  intro n
  induction n with
  | zero => intro i mk h1 h2; omega
  | succ n ih =>
    intro i mk hi hf hI
    have hN2 := ok.2.1.1
    refine pk_le N i (fun e => ?_) (fun e => ?_)
    · refine ⟨vp_in_nI (by omega) (by omega), nm_r (e' := upd mk r 1) (by rw [nI_clamp (by omega), vp_nar_short]; rfl) (nm_r (e' := nI (N - 1)) (pk_sub (b := 1) (by omega)) ⟨N, ?_⟩)⟩
      refine qx_markFrom_37 ok hN K N (N - 1) _ (by omega) (by omega) (by omega) ?_
      refine ⟨pk_us, pk_us, fun j hj => ?_, fun j a b c => by omega, fun j hj d => ?_⟩
      · by_cases e1 : j = r
        · subst e1; exact Or.inr pk_us
        · rw [pk_un e1]; exact Or.inl (hI j (by omega))
      · by_cases e1 : j = r
        · subst e1; exact Or.inl qd_Re_rf
        · rw [pk_un e1, hI j (by omega)] at d; exact absurd d (by decide)
    · refine ⟨vp_in_nI (by omega) (by omega), nm_r (e' := upd mk i 0) (by rw [nI_clamp (by omega), vp_nar_short]; rfl) (nm_r (nI_1 i) (ih (i + 1) _ (by omega) (by omega) ?_))⟩
      intro j hj
      by_cases e1 : j = i
      · subst e1; exact pk_us
      · rw [pk_un e1]; exact hI j (by omega)
theorem qx_markFrom {post : SX → Prop} {N r : Nat} {g : qd_Gh} (ok : qd_OK N a_nodeVariable a_nodeLow a_nodeHigh a_nodeNext a_listFirst a_recentKey a_recentNode g) (hN : N ≤ 600) (hr : r < N)
    (K : ∀ mk, qd_Mk N g r r mk 2 → post (f_theirs, f_ruleCount, f_wayNow, f_clausesOf, f_clauseCount, f_tableFor, f_memoFor, f_memoSide, f_depth, f_known, f_ones, f_diagramFor, f_diagramRoot, nI N, f_leftCount, f_madeCount, a_kindOf, a_setP, a_setQ, a_clauses, a_table, a_memo, a_choiceOf, a_secondTry, a_knownBefore, a_onesBefore, a_nodeVariable, a_nodeLow, a_nodeHigh, a_nodeNext, a_listFirst, a_recentKey, a_recentNode, a_workF, a_workG, a_workPhase, a_workLow, mk, a_left, a_made, a_onesOfVariable, a_tableBefore)) : wpX_markFrom post (f_theirs, f_ruleCount, f_wayNow, f_clausesOf, f_clauseCount, f_tableFor, f_memoFor, f_memoSide, f_depth, f_known, f_ones, f_diagramFor, f_diagramRoot, nI N, f_leftCount, f_madeCount, a_kindOf, a_setP, a_setQ, a_clauses, a_table, a_memo, a_choiceOf, a_secondTry, a_knownBefore, a_onesBefore, a_nodeVariable, a_nodeLow, a_nodeHigh, a_nodeNext, a_listFirst, a_recentKey, a_recentNode, a_workF, a_workG, a_workPhase, a_workLow, a_nodeValue, a_left, a_made, a_onesOfVariable, a_tableBefore) (nI r) :=
  ⟨N + 1, qx_markFrom_2 ok hN hr K (N + 1) 0 a_nodeValue (by omega) (by omega) (fun j hj => by omega)⟩
/-- the start of making anew -/
theorem qd_GC_start {N : Nat} {g : qd_Gh} {mk nv lo hi nv' : Nat → Int32} (hR : qd_Rep N nv lo hi g) (hw : qd_WF N g) (hs : qd_Sem N g) (hnv : ∀ j, 2 ≤ j → nv' j = nv j) : qd_GC N g mk 2 2 qd_g0 nv' lo hi (upd (upd mk 0 0) 1 1) := by
  refine ⟨by omega, fun j a b => ?_, fun j a b => ?_, fun j a _ => ?_⟩
  · have := hR j b
    rw [hnv j a]
    exact ⟨this.1, this.2 a⟩
  · rw [pk_un (by omega), pk_un (by omega)]
  · have h01 : j = 0 ∨ j = 1 := by omega
    rcases h01 with h | h
    · subst h
      exact ⟨0, by rw [pk_un (by omega), pk_us]; rfl, by omega, by rw [hw.2.1]; exact Nat.le_refl 8, fun s => by rw [hs.1]; rfl⟩
    · subst h
      exact ⟨1, by rw [pk_us]; rfl, by omega, by rw [hw.2.2.1]; exact Nat.le_refl 8, fun s => by rw [hs.2.1]; rfl⟩
theorem qx_keepOnly_33 {post : Int32 → SX → Prop} {N r : Nat} {g : qd_Gh} {mk : Nat → Int32} (hN : N ≤ 600) (hw : qd_WF N g) (hs : qd_Sem N g) (hM : qd_Mk N g r r mk 2) (hr : r < N)
    (K : ∀ (r' N' : Nat) (g' : qd_Gh) (a_nodeVariable' a_nodeLow' a_nodeHigh' a_nodeNext' a_listFirst' a_recentKey' a_recentNode' : Nat → Int32) (nvl : Nat → Int32), qd_OK N' a_nodeVariable' a_nodeLow' a_nodeHigh' a_nodeNext' a_listFirst' a_recentKey' a_recentNode' g' → N' ≤ 2 + qd_cm mk N → r' < N' → (∀ s, qd_D g' r' s = qd_D g r s) → post (nI r') (f_theirs, f_ruleCount, f_wayNow, f_clausesOf, f_clauseCount, f_tableFor, f_memoFor, f_memoSide, f_depth, f_known, f_ones, f_diagramFor, f_diagramRoot, nI N', f_leftCount, f_madeCount, a_kindOf, a_setP, a_setQ, a_clauses, a_table, a_memo, a_choiceOf, a_secondTry, a_knownBefore, a_onesBefore, a_nodeVariable', a_nodeLow', a_nodeHigh', a_nodeNext', a_listFirst', a_recentKey', a_recentNode', a_workF, a_workG, a_workPhase, a_workLow, nvl, a_left, a_made, a_onesOfVariable, a_tableBefore)) :
    ∀ (f n N' : Nat) (g' : qd_Gh) (x3 : Int32) (a_nodeVariable' a_nodeLow' a_nodeHigh' a_nodeNext' a_listFirst' a_recentKey' a_recentNode' : Nat → Int32) (nvl : Nat → Int32), 2 ≤ n → n ≤ N → N < f + n → qd_OK N' a_nodeVariable' a_nodeLow' a_nodeHigh' a_nodeNext' a_listFirst' a_recentKey' a_recentNode' g' → qd_GC N g mk n N' g' a_nodeVariable' a_nodeLow' a_nodeHigh' nvl →
      (r < n → ∃ r', x3 = nI r' ∧ r' < N' ∧ ∀ s, qd_D g' r' s = qd_D g r s) →
    wX_keepOnly_33 post (nI r) (nI N) f x3 (nI n) f_theirs f_ruleCount f_wayNow f_clausesOf f_clauseCount f_tableFor f_memoFor f_memoSide f_depth f_known f_ones f_diagramFor f_diagramRoot (nI N') f_leftCount f_madeCount a_kindOf a_setP a_setQ a_clauses a_table a_memo a_choiceOf a_secondTry a_knownBefore a_onesBefore a_nodeVariable' a_nodeLow' a_nodeHigh' a_nodeNext' a_listFirst' a_recentKey' a_recentNode' a_workF a_workG a_workPhase a_workLow nvl a_left a_made a_onesOfVariable a_tableBefore := by
  intro f
  induction f with
  | zero => intro n N' g' x3 _ _ _ _ _ _ _ nvl h1 h2 h3; omega
  | succ f ih =>
    intro n N' g' x3 b1 b2 b3 b4 b5 b6 b7 nvl hn2 hnN hf ok hG hroot
    refine pk_le N n (fun e => ?_) (fun e => ?_)
    · have e : n = N := by omega
      subst e
      obtain ⟨r', rfl, h1, h2⟩ := hroot hr
      exact K r' N' g' b1 b2 b3 b4 b5 b6 b7 nvl ok hG.1 h1 h2
    · have hin : vp_in (nI n) 600 := vp_in_nI (by omega) (by omega)
      have hcl : (nI n).toNatClampNeg = n := nI_clamp (by omega)
      have hcm := qd_cm_le mk n hn2
      have hG1 := hG.1
      have ho := hG.2.1 n (Nat.le_refl n) e
      have hmk := hG.2.2.1 n (Nat.le_refl n) e
      have w := hw.2.2.2.1 n hn2 e
      refine ⟨hin, ?_⟩
      rw [hcl, hmk, ho.1, ho.2.1, ho.2.2]
      refine br_c (fun z => nm_r (nI_1 n) (ih (n + 1) N' g' x3 b1 b2 b3 b4 b5 b6 b7 nvl (by omega) (by omega) (by omega) ok (qd_GC_skip hG hn2 z) (fun hlt => hroot ?_))) (fun z => ?_)
      · by_cases e1 : r = n
        · subst e1; rw [hM.1] at z; exact absurd z (by decide)
        · omega
      · have hz : mk n = 1 := (hM.2.2.1 n e).elim (fun y => absurd y z) id
        have hcl2 := hM.2.2.2.1 n hn2 hn2 e hz
        obtain ⟨l, l1, l2, l3, l4⟩ := hG.2.2.2 (qd_L g n) (by omega) (Or.inr hcl2.1)
        obtain ⟨h, h1, h2, h3, h4⟩ := hG.2.2.2 (qd_H g n) (by omega) (Or.inr hcl2.2)
        refine ⟨hin, vp_in_nI (by omega) (by omega), nm_r (e' := nI l) (by rw [nI_clamp (by omega)]; exact l1) ⟨hin, vp_in_nI (by omega) (by omega), nm_r (e' := nI h) (by rw [nI_clamp (by omega)]; exact h1) ⟨hin, ?_⟩⟩⟩
        refine qx_node ok (by omega) w.1 l2 h2 (by omega) (by omega) ?_
        intro r2 N2 g2 c1 c2 c3 c4 c5 ok2 hX hN2 hr2 hV2 hD2 hF2
        have hD : ∀ s, qd_D g2 r2 s = qd_D g n s := fun s => by rw [hD2 s, h4, l4, hs.2.2 n hn2 e]
        have hG' := qd_GC_keep hG hn2 hz hX hN2 hr2 hV2 hD hF2
        have hle := hX.1
        refine ⟨hin, nm_r (e' := upd nvl n (nI r2)) (by rw [qd_vs (by omega)]) ?_⟩
        refine pk_eq n r (fun e1 => nm_r (nI_1 n) (ih (n + 1) N2 g2 _ c1 c2 c3 c4 c5 b6 b7 _ (by omega) (by omega) (by omega) ok2 hG' (fun _ => ⟨r2, rfl, hr2, fun s => by rw [hD s, e1]⟩))) (fun e1 => nm_r (nI_1 n) (ih (n + 1) N2 g2 _ c1 c2 c3 c4 c5 b6 b7 _ (by omega) (by omega) (by omega) ok2 hG' (fun hlt => ?_)))
        obtain ⟨r', y1, y2, y3⟩ := hroot (by omega)
        exact ⟨r', y1, by omega, fun s => by rw [(hX.2 r' y2).2.2.2]; exact y3 s⟩
theorem qd_cm_256 {N r1 r2 : Nat} {g : qd_Gh} {mk : Nat → Int32} (hw : qd_WF N g) (hs : qd_Sem N g) (hM : qd_Mk N g r1 r2 mk 2) : qd_cm mk N ≤ 256 := by
  apply qd_count hw hs (r1 := r1) (r2 := r2)
  intro n hn h
  rw [Bool.and_eq_true, decide_eq_true_eq, decide_eq_true_eq] at h
  exact ⟨h.1, hM.2.2.2.2 n hn h.2⟩
theorem qx_keepOnly {post : Int32 → SX → Prop} {N r : Nat} {g : qd_Gh} (ok : qd_OK N a_nodeVariable a_nodeLow a_nodeHigh a_nodeNext a_listFirst a_recentKey a_recentNode g) (hN : N ≤ 600) (hr : r < N)
    (K : ∀ (r' N' : Nat) (g' : qd_Gh) (a_nodeVariable' a_nodeLow' a_nodeHigh' a_nodeNext' a_listFirst' a_recentKey' a_recentNode' : Nat → Int32) (nvl : Nat → Int32), qd_OK N' a_nodeVariable' a_nodeLow' a_nodeHigh' a_nodeNext' a_listFirst' a_recentKey' a_recentNode' g' → N' ≤ 258 → r' < N' → (∀ s, qd_D g' r' s = qd_D g r s) → post (nI r') (f_theirs, f_ruleCount, f_wayNow, f_clausesOf, f_clauseCount, f_tableFor, f_memoFor, f_memoSide, f_depth, f_known, f_ones, f_diagramFor, f_diagramRoot, nI N', f_leftCount, f_madeCount, a_kindOf, a_setP, a_setQ, a_clauses, a_table, a_memo, a_choiceOf, a_secondTry, a_knownBefore, a_onesBefore, a_nodeVariable', a_nodeLow', a_nodeHigh', a_nodeNext', a_listFirst', a_recentKey', a_recentNode', a_workF, a_workG, a_workPhase, a_workLow, nvl, a_left, a_made, a_onesOfVariable, a_tableBefore)) :
    wpX_keepOnly post (f_theirs, f_ruleCount, f_wayNow, f_clausesOf, f_clauseCount, f_tableFor, f_memoFor, f_memoSide, f_depth, f_known, f_ones, f_diagramFor, f_diagramRoot, nI N, f_leftCount, f_madeCount, a_kindOf, a_setP, a_setQ, a_clauses, a_table, a_memo, a_choiceOf, a_secondTry, a_knownBefore, a_onesBefore, a_nodeVariable, a_nodeLow, a_nodeHigh, a_nodeNext, a_listFirst, a_recentKey, a_recentNode, a_workF, a_workG, a_workPhase, a_workLow, a_nodeValue, a_left, a_made, a_onesOfVariable, a_tableBefore) (nI r) := by
  unfold wpX_keepOnly
  dsimp only
  refine qx_markFrom ok hN hr ?_
  intro mk hM
  refine qx_startDiagram ?_
  intro b1 b5 b6 hnv ok0
  refine nm_r (e' := upd mk 0 0) (by rw [vp_nar_short]; rfl) (nm_r (e' := upd (upd mk 0 0) 1 1) (by rw [vp_nar_short]; rfl) ⟨N + 1, ?_⟩)
  have h256 := qd_cm_256 ok.2.1 ok.2.2.2.1 hM
  refine qx_keepOnly_33 hN ok.2.1 ok.2.2.2.1 hM hr ?_ (N + 1) 2 2 qd_g0 (nI r) _ _ _ _ _ _ _ _ (by omega) ok.2.1.1 (by omega) ok0 (qd_GC_start ok.1 ok.2.1 ok.2.2.2.1 hnv) ?_
  · intro r' N' g' c1 c2 c3 c4 c5 c6 c7 nvl a1 a2 a3 a4
    exact K r' N' g' c1 c2 c3 c4 c5 c6 c7 nvl a1 (by omega) a3 a4
  · intro hlt
    refine ⟨r, rfl, hlt, fun s => ?_⟩
    have h01 : r = 0 ∨ r = 1 := by omega
    rcases h01 with h | h
    · subst h; rw [ok.2.2.2.1.1]; rfl
    · subst h; rw [ok.2.2.2.1.2.1]; rfl
theorem qx_keepBoth_92 {post : Int32 → SX → Prop} {N r1 r2 : Nat} {g : qd_Gh} {mk : Nat → Int32} (hN : N ≤ 600) (hw : qd_WF N g) (hs : qd_Sem N g) (hM : qd_Mk N g r1 r2 mk 2) (hr1 : r1 < N) (hr2 : r2 < N)
    (K : ∀ (r' r'' N' : Nat) (g' : qd_Gh) (a_nodeVariable' a_nodeLow' a_nodeHigh' a_nodeNext' a_listFirst' a_recentKey' a_recentNode' : Nat → Int32) (nvl : Nat → Int32), qd_OK N' a_nodeVariable' a_nodeLow' a_nodeHigh' a_nodeNext' a_listFirst' a_recentKey' a_recentNode' g' → N' ≤ 2 + qd_cm mk N → nvl r1 = nI r' → r' < N' → r'' < N' → (∀ s, qd_D g' r' s = qd_D g r1 s) → (∀ s, qd_D g' r'' s = qd_D g r2 s) → post (nI r'') (f_theirs, f_ruleCount, f_wayNow, f_clausesOf, f_clauseCount, f_tableFor, f_memoFor, f_memoSide, f_depth, f_known, f_ones, f_diagramFor, f_diagramRoot, nI N', f_leftCount, f_madeCount, a_kindOf, a_setP, a_setQ, a_clauses, a_table, a_memo, a_choiceOf, a_secondTry, a_knownBefore, a_onesBefore, a_nodeVariable', a_nodeLow', a_nodeHigh', a_nodeNext', a_listFirst', a_recentKey', a_recentNode', a_workF, a_workG, a_workPhase, a_workLow, nvl, a_left, a_made, a_onesOfVariable, a_tableBefore)) :
    ∀ (f n N' : Nat) (g' : qd_Gh) (a_nodeVariable' a_nodeLow' a_nodeHigh' a_nodeNext' a_listFirst' a_recentKey' a_recentNode' : Nat → Int32) (nvl : Nat → Int32), 2 ≤ n → n ≤ N → N < f + n → qd_OK N' a_nodeVariable' a_nodeLow' a_nodeHigh' a_nodeNext' a_listFirst' a_recentKey' a_recentNode' g' → qd_GC N g mk n N' g' a_nodeVariable' a_nodeLow' a_nodeHigh' nvl →
    wX_keepBoth_92 post (nI r2) (nI N) f (nI n) f_theirs f_ruleCount f_wayNow f_clausesOf f_clauseCount f_tableFor f_memoFor f_memoSide f_depth f_known f_ones f_diagramFor f_diagramRoot (nI N') f_leftCount f_madeCount a_kindOf a_setP a_setQ a_clauses a_table a_memo a_choiceOf a_secondTry a_knownBefore a_onesBefore a_nodeVariable' a_nodeLow' a_nodeHigh' a_nodeNext' a_listFirst' a_recentKey' a_recentNode' a_workF a_workG a_workPhase a_workLow nvl a_left a_made a_onesOfVariable a_tableBefore := by
  intro f
  induction f with
  | zero => intro n N' g' _ _ _ _ _ _ _ nvl h1 h2 h3; omega
  | succ f ih =>
    intro n N' g' b1 b2 b3 b4 b5 b6 b7 nvl hn2 hnN hf ok hG
    refine pk_le N n (fun e => ?_) (fun e => ?_)
    · have e : n = N := by omega
      subst e
      obtain ⟨r', x1, x2, _, x4⟩ := hG.2.2.2 r1 hr1 (Or.inr hM.1)
      obtain ⟨r'', y1, y2, _, y4⟩ := hG.2.2.2 r2 hr2 (Or.inr hM.2.1)
      refine ⟨vp_in_nI (by omega) (by omega), ?_⟩
      rw [nI_clamp (by omega), y1]
      exact K r' r'' N' g' b1 b2 b3 b4 b5 b6 b7 nvl ok hG.1 x1 x2 y2 x4 y4
    · have hin : vp_in (nI n) 600 := vp_in_nI (by omega) (by omega)
      have hcl : (nI n).toNatClampNeg = n := nI_clamp (by omega)
      have hcm := qd_cm_le mk n hn2
      have hG1 := hG.1
      have ho := hG.2.1 n (Nat.le_refl n) e
      have hmk := hG.2.2.1 n (Nat.le_refl n) e
      have w := hw.2.2.2.1 n hn2 e
      refine ⟨hin, ?_⟩
      rw [hcl, hmk, ho.1, ho.2.1, ho.2.2]
      refine br_c (fun z => nm_r (nI_1 n) (ih (n + 1) N' g' b1 b2 b3 b4 b5 b6 b7 nvl (by omega) (by omega) (by omega) ok (qd_GC_skip hG hn2 z))) (fun z => ?_)
      have hz : mk n = 1 := (hM.2.2.1 n e).elim (fun y => absurd y z) id
      have hcl2 := hM.2.2.2.1 n hn2 hn2 e hz
      obtain ⟨l, l1, l2, l3, l4⟩ := hG.2.2.2 (qd_L g n) (by omega) (Or.inr hcl2.1)
      obtain ⟨h, h1, h2, h3, h4⟩ := hG.2.2.2 (qd_H g n) (by omega) (Or.inr hcl2.2)
      refine ⟨hin, vp_in_nI (by omega) (by omega), nm_r (e' := nI l) (by rw [nI_clamp (by omega)]; exact l1) ⟨hin, vp_in_nI (by omega) (by omega), nm_r (e' := nI h) (by rw [nI_clamp (by omega)]; exact h1) ⟨hin, ?_⟩⟩⟩
      refine qx_node ok (by omega) w.1 l2 h2 (by omega) (by omega) ?_
      intro rr N2 g2 c1 c2 c3 c4 c5 ok2 hX hN2 hr2' hV2 hD2 hF2
      have hD : ∀ s, qd_D g2 rr s = qd_D g n s := fun s => by rw [hD2 s, h4, l4, hs.2.2 n hn2 e]
      have hG' := qd_GC_keep hG hn2 hz hX hN2 hr2' hV2 hD hF2
      refine ⟨hin, nm_r (e' := upd nvl n (nI rr)) (by rw [qd_vs (by omega)]) (nm_r (nI_1 n) (ih (n + 1) N2 g2 c1 c2 c3 c4 c5 b6 b7 _ (by omega) (by omega) (by omega) ok2 hG'))⟩
theorem qx_keepBoth_19 {post : Int32 → SX → Prop} {N r1 r2 : Nat} {g : qd_Gh} (ok : qd_OK N a_nodeVariable a_nodeLow a_nodeHigh a_nodeNext a_listFirst a_recentKey a_recentNode g) (hN : N ≤ 600) (hr1 : r1 < N) (hr2 : r2 < N)
    (K : ∀ (r' r'' N' : Nat) (g' : qd_Gh) (a_nodeVariable' a_nodeLow' a_nodeHigh' a_nodeNext' a_listFirst' a_recentKey' a_recentNode' : Nat → Int32) (nvl : Nat → Int32), qd_OK N' a_nodeVariable' a_nodeLow' a_nodeHigh' a_nodeNext' a_listFirst' a_recentKey' a_recentNode' g' → N' ≤ 258 → nvl r1 = nI r' → r' < N' → r'' < N' → (∀ s, qd_D g' r' s = qd_D g r1 s) → (∀ s, qd_D g' r'' s = qd_D g r2 s) → post (nI r'') (f_theirs, f_ruleCount, f_wayNow, f_clausesOf, f_clauseCount, f_tableFor, f_memoFor, f_memoSide, f_depth, f_known, f_ones, f_diagramFor, f_diagramRoot, nI N', f_leftCount, f_madeCount, a_kindOf, a_setP, a_setQ, a_clauses, a_table, a_memo, a_choiceOf, a_secondTry, a_knownBefore, a_onesBefore, a_nodeVariable', a_nodeLow', a_nodeHigh', a_nodeNext', a_listFirst', a_recentKey', a_recentNode', a_workF, a_workG, a_workPhase, a_workLow, nvl, a_left, a_made, a_onesOfVariable, a_tableBefore)) :
    ∀ (n x : Nat) (mk : Nat → Int32), 1 ≤ x → x < N → x < n → qd_Mk N g r1 r2 mk (x + 1) → wX_keepBoth_19 post (nI r2) f_theirs f_ruleCount f_wayNow f_clausesOf f_clauseCount f_tableFor f_memoFor f_memoSide f_depth f_known f_ones f_diagramFor f_diagramRoot (nI N) f_leftCount f_madeCount n (nI x) a_kindOf a_setP a_setQ a_clauses a_table a_memo a_choiceOf a_secondTry a_knownBefore a_onesBefore a_nodeVariable a_nodeLow a_nodeHigh a_nodeNext a_listFirst a_recentKey a_recentNode a_workF a_workG a_workPhase a_workLow mk a_left a_made a_onesOfVariable a_tableBefore := by
  intro n
  induction n with
  | zero => intro x mk _ _ h; omega
  | succ n ih =>
    intro x mk hx1 hxN hf hM
    refine pk_le x 1 (fun e => ?_) (fun e => ?_)
    · have e : x = 1 := by omega
      subst e
      refine qx_startDiagram ?_
      intro b1 b5 b6 hnv ok0
      refine nm_r (e' := upd mk 0 0) (by rw [vp_nar_short]; rfl) (nm_r (e' := upd (upd mk 0 0) 1 1) (by rw [vp_nar_short]; rfl) ⟨N + 1, ?_⟩)
      have h256 := qd_cm_256 ok.2.1 ok.2.2.2.1 hM
      refine qx_keepBoth_92 hN ok.2.1 ok.2.2.2.1 hM hr1 hr2 ?_ (N + 1) 2 2 qd_g0 _ _ _ _ _ _ _ _ (by omega) ok.2.1.1 (by omega) ok0 (qd_GC_start ok.1 ok.2.1 ok.2.2.2.1 hnv)
      intro r' r'' N' g' c1 c2 c3 c4 c5 c6 c7 nvl a1 a2 a3 a4 a5 a6 a7
      exact K r' r'' N' g' c1 c2 c3 c4 c5 c6 c7 nvl a1 (by omega) a3 a4 a5 a6 a7
    · have hin : vp_in (nI x) 600 := vp_in_nI (by omega) (by omega)
      have hcl : (nI x).toNatClampNeg = x := nI_clamp (by omega)
      have hr := (ok.1 x hxN).2 (by omega)
      have w := ok.2.1.2.2.2.1 x (by omega) hxN
      refine ⟨hin, ?_⟩
      rw [hcl, hr.1, hr.2]
      refine br_c (fun z => nm_r (sb_m1 (by omega)) (ih (x - 1) mk (by omega) (by omega) (by omega) ?_)) (fun z => ⟨hin, vp_in_nI (by omega) (by omega), nm_r (e' := upd mk (qd_L g x) 1) (by rw [nI_clamp (by omega), vp_nar_short]; rfl) ⟨hin, vp_in_nI (by omega) (by omega), nm_r (e' := upd (upd mk (qd_L g x) 1) (qd_H g x) 1) (by rw [nI_clamp (by omega), vp_nar_short]; rfl) (nm_r (sb_m1 (by omega)) (ih (x - 1) _ (by omega) (by omega) (by omega) ?_))⟩⟩)
      · rw [show x - 1 + 1 = x by omega]; exact qd_Mk_skip hM z
      · rw [show x - 1 + 1 = x by omega]
        exact qd_Mk_step ok.2.1 ok.2.2.2.1 hM (by omega) hxN ((hM.2.2.1 x hxN).elim (fun y => absurd y z) id)
theorem qx_keepBoth {post : Int32 → SX → Prop} {N r1 r2 : Nat} {g : qd_Gh} (ok : qd_OK N a_nodeVariable a_nodeLow a_nodeHigh a_nodeNext a_listFirst a_recentKey a_recentNode g) (hN : N ≤ 600) (hr1 : r1 < N) (hr2 : r2 < N)
    (K : ∀ (r' r'' N' : Nat) (g' : qd_Gh) (a_nodeVariable' a_nodeLow' a_nodeHigh' a_nodeNext' a_listFirst' a_recentKey' a_recentNode' : Nat → Int32) (nvl : Nat → Int32), qd_OK N' a_nodeVariable' a_nodeLow' a_nodeHigh' a_nodeNext' a_listFirst' a_recentKey' a_recentNode' g' → N' ≤ 258 → nvl r1 = nI r' → r' < N' → r'' < N' → (∀ s, qd_D g' r' s = qd_D g r1 s) → (∀ s, qd_D g' r'' s = qd_D g r2 s) → post (nI r'') (f_theirs, f_ruleCount, f_wayNow, f_clausesOf, f_clauseCount, f_tableFor, f_memoFor, f_memoSide, f_depth, f_known, f_ones, f_diagramFor, f_diagramRoot, nI N', f_leftCount, f_madeCount, a_kindOf, a_setP, a_setQ, a_clauses, a_table, a_memo, a_choiceOf, a_secondTry, a_knownBefore, a_onesBefore, a_nodeVariable', a_nodeLow', a_nodeHigh', a_nodeNext', a_listFirst', a_recentKey', a_recentNode', a_workF, a_workG, a_workPhase, a_workLow, nvl, a_left, a_made, a_onesOfVariable, a_tableBefore)) :
    wpX_keepBoth post (f_theirs, f_ruleCount, f_wayNow, f_clausesOf, f_clauseCount, f_tableFor, f_memoFor, f_memoSide, f_depth, f_known, f_ones, f_diagramFor, f_diagramRoot, nI N, f_leftCount, f_madeCount, a_kindOf, a_setP, a_setQ, a_clauses, a_table, a_memo, a_choiceOf, a_secondTry, a_knownBefore, a_onesBefore, a_nodeVariable, a_nodeLow, a_nodeHigh, a_nodeNext, a_listFirst, a_recentKey, a_recentNode, a_workF, a_workG, a_workPhase, a_workLow, a_nodeValue, a_left, a_made, a_onesOfVariable, a_tableBefore) (nI r1) (nI r2) := by
  unfold wpX_keepBoth
  dsimp only
  refine qx_markFrom ok hN hr1 ?_
  intro mk hM
  have hN2 := ok.2.1.1
  refine ⟨vp_in_nI (by omega) (by omega), nm_r (e' := upd mk r2 1) (by rw [nI_clamp (by omega), vp_nar_short]; rfl) (nm_r (e' := nI (N - 1)) (pk_sub (b := 1) (by omega)) ⟨N, ?_⟩)⟩
  refine qx_keepBoth_19 ok hN hr1 hr2 K N (N - 1) _ (by omega) (by omega) (by omega) ?_
  refine ⟨?_, pk_us, fun j hj => ?_, fun j a b c => by omega, fun j hj d => ?_⟩
  · by_cases e1 : r1 = r2
    · rw [e1]; exact pk_us
    · rw [pk_un e1]; exact hM.1
  · by_cases e1 : j = r2
    · subst e1; exact Or.inr pk_us
    · rw [pk_un e1]; exact hM.2.2.1 j hj
  · by_cases e1 : j = r2
    · subst e1; exact Or.inr qd_Re_rf
    · rw [pk_un e1] at d
      exact Or.inl ((hM.2.2.2.2 j hj d).elim id id)
end
end
section
/-! diagrams: clause by clause; answers from them -/
theorem qg_G_ind {th : Nat → Bool} {P : (Nat → Bool) → Prop} {k0 n : Nat} (hP : ∀ t t' : Nat → Bool, (∀ i, k0 ≤ i → i < n → t i = t' i) → (P t ↔ P t')) : ∀ {d k : Nat} {s s' : Nat → Bool}, k0 ≤ k → k + d = n → (∀ i, k0 ≤ i → i < k → s i = s' i) → (qg_G th P d k s ↔ qg_G th P d k s') := by
  intro d
  induction d with
  | zero => intro k s s' h1 h2 h3; exact hP s s' (fun i a b => h3 i a (by omega))
  | succ d ih =>
    intro k s s' h1 h2 h3
    apply qg_Q_congr
    intro b
    apply ih (by omega) (by omega)
    intro i a c
    by_cases e : i = k
    · subst e; rw [qg_up_s, qg_up_s]
    · rw [qg_up_n e, qg_up_n e]; exact h3 i a (by omega)
theorem qg_C_ind {P : (Nat → Bool) → Prop} {k0 n : Nat} (hP : ∀ t t' : Nat → Bool, (∀ i, k0 ≤ i → i < n → t i = t' i) → (P t ↔ P t')) : ∀ {d k : Nat} {s s' : Nat → Bool}, k0 ≤ k → k + d = n → (∀ i, k0 ≤ i → i < k → s i = s' i) → qg_C P d k s = qg_C P d k s' := by
  intro d
  induction d with
  | zero =>
    intro k s s' h1 h2 h3
    show (qb_dec (P s)).toNat = (qb_dec (P s')).toNat
    rw [qb_dec_congr (hP s s' (fun i a b => h3 i a (by omega)))]
  | succ d ih =>
    intro k s s' h1 h2 h3
    have a : ∀ b, qg_C P d (k + 1) (qg_up s k b) = qg_C P d (k + 1) (qg_up s' k b) := by
      intro b
      apply ih (by omega) (by omega)
      intro i a c
      by_cases e : i = k
      · subst e; rw [qg_up_s, qg_up_s]
      · rw [qg_up_n e, qg_up_n e]; exact h3 i a (by omega)
    simp only [qg_C]
    rw [a, a]
theorem qd_supp' {N : Nat} {g : qd_Gh} (hw : qd_WF N g) (hs : qd_Sem N g) {j : Nat} (hj : j < N) : ∀ t t' : Nat → Bool, (∀ i, qd_V g j ≤ i → i < 8 → t i = t' i) → (qd_D g j t = true ↔ qd_D g j t' = true) := by
  intro t t' h
  rw [qd_supp hw hs j hj t t' h]
/-- the game at a node -/
def qd_W (th : Nat → Bool) (g : qd_Gh) (j : Nat) : Prop := qg_G th (fun s => qd_D g j s = true) (8 - qd_V g j) (qd_V g j) (fun _ => false)
theorem qd_W_from {th : Nat → Bool} {N : Nat} {g : qd_Gh} (hw : qd_WF N g) (hs : qd_Sem N g) {j k : Nat} (hj : j < N) (hk : k ≤ qd_V g j) (s : Nat → Bool) : qg_G th (fun s => qd_D g j s = true) (8 - k) k s ↔ qd_W th g j := by
  have h8 := qd_V_le hw hj
  have hsp := qd_supp' hw hs hj
  obtain ⟨e, he⟩ : ∃ e, qd_V g j = k + e := ⟨qd_V g j - k, by omega⟩
  have h1 : 8 - k = e + (8 - qd_V g j) := by omega
  have h2 := qg_G_skip (th := th) (P := fun s => qd_D g j s = true) (e := e) (d := 8 - qd_V g j) (k := k) (s := s) ?_ ?_
  · rw [h1, h2]
    unfold qd_W
    rw [← he]
    exact qg_G_ind (k0 := qd_V g j) (n := 8) hsp (Nat.le_refl _) (by omega) (fun i a b => by omega)
  · intro t t' ht
    exact hsp t t' (fun i a _ => ht i (by omega))
  · intro t t' ht
    exact hsp t t' (fun i _ b => ht i (by omega))
theorem qd_W_step {th : Nat → Bool} {N : Nat} {g : qd_Gh} (hw : qd_WF N g) (hs : qd_Sem N g) {j : Nat} (h2 : 2 ≤ j) (hj : j < N) : qd_W th g j ↔ qg_Q (th (qd_V g j)) (fun b => match b with | true => qd_W th g (qd_H g j) | false => qd_W th g (qd_L g j)) := by
  have w := hw.2.2.2.1 j h2 hj
  have h1 : 8 - qd_V g j = (8 - (qd_V g j + 1)) + 1 := by omega
  have h0 : qd_W th g j ↔ qg_G th (fun s => qd_D g j s = true) ((8 - (qd_V g j + 1)) + 1) (qd_V g j) (fun _ => false) := by unfold qd_W; rw [h1]
  rw [h0]
  apply qg_Q_congr
  intro b
  cases b with
  | true =>
    refine Iff.trans (qg_G_on (P' := fun s => qd_D g (qd_H g j) s = true) ?_) (qd_W_from hw hs (by omega) (by omega) _)
    intro t ht
    rw [hs.2.2 j h2 hj, ht _ (Nat.lt_succ_self _), qg_up_s]
    exact Iff.rfl
  | false =>
    refine Iff.trans (qg_G_on (P' := fun s => qd_D g (qd_L g j) s = true) ?_) (qd_W_from hw hs (by omega) (by omega) _)
    intro t ht
    rw [hs.2.2 j h2 hj, ht _ (Nat.lt_succ_self _), qg_up_s]
    exact Iff.rfl
theorem qd_W_0 {th : Nat → Bool} {N : Nat} {g : qd_Gh} (hw : qd_WF N g) (hs : qd_Sem N g) : ¬ qd_W th g 0 := by
  unfold qd_W
  rw [hw.2.1]
  show ¬ qd_D g 0 _ = true
  rw [hs.1]; decide
theorem qd_W_1 {th : Nat → Bool} {N : Nat} {g : qd_Gh} (hw : qd_WF N g) (hs : qd_Sem N g) : qd_W th g 1 := by
  unfold qd_W
  rw [hw.2.2.1]
  show qd_D g 1 _ = true
  rw [hs.2.1]
theorem qd_or_s (a b : Bool) : vp_nar .short ((qb_i a ||| qb_i b).toInt16.toInt32) = qb_i (a || b) := by
  rw [pk_vs]
  cases a <;> cases b <;> decide
theorem qd_and_s (a b : Bool) : vp_nar .short ((qb_i a &&& qb_i b).toInt16.toInt32) = qb_i (a && b) := by
  rw [pk_vs]
  cases a <;> cases b <;> decide
/-- the diagram stands for H -/
def qd_DI (H : (Nat → Bool) → Prop) (dr nc : Int32) (nv lo hi nx lf rk rn : Nat → Int32) : Prop := ∃ N g root, nc = nI N ∧ N ≤ 600 ∧ qd_OK N nv lo hi nx lf rk rn g ∧ dr = nI root ∧ root < N ∧ ∀ s, qd_D g root s = true ↔ H s
def qd_DC (M : Nat) (kd p q : Nat → Int32) (df dr nc : Int32) (nv lo hi nx lf rk rn : Nat → Int32) : Prop := df = -1 ∨ qd_DI (qc_H M kd p q df) dr nc nv lo hi nx lf rk rn
section
variable {f_theirs f_ruleCount f_wayNow f_clausesOf f_clauseCount f_tableFor f_memoFor f_memoSide f_depth f_known f_ones f_diagramFor f_diagramRoot f_nodeCount f_leftCount f_madeCount : Int32} {a_kindOf a_setP a_setQ a_clauses a_memo a_choiceOf a_secondTry a_knownBefore a_onesBefore a_nodeVariable a_nodeLow a_nodeHigh a_nodeNext a_listFirst a_recentKey a_recentNode a_workF a_workG a_workPhase a_workLow a_nodeValue a_left a_made : Nat → Int32} {a_table a_onesOfVariable a_tableBefore : Nat → Int64}
theorem qx_buildDiagram_27 {post : SX → Prop} {m : Nat} (hm : m ≤ 168) (hw : qc_wf a_clauses m)
    (K : ∀ (root N : Nat) (g : qd_Gh) (a_nodeVariable' a_nodeLow' a_nodeHigh' a_nodeNext' a_listFirst' a_recentKey' a_recentNode' a_workF' a_workG' a_workPhase' a_workLow' nvl : Nat → Int32), qd_OK N a_nodeVariable' a_nodeLow' a_nodeHigh' a_nodeNext' a_listFirst' a_recentKey' a_recentNode' g → N ≤ 600 → root < N → (∀ s, qd_D g root s = true ↔ qc_All a_clauses m s) → post (f_theirs, f_ruleCount, f_wayNow, f_clausesOf, nI m, f_tableFor, f_memoFor, f_memoSide, f_depth, f_known, f_ones, f_diagramFor, nI root, nI N, f_leftCount, f_madeCount, a_kindOf, a_setP, a_setQ, a_clauses, a_table, a_memo, a_choiceOf, a_secondTry, a_knownBefore, a_onesBefore, a_nodeVariable', a_nodeLow', a_nodeHigh', a_nodeNext', a_listFirst', a_recentKey', a_recentNode', a_workF', a_workG', a_workPhase', a_workLow', nvl, a_left, a_made, a_onesOfVariable, a_tableBefore)) :
    ∀ (n c root N : Nat) (g : qd_Gh) (a_nodeVariable' a_nodeLow' a_nodeHigh' a_nodeNext' a_listFirst' a_recentKey' a_recentNode' a_workF' a_workG' a_workPhase' a_workLow' nvl : Nat → Int32), c ≤ m → m < n + c → qd_OK N a_nodeVariable' a_nodeLow' a_nodeHigh' a_nodeNext' a_listFirst' a_recentKey' a_recentNode' g → N ≤ 600 → root < N → (∀ s, qd_D g root s = true ↔ qc_All a_clauses c s) →
    wX_buildDiagram_27 post n (nI root) (nI c) f_theirs f_ruleCount f_wayNow f_clausesOf (nI m) f_tableFor f_memoFor f_memoSide f_depth f_known f_ones f_diagramFor f_diagramRoot (nI N) f_leftCount f_madeCount a_kindOf a_setP a_setQ a_clauses a_table a_memo a_choiceOf a_secondTry a_knownBefore a_onesBefore a_nodeVariable' a_nodeLow' a_nodeHigh' a_nodeNext' a_listFirst' a_recentKey' a_recentNode' a_workF' a_workG' a_workPhase' a_workLow' nvl a_left a_made a_onesOfVariable a_tableBefore := by
  intro n
  induction n with
  | zero => intro c root N g _ _ _ _ _ _ _ _ _ _ _ nvl h1 h2; omega
  | succ n ih =>
    intro c root N g b1 b2 b3 b4 b5 b6 b7 c1 c2 c3 c4 nvl hc hf ok hN hr hD
    refine pk_le m c (fun e => K root N g b1 b2 b3 b4 b5 b6 b7 c1 c2 c3 c4 nvl ok hN hr (by rw [show m = c by omega]; exact hD)) (fun e => ?_)
    have go : ∀ (root N : Nat) (g : qd_Gh) (a_nodeVariable' a_nodeLow' a_nodeHigh' a_nodeNext' a_listFirst' a_recentKey' a_recentNode' a_workF' a_workG' a_workPhase' a_workLow' nvl : Nat → Int32), qd_OK N a_nodeVariable' a_nodeLow' a_nodeHigh' a_nodeNext' a_listFirst' a_recentKey' a_recentNode' g → N ≤ 300 → root < N → (∀ s, qd_D g root s = true ↔ qc_All a_clauses c s) → wX_buildDiagram_51 post (wX_buildDiagram_27 post n) (nI root) (nI c) f_theirs f_ruleCount f_wayNow f_clausesOf (nI m) f_tableFor f_memoFor f_memoSide f_depth f_known f_ones f_diagramFor f_diagramRoot (nI N) f_leftCount f_madeCount a_kindOf a_setP a_setQ a_clauses a_table a_memo a_choiceOf a_secondTry a_knownBefore a_onesBefore a_nodeVariable' a_nodeLow' a_nodeHigh' a_nodeNext' a_listFirst' a_recentKey' a_recentNode' a_workF' a_workG' a_workPhase' a_workLow' nvl a_left a_made a_onesOfVariable a_tableBefore := by
      intro root N g b1 b2 b3 b4 b5 b6 b7 c1 c2 c3 c4 nvl ok hN hr hD
      unfold wX_buildDiagram_51
      refine ⟨vp_in_nI (by omega) (by omega), ?_⟩
      rw [nI_clamp (by omega)]
      refine qx_clauseDiagram (hw c e).2 ok (by omega) ?_
      intro r1 N1 g1 d1 d2 d3 d4 d5 ok1 hX1 hN1 hr1 hD1
      have hle := hX1.1
      refine qx_both ok1 (by omega) (Nat.lt_of_lt_of_le hr hle) hr1 ?_
      intro r2 N2 g2 e1 e2 e3 e4 e5 e6 e7 f1 f2 f3 f4 ok2 hX2 hN2 hr2 hD2
      refine nm_r (nI_1 c) (ih (c + 1) r2 N2 g2 e1 e2 e3 e4 e5 e6 e7 f1 f2 f3 f4 nvl (by omega) (by omega) ok2 (by omega) hr2 ?_)
      intro s
      rw [hD2 s, Bool.and_eq_true, hD1 s, (hX1.2 root hr).2.2.2, hD s]
      constructor
      · intro ⟨z1, z2⟩ j hj
        by_cases e1 : j = c
        · subst e1; exact z2
        · exact z1 j (by omega)
      · intro z
        exact ⟨fun j hj => z j (by omega), z c (by omega)⟩
    refine pk_le N 300 (fun h => go root N g b1 b2 b3 b4 b5 b6 b7 c1 c2 c3 c4 nvl ok h hr hD) (fun h => ?_)
    refine qx_keepOnly ok hN hr ?_
    intro r' N' g' d1 d2 d3 d4 d5 d6 d7 nvl' ok' hN' hr' hD'
    exact go r' N' g' d1 d2 d3 d4 d5 d6 d7 c1 c2 c3 c4 nvl' ok' (by omega) hr' (fun s => by rw [hD' s]; exact hD s)
theorem qx_buildDiagram {post : SX → Prop} {M : Nat} {rules : Int32} (hM : M ≤ 12) (hV : qc_Vs M a_kindOf a_setP a_setQ) (hr : rules ≠ -1) (hc : qc_Cache M a_kindOf a_setP a_setQ f_clausesOf f_clauseCount a_clauses)
    (hd : qd_DC M a_kindOf a_setP a_setQ f_diagramFor f_diagramRoot f_nodeCount a_nodeVariable a_nodeLow a_nodeHigh a_nodeNext a_listFirst a_recentKey a_recentNode)
    (K : ∀ (co cc : Int32) (cl : Nat → Int32) (root N : Nat) (g : qd_Gh) (a_nodeVariable' a_nodeLow' a_nodeHigh' a_nodeNext' a_listFirst' a_recentKey' a_recentNode' a_workF' a_workG' a_workPhase' a_workLow' nvl : Nat → Int32), qc_Cache M a_kindOf a_setP a_setQ co cc cl → qd_OK N a_nodeVariable' a_nodeLow' a_nodeHigh' a_nodeNext' a_listFirst' a_recentKey' a_recentNode' g → N ≤ 600 → root < N → (∀ s, qd_D g root s = true ↔ qc_H M a_kindOf a_setP a_setQ rules s) → post (f_theirs, nI M, f_wayNow, co, cc, f_tableFor, f_memoFor, f_memoSide, f_depth, f_known, f_ones, rules, nI root, nI N, f_leftCount, f_madeCount, a_kindOf, a_setP, a_setQ, cl, a_table, a_memo, a_choiceOf, a_secondTry, a_knownBefore, a_onesBefore, a_nodeVariable', a_nodeLow', a_nodeHigh', a_nodeNext', a_listFirst', a_recentKey', a_recentNode', a_workF', a_workG', a_workPhase', a_workLow', nvl, a_left, a_made, a_onesOfVariable, a_tableBefore)) :
    wpX_buildDiagram post (f_theirs, nI M, f_wayNow, f_clausesOf, f_clauseCount, f_tableFor, f_memoFor, f_memoSide, f_depth, f_known, f_ones, f_diagramFor, f_diagramRoot, f_nodeCount, f_leftCount, f_madeCount, a_kindOf, a_setP, a_setQ, a_clauses, a_table, a_memo, a_choiceOf, a_secondTry, a_knownBefore, a_onesBefore, a_nodeVariable, a_nodeLow, a_nodeHigh, a_nodeNext, a_listFirst, a_recentKey, a_recentNode, a_workF, a_workG, a_workPhase, a_workLow, a_nodeValue, a_left, a_made, a_onesOfVariable, a_tableBefore) rules := by
  refine br_c (fun e => ?_) (fun e => ?_)
  · subst e
    rcases hd with h | ⟨N, g, root, rfl, hN, ok, rfl, hroot, hD⟩
    · exact absurd h hr
    · exact K _ _ _ root N g _ _ _ _ _ _ _ _ _ _ _ _ hc ok hN hroot hD
  · refine qx_makeClauses hM hV hr hc ?_
    intro m cl hok
    refine qx_startDiagram ?_
    intro b1 b5 b6 _ ok0
    refine ⟨m + 1, qx_buildDiagram_27 hok.1 hok.2.1 ?_ (m + 1) 0 1 2 qd_g0 _ _ _ _ _ _ _ _ _ _ _ _ (by omega) (by omega) ok0 (by omega) (by omega) (fun s => ⟨fun _ j hj => by omega, fun _ => rfl⟩)⟩
    intro root N g c1 c2 c3 c4 c5 c6 c7 d1 d2 d3 d4 nvl ok hN hroot hD
    exact K _ _ _ root N g _ _ _ _ _ _ _ _ _ _ _ _ (Or.inr ⟨m, rfl, hok⟩) ok hN hroot (fun s => by rw [hD s]; exact hok.2.2 s)
theorem qx_follow_5 {post : Int32 → Prop} {N k root : Nat} {vl : Int32} {g : qd_Gh} (ok : qd_OK N a_nodeVariable a_nodeLow a_nodeHigh a_nodeNext a_listFirst a_recentKey a_recentNode g) (hN : N ≤ 600) (hk : k ≤ 8)
    (K : ∀ r, r < N → k ≤ qd_V g r → (∀ t : Nat → Bool, (∀ i, i < k → t i = bt vl i) → qd_D g root t = qd_D g r t) → post (nI r)) :
    ∀ (n x : Nat), x < N → 8 < n + qd_V g x → (∀ t : Nat → Bool, (∀ i, i < k → t i = bt vl i) → qd_D g root t = qd_D g x t) → wX_follow_5 post (nI k) vl f_theirs f_ruleCount f_wayNow f_clausesOf f_clauseCount f_tableFor f_memoFor f_memoSide f_depth f_known f_ones f_diagramFor f_diagramRoot f_nodeCount f_leftCount f_madeCount a_kindOf a_setP a_setQ a_clauses a_table a_memo a_choiceOf a_secondTry a_knownBefore a_onesBefore a_nodeVariable a_nodeLow a_nodeHigh a_nodeNext a_listFirst a_recentKey a_recentNode a_workF a_workG a_workPhase a_workLow a_nodeValue a_left a_made a_onesOfVariable a_tableBefore n (nI x) := by
  intro n
  induction n with
  | zero => intro x hx hf; have := qd_V_le ok.2.1 hx; omega
  | succ n ih =>
    intro x hx hf hI
    have hin : vp_in (nI x) 600 := vp_in_nI (by omega) (by omega)
    have hcl : (nI x).toNatClampNeg = x := nI_clamp (by omega)
    have hV8 := qd_V_le ok.2.1 hx
    have hrep := ok.1 x hx
    refine ⟨hin, ?_⟩
    rw [hcl, hrep.1]
    refine pk_le k (qd_V g x) (fun e => K x hx e hI) (fun e => ⟨hin, ?_⟩)
    have hx2 : 2 ≤ x := by
      apply Classical.byContradiction
      intro z
      have h01 : x = 0 ∨ x = 1 := by omega
      rcases h01 with h | h
      · rw [h, ok.2.1.2.1] at e; omega
      · rw [h, ok.2.1.2.2.1] at e; omega
    have w := ok.2.1.2.2.2.1 x hx2 hx
    have hr2 := hrep.2 hx2
    rw [hr2.1, hr2.2]
    refine ek_if (qb_bit0 vl (by omega)) (fun z => ⟨hin, nm_e (ih (qd_L g x) (by omega) (by omega) ?_)⟩) (fun z => ⟨hin, nm_e (ih (qd_H g x) (by omega) (by omega) ?_)⟩)
    · intro t ht
      rw [hI t ht, ok.2.2.2.1.2.2 x hx2 hx, ht _ e, z]; rfl
    · intro t ht
      rw [hI t ht, ok.2.2.2.1.2.2 x hx2 hx, ht _ e, ts_nf z]; rfl
theorem qx_follow {post : Int32 → Prop} {N k root : Nat} {vl : Int32} {g : qd_Gh} (ok : qd_OK N a_nodeVariable a_nodeLow a_nodeHigh a_nodeNext a_listFirst a_recentKey a_recentNode g) (hN : N ≤ 600) (hk : k ≤ 8) (hr : root < N)
    (K : ∀ r, r < N → k ≤ qd_V g r → (∀ t : Nat → Bool, (∀ i, i < k → t i = bt vl i) → qd_D g root t = qd_D g r t) → post (nI r)) : wpX_follow post (f_theirs, f_ruleCount, f_wayNow, f_clausesOf, f_clauseCount, f_tableFor, f_memoFor, f_memoSide, f_depth, f_known, f_ones, f_diagramFor, nI root, f_nodeCount, f_leftCount, f_madeCount, a_kindOf, a_setP, a_setQ, a_clauses, a_table, a_memo, a_choiceOf, a_secondTry, a_knownBefore, a_onesBefore, a_nodeVariable, a_nodeLow, a_nodeHigh, a_nodeNext, a_listFirst, a_recentKey, a_recentNode, a_workF, a_workG, a_workPhase, a_workLow, a_nodeValue, a_left, a_made, a_onesOfVariable, a_tableBefore) (nI k) vl :=
  ⟨9, qx_follow_5 ok hN hk K 9 root hr (by omega) (fun t _ => rfl)⟩
theorem qx_wonByDiagram_22 {post : Int32 → SX → Prop} {N k root : Nat} {vl : Int32} {g : qd_Gh} {W : Prop} (ok : qd_OK N a_nodeVariable a_nodeLow a_nodeHigh a_nodeNext a_listFirst a_recentKey a_recentNode g) (hN : N ≤ 600) (hk : k ≤ 8) (hr : root < N)
    (hW : W ↔ qg_G (bt f_theirs) (fun s => qd_D g root s = true) (8 - k) k (bt vl)) (K : ∀ nvl, post (qb_p W) (f_theirs, f_ruleCount, f_wayNow, f_clausesOf, f_clauseCount, f_tableFor, f_memoFor, f_memoSide, f_depth, f_known, f_ones, f_diagramFor, nI root, nI N, f_leftCount, f_madeCount, a_kindOf, a_setP, a_setQ, a_clauses, a_table, a_memo, a_choiceOf, a_secondTry, a_knownBefore, a_onesBefore, a_nodeVariable, a_nodeLow, a_nodeHigh, a_nodeNext, a_listFirst, a_recentKey, a_recentNode, a_workF, a_workG, a_workPhase, a_workLow, nvl, a_left, a_made, a_onesOfVariable, a_tableBefore)) :
    ∀ (f n : Nat) (nvl : Nat → Int32), 2 ≤ n → n ≤ N → N < f + n → (∀ j, j < n → nvl j = qb_p (qd_W (bt f_theirs) g j)) → wX_wonByDiagram_22 post (nI k) vl f_theirs f_ruleCount f_wayNow f_clausesOf f_clauseCount f_tableFor f_memoFor f_memoSide f_depth f_known f_ones f_diagramFor (nI root) (nI N) f_leftCount f_madeCount f (nI n) a_kindOf a_setP a_setQ a_clauses a_table a_memo a_choiceOf a_secondTry a_knownBefore a_onesBefore a_nodeVariable a_nodeLow a_nodeHigh a_nodeNext a_listFirst a_recentKey a_recentNode a_workF a_workG a_workPhase a_workLow nvl a_left a_made a_onesOfVariable a_tableBefore := by
  intro f
  induction f with
  | zero => intro n nvl h1 h2 h3; omega
  | succ f ih =>
    intro n nvl hn2 hn hf hI
    refine pk_le N n (fun e => ?_) (fun e => ?_)
    · refine qx_follow ok hN hk hr ?_
      intro r h1 h2 h3
      refine ⟨vp_in_nI (by omega) (by omega), ?_⟩
      rw [nI_clamp (by omega), hI r (by omega)]
      have hWr : W ↔ qd_W (bt f_theirs) g r := by
        rw [hW]
        refine Iff.trans (qg_G_on (P' := fun s => qd_D g r s = true) ?_) (qd_W_from ok.2.1 ok.2.2.2.1 h1 h2 _)
        intro t ht
        rw [h3 t ht]
      have K' := K nvl
      rw [qb_p_congr hWr] at K'
      exact br_c (fun z => ek_v (P := fun r => post r _) z.symm K') (fun z => ek_v (P := fun r => post r _) (qb_p_0.mpr (fun y => z (qb_p_t y))).symm K')
    · have hin : vp_in (nI n) 600 := vp_in_nI (by omega) (by omega)
      have hcl : (nI n).toNatClampNeg = n := nI_clamp (by omega)
      have hrep := ok.1 n e
      have hr2 := hrep.2 hn2
      have w := ok.2.1.2.2.2.1 n hn2 e
      have hst := qd_W_step (th := bt f_theirs) ok.2.1 ok.2.2.2.1 hn2 e
      have next : ∀ x, x = qb_p (qd_W (bt f_theirs) g n) → wX_wonByDiagram_22 post (nI k) vl f_theirs f_ruleCount f_wayNow f_clausesOf f_clauseCount f_tableFor f_memoFor f_memoSide f_depth f_known f_ones f_diagramFor (nI root) (nI N) f_leftCount f_madeCount f (nI (n + 1)) a_kindOf a_setP a_setQ a_clauses a_table a_memo a_choiceOf a_secondTry a_knownBefore a_onesBefore a_nodeVariable a_nodeLow a_nodeHigh a_nodeNext a_listFirst a_recentKey a_recentNode a_workF a_workG a_workPhase a_workLow (upd nvl n x) a_left a_made a_onesOfVariable a_tableBefore := by
        intro x hx
        apply ih (n + 1) _ (by omega) (by omega) (by omega)
        intro j hj
        by_cases e1 : j = n
        · subst e1; rw [pk_us]; exact hx
        · rw [pk_un e1]; exact hI j (by omega)
      refine ⟨hin, ?_⟩
      rw [hcl, hr2.1, hr2.2, hrep.1]
      refine ⟨vp_in_nI (by omega) (by omega), nm_r (e' := qb_p (qd_W (bt f_theirs) g (qd_L g n))) (by rw [nI_clamp (by omega)]; exact hI _ (by omega)) ⟨hin, vp_in_nI (by omega) (by omega), nm_r (e' := qb_p (qd_W (bt f_theirs) g (qd_H g n))) (by rw [nI_clamp (by omega)]; exact hI _ (by omega)) ⟨hin, ?_⟩⟩⟩
      refine ek_if (qb_bit0 f_theirs (by omega)) (fun z => ⟨hin, nm_e (nm_r (nI_1 n) (next _ ?_))⟩) (fun z => ⟨hin, nm_e (nm_r (nI_1 n) (next _ ?_))⟩)
      · rw [z] at hst
        refine (qd_or_s _ _).trans ?_
        show qb_i _ = qb_i _
        rw [qb_i_inj, Bool.eq_iff_iff, Bool.or_eq_true, qb_dec_iff, qb_dec_iff, qb_dec_iff, hst]
        exact Iff.rfl
      · rw [ts_nf z] at hst
        refine (qd_and_s _ _).trans ?_
        show qb_i _ = qb_i _
        rw [qb_i_inj, Bool.eq_iff_iff, Bool.and_eq_true, qb_dec_iff, qb_dec_iff, qb_dec_iff, hst]
        exact Iff.rfl
theorem qx_wonByDiagram {post : Int32 → SX → Prop} {M k v : Nat} {rules : Int32} (hM : M ≤ 12) (hV : qc_Vs M a_kindOf a_setP a_setQ) (hr : rules ≠ -1) (hc : qc_Cache M a_kindOf a_setP a_setQ f_clausesOf f_clauseCount a_clauses)
    (hd : qd_DC M a_kindOf a_setP a_setQ f_diagramFor f_diagramRoot f_nodeCount a_nodeVariable a_nodeLow a_nodeHigh a_nodeNext a_listFirst a_recentKey a_recentNode) (hk : k ≤ 8)
    (K : ∀ (co cc dr nc : Int32) (cl : Nat → Int32) (a_nodeVariable' a_nodeLow' a_nodeHigh' a_nodeNext' a_listFirst' a_recentKey' a_recentNode' a_workF' a_workG' a_workPhase' a_workLow' nvl : Nat → Int32), qc_Cache M a_kindOf a_setP a_setQ co cc cl → qd_DI (qc_H M a_kindOf a_setP a_setQ rules) dr nc a_nodeVariable' a_nodeLow' a_nodeHigh' a_nodeNext' a_listFirst' a_recentKey' a_recentNode' → post (qb_p (qg_G (bt f_theirs) (qc_H M a_kindOf a_setP a_setQ rules) (8 - k) k (bt (nI v)))) (f_theirs, nI M, f_wayNow, co, cc, f_tableFor, f_memoFor, f_memoSide, f_depth, f_known, f_ones, rules, dr, nc, f_leftCount, f_madeCount, a_kindOf, a_setP, a_setQ, cl, a_table, a_memo, a_choiceOf, a_secondTry, a_knownBefore, a_onesBefore, a_nodeVariable', a_nodeLow', a_nodeHigh', a_nodeNext', a_listFirst', a_recentKey', a_recentNode', a_workF', a_workG', a_workPhase', a_workLow', nvl, a_left, a_made, a_onesOfVariable, a_tableBefore)) :
    wpX_wonByDiagram post (f_theirs, nI M, f_wayNow, f_clausesOf, f_clauseCount, f_tableFor, f_memoFor, f_memoSide, f_depth, f_known, f_ones, f_diagramFor, f_diagramRoot, f_nodeCount, f_leftCount, f_madeCount, a_kindOf, a_setP, a_setQ, a_clauses, a_table, a_memo, a_choiceOf, a_secondTry, a_knownBefore, a_onesBefore, a_nodeVariable, a_nodeLow, a_nodeHigh, a_nodeNext, a_listFirst, a_recentKey, a_recentNode, a_workF, a_workG, a_workPhase, a_workLow, a_nodeValue, a_left, a_made, a_onesOfVariable, a_tableBefore) rules (nI k) (nI v) := by
  unfold wpX_wonByDiagram
  dsimp only
  refine qx_buildDiagram hM hV hr hc hd ?_
  intro co cc cl root N g b1 b2 b3 b4 b5 b6 b7 c1 c2 c3 c4 nvl hc' ok hN hroot hD
  refine nm_r (e' := upd nvl 0 0) (by rw [vp_nar_short]; rfl) (nm_r (e' := upd (upd nvl 0 0) 1 1) (by rw [vp_nar_short]; rfl) ⟨N + 1, ?_⟩)
  refine qx_wonByDiagram_22 (W := qg_G (bt f_theirs) (qc_H M a_kindOf a_setP a_setQ rules) (8 - k) k (bt (nI v))) ok hN hk hroot (qg_G_congr (fun t => (hD t).symm)) ?_ (N + 1) 2 _ (by omega) ok.2.1.1 (by omega) ?_
  · intro nvl'
    exact K co cc (nI root) (nI N) cl b1 b2 b3 b4 b5 b6 b7 c1 c2 c3 c4 nvl' hc' ⟨N, g, root, rfl, hN, ok, rfl, hroot, hD⟩
  · intro j hj
    have h01 : j = 0 ∨ j = 1 := by omega
    rcases h01 with h | h
    · subst h; rw [pk_un (by omega), pk_us, qb_p_f (qd_W_0 ok.2.1 ok.2.2.2.1)]
    · subst h; rw [pk_us, qb_p_t (qd_W_1 ok.2.1 ok.2.2.2.1)]
end
end
section
/-! diagrams: how many, which variables, the same or not -/
def qt_Idle (H : (Nat → Bool) → Prop) (v : Nat) : Prop := ∀ s, H (qg_up s v false) ↔ H (qg_up s v true)
def qt_Dec (H : (Nat → Bool) → Prop) (k : Nat) (vl : Nat → Bool) : Prop := ∀ s : Nat → Bool, (∀ i, i < k → s i = vl i) → (H s ↔ H vl)
noncomputable def qd_Cn (g : qd_Gh) (j : Nat) : Nat := qg_C (fun s => qd_D g j s = true) (8 - qd_V g j) (qd_V g j) (fun _ => false)
theorem qd_C_from {N : Nat} {g : qd_Gh} (hw : qd_WF N g) (hs : qd_Sem N g) {j k : Nat} (hj : j < N) (hk : k ≤ qd_V g j) (s : Nat → Bool) : qg_C (fun s => qd_D g j s = true) (8 - k) k s = 2 ^ (qd_V g j - k) * qd_Cn g j := by
  have h8 := qd_V_le hw hj
  have hsp := qd_supp' hw hs hj
  obtain ⟨e, he⟩ : ∃ e, qd_V g j = k + e := ⟨qd_V g j - k, by omega⟩
  have h1 : 8 - k = e + (8 - qd_V g j) := by omega
  have hi : ∀ s s' : Nat → Bool, qg_C (fun s => qd_D g j s = true) (8 - qd_V g j) (qd_V g j) s = qg_C (fun s => qd_D g j s = true) (8 - qd_V g j) (qd_V g j) s' :=
    fun s s' => qg_C_ind (k0 := qd_V g j) (n := 8) hsp (Nat.le_refl _) (by omega) (fun i a b => by omega)
  have h2 := qg_C_skip (P := fun s => qd_D g j s = true) (e := e) (d := 8 - qd_V g j) (k := k) (s := s) (by rw [← he]; exact hi)
  rw [h1, h2, ← he, show qd_V g j - k = e by omega]
  unfold qd_Cn
  rw [hi s (fun _ => false)]
theorem qd_C_step {N : Nat} {g : qd_Gh} (hw : qd_WF N g) (hs : qd_Sem N g) {j : Nat} (h2 : 2 ≤ j) (hj : j < N) : qd_Cn g j = qd_Cn g (qd_L g j) * 2 ^ (qd_V g (qd_L g j) - qd_V g j - 1) + qd_Cn g (qd_H g j) * 2 ^ (qd_V g (qd_H g j) - qd_V g j - 1) := by
  have w := hw.2.2.2.1 j h2 hj
  have h1 : 8 - qd_V g j = (8 - (qd_V g j + 1)) + 1 := by omega
  have h0 : qd_Cn g j = qg_C (fun s => qd_D g j s = true) ((8 - (qd_V g j + 1)) + 1) (qd_V g j) (fun _ => false) := by unfold qd_Cn; rw [h1]
  rw [h0]
  simp only [qg_C]
  have a0 := qg_C_on (P := fun s => qd_D g j s = true) (P' := fun s => qd_D g (qd_L g j) s = true) (d := 8 - (qd_V g j + 1)) (k := qd_V g j + 1) (s := qg_up (fun _ => false) (qd_V g j) false) (by
    intro t ht
    rw [hs.2.2 j h2 hj, ht _ (Nat.lt_succ_self _), qg_up_s]
    exact Iff.rfl)
  have a1 := qg_C_on (P := fun s => qd_D g j s = true) (P' := fun s => qd_D g (qd_H g j) s = true) (d := 8 - (qd_V g j + 1)) (k := qd_V g j + 1) (s := qg_up (fun _ => false) (qd_V g j) true) (by
    intro t ht
    rw [hs.2.2 j h2 hj, ht _ (Nat.lt_succ_self _), qg_up_s]
    exact Iff.rfl)
  rw [a0, a1, qd_C_from hw hs (by omega) (by omega), qd_C_from hw hs (by omega) (by omega), Nat.mul_comm, Nat.mul_comm (2 ^ (qd_V g (qd_H g j) - (qd_V g j + 1)))]
  rw [show qd_V g (qd_L g j) - (qd_V g j + 1) = qd_V g (qd_L g j) - qd_V g j - 1 by omega, show qd_V g (qd_H g j) - (qd_V g j + 1) = qd_V g (qd_H g j) - qd_V g j - 1 by omega]
theorem qd_Cn_le (g : qd_Gh) (j : Nat) : qd_Cn g j ≤ 256 := by
  have h1 : qd_Cn g j ≤ 2 ^ (8 - qd_V g j) := qg_C_le
  have h2 : 2 ^ (8 - qd_V g j) ≤ 2 ^ 8 := Nat.pow_le_pow_right (by decide) (by omega)
  omega
theorem qd_Cn_0 {N : Nat} {g : qd_Gh} (hw : qd_WF N g) (hs : qd_Sem N g) : qd_Cn g 0 = 0 := by
  unfold qd_Cn
  rw [hw.2.1]
  show (qb_dec (qd_D g 0 _ = true)).toNat = 0
  rw [hs.1, qb_dec_f (by decide)]; rfl
theorem qd_Cn_1 {N : Nat} {g : qd_Gh} (hw : qd_WF N g) (hs : qd_Sem N g) : qd_Cn g 1 = 1 := by
  unfold qd_Cn
  rw [hw.2.2.1]
  show (qb_dec (qd_D g 1 _ = true)).toNat = 1
  rw [hs.2.1, qb_dec_t rfl]; rfl
theorem qd_shl {c e : Nat} (hc : c ≤ 256) (he : e ≤ 8) : nI c <<< (nI e &&& 31) = nI (c * 2 ^ e) := by
  have h1 : 2 ^ e ≤ 2 ^ 8 := Nat.pow_le_pow_right (by decide) he
  have h2 : c * 2 ^ e ≤ 256 * 2 ^ 8 := Nat.mul_le_mul hc h1
  exact pk_shlN _ e (s_l e (by omega)) (by omega)
/-- a variable that stands at no node isn't asked for, and the other way round -/
theorem qd_idle {N root v : Nat} {g : qd_Gh} {mk : Nat → Int32} (hw : qd_WF N g) (hs : qd_Sem N g) (hM : qd_Mk N g root root mk 2) (hr : root < N) :
    (∃ j, 2 ≤ j ∧ j < N ∧ mk j = 1 ∧ qd_V g j = v) ↔ ¬ qt_Idle (fun s => qd_D g root s = true) v := by
  constructor
  · intro ⟨j, h2, hj, hm, hv⟩ hI
    have w := hw.2.2.2.1 j h2 hj
    obtain ⟨s, hs'⟩ : qd_Re g root j := (hM.2.2.2.2 j hj hm).elim id id
    apply w.2.2.2.1
    apply qd_can hw hs (by omega) (by omega)
    intro t
    have key : ∀ b, qd_D g root (qg_up (fun k => if k < v then s k else t k) v b) = cond b (qd_D g (qd_H g j) t) (qd_D g (qd_L g j) t) := by
      intro b
      rw [hs' _ (fun i hi => by rw [qg_up_n (by omega), if_pos (by omega)]), hs.2.2 j h2 hj, hv, qg_up_s]
      have a1 : ∀ c, c < N → qd_V g j < qd_V g c → qd_D g c (qg_up (fun k => if k < v then s k else t k) v b) = qd_D g c t := by
        intro c hc hlt
        apply qd_supp hw hs c hc
        intro i a _
        rw [qg_up_n (by omega), if_neg (by omega)]
      rw [a1 _ (by omega) w.2.2.2.2.1, a1 _ (by omega) w.2.2.2.2.2]
    have := hI (fun k => if k < v then s k else t k)
    simp only [key] at this
    rw [Bool.eq_iff_iff]
    exact this
  · intro hn
    apply Classical.byContradiction
    intro hz
    apply hn
    intro s
    have key : ∀ j, j < N → mk j = 1 → qd_D g j (qg_up s v false) = qd_D g j (qg_up s v true) := by
      intro j
      induction j using Nat.strongRecOn with
      | ind j ih =>
        intro hj hm
        by_cases h0 : j = 0
        · subst h0; rw [hs.1, hs.1]
        · by_cases h1 : j = 1
          · subst h1; rw [hs.2.1, hs.2.1]
          · have h2 : 2 ≤ j := by omega
            have w := hw.2.2.2.1 j h2 hj
            have hv : qd_V g j ≠ v := fun e => hz ⟨j, h2, hj, hm, e⟩
            have hc := hM.2.2.2.1 j h2 h2 hj hm
            rw [hs.2.2 j h2 hj, hs.2.2 j h2 hj, qg_up_n hv, qg_up_n hv, ih _ w.2.1 (by omega) hc.1, ih _ w.2.2.1 (by omega) hc.2]
    show qd_D g root _ = true ↔ qd_D g root _ = true
    rw [key root hr hM.1]
/-- an end is reached if and only if all is settled -/
theorem qd_dec {N root r k : Nat} {g : qd_Gh} {vl : Nat → Bool} (hw : qd_WF N g) (hs : qd_Sem N g) (hr : r < N) (hk : k ≤ qd_V g r)
    (h : ∀ t : Nat → Bool, (∀ i, i < k → t i = vl i) → qd_D g root t = qd_D g r t) : r < 2 ↔ qt_Dec (fun s => qd_D g root s = true) k vl := by
  constructor
  · intro h2 s hs'
    show qd_D g root s = true ↔ qd_D g root vl = true
    rw [h s hs', h vl (fun _ _ => rfl)]
    have h01 : r = 0 ∨ r = 1 := by omega
    rcases h01 with e | e
    · subst e; rw [hs.1, hs.1]
    · subst e; rw [hs.2.1, hs.2.1]
  · intro hd
    have hc : ∀ t, qd_D g r t = qd_D g r vl := by
      intro t
      have h1 : qd_D g r t = qd_D g r (fun i => if i < k then vl i else t i) := qd_supp hw hs r hr _ _ (fun i a _ => by rw [if_neg (by omega)])
      have h2 := hd (fun i => if i < k then vl i else t i) (fun i hi => if_pos hi)
      simp only [] at h2
      rw [h _ (fun i hi => if_pos hi), h vl (fun _ _ => rfl)] at h2
      rw [h1, Bool.eq_iff_iff]; exact h2
    have h2 := hw.1
    cases e : qd_D g r vl with
    | false =>
      have : r = 0 := qd_can hw hs hr (by omega) (fun s => by rw [hc s, e, hs.1])
      omega
    | true =>
      have : r = 1 := qd_can hw hs hr (by omega) (fun s => by rw [hc s, e, hs.2.1])
      omega
section
variable {f_theirs f_ruleCount f_wayNow f_clausesOf f_clauseCount f_tableFor f_memoFor f_memoSide f_depth f_known f_ones f_diagramFor f_diagramRoot f_nodeCount f_leftCount f_madeCount : Int32} {a_kindOf a_setP a_setQ a_clauses a_memo a_choiceOf a_secondTry a_knownBefore a_onesBefore a_nodeVariable a_nodeLow a_nodeHigh a_nodeNext a_listFirst a_recentKey a_recentNode a_workF a_workG a_workPhase a_workLow a_nodeValue a_left a_made : Nat → Int32} {a_table a_onesOfVariable a_tableBefore : Nat → Int64}
theorem qx_countDiagram_16 {post : Int32 → SX → Prop} {N root : Nat} {g : qd_Gh} (ok : qd_OK N a_nodeVariable a_nodeLow a_nodeHigh a_nodeNext a_listFirst a_recentKey a_recentNode g) (hN : N ≤ 600) (hr : root < N)
    (K : ∀ nvl, post (nI (qg_C (fun s => qd_D g root s = true) 8 0 (fun _ => false))) (f_theirs, f_ruleCount, f_wayNow, f_clausesOf, f_clauseCount, f_tableFor, f_memoFor, f_memoSide, f_depth, f_known, f_ones, f_diagramFor, nI root, nI N, f_leftCount, f_madeCount, a_kindOf, a_setP, a_setQ, a_clauses, a_table, a_memo, a_choiceOf, a_secondTry, a_knownBefore, a_onesBefore, a_nodeVariable, a_nodeLow, a_nodeHigh, a_nodeNext, a_listFirst, a_recentKey, a_recentNode, a_workF, a_workG, a_workPhase, a_workLow, nvl, a_left, a_made, a_onesOfVariable, a_tableBefore)) :
    ∀ (f n : Nat) (nvl : Nat → Int32), 2 ≤ n → n ≤ N → N < f + n → (∀ j, j < n → nvl j = nI (qd_Cn g j)) → wX_countDiagram_16 post f_theirs f_ruleCount f_wayNow f_clausesOf f_clauseCount f_tableFor f_memoFor f_memoSide f_depth f_known f_ones f_diagramFor (nI root) (nI N) f_leftCount f_madeCount f (nI n) a_kindOf a_setP a_setQ a_clauses a_table a_memo a_choiceOf a_secondTry a_knownBefore a_onesBefore a_nodeVariable a_nodeLow a_nodeHigh a_nodeNext a_listFirst a_recentKey a_recentNode a_workF a_workG a_workPhase a_workLow nvl a_left a_made a_onesOfVariable a_tableBefore := by
  intro f
  induction f with
  | zero => intro n nvl h1 h2 h3; omega
  | succ f ih =>
    intro n nvl hn2 hn hf hI
    refine pk_le N n (fun e => ?_) (fun e => ?_)
    · have hin : vp_in (nI root) 600 := vp_in_nI (by omega) (by omega)
      have hV8 := qd_V_le ok.2.1 hr
      refine ⟨hin, hin, ?_⟩
      rw [nI_clamp (by omega), hI root (by omega), (ok.1 root hr).1, qd_shl (qd_Cn_le g root) hV8]
      have K' := K nvl
      rw [show (8 : Nat) = 8 - 0 from rfl, qd_C_from ok.2.1 ok.2.2.2.1 hr (Nat.zero_le _), Nat.sub_zero, Nat.mul_comm] at K'
      exact K'
    · have hin : vp_in (nI n) 600 := vp_in_nI (by omega) (by omega)
      have hcl : (nI n).toNatClampNeg = n := nI_clamp (by omega)
      have hrep := ok.1 n e
      have hr2 := hrep.2 hn2
      have w := ok.2.1.2.2.2.1 n hn2 e
      have hVL := qd_V_le ok.2.1 (by omega : qd_L g n < N)
      have hVH := qd_V_le ok.2.1 (by omega : qd_H g n < N)
      have inL : vp_in (nI (qd_L g n)) 600 := vp_in_nI (by omega) (by omega)
      have inH : vp_in (nI (qd_H g n)) 600 := vp_in_nI (by omega) (by omega)
      have clL : (nI (qd_L g n)).toNatClampNeg = qd_L g n := nI_clamp (by omega)
      have clH : (nI (qd_H g n)).toNatClampNeg = qd_H g n := nI_clamp (by omega)
      have sh : ∀ c, c < N → qd_V g n < qd_V g c → nI (qd_Cn g c) <<< (((nI (qd_V g c) - nI (qd_V g n)) - 1) &&& 31) = nI (qd_Cn g c * 2 ^ (qd_V g c - qd_V g n - 1)) := by
        intro c hc hlt
        have h8 := qd_V_le ok.2.1 hc
        have a1 : nI (qd_V g c) - nI (qd_V g n) = nI (qd_V g c - qd_V g n) := pk_sub (by omega)
        have a2 : nI (qd_V g c - qd_V g n) - 1 = nI (qd_V g c - qd_V g n - 1) := pk_sub (b := 1) (by omega)
        rw [a1, a2, qd_shl (qd_Cn_le g c) (by omega)]
      refine ⟨hin, ?_⟩
      rw [hcl, hr2.1, hr2.2, hrep.1]
      refine nm_e ⟨hin, inL, hin, inL, nm_r (e' := nI (qd_Cn g (qd_L g n) * 2 ^ (qd_V g (qd_L g n) - qd_V g n - 1))) (by rw [clL, hI _ (by omega), (ok.1 _ (by omega : qd_L g n < N)).1]; exact sh _ (by omega) (by omega)) ⟨hin, inH, hin, inH, nm_r (e' := nI (qd_Cn g (qd_H g n) * 2 ^ (qd_V g (qd_H g n) - qd_V g n - 1))) (by rw [clH, hI _ (by omega), (ok.1 _ (by omega : qd_H g n < N)).1]; exact sh _ (by omega) (by omega)) ⟨hin, nm_r (e' := upd nvl n (nI (qd_Cn g n))) ?_ (nm_r (nI_1 n) (ih (n + 1) _ (by omega) (by omega) (by omega) ?_))⟩⟩⟩
      · rw [nI_add, ← qd_C_step ok.2.1 ok.2.2.2.1 hn2 e, qd_vs (by have := qd_Cn_le g n; omega)]
      · intro j hj
        by_cases e1 : j = n
        · subst e1; exact pk_us
        · rw [pk_un e1]; exact hI j (by omega)
theorem qx_countDiagram {post : Int32 → SX → Prop} {N root : Nat} {g : qd_Gh} (ok : qd_OK N a_nodeVariable a_nodeLow a_nodeHigh a_nodeNext a_listFirst a_recentKey a_recentNode g) (hN : N ≤ 600) (hr : root < N)
    (K : ∀ nvl, post (nI (qg_C (fun s => qd_D g root s = true) 8 0 (fun _ => false))) (f_theirs, f_ruleCount, f_wayNow, f_clausesOf, f_clauseCount, f_tableFor, f_memoFor, f_memoSide, f_depth, f_known, f_ones, f_diagramFor, nI root, nI N, f_leftCount, f_madeCount, a_kindOf, a_setP, a_setQ, a_clauses, a_table, a_memo, a_choiceOf, a_secondTry, a_knownBefore, a_onesBefore, a_nodeVariable, a_nodeLow, a_nodeHigh, a_nodeNext, a_listFirst, a_recentKey, a_recentNode, a_workF, a_workG, a_workPhase, a_workLow, nvl, a_left, a_made, a_onesOfVariable, a_tableBefore)) : wpX_countDiagram post (f_theirs, f_ruleCount, f_wayNow, f_clausesOf, f_clauseCount, f_tableFor, f_memoFor, f_memoSide, f_depth, f_known, f_ones, f_diagramFor, nI root, nI N, f_leftCount, f_madeCount, a_kindOf, a_setP, a_setQ, a_clauses, a_table, a_memo, a_choiceOf, a_secondTry, a_knownBefore, a_onesBefore, a_nodeVariable, a_nodeLow, a_nodeHigh, a_nodeNext, a_listFirst, a_recentKey, a_recentNode, a_workF, a_workG, a_workPhase, a_workLow, a_nodeValue, a_left, a_made, a_onesOfVariable, a_tableBefore) := by
  refine nm_r (e' := upd a_nodeValue 0 0) (by rw [vp_nar_short]; rfl) (nm_r (e' := upd (upd a_nodeValue 0 0) 1 1) (by rw [vp_nar_short]; rfl) ⟨N + 1, qx_countDiagram_16 ok hN hr K (N + 1) 2 _ (by omega) ok.2.1.1 (by omega) ?_⟩)
  intro j hj
  have h01 : j = 0 ∨ j = 1 := by omega
  rcases h01 with h | h
  · subst h; rw [pk_un (by omega), pk_us, qd_Cn_0 ok.2.1 ok.2.2.2.1]; rfl
  · subst h; rw [pk_us, qd_Cn_1 ok.2.1 ok.2.2.2.1]; rfl
theorem qx_variablesInDiagram_12 {post : Int32 → SX → Prop} {N : Nat} {g : qd_Gh} {mk : Nat → Int32} (ok : qd_OK N a_nodeVariable a_nodeLow a_nodeHigh a_nodeNext a_listFirst a_recentKey a_recentNode g) (hN : N ≤ 600) (h01 : ∀ j, j < N → mk j = 0 ∨ mk j = 1)
    (K : ∀ x, (∀ v, bt x v = true ↔ ∃ j, 2 ≤ j ∧ j < N ∧ mk j = 1 ∧ qd_V g j = v) → post x (f_theirs, f_ruleCount, f_wayNow, f_clausesOf, f_clauseCount, f_tableFor, f_memoFor, f_memoSide, f_depth, f_known, f_ones, f_diagramFor, f_diagramRoot, nI N, f_leftCount, f_madeCount, a_kindOf, a_setP, a_setQ, a_clauses, a_table, a_memo, a_choiceOf, a_secondTry, a_knownBefore, a_onesBefore, a_nodeVariable, a_nodeLow, a_nodeHigh, a_nodeNext, a_listFirst, a_recentKey, a_recentNode, a_workF, a_workG, a_workPhase, a_workLow, mk, a_left, a_made, a_onesOfVariable, a_tableBefore)) :
    ∀ (f n : Nat) (x : Int32), 2 ≤ n → n ≤ N → N < f + n → (∀ v, bt x v = true ↔ ∃ j, 2 ≤ j ∧ j < n ∧ mk j = 1 ∧ qd_V g j = v) → wX_variablesInDiagram_12 post f_theirs f_ruleCount f_wayNow f_clausesOf f_clauseCount f_tableFor f_memoFor f_memoSide f_depth f_known f_ones f_diagramFor f_diagramRoot (nI N) f_leftCount f_madeCount a_kindOf a_setP a_setQ a_clauses a_table a_memo a_choiceOf a_secondTry a_knownBefore a_onesBefore a_nodeVariable a_nodeLow a_nodeHigh a_nodeNext a_listFirst a_recentKey a_recentNode a_workF a_workG a_workPhase a_workLow mk a_left a_made a_onesOfVariable a_tableBefore f x (nI n) := by
  intro f
  induction f with
  | zero => intro n x h1 h2 h3; omega
  | succ f ih =>
    intro n x hn2 hn hf hI
    refine pk_le N n (fun e => K x (by rw [show N = n by omega]; exact hI)) (fun e => ?_)
    have hin : vp_in (nI n) 600 := vp_in_nI (by omega) (by omega)
    have w := ok.2.1.2.2.2.1 n hn2 e
    refine ⟨hin, ?_⟩
    rw [nI_clamp (by omega), (ok.1 n e).1]
    refine br_c (fun z => nm_r (nI_1 n) (ih (n + 1) x (by omega) (by omega) (by omega) ?_)) (fun z => ⟨hin, nm_e (nm_r (nI_1 n) (ih (n + 1) _ (by omega) (by omega) (by omega) ?_))⟩)
    · intro v
      rw [hI v]
      refine ⟨fun ⟨j, a, b, c⟩ => ⟨j, a, by omega, c⟩, fun ⟨j, a, b, c, d⟩ => ⟨j, a, ?_, c, d⟩⟩
      by_cases e1 : j = n
      · subst e1; rw [z] at c; exact absurd c (by decide)
      · omega
    · intro v
      rw [b_or, qb_one (by omega), Bool.or_eq_true, hI v, decide_eq_true_eq]
      constructor
      · intro y
        rcases y with ⟨j, a, b, c⟩ | y
        · exact ⟨j, a, by omega, c⟩
        · exact ⟨n, hn2, by omega, (h01 n e).elim (fun q => absurd q z) id, y.symm⟩
      · intro ⟨j, a, b, c, d⟩
        by_cases e1 : j = n
        · subst e1; exact Or.inr d.symm
        · exact Or.inl ⟨j, a, by omega, c, d⟩
theorem qx_variablesInDiagram {post : Int32 → SX → Prop} {N root : Nat} {g : qd_Gh} (ok : qd_OK N a_nodeVariable a_nodeLow a_nodeHigh a_nodeNext a_listFirst a_recentKey a_recentNode g) (hN : N ≤ 600) (hr : root < N)
    (K : ∀ x nvl, (∀ v, bt x v = true ↔ ¬ qt_Idle (fun s => qd_D g root s = true) v) → post x (f_theirs, f_ruleCount, f_wayNow, f_clausesOf, f_clauseCount, f_tableFor, f_memoFor, f_memoSide, f_depth, f_known, f_ones, f_diagramFor, nI root, nI N, f_leftCount, f_madeCount, a_kindOf, a_setP, a_setQ, a_clauses, a_table, a_memo, a_choiceOf, a_secondTry, a_knownBefore, a_onesBefore, a_nodeVariable, a_nodeLow, a_nodeHigh, a_nodeNext, a_listFirst, a_recentKey, a_recentNode, a_workF, a_workG, a_workPhase, a_workLow, nvl, a_left, a_made, a_onesOfVariable, a_tableBefore)) : wpX_variablesInDiagram post (f_theirs, f_ruleCount, f_wayNow, f_clausesOf, f_clauseCount, f_tableFor, f_memoFor, f_memoSide, f_depth, f_known, f_ones, f_diagramFor, nI root, nI N, f_leftCount, f_madeCount, a_kindOf, a_setP, a_setQ, a_clauses, a_table, a_memo, a_choiceOf, a_secondTry, a_knownBefore, a_onesBefore, a_nodeVariable, a_nodeLow, a_nodeHigh, a_nodeNext, a_listFirst, a_recentKey, a_recentNode, a_workF, a_workG, a_workPhase, a_workLow, a_nodeValue, a_left, a_made, a_onesOfVariable, a_tableBefore) := by
  unfold wpX_variablesInDiagram
  dsimp only
  refine qx_markFrom ok hN hr ?_
  intro mk hM
  refine ⟨N + 1, qx_variablesInDiagram_12 ok hN hM.2.2.1 ?_ (N + 1) 2 0 (by omega) ok.2.1.1 (by omega) ?_⟩
  · intro x hx
    exact K x mk (fun v => by rw [hx v]; exact qd_idle ok.2.1 ok.2.2.2.1 hM hr)
  · intro v
    rw [b_0]
    exact ⟨fun z => absurd z (by decide), fun ⟨j, a, b, _⟩ => by omega⟩
theorem qx_sameDiagram_88 {post : Int32 → SX → Prop} {m : Nat} {H1 : (Nat → Bool) → Prop} (hm : m ≤ 168) (hw : qc_wf a_clauses m)
    (K : ∀ (nc : Int32) (a_nodeVariable' a_nodeLow' a_nodeHigh' a_nodeNext' a_listFirst' a_recentKey' a_recentNode' a_workF' a_workG' a_workPhase' a_workLow' nvl : Nat → Int32), post (qb_p (∀ s, H1 s ↔ qc_All a_clauses m s)) (f_theirs, f_ruleCount, f_wayNow, f_clausesOf, nI m, f_tableFor, f_memoFor, f_memoSide, f_depth, f_known, f_ones, f_diagramFor, f_diagramRoot, nc, f_leftCount, f_madeCount, a_kindOf, a_setP, a_setQ, a_clauses, a_table, a_memo, a_choiceOf, a_secondTry, a_knownBefore, a_onesBefore, a_nodeVariable', a_nodeLow', a_nodeHigh', a_nodeNext', a_listFirst', a_recentKey', a_recentNode', a_workF', a_workG', a_workPhase', a_workLow', nvl, a_left, a_made, a_onesOfVariable, a_tableBefore)) :
    ∀ (n c r1 r2 N : Nat) (g : qd_Gh) (a_nodeVariable' a_nodeLow' a_nodeHigh' a_nodeNext' a_listFirst' a_recentKey' a_recentNode' a_workF' a_workG' a_workPhase' a_workLow' nvl : Nat → Int32), c ≤ m → m < n + c → qd_OK N a_nodeVariable' a_nodeLow' a_nodeHigh' a_nodeNext' a_listFirst' a_recentKey' a_recentNode' g → N ≤ 600 → r1 < N → r2 < N → (∀ s, qd_D g r1 s = true ↔ H1 s) → (∀ s, qd_D g r2 s = true ↔ qc_All a_clauses c s) →
    wX_sameDiagram_88 post n (nI r1) (nI r2) (nI c) f_theirs f_ruleCount f_wayNow f_clausesOf (nI m) f_tableFor f_memoFor f_memoSide f_depth f_known f_ones f_diagramFor f_diagramRoot (nI N) f_leftCount f_madeCount a_kindOf a_setP a_setQ a_clauses a_table a_memo a_choiceOf a_secondTry a_knownBefore a_onesBefore a_nodeVariable' a_nodeLow' a_nodeHigh' a_nodeNext' a_listFirst' a_recentKey' a_recentNode' a_workF' a_workG' a_workPhase' a_workLow' nvl a_left a_made a_onesOfVariable a_tableBefore := by
  intro n
  induction n with
  | zero => intro c r1 r2 N g _ _ _ _ _ _ _ _ _ _ _ nvl h1 h2; omega
  | succ n ih =>
    intro c r1 r2 N g b1 b2 b3 b4 b5 b6 b7 c1 c2 c3 c4 nvl hc hf ok hN hr1 hr2 hD1 hD2
    refine pk_le m c (fun e => ?_) (fun e => ?_)
    · have ec : c = m := by omega
      subst ec
      have hiff : r1 = r2 ↔ ∀ s, H1 s ↔ qc_All a_clauses c s := by
        constructor
        · intro e1 s; rw [← hD1 s, ← hD2 s, e1]
        · intro z
          apply qd_can ok.2.1 ok.2.2.2.1 hr1 hr2
          intro s
          rw [Bool.eq_iff_iff, hD1 s, hD2 s]; exact z s
      have K' := K (nI N) b1 b2 b3 b4 b5 b6 b7 c1 c2 c3 c4 nvl
      refine pk_eq r1 r2 (fun e1 => ?_) (fun e1 => ?_)
      · rw [qb_p_t (hiff.mp e1)] at K'; exact K'
      · rw [qb_p_f (fun z => e1 (hiff.mpr z))] at K'; exact K'
    · have go : ∀ (r1 r2 N : Nat) (g : qd_Gh) (a_nodeVariable' a_nodeLow' a_nodeHigh' a_nodeNext' a_listFirst' a_recentKey' a_recentNode' a_workF' a_workG' a_workPhase' a_workLow' nvl : Nat → Int32), qd_OK N a_nodeVariable' a_nodeLow' a_nodeHigh' a_nodeNext' a_listFirst' a_recentKey' a_recentNode' g → N ≤ 300 → r1 < N → r2 < N → (∀ s, qd_D g r1 s = true ↔ H1 s) → (∀ s, qd_D g r2 s = true ↔ qc_All a_clauses c s) → wX_sameDiagram_123 post (wX_sameDiagram_88 post n) (nI r1) (nI r2) (nI c) f_theirs f_ruleCount f_wayNow f_clausesOf (nI m) f_tableFor f_memoFor f_memoSide f_depth f_known f_ones f_diagramFor f_diagramRoot (nI N) f_leftCount f_madeCount a_kindOf a_setP a_setQ a_clauses a_table a_memo a_choiceOf a_secondTry a_knownBefore a_onesBefore a_nodeVariable' a_nodeLow' a_nodeHigh' a_nodeNext' a_listFirst' a_recentKey' a_recentNode' a_workF' a_workG' a_workPhase' a_workLow' nvl a_left a_made a_onesOfVariable a_tableBefore := by
        intro r1 r2 N g b1 b2 b3 b4 b5 b6 b7 c1 c2 c3 c4 nvl ok hN hr1 hr2 hD1 hD2
        unfold wX_sameDiagram_123
        refine ⟨vp_in_nI (by omega) (by omega), ?_⟩
        rw [nI_clamp (by omega)]
        refine qx_clauseDiagram (hw c e).2 ok (by omega) ?_
        intro r3 N1 g1 d1 d2 d3 d4 d5 ok1 hX1 hN1 hr3 hD3
        have hle := hX1.1
        refine qx_both ok1 (by omega) (Nat.lt_of_lt_of_le hr2 hle) hr3 ?_
        intro r4 N2 g2 e1 e2 e3 e4 e5 e6 e7 f1 f2 f3 f4 ok2 hX2 hN2 hr4 hD4
        have hle2 := hX2.1
        have hX := qd_Ext_tr hX1 hX2
        refine nm_r (nI_1 c) (ih (c + 1) r1 r4 N2 g2 e1 e2 e3 e4 e5 e6 e7 f1 f2 f3 f4 nvl (by omega) (by omega) ok2 (by omega) (by omega) hr4 ?_ ?_)
        · intro s
          rw [(hX.2 r1 hr1).2.2.2]; exact hD1 s
        · intro s
          rw [hD4 s, Bool.and_eq_true, hD3 s, (hX1.2 r2 hr2).2.2.2, hD2 s]
          constructor
          · intro ⟨z1, z2⟩ j hj
            by_cases e1 : j = c
            · subst e1; exact z2
            · exact z1 j (by omega)
          · intro z
            exact ⟨fun j hj => z j (by omega), z c (by omega)⟩
      refine pk_le N 300 (fun h => go r1 r2 N g b1 b2 b3 b4 b5 b6 b7 c1 c2 c3 c4 nvl ok h hr1 hr2 hD1 hD2) (fun h => ?_)
      refine qx_keepBoth ok hN hr1 hr2 ?_
      intro r' r'' N' g' d1 d2 d3 d4 d5 d6 d7 nvl' ok' hN' hnv hr' hr'' hD' hD''
      refine ⟨vp_in_nI (by omega) (by omega), nm_r (e' := nI r') (by rw [nI_clamp (by omega)]; exact hnv) ?_⟩
      exact go r' r'' N' g' d1 d2 d3 d4 d5 d6 d7 c1 c2 c3 c4 nvl' ok' (by omega) hr' hr'' (fun s => by rw [hD' s]; exact hD1 s) (fun s => by rw [hD'' s]; exact hD2 s)
theorem qx_sameDiagram_19 {post : Int32 → SX → Prop} {M m : Nat} {others : Int32} (hM : M ≤ 12) (hV : qc_Vs M a_kindOf a_setP a_setQ) (hr : others ≠ -1) (hc : qc_Cache M a_kindOf a_setP a_setQ f_clausesOf (nI m) a_clauses) (hm : m ≤ 168) (hw : qc_wf a_clauses m)
    (K : ∀ (co cc : Int32) (cl : Nat → Int32) (nc : Int32) (a_nodeVariable' a_nodeLow' a_nodeHigh' a_nodeNext' a_listFirst' a_recentKey' a_recentNode' a_workF' a_workG' a_workPhase' a_workLow' nvl : Nat → Int32), qc_Cache M a_kindOf a_setP a_setQ co cc cl → post (qb_p (∀ s, qc_All a_clauses m s ↔ qc_H M a_kindOf a_setP a_setQ others s)) (f_theirs, nI M, f_wayNow, co, cc, f_tableFor, f_memoFor, f_memoSide, f_depth, f_known, f_ones, f_diagramFor, f_diagramRoot, nc, f_leftCount, f_madeCount, a_kindOf, a_setP, a_setQ, cl, a_table, a_memo, a_choiceOf, a_secondTry, a_knownBefore, a_onesBefore, a_nodeVariable', a_nodeLow', a_nodeHigh', a_nodeNext', a_listFirst', a_recentKey', a_recentNode', a_workF', a_workG', a_workPhase', a_workLow', nvl, a_left, a_made, a_onesOfVariable, a_tableBefore)) :
    ∀ (n c root N : Nat) (g : qd_Gh) (a_nodeVariable' a_nodeLow' a_nodeHigh' a_nodeNext' a_listFirst' a_recentKey' a_recentNode' a_workF' a_workG' a_workPhase' a_workLow' nvl : Nat → Int32), c ≤ m → m < n + c → qd_OK N a_nodeVariable' a_nodeLow' a_nodeHigh' a_nodeNext' a_listFirst' a_recentKey' a_recentNode' g → N ≤ 600 → root < N → (∀ s, qd_D g root s = true ↔ qc_All a_clauses c s) →
    wX_sameDiagram_19 post others n (nI root) (nI c) f_theirs (nI M) f_wayNow f_clausesOf (nI m) f_tableFor f_memoFor f_memoSide f_depth f_known f_ones f_diagramFor f_diagramRoot (nI N) f_leftCount f_madeCount a_kindOf a_setP a_setQ a_clauses a_table a_memo a_choiceOf a_secondTry a_knownBefore a_onesBefore a_nodeVariable' a_nodeLow' a_nodeHigh' a_nodeNext' a_listFirst' a_recentKey' a_recentNode' a_workF' a_workG' a_workPhase' a_workLow' nvl a_left a_made a_onesOfVariable a_tableBefore := by
  intro n
  induction n with
  | zero => intro c root N g _ _ _ _ _ _ _ _ _ _ _ nvl h1 h2; omega
  | succ n ih =>
    intro c root N g b1 b2 b3 b4 b5 b6 b7 c1 c2 c3 c4 nvl hcm hf ok hN hroot hD
    refine pk_le m c (fun e => ?_) (fun e => ?_)
    · have ec : c = m := by omega
      subst ec
      refine qx_keepOnly ok hN hroot ?_
      intro r' N' g' d1 d2 d3 d4 d5 d6 d7 nvl' ok' hN' hr' hD'
      refine qx_makeClauses hM hV hr hc ?_
      intro m2 cl2 hok2
      refine ⟨m2 + 1, qx_sameDiagram_88 (H1 := qc_All a_clauses c) hok2.1 hok2.2.1 ?_ (m2 + 1) 0 r' 1 N' g' d1 d2 d3 d4 d5 d6 d7 c1 c2 c3 c4 nvl' (by omega) (by omega) ok' (by omega) hr' (by have := ok'.2.1.1; omega) (fun s => by rw [hD' s]; exact hD s) (fun s => ⟨fun _ j hj => by omega, fun _ => ok'.2.2.2.1.2.1 s⟩)⟩
      intro nc e1 e2 e3 e4 e5 e6 e7 f1 f2 f3 f4 nvl''
      have K' := K others (nI m2) cl2 nc e1 e2 e3 e4 e5 e6 e7 f1 f2 f3 f4 nvl'' (Or.inr ⟨m2, rfl, hok2⟩)
      have hp : qb_p (∀ s, qc_All a_clauses c s ↔ qc_All cl2 m2 s) = qb_p (∀ s, qc_All a_clauses c s ↔ qc_H M a_kindOf a_setP a_setQ others s) := by
        apply qb_p_congr
        exact ⟨fun z s => (z s).trans (hok2.2.2 s), fun z s => (z s).trans (hok2.2.2 s).symm⟩
      rw [hp]; exact K'
    · have go : ∀ (root N : Nat) (g : qd_Gh) (a_nodeVariable' a_nodeLow' a_nodeHigh' a_nodeNext' a_listFirst' a_recentKey' a_recentNode' a_workF' a_workG' a_workPhase' a_workLow' nvl : Nat → Int32), qd_OK N a_nodeVariable' a_nodeLow' a_nodeHigh' a_nodeNext' a_listFirst' a_recentKey' a_recentNode' g → N ≤ 300 → root < N → (∀ s, qd_D g root s = true ↔ qc_All a_clauses c s) → wX_sameDiagram_44 post (wX_sameDiagram_19 post others n) others (nI root) (nI c) f_theirs (nI M) f_wayNow f_clausesOf (nI m) f_tableFor f_memoFor f_memoSide f_depth f_known f_ones f_diagramFor f_diagramRoot (nI N) f_leftCount f_madeCount a_kindOf a_setP a_setQ a_clauses a_table a_memo a_choiceOf a_secondTry a_knownBefore a_onesBefore a_nodeVariable' a_nodeLow' a_nodeHigh' a_nodeNext' a_listFirst' a_recentKey' a_recentNode' a_workF' a_workG' a_workPhase' a_workLow' nvl a_left a_made a_onesOfVariable a_tableBefore := by
        intro root N g b1 b2 b3 b4 b5 b6 b7 c1 c2 c3 c4 nvl ok hN hr hD
        unfold wX_sameDiagram_44
        refine ⟨vp_in_nI (by omega) (by omega), ?_⟩
        rw [nI_clamp (by omega)]
        refine qx_clauseDiagram (hw c e).2 ok (by omega) ?_
        intro r1 N1 g1 d1 d2 d3 d4 d5 ok1 hX1 hN1 hr1 hD1
        have hle := hX1.1
        refine qx_both ok1 (by omega) (Nat.lt_of_lt_of_le hr hle) hr1 ?_
        intro r2 N2 g2 e1 e2 e3 e4 e5 e6 e7 f1 f2 f3 f4 ok2 hX2 hN2 hr2 hD2
        refine nm_r (nI_1 c) (ih (c + 1) r2 N2 g2 e1 e2 e3 e4 e5 e6 e7 f1 f2 f3 f4 nvl (by omega) (by omega) ok2 (by omega) hr2 ?_)
        intro s
        rw [hD2 s, Bool.and_eq_true, hD1 s, (hX1.2 root hr).2.2.2, hD s]
        constructor
        · intro ⟨z1, z2⟩ j hj
          by_cases e1 : j = c
          · subst e1; exact z2
          · exact z1 j (by omega)
        · intro z
          exact ⟨fun j hj => z j (by omega), z c (by omega)⟩
      refine pk_le N 300 (fun h => go root N g b1 b2 b3 b4 b5 b6 b7 c1 c2 c3 c4 nvl ok h hroot hD) (fun h => ?_)
      refine qx_keepOnly ok hN hroot ?_
      intro r' N' g' d1 d2 d3 d4 d5 d6 d7 nvl' ok' hN' hr' hD'
      exact go r' N' g' d1 d2 d3 d4 d5 d6 d7 c1 c2 c3 c4 nvl' ok' (by omega) hr' (fun s => by rw [hD' s]; exact hD s)
theorem qx_sameDiagram {post : Int32 → SX → Prop} {M : Nat} {rules others : Int32} (hM : M ≤ 12) (hV : qc_Vs M a_kindOf a_setP a_setQ) (hr : rules ≠ -1) (hr' : others ≠ -1) (hc : qc_Cache M a_kindOf a_setP a_setQ f_clausesOf f_clauseCount a_clauses)
    (K : ∀ (co cc : Int32) (cl : Nat → Int32) (nc : Int32) (a_nodeVariable' a_nodeLow' a_nodeHigh' a_nodeNext' a_listFirst' a_recentKey' a_recentNode' a_workF' a_workG' a_workPhase' a_workLow' nvl : Nat → Int32), qc_Cache M a_kindOf a_setP a_setQ co cc cl → post (qb_p (∀ s, qc_H M a_kindOf a_setP a_setQ rules s ↔ qc_H M a_kindOf a_setP a_setQ others s)) (f_theirs, nI M, f_wayNow, co, cc, f_tableFor, f_memoFor, f_memoSide, f_depth, f_known, f_ones, (-1), f_diagramRoot, nc, f_leftCount, f_madeCount, a_kindOf, a_setP, a_setQ, cl, a_table, a_memo, a_choiceOf, a_secondTry, a_knownBefore, a_onesBefore, a_nodeVariable', a_nodeLow', a_nodeHigh', a_nodeNext', a_listFirst', a_recentKey', a_recentNode', a_workF', a_workG', a_workPhase', a_workLow', nvl, a_left, a_made, a_onesOfVariable, a_tableBefore)) :
    wpX_sameDiagram post (f_theirs, nI M, f_wayNow, f_clausesOf, f_clauseCount, f_tableFor, f_memoFor, f_memoSide, f_depth, f_known, f_ones, f_diagramFor, f_diagramRoot, f_nodeCount, f_leftCount, f_madeCount, a_kindOf, a_setP, a_setQ, a_clauses, a_table, a_memo, a_choiceOf, a_secondTry, a_knownBefore, a_onesBefore, a_nodeVariable, a_nodeLow, a_nodeHigh, a_nodeNext, a_listFirst, a_recentKey, a_recentNode, a_workF, a_workG, a_workPhase, a_workLow, a_nodeValue, a_left, a_made, a_onesOfVariable, a_tableBefore) rules others := by
  unfold wpX_sameDiagram
  dsimp only
  refine qx_makeClauses hM hV hr hc ?_
  intro m cl hok
  refine qx_startDiagram ?_
  intro b1 b5 b6 _ ok0
  refine ⟨m + 1, qx_sameDiagram_19 hM hV hr' (Or.inr ⟨m, rfl, hok⟩) hok.1 hok.2.1 ?_ (m + 1) 0 1 2 qd_g0 _ _ _ _ _ _ _ _ _ _ _ _ (by omega) (by omega) ok0 (by omega) (by omega) (fun s => ⟨fun _ j hj => by omega, fun _ => rfl⟩)⟩
  intro co cc cl' nc e1 e2 e3 e4 e5 e6 e7 f1 f2 f3 f4 nvl hc'
  have K' := K co cc cl' nc e1 e2 e3 e4 e5 e6 e7 f1 f2 f3 f4 nvl hc'
  have hp : qb_p (∀ s, qc_All cl m s ↔ qc_H M a_kindOf a_setP a_setQ others s) = qb_p (∀ s, qc_H M a_kindOf a_setP a_setQ rules s ↔ qc_H M a_kindOf a_setP a_setQ others s) := by
    apply qb_p_congr
    exact ⟨fun z s => (hok.2.2 s).symm.trans (z s), fun z s => (hok.2.2 s).trans (z s)⟩
  rw [hp]; exact K'
end
end
section
/-! the reference: rules and the tree of the game -/
theorem qb_or_one {k : Nat} (hk : k < 32) (x : Int32) : bt (x ||| ((1 : Int32) <<< (nI k &&& 31))) = qg_up (bt x) k true := by
  funext i
  rw [b_or, qb_one hk]
  by_cases e : i = k
  · subst e; rw [decide_eq_true rfl, Bool.or_true, qg_up_s]
  · rw [decide_eq_false e, Bool.or_false, qg_up_n e]
theorem qy_or : ∀ k, k < 8 → ∀ v, v < 2 ^ k → nI v ||| ((1 : Int32) <<< (nI k &&& 31)) = nI (v + 2 ^ k) := by decide +kernel
theorem qy_up1 {k v : Nat} (hk : k < 8) (hv : v < 2 ^ k) : qg_up (bt (nI v)) k true = bt (nI (v + 2 ^ k)) := by
  rw [← qy_or k hk v hv, qb_or_one (by omega)]
theorem qy_up0 {k v : Nat} (hk : k < 8) (hv : v < 2 ^ k) : qg_up (bt (nI v)) k false = bt (nI v) := by
  apply qg_up_self
  exact qb_lt_nI hv k (Nat.le_refl k)
/-- who wins from a start -/
def qy_W (th : Nat → Bool) (H : (Nat → Bool) → Prop) (k v : Nat) : Prop := qg_G th H (8 - k) k (bt (nI v))
theorem qy_W_8 {th : Nat → Bool} {H : (Nat → Bool) → Prop} {v : Nat} : qy_W th H 8 v ↔ H (bt (nI v)) := Iff.rfl
theorem qy_W_s {th : Nat → Bool} {H : (Nat → Bool) → Prop} {k v : Nat} (hk : k < 8) (hv : v < 2 ^ k) : qy_W th H k v ↔ qg_Q (th k) (fun b => match b with | true => qy_W th H (k + 1) (v + 2 ^ k) | false => qy_W th H (k + 1) v) := by
  unfold qy_W
  rw [show 8 - k = (8 - (k + 1)) + 1 by omega]
  apply qg_Q_congr
  intro b
  cases b with
  | true => show qg_G th H _ _ (qg_up _ _ true) ↔ _; rw [qy_up1 hk hv]
  | false => show qg_G th H _ _ (qg_up _ _ false) ↔ _; rw [qy_up0 hk hv]
section
variable {f_n : Int32} {a_kind a_p a_q a_side a_tree a_all : Nat → Int32}
theorem qy_in {post : Int32 → Prop} {x lo hi : Int32} (K0 : ¬ (lo ≤ x ∧ x ≤ hi) → post 0) (K1 : lo ≤ x → x ≤ hi → post 1) : wpY_in post (f_n, a_kind, a_p, a_q, a_side, a_tree, a_all) x lo hi :=
  br_c (fun h => K0 (fun z => Int32.not_lt.mpr z.1 h)) (fun h => br_c (fun h' => K0 (fun z => Int32.not_lt.mpr z.2 h')) (fun h' => K1 (Int32.not_lt.mp h) (Int32.not_lt.mp h')))
theorem qy_sizeOf_4 {post : Int32 → Prop} {x : Int32} (K : post (nI (qn_cnt (bt x) 8))) : ∀ (n v : Nat), v ≤ 8 → 8 < n + v → wY_sizeOf_4 post x f_n a_kind a_p a_q a_side a_tree a_all n (nI (qn_cnt (bt x) v)) (nI v) := by
  intro n
  induction n with
  | zero => intro v h1 h2; omega
  | succ n ih =>
    intro v hv hf
    refine pk_le 8 v (fun e => by rw [show v = 8 by omega]; exact K) (fun e => nm_r (e' := nI (qn_cnt (bt x) (v + 1))) ?_ (nm_r (nI_1 v) (ih (v + 1) (by omega) (by omega))))
    rw [qb_bit x (by omega)]
    simp only [qn_cnt]
    rw [← nI_add]
    congr 1
    cases bt x v
    · exact if_neg (by decide)
    · exact if_pos rfl
theorem qy_sizeOf {post : Int32 → Prop} {x : Int32} (K : post (nI (qn_cnt (bt x) 8))) : wpY_sizeOf post (f_n, a_kind, a_p, a_q, a_side, a_tree, a_all) x := ⟨9, qy_sizeOf_4 K 9 0 (by omega) (by omega)⟩
theorem qy_isKept {post : Int32 → Prop} {i : Nat} {x : Int32} (hi : i < 12) (hx : qb_lt x 8) (hv : qc_V (a_kind i) (a_p i) (a_q i)) (K : post (qb_p (qc_R (a_kind i) (a_p i) (a_q i) (bt x)))) : wpY_isKept post (f_n, a_kind, a_p, a_q, a_side, a_tree, a_all) (nI i) x := by
  have hin : vp_in (nI i) 12 := vp_in_nI hi (by omega)
  unfold wpY_isKept
  dsimp only
  rw [nI_clamp (by omega)]
  refine ⟨hin, nm_e ⟨hin, ?_⟩⟩
  have hb : qn_cnt (bt (a_p i &&& x)) 8 = qn_cnt (fun j => bt (a_p i) j && bt x j) 8 := qn_cnt_congr (fun j _ => b_and _ _ _)
  have hle : qn_cnt (fun j => bt (a_p i) j && bt x j) 8 ≤ 8 := qn_cnt_le _ _
  have hz : a_p i &&& x = 0 ↔ ¬ ∃ j, j < 8 ∧ bt (a_p i) j = true ∧ bt x j = true := by
    rw [qb_and0]
    constructor
    · intro h ⟨j, hj, e1, e2⟩
      rw [h j (by omega) e1] at e2; exact absurd e2 (by decide)
    · intro h j hj e1
      cases e2 : bt x j with
      | false => rfl
      | true =>
        have h8 : j < 8 := by
          rcases Nat.lt_or_ge j 8 with h8 | h8
          · exact h8
          · rw [hx j h8] at e2; exact absurd e2 (by decide)
        exact absurd ⟨j, h8, e1, e2⟩ h
  refine br_c (fun h0 => ?_) (fun h0 => ⟨hin, br_c (fun h1 => ?_) (fun h1 => ⟨hin, br_c (fun h2 => ?_) (fun h2 => ?_)⟩)⟩)
  · have hq : qb_lt (a_q i) 8 := by
      rcases hv.2 with ⟨_, h⟩ | ⟨h, _⟩ | ⟨h, _⟩ | h
      · exact h
      · rw [h] at h0; exact absurd h0 (by decide)
      · rw [h] at h0; exact absurd h0 (by decide)
      · rw [h] at h0; exact absurd h0 (by decide)
    refine ek_if hz (fun hno => ⟨hin, br_c (fun h3 => ?_) (fun h3 => ?_)⟩) (fun hyes => ?_)
    · have : ¬ qc_R (a_kind i) (a_p i) (a_q i) (bt x) := by
        unfold qc_R
        rw [if_pos h0]
        rintro (z | ⟨j, hj, e1, e2⟩)
        · exact hno z
        · rw [qb_andn.mp h3 j (by omega) e1] at e2; exact absurd e2 (by decide)
      rw [qb_p_f this] at K; exact K
    · have : qc_R (a_kind i) (a_p i) (a_q i) (bt x) := by
        unfold qc_R
        rw [if_pos h0]
        right
        obtain ⟨j, hj, hb⟩ := qb_nz h3
        rw [b_and, Bool.and_eq_true] at hb
        rcases Nat.lt_or_ge j 8 with h8 | h8
        · refine ⟨j, h8, hb.1, ?_⟩
          have := hb.2
          rw [qb_not _ hj] at this
          cases e : bt x j with
          | false => rfl
          | true => rw [e] at this; exact absurd this (by decide)
        · rw [hq j h8] at hb; exact absurd hb.1 (by decide)
      rw [qb_p_t this] at K; exact K
    · have : qc_R (a_kind i) (a_p i) (a_q i) (bt x) := by
        unfold qc_R
        rw [if_pos h0]
        left
        exact Classical.byContradiction hyes
      rw [qb_p_t this] at K; exact K
  · refine qy_sizeOf ⟨by decide, hin, ?_⟩
    rw [hb]
    have hrem : nI (qn_cnt (fun j => bt (a_p i) j && bt x j) 8) - nI (qn_cnt (fun j => bt (a_p i) j && bt x j) 8) / 2 * 2 = nI (qn_cnt (fun j => bt (a_p i) j && bt x j) 8 % 2) := pk_rem (d := 2) (by omega) (by omega) (by omega)
    rw [hrem]
    have hR : qc_R (a_kind i) (a_p i) (a_q i) (bt x) ↔ nI (qn_cnt (fun j => bt (a_p i) j && bt x j) 8 % 2) = a_q i := by
      unfold qc_R
      rw [if_neg h0, if_pos h1]
    exact br_c (fun h3 => by rw [qb_p_t (hR.mpr h3)] at K; exact K) (fun h3 => by rw [qb_p_f (fun z => h3 (hR.mp z))] at K; exact K)
  · refine qy_sizeOf ⟨hin, ?_⟩
    rw [hb]
    have hR : qc_R (a_kind i) (a_p i) (a_q i) (bt x) ↔ ¬ a_q i < nI (qn_cnt (fun j => bt (a_p i) j && bt x j) 8) := by
      unfold qc_R
      rw [if_neg h0, if_neg h1, if_pos h2, Int32.not_lt]
    exact br_c (fun h3 => by rw [qb_p_f (fun z => hR.mp z h3)] at K; exact K) (fun h3 => by rw [qb_p_t (hR.mpr h3)] at K; exact K)
  · have hR : qc_R (a_kind i) (a_p i) (a_q i) (bt x) ↔ (a_p i &&& x = 0 ∨ a_p i &&& x = a_p i) := by
      unfold qc_R
      rw [if_neg h0, if_neg h1, if_neg h2, hz]
      constructor
      · rintro (z | z)
        · left
          intro ⟨j, hj, e1, e2⟩
          rw [z j hj e1] at e2; exact absurd e2 (by decide)
        · right
          apply qb_eqb (qb_lt_and hv.1) hv.1
          intro j hj
          rw [b_and]
          cases e1 : bt (a_p i) j with
          | false => rfl
          | true => rw [z j hj e1]; rfl
      · rintro (z | z)
        · left
          intro j hj e1
          cases e2 : bt x j with
          | false => rfl
          | true => exact absurd ⟨j, hj, e1, e2⟩ z
        · right
          intro j hj e1
          have := congrArg (fun y => bt y j) z
          simp only [b_and] at this
          rw [e1, Bool.true_and] at this
          exact this
    refine br_c (fun h3 => by rw [qb_p_t (hR.mpr (Or.inl h3))] at K; exact K) (fun h3 => ⟨hin, br_c (fun h4 => by rw [qb_p_t (hR.mpr (Or.inr h4))] at K; exact K) (fun h4 => by rw [qb_p_f (fun z => (hR.mp z).elim h3 h4)] at K; exact K)⟩)
theorem qy_areKept_2 {post : Int32 → Prop} {m : Nat} {x rules : Int32} (hm : m ≤ 12) (hx : qb_lt x 8) (hv : qc_Vs m a_kind a_p a_q)
    (K : post (qb_p (qc_H m a_kind a_p a_q rules (bt x)))) : ∀ (n i : Nat), i ≤ m → m < n + i → (∀ j, j < i → bt rules j = true → qc_R (a_kind j) (a_p j) (a_q j) (bt x)) → wY_areKept_2 post rules x (nI m) a_kind a_p a_q a_side a_tree a_all n (nI i) := by
  intro n
  induction n with
  | zero => intro i h1 h2; omega
  | succ n ih =>
    intro i h1 h2 h3
    refine pk_le m i (fun hl => ?_) (fun hl => ?_)
    · have hH : qc_H m a_kind a_p a_q rules (bt x) := fun j hj hb => h3 j (by omega) hb
      rw [qb_p_t hH] at K; exact K
    · refine ek_if (qb_bit1 rules (by omega)) (fun hb => ?_) (fun hb => nm_r (nI_1 i) (ih (i + 1) (by omega) (by omega) ?_))
      · refine qy_isKept (by omega) hx (hv i hl) ?_
        refine br_c (fun h4 => ?_) (fun h4 => nm_r (nI_1 i) (ih (i + 1) (by omega) (by omega) ?_))
        · rw [qb_p_0] at h4
          have hH : ¬ qc_H m a_kind a_p a_q rules (bt x) := fun z => h4 (z i hl hb)
          rw [qb_p_f hH] at K; exact K
        · intro j hj hbj
          by_cases e : j = i
          · subst e
            apply Classical.byContradiction
            intro z
            exact h4 (qb_p_f z)
          · exact h3 j (by omega) hbj
      · intro j hj hbj
        by_cases e : j = i
        · subst e; exact absurd hbj hb
        · exact h3 j (by omega) hbj
theorem qy_areKept {post : Int32 → Prop} {m : Nat} {x rules : Int32} (hm : m ≤ 12) (hx : qb_lt x 8) (hv : qc_Vs m a_kind a_p a_q)
    (K : post (qb_p (qc_H m a_kind a_p a_q rules (bt x)))) : wpY_areKept post (nI m, a_kind, a_p, a_q, a_side, a_tree, a_all) rules x :=
  ⟨m + 1, qy_areKept_2 hm hx hv K (m + 1) 0 (by omega) (by omega) (fun j hj => by omega)⟩
/-- the tree from level w on -/
def qy_T (th : Nat → Bool) (H : (Nat → Bool) → Prop) (tr : Nat → Int32) (w : Nat) : Prop := ∀ k v, w ≤ k → k ≤ 8 → v < 2 ^ k → tr (256 * k + v) = qb_p (qy_W th H k v)
theorem qy_grow_40 {post : SY → Prop} {J : Int32 → (Nat → Int32) → (Nat → Int32) → (Nat → Int32) → (Nat → Int32) → (Nat → Int32) → (Nat → Int32) → Prop} {th : Nat → Bool} {H : (Nat → Bool) → Prop} {k : Nat} (hk : k < 8) (hs : ∀ i, i < 8 → a_side i = qb_i (th i))
    (K : ∀ tr, qy_T th H tr k → J (qx_dn k) a_kind a_p a_q a_side tr a_all) : ∀ (n v : Nat) (tr : Nat → Int32), v ≤ 2 ^ k → 2 ^ k < n + v → qy_T th H tr (k + 1) → (∀ v', v' < v → tr (256 * k + v') = qb_p (qy_W th H k v')) → wY_grow_40 post J (nI k) f_n n (nI v) a_kind a_p a_q a_side tr a_all := by
  have h128 : 2 ^ k ≤ 2 ^ 7 := Nat.pow_le_pow_right (by decide) (by omega)
  intro n
  induction n with
  | zero => intro v tr h1 h2; omega
  | succ n ih =>
    intro v tr hv hf hT hI
    rw [wY_grow_40]
    rw [qs_one_shl k (by omega)]
    refine pk_le (2 ^ k) v (fun e => nm_r (qx_dn_m1 k) (K tr ?_)) (fun e => ?_)
    · intro k' v' h1 h2 h3
      by_cases e1 : k' = k
      · subst e1; exact hI v' (by omega)
      · exact hT k' v' (by omega) h2 h3
    · have i0 : 256 * (nI k + 1) + nI v = nI (256 * (k + 1) + v) := by
        rw [nI_1]
        have : 256 * nI (k + 1) = nI (256 * (k + 1)) := pk_mul 256 (k + 1)
        rw [this, nI_add]
      have hor : nI v ||| nI (2 ^ k) = nI (v + 2 ^ k) := by
        rw [← qs_one_shl k (by omega)]; exact qy_or k hk v e
      have i1 : 256 * (nI k + 1) + (nI v ||| nI (2 ^ k)) = nI (256 * (k + 1) + (v + 2 ^ k)) := by
        rw [hor, nI_1]
        have : 256 * nI (k + 1) = nI (256 * (k + 1)) := pk_mul 256 (k + 1)
        rw [this, nI_add]
      have i2 : 256 * nI k + nI v = nI (256 * k + v) := by
        have : 256 * nI k = nI (256 * k) := pk_mul 256 k
        rw [this, nI_add]
      rw [i0, i1, i2]
      have p2 : 2 ^ (k + 1) = 2 ^ k * 2 := Nat.pow_succ ..
      have t0 := hT (k + 1) v (Nat.le_refl _) (by omega) (by omega)
      have t1 := hT (k + 1) (v + 2 ^ k) (Nat.le_refl _) (by omega) (by omega)
      have inw : vp_in (nI (256 * k + v)) 2304 := vp_in_nI (by omega) (by omega)
      have clw : (nI (256 * k + v)).toNatClampNeg = 256 * k + v := nI_clamp (by omega)
      have hst := qy_W_s (th := th) (H := H) hk e
      have next : ∀ b : Bool, (b = true ↔ qy_W th H k v) → wY_grow_40 post J (nI k) f_n n (nI (v + 1)) a_kind a_p a_q a_side (upd tr (256 * k + v) (qb_i b)) a_all := by
        intro b hb
        apply ih (v + 1) _ (by omega) (by omega)
        · intro k' v' h1 h2 h3
          have : 2 ^ k' ≤ 2 ^ 8 := Nat.pow_le_pow_right (by decide) h2
          rw [pk_un (by omega)]; exact hT k' v' h1 h2 h3
        · intro v' hv'
          by_cases e1 : v' = v
          · subst e1
            rw [pk_us]
            show qb_i b = qb_i _
            rw [qb_i_inj, Bool.eq_iff_iff, qb_dec_iff]; exact hb
          · rw [pk_un (by omega)]; exact hI v' (by omega)
      refine ⟨vp_in_nI (by omega) (by omega), nm_r (e' := qb_p (qy_W th H (k + 1) v)) (by rw [nI_clamp (by omega)]; exact t0) ⟨vp_in_nI (by omega) (by omega), nm_r (e' := qb_p (qy_W th H (k + 1) (v + 2 ^ k))) (by rw [nI_clamp (by omega)]; exact t1) ⟨vp_in_nI (by omega) (by omega), ?_⟩⟩⟩
      rw [nI_clamp (by omega : k < 2 ^ 31), hs k hk, clw]
      cases et : th k with
      | false =>
        rw [et] at hst
        refine br_t rfl (br_c (fun z0 => br_c (fun z1 => ⟨inw, nm_r (e' := upd tr (256 * k + v) (qb_i false)) rfl (nm_r (nI_1 v) (next false ?_))⟩) (fun z1 => ⟨inw, nm_r (e' := upd tr (256 * k + v) (qb_i true)) rfl (nm_r (nI_1 v) (next true ?_))⟩)) (fun z0 => ⟨inw, nm_r (e' := upd tr (256 * k + v) (qb_i true)) rfl (nm_r (nI_1 v) (next true ?_))⟩))
        · rw [qb_p_0] at z0 z1
          exact ⟨fun z => by simp at z, fun z => ((hst.mp z).elim z0 z1).elim⟩
        · rw [qb_p_0] at z1
          exact ⟨fun _ => hst.mpr (Or.inr (Classical.byContradiction z1)), fun _ => rfl⟩
        · rw [qb_p_0] at z0
          exact ⟨fun _ => hst.mpr (Or.inl (Classical.byContradiction z0)), fun _ => rfl⟩
      | true =>
        rw [et] at hst
        refine br_f (by decide) (br_c (fun z0 => ⟨inw, nm_r (e' := upd tr (256 * k + v) (qb_i false)) rfl (nm_r (nI_1 v) (next false ?_))⟩) (fun z0 => br_c (fun z1 => ⟨inw, nm_r (e' := upd tr (256 * k + v) (qb_i false)) rfl (nm_r (nI_1 v) (next false ?_))⟩) (fun z1 => ⟨inw, nm_r (e' := upd tr (256 * k + v) (qb_i true)) rfl (nm_r (nI_1 v) (next true ?_))⟩)))
        · rw [qb_p_0] at z0
          exact ⟨fun z => by simp at z, fun z => (z0 (hst.mp z).1).elim⟩
        · rw [qb_p_0] at z1
          exact ⟨fun z => by simp at z, fun z => (z1 (hst.mp z).2).elim⟩
        · rw [qb_p_0] at z0 z1
          exact ⟨fun _ => hst.mpr ⟨Classical.byContradiction z0, Classical.byContradiction z1⟩, fun _ => rfl⟩
theorem qy_grow_34 {post : SY → Prop} {th : Nat → Bool} {H : (Nat → Bool) → Prop} (hs : ∀ i, i < 8 → a_side i = qb_i (th i))
    (K : ∀ tr, qy_T th H tr 0 → post (f_n, a_kind, a_p, a_q, a_side, tr, a_all)) : ∀ (n w : Nat) (tr : Nat → Int32), w ≤ 8 → w < n → qy_T th H tr w → wY_grow_34 post f_n n (qx_dn w) a_kind a_p a_q a_side tr a_all := by
  intro n
  induction n with
  | zero => intro w tr h1 h2; omega
  | succ n ih =>
    intro w tr hw hf hT
    have hlt0 : qx_dn w < 0 ↔ w ≤ 0 := qx_dn_lt (k := 0) (by omega) (by omega)
    refine ek_if hlt0 (fun e => K tr (by rw [show 0 = w by omega]; exact hT)) (fun e => ?_)
    obtain ⟨k, rfl⟩ : ∃ k, w = k + 1 := ⟨w - 1, by omega⟩
    refine ⟨2 ^ k + 1, qy_grow_40 (k := k) (by omega) hs ?_ (2 ^ k + 1) 0 tr (Nat.zero_le _) (by omega) hT (fun v' hv' => by omega)⟩
    intro tr' hT'
    exact ih k tr' (by omega) (by omega) hT'
theorem qy_grow_2 {post : SY → Prop} {th : Nat → Bool} {m : Nat} {rules : Int32} (hm : m ≤ 12) (hv : qc_Vs m a_kind a_p a_q) (hs : ∀ i, i < 8 → a_side i = qb_i (th i))
    (K : ∀ tr, qy_T th (qc_H m a_kind a_p a_q rules) tr 0 → post (nI m, a_kind, a_p, a_q, a_side, tr, a_all)) : ∀ (n a : Nat) (tr : Nat → Int32), a ≤ 256 → 256 < n + a → (∀ b, b < a → tr (2048 + b) = qb_p (qc_H m a_kind a_p a_q rules (bt (nI b)))) → wY_grow_2 post rules (nI m) n (nI a) a_kind a_p a_q a_side tr a_all := by
  intro n
  induction n with
  | zero => intro a tr h1 h2; omega
  | succ n ih =>
    intro a tr ha hf hI
    refine pk_le 256 a (fun e => ⟨9, ?_⟩) (fun e => ?_)
    · refine qy_grow_34 (th := th) (H := qc_H m a_kind a_p a_q rules) hs K 9 8 tr (by omega) (by omega) ?_
      intro k v h1 h2 h3
      have : k = 8 := by omega
      subst this
      exact hI v (by omega)
    · refine qy_areKept hm (qb_lt_nI (by omega)) hv ?_
      have i0 : 2048 + nI a = nI (2048 + a) := nI_add 2048 a
      rw [i0]
      refine ⟨vp_in_nI (by omega) (by omega), nm_r (e' := upd tr (2048 + a) (qb_p (qc_H m a_kind a_p a_q rules (bt (nI a))))) (by rw [nI_clamp (by omega), qb_p_vp]) (nm_r (nI_1 a) (ih (a + 1) _ (by omega) (by omega) ?_))⟩
      intro b hb
      by_cases e1 : b = a
      · subst e1; exact pk_us
      · rw [pk_un (by omega)]; exact hI b (by omega)
theorem qy_grow {post : SY → Prop} {th : Nat → Bool} {m : Nat} {rules : Int32} (hm : m ≤ 12) (hv : qc_Vs m a_kind a_p a_q) (hs : ∀ i, i < 8 → a_side i = qb_i (th i))
    (K : ∀ tr, qy_T th (qc_H m a_kind a_p a_q rules) tr 0 → post (nI m, a_kind, a_p, a_q, a_side, tr, a_all)) : wpY_grow post (nI m, a_kind, a_p, a_q, a_side, a_tree, a_all) rules :=
  ⟨257, qy_grow_2 hm hv hs K 257 0 a_tree (by omega) (by omega) (fun b hb => by omega)⟩
/-- all rules, as a set -/
def qy_all (m : Nat) : Int32 := ((1 : Int32) <<< (nI m &&& 31)) - 1
theorem qy_growAll {post : SY → Prop} {th : Nat → Bool} {m : Nat} (hm : m ≤ 12) (hv : qc_Vs m a_kind a_p a_q) (hs : ∀ i, i < 8 → a_side i = qb_i (th i))
    (K : ∀ tr, qy_T th (qc_H m a_kind a_p a_q (qy_all m)) tr 0 → post (nI m, a_kind, a_p, a_q, a_side, tr, a_all)) : wpY_growAll post (nI m, a_kind, a_p, a_q, a_side, a_tree, a_all) := by
  unfold wpY_growAll
  dsimp only
  exact qy_grow (th := th) (rules := qy_all m) hm hv hs K
theorem qy_all_bit {m i : Nat} (hm : m ≤ 12) : bt (qy_all m) i = decide (i < m) := qb_mask_bit (by omega)
theorem qy_all_lt {m : Nat} (hm : m ≤ 12) : qb_lt (qy_all m) 12 := fun i hi => by rw [qy_all_bit hm, decide_eq_false (by omega)]
theorem qy_lt_ne {r : Int32} (h : qb_lt r 12) : r ≠ -1 := by
  intro e
  have := h 12 (Nat.le_refl 12)
  rw [e, b_m1 12 (by omega)] at this
  exact absurd this (by decide)
end
end
section
/-! what is kept between calls; the three ways -/
def qx_Ca (M : Nat) (kd p q : Nat → Int32) (co cc tf mf ms df dr nc : Int32) (cl mm nv lo hi nx lf rk rn : Nat → Int32) (tb : Nat → Int64) : Prop :=
  qc_Cache M kd p q co cc cl ∧ qt_TC M kd p q tf tb ∧ qs_MC M kd p q mf ms mm ∧ qd_DC M kd p q df dr nc nv lo hi nx lf rk rn
section
variable {f_theirs f_ruleCount f_wayNow f_clausesOf f_clauseCount f_tableFor f_memoFor f_memoSide f_depth f_known f_ones f_diagramFor f_diagramRoot f_nodeCount f_leftCount f_madeCount : Int32} {a_kindOf a_setP a_setQ a_clauses a_memo a_choiceOf a_secondTry a_knownBefore a_onesBefore a_nodeVariable a_nodeLow a_nodeHigh a_nodeNext a_listFirst a_recentKey a_recentNode a_workF a_workG a_workPhase a_workLow a_nodeValue a_left a_made : Nat → Int32} {a_table a_onesOfVariable a_tableBefore : Nat → Int64}
theorem qx_isWon {post : Int32 → SX → Prop} {M k v : Nat} {rules : Int32} (hM : M ≤ 12) (hV : qc_Vs M a_kindOf a_setP a_setQ) (hr : qb_lt rules 12) (hC : qx_Ca M a_kindOf a_setP a_setQ f_clausesOf f_clauseCount f_tableFor f_memoFor f_memoSide f_diagramFor f_diagramRoot f_nodeCount a_clauses a_memo a_nodeVariable a_nodeLow a_nodeHigh a_nodeNext a_listFirst a_recentKey a_recentNode a_table) (hk : k ≤ 8) (hv : v < 2 ^ k)
    (K : ∀ (f_clausesOf' f_clauseCount' f_tableFor' f_memoFor' f_memoSide' f_depth' f_known' f_ones' f_diagramFor' f_diagramRoot' f_nodeCount' f_leftCount' f_madeCount' : Int32) (a_clauses' : Nat → Int32) (a_table' : Nat → Int64) (a_memo' a_choiceOf' a_secondTry' a_knownBefore' a_onesBefore' a_nodeVariable' a_nodeLow' a_nodeHigh' a_nodeNext' a_listFirst' a_recentKey' a_recentNode' a_workF' a_workG' a_workPhase' a_workLow' a_nodeValue' a_left' a_made' : Nat → Int32) (a_onesOfVariable' a_tableBefore' : Nat → Int64), qx_Ca M a_kindOf a_setP a_setQ f_clausesOf' f_clauseCount' f_tableFor' f_memoFor' f_memoSide' f_diagramFor' f_diagramRoot' f_nodeCount' a_clauses' a_memo' a_nodeVariable' a_nodeLow' a_nodeHigh' a_nodeNext' a_listFirst' a_recentKey' a_recentNode' a_table' → post (qb_p (qy_W (bt f_theirs) (qc_H M a_kindOf a_setP a_setQ rules) k v)) (f_theirs, nI M, f_wayNow, f_clausesOf', f_clauseCount', f_tableFor', f_memoFor', f_memoSide', f_depth', f_known', f_ones', f_diagramFor', f_diagramRoot', f_nodeCount', f_leftCount', f_madeCount', a_kindOf, a_setP, a_setQ, a_clauses', a_table', a_memo', a_choiceOf', a_secondTry', a_knownBefore', a_onesBefore', a_nodeVariable', a_nodeLow', a_nodeHigh', a_nodeNext', a_listFirst', a_recentKey', a_recentNode', a_workF', a_workG', a_workPhase', a_workLow', a_nodeValue', a_left', a_made', a_onesOfVariable', a_tableBefore')) :
    wpX_isWon post (f_theirs, nI M, f_wayNow, f_clausesOf, f_clauseCount, f_tableFor, f_memoFor, f_memoSide, f_depth, f_known, f_ones, f_diagramFor, f_diagramRoot, f_nodeCount, f_leftCount, f_madeCount, a_kindOf, a_setP, a_setQ, a_clauses, a_table, a_memo, a_choiceOf, a_secondTry, a_knownBefore, a_onesBefore, a_nodeVariable, a_nodeLow, a_nodeHigh, a_nodeNext, a_listFirst, a_recentKey, a_recentNode, a_workF, a_workG, a_workPhase, a_workLow, a_nodeValue, a_left, a_made, a_onesOfVariable, a_tableBefore) rules (nI k) (nI v) := by
  obtain ⟨h1, h2, h3, h4⟩ := hC
  have hr' := qy_lt_ne hr
  refine br_c (fun e => ?_) (fun e => br_c (fun e' => ?_) (fun e' => ?_))
  · refine qx_wonBySearch hM hV hr' h1 hk hv h3 ?_
    intro co cc cl dp kn on ch st kb ob mm hc hm
    exact ⟨qb_p_nb _, K _ _ _ _ _ _ _ _ _ _ _ _ _ _ _ _ _ _ _ _ _ _ _ _ _ _ _ _ _ _ _ _ _ _ _ _ ⟨hc, h2, Or.inr hm, h4⟩⟩
  · refine qx_wonByDiagram hM hV hr' h1 h4 hk ?_
    intro co cc dr nc cl b1 b2 b3 b4 b5 b6 b7 c1 c2 c3 c4 nvl hc hd
    exact ⟨qb_p_nb _, K _ _ _ _ _ _ _ _ _ _ _ _ _ _ _ _ _ _ _ _ _ _ _ _ _ _ _ _ _ _ _ _ _ _ _ _ ⟨hc, h2, h3, Or.inr hd⟩⟩
  · refine qx_wonByResolving hM hV hr' h1 hk hv ?_
    intro m' cl' lc mc l md hok
    exact ⟨qb_p_nb _, K _ _ _ _ _ _ _ _ _ _ _ _ _ _ _ _ _ _ _ _ _ _ _ _ _ _ _ _ _ _ _ _ _ _ _ _ ⟨Or.inr ⟨m', rfl, hok⟩, h2, h3, h4⟩⟩
theorem qx_isStart {post : Int32 → Prop} {x y : Int32} (K0 : ¬ (∃ k v, x = nI k ∧ y = nI v ∧ k ≤ 8 ∧ v < 2 ^ k) → post 0) (K1 : ∀ k v, x = nI k → y = nI v → k ≤ 8 → v < 2 ^ k → post 1) : wpX_isStart post (f_theirs, f_ruleCount, f_wayNow, f_clausesOf, f_clauseCount, f_tableFor, f_memoFor, f_memoSide, f_depth, f_known, f_ones, f_diagramFor, f_diagramRoot, f_nodeCount, f_leftCount, f_madeCount, a_kindOf, a_setP, a_setQ, a_clauses, a_table, a_memo, a_choiceOf, a_secondTry, a_knownBefore, a_onesBefore, a_nodeVariable, a_nodeLow, a_nodeHigh, a_nodeNext, a_listFirst, a_recentKey, a_recentNode, a_workF, a_workG, a_workPhase, a_workLow, a_nodeValue, a_left, a_made, a_onesOfVariable, a_tableBefore) x y := by
  have no : ∀ {P : Prop}, (∀ k v, x = nI k → y = nI v → k ≤ 8 → v < 2 ^ k → False) → (¬ (∃ k v, x = nI k ∧ y = nI v ∧ k ≤ 8 ∧ v < 2 ^ k) → P) → P := fun h g => g (fun ⟨k, v, a, b, c, d⟩ => h k v a b c d)
  have p8 : ∀ k, k ≤ 8 → 2 ^ k ≤ 2 ^ 8 := fun k hk => Nat.pow_le_pow_right (by decide) hk
  refine br_c (fun h => no (fun k v a b c d => ?_) K0) (fun h => br_c (fun h' => no (fun k v a b c d => ?_) K0) (fun h' => br_c (fun h'' => no (fun k v a b c d => ?_) K0) (fun h'' => ?_)))
  · rw [a] at h; exact nI_pos (by omega) h
  · rw [a] at h'
    exact nI_nlt (a := 8) (b := k) c (by omega) h'
  · rw [b] at h''
    have := p8 k c
    exact nI_pos (by omega) h''
  · obtain ⟨k, hk, ek⟩ := nI_of2 (x := x) (M := 8) (n := 8) (by decide) h (Int32.not_lt.mp h')
    obtain ⟨v, hv, ev⟩ := nI_of h''
    have := p8 k hk
    subst ek ev
    rw [qs_one_shl k (by omega)]
    refine pk_le (2 ^ k) v (fun e => no (fun k' v' a b c d => ?_) K0) (fun e => K1 k v rfl rfl hk e)
    rw [nI_eq (by omega) (by omega)] at a
    subst a
    have := p8 k c
    rw [nI_eq (by omega) (by omega)] at b
    omega
/-! one move -/
noncomputable def qy_B (th : Nat → Bool) (H : (Nat → Bool) → Prop) (k v : Nat) : Int32 :=
  if qb_dec (qy_W th H (k + 1) v) = !th k then 0 else if qb_dec (qy_W th H (k + 1) (v + 2 ^ k)) = !th k then 1 else -3
theorem qx_move {post : Int32 → SX → Prop} {M k v : Nat} (hM : M ≤ 12) (hV : qc_Vs M a_kindOf a_setP a_setQ) (hC : qx_Ca M a_kindOf a_setP a_setQ f_clausesOf f_clauseCount f_tableFor f_memoFor f_memoSide f_diagramFor f_diagramRoot f_nodeCount a_clauses a_memo a_nodeVariable a_nodeLow a_nodeHigh a_nodeNext a_listFirst a_recentKey a_recentNode a_table) (hk : k < 8) (hv : v < 2 ^ k)
    (K : ∀ (f_clausesOf' f_clauseCount' f_tableFor' f_memoFor' f_memoSide' f_depth' f_known' f_ones' f_diagramFor' f_diagramRoot' f_nodeCount' f_leftCount' f_madeCount' : Int32) (a_clauses' : Nat → Int32) (a_table' : Nat → Int64) (a_memo' a_choiceOf' a_secondTry' a_knownBefore' a_onesBefore' a_nodeVariable' a_nodeLow' a_nodeHigh' a_nodeNext' a_listFirst' a_recentKey' a_recentNode' a_workF' a_workG' a_workPhase' a_workLow' a_nodeValue' a_left' a_made' : Nat → Int32) (a_onesOfVariable' a_tableBefore' : Nat → Int64), qx_Ca M a_kindOf a_setP a_setQ f_clausesOf' f_clauseCount' f_tableFor' f_memoFor' f_memoSide' f_diagramFor' f_diagramRoot' f_nodeCount' a_clauses' a_memo' a_nodeVariable' a_nodeLow' a_nodeHigh' a_nodeNext' a_listFirst' a_recentKey' a_recentNode' a_table' → post (qy_B (bt f_theirs) (qc_H M a_kindOf a_setP a_setQ (qy_all M)) k v) (f_theirs, nI M, f_wayNow, f_clausesOf', f_clauseCount', f_tableFor', f_memoFor', f_memoSide', f_depth', f_known', f_ones', f_diagramFor', f_diagramRoot', f_nodeCount', f_leftCount', f_madeCount', a_kindOf, a_setP, a_setQ, a_clauses', a_table', a_memo', a_choiceOf', a_secondTry', a_knownBefore', a_onesBefore', a_nodeVariable', a_nodeLow', a_nodeHigh', a_nodeNext', a_listFirst', a_recentKey', a_recentNode', a_workF', a_workG', a_workPhase', a_workLow', a_nodeValue', a_left', a_made', a_onesOfVariable', a_tableBefore')) :
    wpX_move post (f_theirs, nI M, f_wayNow, f_clausesOf, f_clauseCount, f_tableFor, f_memoFor, f_memoSide, f_depth, f_known, f_ones, f_diagramFor, f_diagramRoot, f_nodeCount, f_leftCount, f_madeCount, a_kindOf, a_setP, a_setQ, a_clauses, a_table, a_memo, a_choiceOf, a_secondTry, a_knownBefore, a_onesBefore, a_nodeVariable, a_nodeLow, a_nodeHigh, a_nodeNext, a_listFirst, a_recentKey, a_recentNode, a_workF, a_workG, a_workPhase, a_workLow, a_nodeValue, a_left, a_made, a_onesOfVariable, a_tableBefore) (nI k) (nI v) := by
  have p8 : 2 ^ k ≤ 2 ^ 7 := Nat.pow_le_pow_right (by decide) (by omega)
  have p2 : 2 ^ (k + 1) = 2 ^ k * 2 := Nat.pow_succ ..
  refine br_f (nI_pos (by omega)) (br_f (nI_nlt (a := 7) (b := k) (by omega) (by omega)) ?_)
  refine qx_isStart (fun h => absurd ⟨k, v, rfl, rfl, by omega, hv⟩ h) ?_
  intro k' v' a b _ _
  refine br_f (by decide) ?_
  have go : ∀ o : Bool, o = !bt f_theirs k → ∃ n47, wX_move_47 post (nI k) (nI v) (qy_all M) (qb_i o) n47 0 f_theirs (nI M) f_wayNow f_clausesOf f_clauseCount f_tableFor f_memoFor f_memoSide f_depth f_known f_ones f_diagramFor f_diagramRoot f_nodeCount f_leftCount f_madeCount a_kindOf a_setP a_setQ a_clauses a_table a_memo a_choiceOf a_secondTry a_knownBefore a_onesBefore a_nodeVariable a_nodeLow a_nodeHigh a_nodeNext a_listFirst a_recentKey a_recentNode a_workF a_workG a_workPhase a_workLow a_nodeValue a_left a_made a_onesOfVariable a_tableBefore := by
    intro o ho
    refine ⟨3, ?_⟩
    have z0 : nI v ||| ((0 : Int32) <<< (nI k &&& 31)) = nI v := by
      have h1 : (0 : Int32) <<< (nI k &&& 31) = nI (0 * 2 ^ k) := pk_shlN (n := 0) _ k (s_l k (by omega)) (by omega)
      rw [h1, Nat.zero_mul]
      apply b_ext
      intro i _
      rw [b_or, show nI 0 = 0 from rfl, b_0, Bool.or_false]
    refine br_f (by decide) ?_
    show wpX_isWon _ _ _ (nI k + 1) (nI v ||| ((0 : Int32) <<< (nI k &&& 31)))
    rw [z0, nI_1 k]
    refine qx_isWon hM hV (qy_all_lt hM) hC (by omega) (by omega) ?_
    intro f_clausesOf' f_clauseCount' f_tableFor' f_memoFor' f_memoSide' f_depth' f_known' f_ones' f_diagramFor' f_diagramRoot' f_nodeCount' f_leftCount' f_madeCount' a_clauses' a_table' a_memo' a_choiceOf' a_secondTry' a_knownBefore' a_onesBefore' a_nodeVariable' a_nodeLow' a_nodeHigh' a_nodeNext' a_listFirst' a_recentKey' a_recentNode' a_workF' a_workG' a_workPhase' a_workLow' a_nodeValue' a_left' a_made' a_onesOfVariable' a_tableBefore' hC'
    refine br_c (fun e => ?_) (fun e => nm_r (e' := nI 1) (by decide) (br_f (by decide) ?_))
    · have : qy_B (bt f_theirs) (qc_H M a_kindOf a_setP a_setQ (qy_all M)) k v = 0 := by
        unfold qy_B
        rw [if_pos]
        rw [← ho]; exact qb_i_inj.mp e
      have K' := K f_clausesOf' f_clauseCount' f_tableFor' f_memoFor' f_memoSide' f_depth' f_known' f_ones' f_diagramFor' f_diagramRoot' f_nodeCount' f_leftCount' f_madeCount' a_clauses' a_table' a_memo' a_choiceOf' a_secondTry' a_knownBefore' a_onesBefore' a_nodeVariable' a_nodeLow' a_nodeHigh' a_nodeNext' a_listFirst' a_recentKey' a_recentNode' a_workF' a_workG' a_workPhase' a_workLow' a_nodeValue' a_left' a_made' a_onesOfVariable' a_tableBefore' hC'
      rw [this] at K'; exact K'
    · show wpX_isWon _ _ _ (nI k + 1) (nI v ||| ((1 : Int32) <<< (nI k &&& 31)))
      rw [qy_or k hk v hv, nI_1 k]
      refine qx_isWon hM hV (qy_all_lt hM) hC' (by omega) (by omega) ?_
      intro f_clausesOf'' f_clauseCount'' f_tableFor'' f_memoFor'' f_memoSide'' f_depth'' f_known'' f_ones'' f_diagramFor'' f_diagramRoot'' f_nodeCount'' f_leftCount'' f_madeCount'' a_clauses'' a_table'' a_memo'' a_choiceOf'' a_secondTry'' a_knownBefore'' a_onesBefore'' a_nodeVariable'' a_nodeLow'' a_nodeHigh'' a_nodeNext'' a_listFirst'' a_recentKey'' a_recentNode'' a_workF'' a_workG'' a_workPhase'' a_workLow'' a_nodeValue'' a_left'' a_made'' a_onesOfVariable'' a_tableBefore'' hC''
      have hne : ¬ qb_dec (qy_W (bt f_theirs) (qc_H M a_kindOf a_setP a_setQ (qy_all M)) (k + 1) v) = !bt f_theirs k := by
        intro z
        apply e
        rw [ho, ← z]; rfl
      refine br_c (fun e2 => ?_) (fun e2 => nm_r (e' := nI 2) (by decide) (br_t (by decide) ?_))
      · have : qy_B (bt f_theirs) (qc_H M a_kindOf a_setP a_setQ (qy_all M)) k v = 1 := by
          unfold qy_B
          rw [if_neg hne, if_pos]
          rw [← ho]; exact qb_i_inj.mp e2
        have K' := K f_clausesOf'' f_clauseCount'' f_tableFor'' f_memoFor'' f_memoSide'' f_depth'' f_known'' f_ones'' f_diagramFor'' f_diagramRoot'' f_nodeCount'' f_leftCount'' f_madeCount'' a_clauses'' a_table'' a_memo'' a_choiceOf'' a_secondTry'' a_knownBefore'' a_onesBefore'' a_nodeVariable'' a_nodeLow'' a_nodeHigh'' a_nodeNext'' a_listFirst'' a_recentKey'' a_recentNode'' a_workF'' a_workG'' a_workPhase'' a_workLow'' a_nodeValue'' a_left'' a_made'' a_onesOfVariable'' a_tableBefore'' hC''
        rw [this] at K'; exact K'
      · have : qy_B (bt f_theirs) (qc_H M a_kindOf a_setP a_setQ (qy_all M)) k v = -3 := by
          unfold qy_B
          rw [if_neg hne, if_neg]
          intro z
          apply e2
          rw [ho, ← z]; rfl
        have K' := K f_clausesOf'' f_clauseCount'' f_tableFor'' f_memoFor'' f_memoSide'' f_depth'' f_known'' f_ones'' f_diagramFor'' f_diagramRoot'' f_nodeCount'' f_leftCount'' f_madeCount'' a_clauses'' a_table'' a_memo'' a_choiceOf'' a_secondTry'' a_knownBefore'' a_onesBefore'' a_nodeVariable'' a_nodeLow'' a_nodeHigh'' a_nodeNext'' a_listFirst'' a_recentKey'' a_recentNode'' a_workF'' a_workG'' a_workPhase'' a_workLow'' a_nodeValue'' a_left'' a_made'' a_onesOfVariable'' a_tableBefore'' hC''
        rw [this] at K'; exact K'
  exact ek_if (qb_bit0 f_theirs (by omega)) (fun h => go true (by rw [h]; rfl)) (fun h => go false (by rw [ts_nf h]; rfl))
end
end
section
/-! the answers of the component, against the pure picture -/
noncomputable def qy_Cnt (H : (Nat → Bool) → Prop) : Int32 := nI (qn_cnt (fun a => qb_dec (H (fun i => a.testBit i))) 256)
theorem qy_Cnt_C {H : (Nat → Bool) → Prop} (hd : qg_Dep 8 H) {s : Nat → Bool} : nI (qg_C H 8 0 s) = qy_Cnt H := by
  unfold qy_Cnt
  rw [← qg_C_cnt (P := H) (d := 8) (k := 0) (s := s) hd]
  have : ∀ a, qg_at s 0 a = fun i => a.testBit i := by
    intro a
    funext i
    unfold qg_at
    rw [if_neg (by omega), Nat.sub_zero]
  simp only [this]
/-- sets of bits, one after the other -/
def qy_acc (f : Nat → Bool) (v : Nat) (x : Int32) : Prop := ∀ i, bt x i = (decide (i < v) && f i)
theorem qy_acc_0 {f : Nat → Bool} : qy_acc f 0 0 := fun i => by rw [b_0, decide_eq_false (by omega), Bool.false_and]
theorem qy_acc_t {f : Nat → Bool} {v : Nat} {x : Int32} (hv : v < 32) (h : qy_acc f v x) (hf : f v = true) : qy_acc f (v + 1) (x ||| ((1 : Int32) <<< (nI v &&& 31))) := by
  intro i
  rw [b_or, h i, qb_one hv]
  by_cases e : i = v
  · subst e; rw [hf, decide_eq_true rfl, decide_eq_true (Nat.lt_succ_self i)]; simp
  · rw [decide_eq_false e, Bool.or_false]
    by_cases e2 : i < v
    · rw [decide_eq_true e2, decide_eq_true (by omega)]
    · rw [decide_eq_false e2, decide_eq_false (by omega)]
theorem qy_acc_f {f : Nat → Bool} {v : Nat} {x : Int32} (h : qy_acc f v x) (hf : f v = false) : qy_acc f (v + 1) x := by
  intro i
  rw [h i]
  by_cases e : i = v
  · subst e; rw [hf, Bool.and_false, Bool.and_false]
  · by_cases e2 : i < v
    · rw [decide_eq_true e2, decide_eq_true (by omega)]
    · rw [decide_eq_false e2, decide_eq_false (by omega)]
theorem qy_acc_e {f : Nat → Bool} {n : Nat} {x : Int32} (hn : n ≤ 31) (h : qy_acc f n x) : x = nI (qn_num f n) := by
  apply b_ext
  intro i _
  have h1 := qn_num_lt n f
  have h2 : 2 ^ n ≤ 2 ^ 31 := Nat.pow_le_pow_right (by decide) hn
  rw [h i, qb_nIs (by omega), qn_num_testBit]
noncomputable def qy_Idl (H : (Nat → Bool) → Prop) : Int32 := nI (qn_num (fun v => qb_dec (qt_Idle H v)) 8)
theorem qt_idle_iff {H : (Nat → Bool) → Prop} (hd : qg_Dep 8 H) {v : Nat} (hv : v < 8) : qt_Idle H v ↔ ∀ a, a < 256 → (H (fun i => a.testBit i) ↔ H (fun i => (a ^^^ 2 ^ v).testBit i)) := by
  have fl : ∀ a : Nat, (fun i => (a ^^^ 2 ^ v).testBit i) = qg_up (fun i => a.testBit i) v (!a.testBit v) := by
    intro a
    funext i
    rw [Nat.testBit_xor, Nat.testBit_two_pow]
    by_cases e : i = v
    · subst e; rw [qg_up_s, decide_eq_true rfl, Bool.xor_true]
    · rw [qg_up_n e, decide_eq_false (fun z => e z.symm), Bool.xor_false]
  constructor
  · intro h a _
    rw [fl a]
    have h1 := h (fun i => a.testBit i)
    cases e : a.testBit v with
    | false =>
      rw [qg_up_self (b := false) e] at h1
      exact h1
    | true =>
      rw [qg_up_self (b := true) e] at h1
      exact h1.symm
  · intro h s
    have h1 := h (qn_num (qg_up s v false) 8) (qn_num_lt 8 _)
    rw [fl, qn_num_bit 8 _ v hv, qg_up_s] at h1
    have a0 : H (fun i => (qn_num (qg_up s v false) 8).testBit i) ↔ H (qg_up s v false) := hd _ _ (fun i hi => qn_num_bit 8 _ i hi)
    have a1 : H (qg_up (fun i => (qn_num (qg_up s v false) 8).testBit i) v (!false)) ↔ H (qg_up s v true) := by
      apply hd
      intro i hi
      by_cases e : i = v
      · subst e; rw [qg_up_s, qg_up_s]; rfl
      · rw [qg_up_n e, qg_up_n e, qn_num_bit 8 _ i hi, qg_up_n e]
    exact a0.symm.trans (h1.trans a1)
theorem qt_xlt {a v : Nat} (ha : a < 256) (hv : v < 8) : a ^^^ 2 ^ v < 256 := by
  have : 2 ^ v < 2 ^ 8 := Nat.pow_lt_pow_right (by decide) hv
  exact Nat.xor_lt_two_pow (n := 8) ha this
theorem qt_xorI {a v : Nat} (hv : v < 8) : nI a ^^^ ((1 : Int32) <<< (nI v &&& 31)) = nI (a ^^^ 2 ^ v) := by rw [qs_one_shl v (by omega), nx_xor]
section
variable {f_theirs f_ruleCount f_wayNow f_clausesOf f_clauseCount f_tableFor f_memoFor f_memoSide f_depth f_known f_ones f_diagramFor f_diagramRoot f_nodeCount f_leftCount f_madeCount : Int32} {a_kindOf a_setP a_setQ a_clauses a_memo a_choiceOf a_secondTry a_knownBefore a_onesBefore a_nodeVariable a_nodeLow a_nodeHigh a_nodeNext a_listFirst a_recentKey a_recentNode a_workF a_workG a_workPhase a_workLow a_nodeValue a_left a_made : Nat → Int32} {a_table a_onesOfVariable a_tableBefore : Nat → Int64}
theorem qx_count {post : Int32 → SX → Prop} {M : Nat} (hM : M ≤ 12) (hV : qc_Vs M a_kindOf a_setP a_setQ) (hC : qx_Ca M a_kindOf a_setP a_setQ f_clausesOf f_clauseCount f_tableFor f_memoFor f_memoSide f_diagramFor f_diagramRoot f_nodeCount a_clauses a_memo a_nodeVariable a_nodeLow a_nodeHigh a_nodeNext a_listFirst a_recentKey a_recentNode a_table)
    (K : ∀ (f_clausesOf' f_clauseCount' f_tableFor' f_memoFor' f_memoSide' f_depth' f_known' f_ones' f_diagramFor' f_diagramRoot' f_nodeCount' f_leftCount' f_madeCount' : Int32) (a_clauses' : Nat → Int32) (a_table' : Nat → Int64) (a_memo' a_choiceOf' a_secondTry' a_knownBefore' a_onesBefore' a_nodeVariable' a_nodeLow' a_nodeHigh' a_nodeNext' a_listFirst' a_recentKey' a_recentNode' a_workF' a_workG' a_workPhase' a_workLow' a_nodeValue' a_left' a_made' : Nat → Int32) (a_onesOfVariable' a_tableBefore' : Nat → Int64), qx_Ca M a_kindOf a_setP a_setQ f_clausesOf' f_clauseCount' f_tableFor' f_memoFor' f_memoSide' f_diagramFor' f_diagramRoot' f_nodeCount' a_clauses' a_memo' a_nodeVariable' a_nodeLow' a_nodeHigh' a_nodeNext' a_listFirst' a_recentKey' a_recentNode' a_table' → post (qy_Cnt (qc_H M a_kindOf a_setP a_setQ (qy_all M))) (f_theirs, nI M, f_wayNow, f_clausesOf', f_clauseCount', f_tableFor', f_memoFor', f_memoSide', f_depth', f_known', f_ones', f_diagramFor', f_diagramRoot', f_nodeCount', f_leftCount', f_madeCount', a_kindOf, a_setP, a_setQ, a_clauses', a_table', a_memo', a_choiceOf', a_secondTry', a_knownBefore', a_onesBefore', a_nodeVariable', a_nodeLow', a_nodeHigh', a_nodeNext', a_listFirst', a_recentKey', a_recentNode', a_workF', a_workG', a_workPhase', a_workLow', a_nodeValue', a_left', a_made', a_onesOfVariable', a_tableBefore')) : wpX_count post (f_theirs, nI M, f_wayNow, f_clausesOf, f_clauseCount, f_tableFor, f_memoFor, f_memoSide, f_depth, f_known, f_ones, f_diagramFor, f_diagramRoot, f_nodeCount, f_leftCount, f_madeCount, a_kindOf, a_setP, a_setQ, a_clauses, a_table, a_memo, a_choiceOf, a_secondTry, a_knownBefore, a_onesBefore, a_nodeVariable, a_nodeLow, a_nodeHigh, a_nodeNext, a_listFirst, a_recentKey, a_recentNode, a_workF, a_workG, a_workPhase, a_workLow, a_nodeValue, a_left, a_made, a_onesOfVariable, a_tableBefore) := by
  obtain ⟨h1, h2, h3, h4⟩ := hC
  have hr := qy_lt_ne (qy_all_lt hM)
  refine br_c (fun e => ?_) (fun e => br_c (fun e' => ?_) (fun e' => ?_))
  · refine qx_buildDiagram (rules := qy_all M) hM hV hr h1 h4 ?_
    intro co cc cl root N g b1 b2 b3 b4 b5 b6 b7 c1 c2 c3 c4 nvl hc ok hN hroot hD
    refine qx_countDiagram ok hN hroot ?_
    intro nvl'
    rw [qg_C_on (P' := qc_H M a_kindOf a_setP a_setQ (qy_all M)) (fun t _ => hD t), qy_Cnt_C qc_H_dep]
    exact K _ _ _ _ _ _ _ _ _ _ _ _ _ _ _ _ _ _ _ _ _ _ _ _ _ _ _ _ _ _ _ _ _ _ _ _ ⟨hc, h2, h3, Or.inr ⟨N, g, root, rfl, hN, ok, rfl, hroot, hD⟩⟩
  · refine qx_countBySearch (rules := qy_all M) hM hV hr h1 ?_
    intro m' cl' dp kn on ch st kb ob hok
    rw [qy_Cnt_C qc_H_dep]
    exact K _ _ _ _ _ _ _ _ _ _ _ _ _ _ _ _ _ _ _ _ _ _ _ _ _ _ _ _ _ _ _ _ _ _ _ _ ⟨Or.inr ⟨m', rfl, hok⟩, h2, h3, h4⟩
  · refine qx_buildTable (rules := qy_all M) hM hV hr h1 h2 ?_
    intro co cc cl tb ov hc ht
    exact ⟨5, qx_count_45 ht (K _ _ _ _ _ _ _ _ _ _ _ _ _ _ _ _ _ _ _ _ _ _ _ _ _ _ _ _ _ _ _ _ _ _ _ _ ⟨hc, Or.inr ht, h3, h4⟩) 5 0 (by omega) (by omega)⟩
theorem qx_isIdle_2 {post : Int32 → Prop} {v : Nat} {H : (Nat → Bool) → Prop} (hd : qg_Dep 8 H) (hv : v < 8) (hT : qt_T H a_table) (K : post (qb_p (qt_Idle H v))) :
    ∀ (n a : Nat), a ≤ 256 → 256 < n + a → (∀ b, b < a → (H (fun i => b.testBit i) ↔ H (fun i => (b ^^^ 2 ^ v).testBit i))) → wX_isIdle_2 post (nI v) f_theirs f_ruleCount f_wayNow f_clausesOf f_clauseCount f_tableFor f_memoFor f_memoSide f_depth f_known f_ones f_diagramFor f_diagramRoot f_nodeCount f_leftCount f_madeCount a_kindOf a_setP a_setQ a_clauses a_table a_memo a_choiceOf a_secondTry a_knownBefore a_onesBefore a_nodeVariable a_nodeLow a_nodeHigh a_nodeNext a_listFirst a_recentKey a_recentNode a_workF a_workG a_workPhase a_workLow a_nodeValue a_left a_made a_onesOfVariable a_tableBefore n (nI a) := by
  intro n
  induction n with
  | zero => intro a h1 h2; omega
  | succ n ih =>
    intro a ha hf hI
    refine pk_le 256 a (fun e => ?_) (fun e => ?_)
    · have : qt_Idle H v := (qt_idle_iff hd hv).mpr (fun b hb => hI b (by omega))
      rw [qb_p_t this] at K; exact K
    · refine qx_holdsInTable e hT ?_
      rw [qt_xorI hv]
      refine qx_holdsInTable (qt_xlt e hv) hT ?_
      refine br_c (fun z => nm_r (nI_1 a) (ih (a + 1) (by omega) (by omega) ?_)) (fun z => ?_)
      · intro b hb
        by_cases e1 : b = a
        · subst e1
          have := qb_i_inj.mp z
          rw [Bool.eq_iff_iff, qb_dec_iff, qb_dec_iff] at this
          exact this
        · exact hI b (by omega)
      · have : ¬ qt_Idle H v := by
          intro y
          apply z
          exact qb_p_congr ((qt_idle_iff hd hv).mp y a e)
        rw [qb_p_f this] at K; exact K
theorem qx_idle_38 {post : Int32 → SX → Prop} {H : (Nat → Bool) → Prop} (hd : qg_Dep 8 H) (hT : qt_T H a_table) (K : post (qy_Idl H) (f_theirs, f_ruleCount, f_wayNow, f_clausesOf, f_clauseCount, f_tableFor, f_memoFor, f_memoSide, f_depth, f_known, f_ones, f_diagramFor, f_diagramRoot, f_nodeCount, f_leftCount, f_madeCount, a_kindOf, a_setP, a_setQ, a_clauses, a_table, a_memo, a_choiceOf, a_secondTry, a_knownBefore, a_onesBefore, a_nodeVariable, a_nodeLow, a_nodeHigh, a_nodeNext, a_listFirst, a_recentKey, a_recentNode, a_workF, a_workG, a_workPhase, a_workLow, a_nodeValue, a_left, a_made, a_onesOfVariable, a_tableBefore)) :
    ∀ (n v : Nat) (x : Int32), v ≤ 8 → 8 < n + v → qy_acc (fun v => qb_dec (qt_Idle H v)) v x → wX_idle_38 post f_theirs f_ruleCount f_wayNow f_clausesOf f_clauseCount f_tableFor f_memoFor f_memoSide f_depth f_known f_ones f_diagramFor f_diagramRoot f_nodeCount f_leftCount f_madeCount a_kindOf a_setP a_setQ a_clauses a_table a_memo a_choiceOf a_secondTry a_knownBefore a_onesBefore a_nodeVariable a_nodeLow a_nodeHigh a_nodeNext a_listFirst a_recentKey a_recentNode a_workF a_workG a_workPhase a_workLow a_nodeValue a_left a_made a_onesOfVariable a_tableBefore n x (nI v) := by
  intro n
  induction n with
  | zero => intro v x h1 h2; omega
  | succ n ih =>
    intro v x hv hf hI
    refine pk_le 8 v (fun e => ?_) (fun e => ⟨257, qx_isIdle_2 hd e hT ?_ 257 0 (by omega) (by omega) (fun b hb => by omega)⟩)
    · have ev : v = 8 := by omega
      subst ev
      rw [qy_acc_e (by omega) hI]; exact K
    · refine br_c (fun z => nm_r (nI_1 v) (ih (v + 1) x (by omega) (by omega) (qy_acc_f hI (qb_dec_f (qb_p_0.mp z))))) (fun z => nm_e (nm_r (nI_1 v) (ih (v + 1) _ (by omega) (by omega) (qy_acc_t (by omega) hI (qb_dec_t (Classical.byContradiction (fun y => z (qb_p_f y))))))))
theorem qx_idle {post : Int32 → SX → Prop} {M : Nat} (hM : M ≤ 12) (hV : qc_Vs M a_kindOf a_setP a_setQ) (hC : qx_Ca M a_kindOf a_setP a_setQ f_clausesOf f_clauseCount f_tableFor f_memoFor f_memoSide f_diagramFor f_diagramRoot f_nodeCount a_clauses a_memo a_nodeVariable a_nodeLow a_nodeHigh a_nodeNext a_listFirst a_recentKey a_recentNode a_table)
    (K : ∀ (f_clausesOf' f_clauseCount' f_tableFor' f_memoFor' f_memoSide' f_depth' f_known' f_ones' f_diagramFor' f_diagramRoot' f_nodeCount' f_leftCount' f_madeCount' : Int32) (a_clauses' : Nat → Int32) (a_table' : Nat → Int64) (a_memo' a_choiceOf' a_secondTry' a_knownBefore' a_onesBefore' a_nodeVariable' a_nodeLow' a_nodeHigh' a_nodeNext' a_listFirst' a_recentKey' a_recentNode' a_workF' a_workG' a_workPhase' a_workLow' a_nodeValue' a_left' a_made' : Nat → Int32) (a_onesOfVariable' a_tableBefore' : Nat → Int64), qx_Ca M a_kindOf a_setP a_setQ f_clausesOf' f_clauseCount' f_tableFor' f_memoFor' f_memoSide' f_diagramFor' f_diagramRoot' f_nodeCount' a_clauses' a_memo' a_nodeVariable' a_nodeLow' a_nodeHigh' a_nodeNext' a_listFirst' a_recentKey' a_recentNode' a_table' → post (qy_Idl (qc_H M a_kindOf a_setP a_setQ (qy_all M))) (f_theirs, nI M, f_wayNow, f_clausesOf', f_clauseCount', f_tableFor', f_memoFor', f_memoSide', f_depth', f_known', f_ones', f_diagramFor', f_diagramRoot', f_nodeCount', f_leftCount', f_madeCount', a_kindOf, a_setP, a_setQ, a_clauses', a_table', a_memo', a_choiceOf', a_secondTry', a_knownBefore', a_onesBefore', a_nodeVariable', a_nodeLow', a_nodeHigh', a_nodeNext', a_listFirst', a_recentKey', a_recentNode', a_workF', a_workG', a_workPhase', a_workLow', a_nodeValue', a_left', a_made', a_onesOfVariable', a_tableBefore')) : wpX_idle post (f_theirs, nI M, f_wayNow, f_clausesOf, f_clauseCount, f_tableFor, f_memoFor, f_memoSide, f_depth, f_known, f_ones, f_diagramFor, f_diagramRoot, f_nodeCount, f_leftCount, f_madeCount, a_kindOf, a_setP, a_setQ, a_clauses, a_table, a_memo, a_choiceOf, a_secondTry, a_knownBefore, a_onesBefore, a_nodeVariable, a_nodeLow, a_nodeHigh, a_nodeNext, a_listFirst, a_recentKey, a_recentNode, a_workF, a_workG, a_workPhase, a_workLow, a_nodeValue, a_left, a_made, a_onesOfVariable, a_tableBefore) := by
  obtain ⟨h1, h2, h3, h4⟩ := hC
  have hr := qy_lt_ne (qy_all_lt hM)
  refine br_c (fun e => ?_) (fun e => ?_)
  · refine qx_buildDiagram (rules := qy_all M) hM hV hr h1 h4 ?_
    intro co cc cl root N g b1 b2 b3 b4 b5 b6 b7 c1 c2 c3 c4 nvl hc ok hN hroot hD
    refine qx_variablesInDiagram ok hN hroot ?_
    intro x nvl' hx
    have hI : ∀ v, qt_Idle (fun s => qd_D g root s = true) v ↔ qt_Idle (qc_H M a_kindOf a_setP a_setQ (qy_all M)) v := fun v =>
      ⟨fun z s => (hD _).symm.trans ((z s).trans (hD _)), fun z s => (hD _).trans ((z s).trans (hD _).symm)⟩
    have ha : 255 &&& (x ^^^ (-1)) = qy_Idl (qc_H M a_kindOf a_setP a_setQ (qy_all M)) := by
      apply qy_acc_e (n := 8) (by omega)
      intro i
      rw [b_and, b_255]
      by_cases h8 : i < 8
      · rw [decide_eq_true h8, Bool.true_and, Bool.true_and, qb_not _ (by omega), Bool.eq_iff_iff, qb_dec_iff, ← hI i]
        have := hx i
        cases e1 : bt x i with
        | true => rw [e1] at this; exact ⟨fun z => by simp at z, fun z => absurd z (this.mp rfl)⟩
        | false => rw [e1] at this; exact ⟨fun _ => Classical.byContradiction (fun y => by simp at this; exact y this), fun _ => rfl⟩
      · rw [decide_eq_false h8, Bool.false_and, Bool.false_and]
    rw [ha]
    exact K _ _ _ _ _ _ _ _ _ _ _ _ _ _ _ _ _ _ _ _ _ _ _ _ _ _ _ _ _ _ _ _ _ _ _ _ ⟨hc, h2, h3, Or.inr ⟨N, g, root, rfl, hN, ok, rfl, hroot, hD⟩⟩
  · refine qx_buildTable (rules := qy_all M) hM hV hr h1 h2 ?_
    intro co cc cl tb ov hc ht
    exact ⟨9, qx_idle_38 qc_H_dep ht (K _ _ _ _ _ _ _ _ _ _ _ _ _ _ _ _ _ _ _ _ _ _ _ _ _ _ _ _ _ _ _ _ _ _ _ _ ⟨hc, Or.inr ht, h3, h4⟩) 9 0 0 (by omega) (by omega) qy_acc_0⟩
end
/-! how many openings -/
def qy_isk (th : Nat → Bool) (k : Nat) : Prop := 1 ≤ k ∧ k ≤ 8 ∧ (∀ i, i < k → th i = th 0) ∧ (k < 8 → th k ≠ th 0)
theorem qy_isk_ex (th : Nat → Bool) : ∃ k, qy_isk th k := by
  obtain ⟨k, h1, h2⟩ := qs_least (fun k => 1 ≤ k ∧ (k = 8 ∨ th k ≠ th 0)) ⟨8, by omega, Or.inl rfl⟩
  refine ⟨k, h1.1, ?_, ?_, ?_⟩
  · apply Classical.byContradiction
    intro z
    exact h2 8 (by omega) ⟨by omega, Or.inl rfl⟩
  · intro i hi
    by_cases e : i = 0
    · rw [e]
    · apply Classical.byContradiction
      intro z
      exact h2 i hi ⟨by omega, Or.inr z⟩
  · intro hk
    exact h1.2.elim (fun z => by omega) id
noncomputable def qy_Op (th : Nat → Bool) (H : (Nat → Bool) → Prop) (k : Nat) : Int32 := nI (qn_cnt (fun v => qb_dec (qy_W th H k v)) (2 ^ k))
section
variable {f_theirs f_ruleCount f_wayNow f_clausesOf f_clauseCount f_tableFor f_memoFor f_memoSide f_depth f_known f_ones f_diagramFor f_diagramRoot f_nodeCount f_leftCount f_madeCount : Int32} {a_kindOf a_setP a_setQ a_clauses a_memo a_choiceOf a_secondTry a_knownBefore a_onesBefore a_nodeVariable a_nodeLow a_nodeHigh a_nodeNext a_listFirst a_recentKey a_recentNode a_workF a_workG a_workPhase a_workLow a_nodeValue a_left a_made : Nat → Int32} {a_table a_onesOfVariable a_tableBefore : Nat → Int64}
theorem qx_openings_44 {post : Int32 → SX → Prop} {M k : Nat} (hM : M ≤ 12) (hV : qc_Vs M a_kindOf a_setP a_setQ) (hk : k ≤ 8)
    (K : ∀ (f_clausesOf' f_clauseCount' f_tableFor' f_memoFor' f_memoSide' f_depth' f_known' f_ones' f_diagramFor' f_diagramRoot' f_nodeCount' f_leftCount' f_madeCount' : Int32) (a_clauses' : Nat → Int32) (a_table' : Nat → Int64) (a_memo' a_choiceOf' a_secondTry' a_knownBefore' a_onesBefore' a_nodeVariable' a_nodeLow' a_nodeHigh' a_nodeNext' a_listFirst' a_recentKey' a_recentNode' a_workF' a_workG' a_workPhase' a_workLow' a_nodeValue' a_left' a_made' : Nat → Int32) (a_onesOfVariable' a_tableBefore' : Nat → Int64), qx_Ca M a_kindOf a_setP a_setQ f_clausesOf' f_clauseCount' f_tableFor' f_memoFor' f_memoSide' f_diagramFor' f_diagramRoot' f_nodeCount' a_clauses' a_memo' a_nodeVariable' a_nodeLow' a_nodeHigh' a_nodeNext' a_listFirst' a_recentKey' a_recentNode' a_table' → post (qy_Op (bt f_theirs) (qc_H M a_kindOf a_setP a_setQ (qy_all M)) k) (f_theirs, nI M, f_wayNow, f_clausesOf', f_clauseCount', f_tableFor', f_memoFor', f_memoSide', f_depth', f_known', f_ones', f_diagramFor', f_diagramRoot', f_nodeCount', f_leftCount', f_madeCount', a_kindOf, a_setP, a_setQ, a_clauses', a_table', a_memo', a_choiceOf', a_secondTry', a_knownBefore', a_onesBefore', a_nodeVariable', a_nodeLow', a_nodeHigh', a_nodeNext', a_listFirst', a_recentKey', a_recentNode', a_workF', a_workG', a_workPhase', a_workLow', a_nodeValue', a_left', a_made', a_onesOfVariable', a_tableBefore')) :
    ∀ (n v : Nat) (f_clausesOf' f_clauseCount' f_tableFor' f_memoFor' f_memoSide' f_depth' f_known' f_ones' f_diagramFor' f_diagramRoot' f_nodeCount' f_leftCount' f_madeCount' : Int32) (a_clauses' : Nat → Int32) (a_table' : Nat → Int64) (a_memo' a_choiceOf' a_secondTry' a_knownBefore' a_onesBefore' a_nodeVariable' a_nodeLow' a_nodeHigh' a_nodeNext' a_listFirst' a_recentKey' a_recentNode' a_workF' a_workG' a_workPhase' a_workLow' a_nodeValue' a_left' a_made' : Nat → Int32) (a_onesOfVariable' a_tableBefore' : Nat → Int64), v ≤ 2 ^ k → 2 ^ k < n + v → qx_Ca M a_kindOf a_setP a_setQ f_clausesOf' f_clauseCount' f_tableFor' f_memoFor' f_memoSide' f_diagramFor' f_diagramRoot' f_nodeCount' a_clauses' a_memo' a_nodeVariable' a_nodeLow' a_nodeHigh' a_nodeNext' a_listFirst' a_recentKey' a_recentNode' a_table' →
    wX_openings_44 post (qy_all M) (nI k) n (nI (qn_cnt (fun v => qb_dec (qy_W (bt f_theirs) (qc_H M a_kindOf a_setP a_setQ (qy_all M)) k v)) v)) (nI v) f_theirs (nI M) f_wayNow f_clausesOf' f_clauseCount' f_tableFor' f_memoFor' f_memoSide' f_depth' f_known' f_ones' f_diagramFor' f_diagramRoot' f_nodeCount' f_leftCount' f_madeCount' a_kindOf a_setP a_setQ a_clauses' a_table' a_memo' a_choiceOf' a_secondTry' a_knownBefore' a_onesBefore' a_nodeVariable' a_nodeLow' a_nodeHigh' a_nodeNext' a_listFirst' a_recentKey' a_recentNode' a_workF' a_workG' a_workPhase' a_workLow' a_nodeValue' a_left' a_made' a_onesOfVariable' a_tableBefore' := by
  have p8 : 2 ^ k ≤ 2 ^ 8 := Nat.pow_le_pow_right (by decide) hk
  intro n
  induction n with
  | zero => intro v; intros; omega
  | succ n ih =>
    intro v f_clausesOf' f_clauseCount' f_tableFor' f_memoFor' f_memoSide' f_depth' f_known' f_ones' f_diagramFor' f_diagramRoot' f_nodeCount' f_leftCount' f_madeCount' a_clauses' a_table' a_memo' a_choiceOf' a_secondTry' a_knownBefore' a_onesBefore' a_nodeVariable' a_nodeLow' a_nodeHigh' a_nodeNext' a_listFirst' a_recentKey' a_recentNode' a_workF' a_workG' a_workPhase' a_workLow' a_nodeValue' a_left' a_made' a_onesOfVariable' a_tableBefore' hv hf hC
    rw [wX_openings_44, qs_one_shl k (by omega)]
    refine pk_le (2 ^ k) v (fun e => ?_) (fun e => ?_)
    · have ev : v = 2 ^ k := by omega
      subst ev
      exact K f_clausesOf' f_clauseCount' f_tableFor' f_memoFor' f_memoSide' f_depth' f_known' f_ones' f_diagramFor' f_diagramRoot' f_nodeCount' f_leftCount' f_madeCount' a_clauses' a_table' a_memo' a_choiceOf' a_secondTry' a_knownBefore' a_onesBefore' a_nodeVariable' a_nodeLow' a_nodeHigh' a_nodeNext' a_listFirst' a_recentKey' a_recentNode' a_workF' a_workG' a_workPhase' a_workLow' a_nodeValue' a_left' a_made' a_onesOfVariable' a_tableBefore' hC
    · refine qx_isWon hM hV (qy_all_lt hM) hC hk e ?_
      intro f_clausesOf'' f_clauseCount'' f_tableFor'' f_memoFor'' f_memoSide'' f_depth'' f_known'' f_ones'' f_diagramFor'' f_diagramRoot'' f_nodeCount'' f_leftCount'' f_madeCount'' a_clauses'' a_table'' a_memo'' a_choiceOf'' a_secondTry'' a_knownBefore'' a_onesBefore'' a_nodeVariable'' a_nodeLow'' a_nodeHigh'' a_nodeNext'' a_listFirst'' a_recentKey'' a_recentNode'' a_workF'' a_workG'' a_workPhase'' a_workLow'' a_nodeValue'' a_left'' a_made'' a_onesOfVariable'' a_tableBefore'' hC'
      refine br_c (fun z => nm_r (nI_1 v) ?_) (fun z => nm_r (e' := nI (qn_cnt (fun v => qb_dec (qy_W (bt f_theirs) (qc_H M a_kindOf a_setP a_setQ (qy_all M)) k v)) (v + 1))) ?_ (nm_r (nI_1 v) (ih (v + 1) f_clausesOf'' f_clauseCount'' f_tableFor'' f_memoFor'' f_memoSide'' f_depth'' f_known'' f_ones'' f_diagramFor'' f_diagramRoot'' f_nodeCount'' f_leftCount'' f_madeCount'' a_clauses'' a_table'' a_memo'' a_choiceOf'' a_secondTry'' a_knownBefore'' a_onesBefore'' a_nodeVariable'' a_nodeLow'' a_nodeHigh'' a_nodeNext'' a_listFirst'' a_recentKey'' a_recentNode'' a_workF'' a_workG'' a_workPhase'' a_workLow'' a_nodeValue'' a_left'' a_made'' a_onesOfVariable'' a_tableBefore'' (by omega) (by omega) hC')))
      · have h0 : qn_cnt (fun v => qb_dec (qy_W (bt f_theirs) (qc_H M a_kindOf a_setP a_setQ (qy_all M)) k v)) (v + 1) = qn_cnt (fun v => qb_dec (qy_W (bt f_theirs) (qc_H M a_kindOf a_setP a_setQ (qy_all M)) k v)) v := by
          simp only [qn_cnt]
          rw [qb_dec_f (qb_p_0.mp z)]; rfl
        have := ih (v + 1) f_clausesOf'' f_clauseCount'' f_tableFor'' f_memoFor'' f_memoSide'' f_depth'' f_known'' f_ones'' f_diagramFor'' f_diagramRoot'' f_nodeCount'' f_leftCount'' f_madeCount'' a_clauses'' a_table'' a_memo'' a_choiceOf'' a_secondTry'' a_knownBefore'' a_onesBefore'' a_nodeVariable'' a_nodeLow'' a_nodeHigh'' a_nodeNext'' a_listFirst'' a_recentKey'' a_recentNode'' a_workF'' a_workG'' a_workPhase'' a_workLow'' a_nodeValue'' a_left'' a_made'' a_onesOfVariable'' a_tableBefore'' (by omega) (by omega) hC'
        rw [h0] at this; exact this
      · have h1 : qn_cnt (fun v => qb_dec (qy_W (bt f_theirs) (qc_H M a_kindOf a_setP a_setQ (qy_all M)) k v)) (v + 1) = qn_cnt (fun v => qb_dec (qy_W (bt f_theirs) (qc_H M a_kindOf a_setP a_setQ (qy_all M)) k v)) v + 1 := by
          simp only [qn_cnt]
          rw [qb_dec_t (Classical.byContradiction (fun y => z (qb_p_f y)))]; rfl
        rw [h1, nI_1]
theorem qx_openings {post : Int32 → SX → Prop} {M k : Nat} (hM : M ≤ 12) (hV : qc_Vs M a_kindOf a_setP a_setQ) (hC : qx_Ca M a_kindOf a_setP a_setQ f_clausesOf f_clauseCount f_tableFor f_memoFor f_memoSide f_diagramFor f_diagramRoot f_nodeCount a_clauses a_memo a_nodeVariable a_nodeLow a_nodeHigh a_nodeNext a_listFirst a_recentKey a_recentNode a_table) (hk : qy_isk (bt f_theirs) k)
    (K : ∀ (f_clausesOf' f_clauseCount' f_tableFor' f_memoFor' f_memoSide' f_depth' f_known' f_ones' f_diagramFor' f_diagramRoot' f_nodeCount' f_leftCount' f_madeCount' : Int32) (a_clauses' : Nat → Int32) (a_table' : Nat → Int64) (a_memo' a_choiceOf' a_secondTry' a_knownBefore' a_onesBefore' a_nodeVariable' a_nodeLow' a_nodeHigh' a_nodeNext' a_listFirst' a_recentKey' a_recentNode' a_workF' a_workG' a_workPhase' a_workLow' a_nodeValue' a_left' a_made' : Nat → Int32) (a_onesOfVariable' a_tableBefore' : Nat → Int64), qx_Ca M a_kindOf a_setP a_setQ f_clausesOf' f_clauseCount' f_tableFor' f_memoFor' f_memoSide' f_diagramFor' f_diagramRoot' f_nodeCount' a_clauses' a_memo' a_nodeVariable' a_nodeLow' a_nodeHigh' a_nodeNext' a_listFirst' a_recentKey' a_recentNode' a_table' → post (qy_Op (bt f_theirs) (qc_H M a_kindOf a_setP a_setQ (qy_all M)) k) (f_theirs, nI M, f_wayNow, f_clausesOf', f_clauseCount', f_tableFor', f_memoFor', f_memoSide', f_depth', f_known', f_ones', f_diagramFor', f_diagramRoot', f_nodeCount', f_leftCount', f_madeCount', a_kindOf, a_setP, a_setQ, a_clauses', a_table', a_memo', a_choiceOf', a_secondTry', a_knownBefore', a_onesBefore', a_nodeVariable', a_nodeLow', a_nodeHigh', a_nodeNext', a_listFirst', a_recentKey', a_recentNode', a_workF', a_workG', a_workPhase', a_workLow', a_nodeValue', a_left', a_made', a_onesOfVariable', a_tableBefore')) : wpX_openings post (f_theirs, nI M, f_wayNow, f_clausesOf, f_clauseCount, f_tableFor, f_memoFor, f_memoSide, f_depth, f_known, f_ones, f_diagramFor, f_diagramRoot, f_nodeCount, f_leftCount, f_madeCount, a_kindOf, a_setP, a_setQ, a_clauses, a_table, a_memo, a_choiceOf, a_secondTry, a_knownBefore, a_onesBefore, a_nodeVariable, a_nodeLow, a_nodeHigh, a_nodeNext, a_listFirst, a_recentKey, a_recentNode, a_workF, a_workG, a_workPhase, a_workLow, a_nodeValue, a_left, a_made, a_onesOfVariable, a_tableBefore) := by
  have h14 : ∀ (n j : Nat), 1 ≤ j → j ≤ k → k < n + j → wX_openings_14 post (qy_all M) (f_theirs &&& 1) f_theirs (nI M) f_wayNow f_clausesOf f_clauseCount f_tableFor f_memoFor f_memoSide f_depth f_known f_ones f_diagramFor f_diagramRoot f_nodeCount f_leftCount f_madeCount a_kindOf a_setP a_setQ a_clauses a_table a_memo a_choiceOf a_secondTry a_knownBefore a_onesBefore a_nodeVariable a_nodeLow a_nodeHigh a_nodeNext a_listFirst a_recentKey a_recentNode a_workF a_workG a_workPhase a_workLow a_nodeValue a_left a_made a_onesOfVariable a_tableBefore n (nI j) := by
    have hf : f_theirs &&& 1 = qb_i (bt f_theirs 0) := by
      apply b_ext
      intro i _
      rw [b_and, qb_b1]
      by_cases e : i = 0
      · subst e
        rw [decide_eq_true rfl, Bool.and_true]
        cases bt f_theirs 0
        · exact (b_0 0).symm
        · exact (by decide : true = bt 1 0)
      · rw [decide_eq_false e, Bool.and_false]
        cases bt f_theirs 0
        · exact (b_0 i).symm
        · show false = bt 1 i
          rw [qb_b1, decide_eq_false e]
    rw [hf]
    have fin : ∀ j, j = k → ∃ n44, wX_openings_44 post (qy_all M) (nI j) n44 0 0 f_theirs (nI M) f_wayNow f_clausesOf f_clauseCount f_tableFor f_memoFor f_memoSide f_depth f_known f_ones f_diagramFor f_diagramRoot f_nodeCount f_leftCount f_madeCount a_kindOf a_setP a_setQ a_clauses a_table a_memo a_choiceOf a_secondTry a_knownBefore a_onesBefore a_nodeVariable a_nodeLow a_nodeHigh a_nodeNext a_listFirst a_recentKey a_recentNode a_workF a_workG a_workPhase a_workLow a_nodeValue a_left a_made a_onesOfVariable a_tableBefore := by
      intro j e
      subst e
      exact ⟨2 ^ j + 1, qx_openings_44 hM hV hk.2.1 K (2 ^ j + 1) 0 f_clausesOf f_clauseCount f_tableFor f_memoFor f_memoSide f_depth f_known f_ones f_diagramFor f_diagramRoot f_nodeCount f_leftCount f_madeCount a_clauses a_table a_memo a_choiceOf a_secondTry a_knownBefore a_onesBefore a_nodeVariable a_nodeLow a_nodeHigh a_nodeNext a_listFirst a_recentKey a_recentNode a_workF a_workG a_workPhase a_workLow a_nodeValue a_left a_made a_onesOfVariable a_tableBefore (Nat.zero_le _) (by omega) hC⟩
    intro n
    induction n with
    | zero => intro j h1 h2 h3; omega
    | succ n ih =>
      intro j h1 h2 h3
      have hk8 := hk.2.1
      refine pk_le 8 j (fun e => fin j (by omega)) (fun e => ?_)
      have hb : ((f_theirs >>> (nI j &&& 31)) &&& 1) = qb_i (bt f_theirs 0) ↔ bt f_theirs j = bt f_theirs 0 := by
        rw [qb_bit _ (by omega)]
        cases bt f_theirs j <;> cases bt f_theirs 0 <;> decide
      refine ek_if hb (fun z => nm_r (nI_1 j) (ih (j + 1) (by omega) ?_ (by omega))) (fun z => fin j ?_)
      · by_cases e1 : j = k
        · subst e1; exact absurd z (hk.2.2.2 e)
        · omega
      · by_cases e1 : j = k
        · exact e1
        · exact absurd (hk.2.2.1 j (by omega)) z
  exact nm_e ⟨9, h14 9 1 (by omega) hk.1 (by have := hk.2.1; omega)⟩
end
/-! rules to blame -/
noncomputable def qy_bl (W : Int32 → Prop) : Nat → Nat → Int32 → Int32
  | 0, _, r => r
  | d + 1, i, r => if qb_dec (W (r &&& (((1 : Int32) <<< (nI i &&& 31)) ^^^ (-1)))) = true then qy_bl W d (i + 1) r else qy_bl W d (i + 1) (r &&& (((1 : Int32) <<< (nI i &&& 31)) ^^^ (-1)))
noncomputable def qy_Bl (W : Int32 → Prop) (M : Nat) : Int32 := if qb_dec (W (qy_all M)) = true then 0 else qy_bl W M 0 (qy_all M)
section
variable {f_theirs f_ruleCount f_wayNow f_clausesOf f_clauseCount f_tableFor f_memoFor f_memoSide f_depth f_known f_ones f_diagramFor f_diagramRoot f_nodeCount f_leftCount f_madeCount : Int32} {a_kindOf a_setP a_setQ a_clauses a_memo a_choiceOf a_secondTry a_knownBefore a_onesBefore a_nodeVariable a_nodeLow a_nodeHigh a_nodeNext a_listFirst a_recentKey a_recentNode a_workF a_workG a_workPhase a_workLow a_nodeValue a_left a_made : Nat → Int32} {a_table a_onesOfVariable a_tableBefore : Nat → Int64}
theorem qx_blame_19 {post : Int32 → SX → Prop} {M : Nat} (hM : M ≤ 12) (hV : qc_Vs M a_kindOf a_setP a_setQ) :
    ∀ (n i : Nat) (r : Int32) (f_clausesOf' f_clauseCount' f_tableFor' f_memoFor' f_memoSide' f_depth' f_known' f_ones' f_diagramFor' f_diagramRoot' f_nodeCount' f_leftCount' f_madeCount' : Int32) (a_clauses' : Nat → Int32) (a_table' : Nat → Int64) (a_memo' a_choiceOf' a_secondTry' a_knownBefore' a_onesBefore' a_nodeVariable' a_nodeLow' a_nodeHigh' a_nodeNext' a_listFirst' a_recentKey' a_recentNode' a_workF' a_workG' a_workPhase' a_workLow' a_nodeValue' a_left' a_made' : Nat → Int32) (a_onesOfVariable' a_tableBefore' : Nat → Int64), i ≤ M → M < n + i → qb_lt r 12 → qx_Ca M a_kindOf a_setP a_setQ f_clausesOf' f_clauseCount' f_tableFor' f_memoFor' f_memoSide' f_diagramFor' f_diagramRoot' f_nodeCount' a_clauses' a_memo' a_nodeVariable' a_nodeLow' a_nodeHigh' a_nodeNext' a_listFirst' a_recentKey' a_recentNode' a_table' →
    (∀ (f_clausesOf' f_clauseCount' f_tableFor' f_memoFor' f_memoSide' f_depth' f_known' f_ones' f_diagramFor' f_diagramRoot' f_nodeCount' f_leftCount' f_madeCount' : Int32) (a_clauses' : Nat → Int32) (a_table' : Nat → Int64) (a_memo' a_choiceOf' a_secondTry' a_knownBefore' a_onesBefore' a_nodeVariable' a_nodeLow' a_nodeHigh' a_nodeNext' a_listFirst' a_recentKey' a_recentNode' a_workF' a_workG' a_workPhase' a_workLow' a_nodeValue' a_left' a_made' : Nat → Int32) (a_onesOfVariable' a_tableBefore' : Nat → Int64), qx_Ca M a_kindOf a_setP a_setQ f_clausesOf' f_clauseCount' f_tableFor' f_memoFor' f_memoSide' f_diagramFor' f_diagramRoot' f_nodeCount' a_clauses' a_memo' a_nodeVariable' a_nodeLow' a_nodeHigh' a_nodeNext' a_listFirst' a_recentKey' a_recentNode' a_table' → post (qy_bl (fun r => qy_W (bt f_theirs) (qc_H M a_kindOf a_setP a_setQ r) 0 0) (M - i) i r) (f_theirs, nI M, f_wayNow, f_clausesOf', f_clauseCount', f_tableFor', f_memoFor', f_memoSide', f_depth', f_known', f_ones', f_diagramFor', f_diagramRoot', f_nodeCount', f_leftCount', f_madeCount', a_kindOf, a_setP, a_setQ, a_clauses', a_table', a_memo', a_choiceOf', a_secondTry', a_knownBefore', a_onesBefore', a_nodeVariable', a_nodeLow', a_nodeHigh', a_nodeNext', a_listFirst', a_recentKey', a_recentNode', a_workF', a_workG', a_workPhase', a_workLow', a_nodeValue', a_left', a_made', a_onesOfVariable', a_tableBefore')) →
    wX_blame_19 post n r (nI i) f_theirs (nI M) f_wayNow f_clausesOf' f_clauseCount' f_tableFor' f_memoFor' f_memoSide' f_depth' f_known' f_ones' f_diagramFor' f_diagramRoot' f_nodeCount' f_leftCount' f_madeCount' a_kindOf a_setP a_setQ a_clauses' a_table' a_memo' a_choiceOf' a_secondTry' a_knownBefore' a_onesBefore' a_nodeVariable' a_nodeLow' a_nodeHigh' a_nodeNext' a_listFirst' a_recentKey' a_recentNode' a_workF' a_workG' a_workPhase' a_workLow' a_nodeValue' a_left' a_made' a_onesOfVariable' a_tableBefore' := by
  intro n
  induction n with
  | zero => intro i r; intros; omega
  | succ n ih =>
    intro i r f_clausesOf' f_clauseCount' f_tableFor' f_memoFor' f_memoSide' f_depth' f_known' f_ones' f_diagramFor' f_diagramRoot' f_nodeCount' f_leftCount' f_madeCount' a_clauses' a_table' a_memo' a_choiceOf' a_secondTry' a_knownBefore' a_onesBefore' a_nodeVariable' a_nodeLow' a_nodeHigh' a_nodeNext' a_listFirst' a_recentKey' a_recentNode' a_workF' a_workG' a_workPhase' a_workLow' a_nodeValue' a_left' a_made' a_onesOfVariable' a_tableBefore' hi hf hr hC K
    refine pk_le M i (fun e => ?_) (fun e => nm_e ?_)
    · have K' := K f_clausesOf' f_clauseCount' f_tableFor' f_memoFor' f_memoSide' f_depth' f_known' f_ones' f_diagramFor' f_diagramRoot' f_nodeCount' f_leftCount' f_madeCount' a_clauses' a_table' a_memo' a_choiceOf' a_secondTry' a_knownBefore' a_onesBefore' a_nodeVariable' a_nodeLow' a_nodeHigh' a_nodeNext' a_listFirst' a_recentKey' a_recentNode' a_workF' a_workG' a_workPhase' a_workLow' a_nodeValue' a_left' a_made' a_onesOfVariable' a_tableBefore' hC
      rw [show M - i = 0 by omega] at K'
      exact K'
    · refine qx_isWon (k := 0) (v := 0) hM hV (qb_lt_and hr) hC (by omega) (by decide) ?_
      intro f_clausesOf'' f_clauseCount'' f_tableFor'' f_memoFor'' f_memoSide'' f_depth'' f_known'' f_ones'' f_diagramFor'' f_diagramRoot'' f_nodeCount'' f_leftCount'' f_madeCount'' a_clauses'' a_table'' a_memo'' a_choiceOf'' a_secondTry'' a_knownBefore'' a_onesBefore'' a_nodeVariable'' a_nodeLow'' a_nodeHigh'' a_nodeNext'' a_listFirst'' a_recentKey'' a_recentNode'' a_workF'' a_workG'' a_workPhase'' a_workLow'' a_nodeValue'' a_left'' a_made'' a_onesOfVariable'' a_tableBefore'' hC'
      rw [show M - i = (M - (i + 1)) + 1 by omega] at K
      refine br_c (fun z => nm_r (nI_1 i) (ih (i + 1) _ f_clausesOf'' f_clauseCount'' f_tableFor'' f_memoFor'' f_memoSide'' f_depth'' f_known'' f_ones'' f_diagramFor'' f_diagramRoot'' f_nodeCount'' f_leftCount'' f_madeCount'' a_clauses'' a_table'' a_memo'' a_choiceOf'' a_secondTry'' a_knownBefore'' a_onesBefore'' a_nodeVariable'' a_nodeLow'' a_nodeHigh'' a_nodeNext'' a_listFirst'' a_recentKey'' a_recentNode'' a_workF'' a_workG'' a_workPhase'' a_workLow'' a_nodeValue'' a_left'' a_made'' a_onesOfVariable'' a_tableBefore'' (by omega) (by omega) (qb_lt_and hr) hC' ?_)) (fun z => nm_r (nI_1 i) (ih (i + 1) _ f_clausesOf'' f_clauseCount'' f_tableFor'' f_memoFor'' f_memoSide'' f_depth'' f_known'' f_ones'' f_diagramFor'' f_diagramRoot'' f_nodeCount'' f_leftCount'' f_madeCount'' a_clauses'' a_table'' a_memo'' a_choiceOf'' a_secondTry'' a_knownBefore'' a_onesBefore'' a_nodeVariable'' a_nodeLow'' a_nodeHigh'' a_nodeNext'' a_listFirst'' a_recentKey'' a_recentNode'' a_workF'' a_workG'' a_workPhase'' a_workLow'' a_nodeValue'' a_left'' a_made'' a_onesOfVariable'' a_tableBefore'' (by omega) (by omega) hr hC' ?_))
      · intro f_clausesOf' f_clauseCount' f_tableFor' f_memoFor' f_memoSide' f_depth' f_known' f_ones' f_diagramFor' f_diagramRoot' f_nodeCount' f_leftCount' f_madeCount' a_clauses' a_table' a_memo' a_choiceOf' a_secondTry' a_knownBefore' a_onesBefore' a_nodeVariable' a_nodeLow' a_nodeHigh' a_nodeNext' a_listFirst' a_recentKey' a_recentNode' a_workF' a_workG' a_workPhase' a_workLow' a_nodeValue' a_left' a_made' a_onesOfVariable' a_tableBefore' h
        have K' := K f_clausesOf' f_clauseCount' f_tableFor' f_memoFor' f_memoSide' f_depth' f_known' f_ones' f_diagramFor' f_diagramRoot' f_nodeCount' f_leftCount' f_madeCount' a_clauses' a_table' a_memo' a_choiceOf' a_secondTry' a_knownBefore' a_onesBefore' a_nodeVariable' a_nodeLow' a_nodeHigh' a_nodeNext' a_listFirst' a_recentKey' a_recentNode' a_workF' a_workG' a_workPhase' a_workLow' a_nodeValue' a_left' a_made' a_onesOfVariable' a_tableBefore' h
        simp only [qy_bl] at K'
        rw [if_neg (by rw [qb_dec_f (qb_p_0.mp z)]; decide)] at K'
        exact K'
      · intro f_clausesOf' f_clauseCount' f_tableFor' f_memoFor' f_memoSide' f_depth' f_known' f_ones' f_diagramFor' f_diagramRoot' f_nodeCount' f_leftCount' f_madeCount' a_clauses' a_table' a_memo' a_choiceOf' a_secondTry' a_knownBefore' a_onesBefore' a_nodeVariable' a_nodeLow' a_nodeHigh' a_nodeNext' a_listFirst' a_recentKey' a_recentNode' a_workF' a_workG' a_workPhase' a_workLow' a_nodeValue' a_left' a_made' a_onesOfVariable' a_tableBefore' h
        have K' := K f_clausesOf' f_clauseCount' f_tableFor' f_memoFor' f_memoSide' f_depth' f_known' f_ones' f_diagramFor' f_diagramRoot' f_nodeCount' f_leftCount' f_madeCount' a_clauses' a_table' a_memo' a_choiceOf' a_secondTry' a_knownBefore' a_onesBefore' a_nodeVariable' a_nodeLow' a_nodeHigh' a_nodeNext' a_listFirst' a_recentKey' a_recentNode' a_workF' a_workG' a_workPhase' a_workLow' a_nodeValue' a_left' a_made' a_onesOfVariable' a_tableBefore' h
        simp only [qy_bl] at K'
        rw [if_pos (qb_dec_t (Classical.byContradiction (fun y => z (qb_p_f y))))] at K'
        exact K'
theorem qx_blame {post : Int32 → SX → Prop} {M : Nat} (hM : M ≤ 12) (hV : qc_Vs M a_kindOf a_setP a_setQ) (hC : qx_Ca M a_kindOf a_setP a_setQ f_clausesOf f_clauseCount f_tableFor f_memoFor f_memoSide f_diagramFor f_diagramRoot f_nodeCount a_clauses a_memo a_nodeVariable a_nodeLow a_nodeHigh a_nodeNext a_listFirst a_recentKey a_recentNode a_table)
    (K : ∀ (f_clausesOf' f_clauseCount' f_tableFor' f_memoFor' f_memoSide' f_depth' f_known' f_ones' f_diagramFor' f_diagramRoot' f_nodeCount' f_leftCount' f_madeCount' : Int32) (a_clauses' : Nat → Int32) (a_table' : Nat → Int64) (a_memo' a_choiceOf' a_secondTry' a_knownBefore' a_onesBefore' a_nodeVariable' a_nodeLow' a_nodeHigh' a_nodeNext' a_listFirst' a_recentKey' a_recentNode' a_workF' a_workG' a_workPhase' a_workLow' a_nodeValue' a_left' a_made' : Nat → Int32) (a_onesOfVariable' a_tableBefore' : Nat → Int64), qx_Ca M a_kindOf a_setP a_setQ f_clausesOf' f_clauseCount' f_tableFor' f_memoFor' f_memoSide' f_diagramFor' f_diagramRoot' f_nodeCount' a_clauses' a_memo' a_nodeVariable' a_nodeLow' a_nodeHigh' a_nodeNext' a_listFirst' a_recentKey' a_recentNode' a_table' → post (qy_Bl (fun r => qy_W (bt f_theirs) (qc_H M a_kindOf a_setP a_setQ r) 0 0) M) (f_theirs, nI M, f_wayNow, f_clausesOf', f_clauseCount', f_tableFor', f_memoFor', f_memoSide', f_depth', f_known', f_ones', f_diagramFor', f_diagramRoot', f_nodeCount', f_leftCount', f_madeCount', a_kindOf, a_setP, a_setQ, a_clauses', a_table', a_memo', a_choiceOf', a_secondTry', a_knownBefore', a_onesBefore', a_nodeVariable', a_nodeLow', a_nodeHigh', a_nodeNext', a_listFirst', a_recentKey', a_recentNode', a_workF', a_workG', a_workPhase', a_workLow', a_nodeValue', a_left', a_made', a_onesOfVariable', a_tableBefore')) : wpX_blame post (f_theirs, nI M, f_wayNow, f_clausesOf, f_clauseCount, f_tableFor, f_memoFor, f_memoSide, f_depth, f_known, f_ones, f_diagramFor, f_diagramRoot, f_nodeCount, f_leftCount, f_madeCount, a_kindOf, a_setP, a_setQ, a_clauses, a_table, a_memo, a_choiceOf, a_secondTry, a_knownBefore, a_onesBefore, a_nodeVariable, a_nodeLow, a_nodeHigh, a_nodeNext, a_listFirst, a_recentKey, a_recentNode, a_workF, a_workG, a_workPhase, a_workLow, a_nodeValue, a_left, a_made, a_onesOfVariable, a_tableBefore) := by
  unfold wpX_blame wpX_allRules
  dsimp only
  refine qx_isWon (k := 0) (v := 0) (rules := qy_all M) hM hV (qy_all_lt hM) hC (by omega) (by decide) ?_
  intro f_clausesOf' f_clauseCount' f_tableFor' f_memoFor' f_memoSide' f_depth' f_known' f_ones' f_diagramFor' f_diagramRoot' f_nodeCount' f_leftCount' f_madeCount' a_clauses' a_table' a_memo' a_choiceOf' a_secondTry' a_knownBefore' a_onesBefore' a_nodeVariable' a_nodeLow' a_nodeHigh' a_nodeNext' a_listFirst' a_recentKey' a_recentNode' a_workF' a_workG' a_workPhase' a_workLow' a_nodeValue' a_left' a_made' a_onesOfVariable' a_tableBefore' hC'
  refine br_c (fun z => ⟨M + 1, qx_blame_19 hM hV (M + 1) 0 (qy_all M) f_clausesOf' f_clauseCount' f_tableFor' f_memoFor' f_memoSide' f_depth' f_known' f_ones' f_diagramFor' f_diagramRoot' f_nodeCount' f_leftCount' f_madeCount' a_clauses' a_table' a_memo' a_choiceOf' a_secondTry' a_knownBefore' a_onesBefore' a_nodeVariable' a_nodeLow' a_nodeHigh' a_nodeNext' a_listFirst' a_recentKey' a_recentNode' a_workF' a_workG' a_workPhase' a_workLow' a_nodeValue' a_left' a_made' a_onesOfVariable' a_tableBefore' (by omega) (by omega) (qy_all_lt hM) hC' ?_⟩) (fun z => ?_)
  · intro f_clausesOf'' f_clauseCount'' f_tableFor'' f_memoFor'' f_memoSide'' f_depth'' f_known'' f_ones'' f_diagramFor'' f_diagramRoot'' f_nodeCount'' f_leftCount'' f_madeCount'' a_clauses'' a_table'' a_memo'' a_choiceOf'' a_secondTry'' a_knownBefore'' a_onesBefore'' a_nodeVariable'' a_nodeLow'' a_nodeHigh'' a_nodeNext'' a_listFirst'' a_recentKey'' a_recentNode'' a_workF'' a_workG'' a_workPhase'' a_workLow'' a_nodeValue'' a_left'' a_made'' a_onesOfVariable'' a_tableBefore'' h
    have K' := K f_clausesOf'' f_clauseCount'' f_tableFor'' f_memoFor'' f_memoSide'' f_depth'' f_known'' f_ones'' f_diagramFor'' f_diagramRoot'' f_nodeCount'' f_leftCount'' f_madeCount'' a_clauses'' a_table'' a_memo'' a_choiceOf'' a_secondTry'' a_knownBefore'' a_onesBefore'' a_nodeVariable'' a_nodeLow'' a_nodeHigh'' a_nodeNext'' a_listFirst'' a_recentKey'' a_recentNode'' a_workF'' a_workG'' a_workPhase'' a_workLow'' a_nodeValue'' a_left'' a_made'' a_onesOfVariable'' a_tableBefore'' h
    unfold qy_Bl at K'
    rw [if_neg (by rw [qb_dec_f (qb_p_0.mp z)]; decide)] at K'
    exact K'
  · have K' := K f_clausesOf' f_clauseCount' f_tableFor' f_memoFor' f_memoSide' f_depth' f_known' f_ones' f_diagramFor' f_diagramRoot' f_nodeCount' f_leftCount' f_madeCount' a_clauses' a_table' a_memo' a_choiceOf' a_secondTry' a_knownBefore' a_onesBefore' a_nodeVariable' a_nodeLow' a_nodeHigh' a_nodeNext' a_listFirst' a_recentKey' a_recentNode' a_workF' a_workG' a_workPhase' a_workLow' a_nodeValue' a_left' a_made' a_onesOfVariable' a_tableBefore' hC'
    unfold qy_Bl at K'
    rw [if_pos (qb_dec_t (Classical.byContradiction (fun y => z (qb_p_f y))))] at K'
    exact K'
end
end
section
/-! when all is decided; rules that nothing needs -/
theorem nx_or' (a b : Nat) : nI a ||| nI b = nI (a ||| b) := by
  apply Int32.toBitVec_inj.1
  show BitVec.ofNat 32 a ||| BitVec.ofNat 32 b = BitVec.ofNat 32 (a ||| b)
  apply BitVec.eq_of_getLsbD_eq
  intro i hi
  simp [hi]
theorem qt_dec_iff {H : (Nat → Bool) → Prop} (hd : qg_Dep 8 H) {k v n : Nat} (e : Nat → Nat) (h1 : ∀ x, x < n → ∀ i, i < k → (e x).testBit i = v.testBit i) (h2 : ∀ s : Nat → Bool, (∀ i, i < k → s i = v.testBit i) → ∃ x, x < n ∧ ∀ i, i < 8 → (e x).testBit i = s i) :
    qt_Dec H k (fun i => v.testBit i) ↔ ∀ x, x < n → (H (fun i => (e x).testBit i) ↔ H (fun i => v.testBit i)) := by
  constructor
  · intro z x hx
    exact z _ (h1 x hx)
  · intro z s hs
    obtain ⟨x, hx, hb⟩ := h2 s hs
    exact (hd _ _ (fun i hi => (hb i hi).symm)).trans (z x hx)
theorem qt_pow8 {k : Nat} (hk : k ≤ 8) : 2 ^ (8 - k) * 2 ^ k = 256 := by
  rw [← Nat.pow_add, show 8 - k + k = 8 by omega]
/-- the cases of the component -/
theorem qt_dec_x {H : (Nat → Bool) → Prop} (hd : qg_Dep 8 H) {k v : Nat} (hk : k ≤ 8) (hv : v < 2 ^ k) : qt_Dec H k (fun i => v.testBit i) ↔ ∀ r, r < 2 ^ (8 - k) → (H (fun i => (v ||| r * 2 ^ k).testBit i) ↔ H (fun i => v.testBit i)) := by
  apply qt_dec_iff hd (fun r => v ||| r * 2 ^ k)
  · intro r _ i hi
    rw [Nat.testBit_or, Nat.mul_comm, Nat.testBit_two_pow_mul, decide_eq_false (by omega), Bool.false_and, Bool.or_false]
  · intro s hs
    refine ⟨qn_num (fun i => s (k + i)) (8 - k), qn_num_lt _ _, fun i hi => ?_⟩
    rw [Nat.testBit_or, Nat.mul_comm, Nat.testBit_two_pow_mul]
    by_cases e : i < k
    · rw [decide_eq_false (by omega), Bool.false_and, Bool.or_false, hs i e]
    · rw [decide_eq_true (by omega), Bool.true_and, qn_num_bit _ _ _ (by omega), Nat.testBit_lt_two_pow (Nat.lt_of_lt_of_le hv (Nat.pow_le_pow_right (by decide) (by omega))), Bool.false_or, show k + (i - k) = i by omega]
/-- the cases of the reference -/
theorem qt_dec_y {H : (Nat → Bool) → Prop} (hd : qg_Dep 8 H) {k v : Nat} (hk : k ≤ 8) (hv : v < 2 ^ k) : qt_Dec H k (fun i => v.testBit i) ↔ ∀ r, r < 256 → (H (fun i => (r / 2 ^ k * 2 ^ k ||| v).testBit i) ↔ H (fun i => v.testBit i)) := by
  apply qt_dec_iff hd (fun r => r / 2 ^ k * 2 ^ k ||| v)
  · intro r _ i hi
    rw [Nat.testBit_or, Nat.mul_comm, Nat.testBit_two_pow_mul, decide_eq_false (by omega), Bool.false_and, Bool.false_or]
  · intro s hs
    refine ⟨qn_num s 8, qn_num_lt 8 _, fun i hi => ?_⟩
    rw [Nat.testBit_or, Nat.mul_comm, Nat.testBit_two_pow_mul, Nat.testBit_div_two_pow]
    by_cases e : i < k
    · rw [decide_eq_false (by omega), Bool.false_and, Bool.false_or, hs i e]
    · rw [decide_eq_true (by omega), Bool.true_and, show i - k + k = i by omega, qn_num_bit _ _ _ hi, Nat.testBit_lt_two_pow (Nat.lt_of_lt_of_le hv (Nat.pow_le_pow_right (by decide) (by omega))), Bool.or_false]
noncomputable def qy_dc (th : Nat → Bool) (H : (Nat → Bool) → Prop) : Nat → Nat → Nat → Int32
  | 0, _, _ => 8
  | d + 1, k, v => if qb_dec (qt_Dec H k (bt (nI v))) = true then nI k else if qy_B th H k v = 1 then qy_dc th H d (k + 1) (v + 2 ^ k) else qy_dc th H d (k + 1) v
theorem qy_B_le (th : Nat → Bool) (H : (Nat → Bool) → Prop) (k v : Nat) : qy_B th H k v ≤ 0 ↔ ¬ qy_B th H k v = 1 := by
  unfold qy_B
  split
  · decide
  · split
    · decide
    · decide
noncomputable def qy_Nd (H : Int32 → (Nat → Bool) → Prop) (M : Nat) : Int32 := nI (qn_num (fun i => qb_dec (∀ s, H (qy_all M) s ↔ H (qy_all M &&& (((1 : Int32) <<< (nI i &&& 31)) ^^^ (-1))) s)) M)
section
variable {f_theirs f_ruleCount f_wayNow f_clausesOf f_clauseCount f_tableFor f_memoFor f_memoSide f_depth f_known f_ones f_diagramFor f_diagramRoot f_nodeCount f_leftCount f_madeCount : Int32} {a_kindOf a_setP a_setQ a_clauses a_memo a_choiceOf a_secondTry a_knownBefore a_onesBefore a_nodeVariable a_nodeLow a_nodeHigh a_nodeNext a_listFirst a_recentKey a_recentNode a_workF a_workG a_workPhase a_workLow a_nodeValue a_left a_made : Nat → Int32} {a_table a_onesOfVariable a_tableBefore : Nat → Int64}
theorem qx_isDecided_44 {post : Int32 → SX → Prop} {k v : Nat} {H : (Nat → Bool) → Prop} (hd : qg_Dep 8 H) (hk : k < 8) (hv : v < 2 ^ k) (hT : qt_T H a_table) (K : post (qb_p (qt_Dec H k (fun i => v.testBit i))) (f_theirs, f_ruleCount, f_wayNow, f_clausesOf, f_clauseCount, f_tableFor, f_memoFor, f_memoSide, f_depth, f_known, f_ones, f_diagramFor, f_diagramRoot, f_nodeCount, f_leftCount, f_madeCount, a_kindOf, a_setP, a_setQ, a_clauses, a_table, a_memo, a_choiceOf, a_secondTry, a_knownBefore, a_onesBefore, a_nodeVariable, a_nodeLow, a_nodeHigh, a_nodeNext, a_listFirst, a_recentKey, a_recentNode, a_workF, a_workG, a_workPhase, a_workLow, a_nodeValue, a_left, a_made, a_onesOfVariable, a_tableBefore)) :
    ∀ (n r : Nat), r ≤ 2 ^ (8 - k) → 2 ^ (8 - k) < n + r → (∀ r', r' < r → (H (fun i => (v ||| r' * 2 ^ k).testBit i) ↔ H (fun i => v.testBit i))) → wX_isDecided_44 post (nI k) (nI v) (qb_p (H (fun i => v.testBit i))) f_theirs f_ruleCount f_wayNow f_clausesOf f_clauseCount f_tableFor f_memoFor f_memoSide f_depth f_known f_ones f_diagramFor f_diagramRoot f_nodeCount f_leftCount f_madeCount a_kindOf a_setP a_setQ a_clauses a_table a_memo a_choiceOf a_secondTry a_knownBefore a_onesBefore a_nodeVariable a_nodeLow a_nodeHigh a_nodeNext a_listFirst a_recentKey a_recentNode a_workF a_workG a_workPhase a_workLow a_nodeValue a_left a_made a_onesOfVariable a_tableBefore n (nI r) := by
  have p8 := qt_pow8 (k := k) (by omega)
  have pk : 2 ^ k ≤ 2 ^ 8 := Nat.pow_le_pow_right (by decide) (by omega)
  have pk' : 2 ^ (8 - k) ≤ 2 ^ 8 := Nat.pow_le_pow_right (by decide) (by omega)
  have h8k : (8 : Int32) - nI k = nI (8 - k) := pk_sub (a := 8) (by omega)
  intro n
  induction n with
  | zero => intro r h1 h2; omega
  | succ n ih =>
    intro r hr hf hI
    rw [wX_isDecided_44, h8k, qs_one_shl (8 - k) (by omega)]
    refine pk_le (2 ^ (8 - k)) r (fun e => ?_) (fun e => ?_)
    · have : qt_Dec H k (fun i => v.testBit i) := (qt_dec_x hd (by omega) hv).mpr (fun r' h => hI r' (by omega))
      rw [qb_p_t this] at K; exact K
    · have hlt : r * 2 ^ k < 256 := by
        rw [← p8]
        exact Nat.mul_lt_mul_of_pos_right e (Nat.pow_pos (by decide))
      have hsh : nI r <<< (nI k &&& 31) = nI (r * 2 ^ k) := pk_shlN _ k (s_l k (by omega)) (by omega)
      have ha : v ||| r * 2 ^ k < 256 := Nat.or_lt_two_pow (n := 8) (by omega) hlt
      rw [hsh, nx_or']
      refine qx_holdsInTable ha hT ?_
      refine br_c (fun z => nm_r (nI_1 r) (ih (r + 1) (by omega) (by omega) ?_)) (fun z => ?_)
      · intro r' hr'
        by_cases e1 : r' = r
        · subst e1
          have := qb_i_inj.mp z
          rw [Bool.eq_iff_iff, qb_dec_iff, qb_dec_iff] at this
          exact this
        · exact hI r' (by omega)
      · have : ¬ qt_Dec H k (fun i => v.testBit i) := by
          intro y
          apply z
          exact qb_p_congr ((qt_dec_x hd (by omega) hv).mp y r e)
        rw [qb_p_f this] at K; exact K
theorem qx_isDecided {post : Int32 → SX → Prop} {M k v : Nat} (hM : M ≤ 12) (hV : qc_Vs M a_kindOf a_setP a_setQ) (hC : qx_Ca M a_kindOf a_setP a_setQ f_clausesOf f_clauseCount f_tableFor f_memoFor f_memoSide f_diagramFor f_diagramRoot f_nodeCount a_clauses a_memo a_nodeVariable a_nodeLow a_nodeHigh a_nodeNext a_listFirst a_recentKey a_recentNode a_table) (hk : k < 8) (hv : v < 2 ^ k)
    (K : ∀ (f_clausesOf' f_clauseCount' f_tableFor' f_memoFor' f_memoSide' f_depth' f_known' f_ones' f_diagramFor' f_diagramRoot' f_nodeCount' f_leftCount' f_madeCount' : Int32) (a_clauses' : Nat → Int32) (a_table' : Nat → Int64) (a_memo' a_choiceOf' a_secondTry' a_knownBefore' a_onesBefore' a_nodeVariable' a_nodeLow' a_nodeHigh' a_nodeNext' a_listFirst' a_recentKey' a_recentNode' a_workF' a_workG' a_workPhase' a_workLow' a_nodeValue' a_left' a_made' : Nat → Int32) (a_onesOfVariable' a_tableBefore' : Nat → Int64), qx_Ca M a_kindOf a_setP a_setQ f_clausesOf' f_clauseCount' f_tableFor' f_memoFor' f_memoSide' f_diagramFor' f_diagramRoot' f_nodeCount' a_clauses' a_memo' a_nodeVariable' a_nodeLow' a_nodeHigh' a_nodeNext' a_listFirst' a_recentKey' a_recentNode' a_table' → post (qb_p (qt_Dec (qc_H M a_kindOf a_setP a_setQ (qy_all M)) k (bt (nI v)))) (f_theirs, nI M, f_wayNow, f_clausesOf', f_clauseCount', f_tableFor', f_memoFor', f_memoSide', f_depth', f_known', f_ones', f_diagramFor', f_diagramRoot', f_nodeCount', f_leftCount', f_madeCount', a_kindOf, a_setP, a_setQ, a_clauses', a_table', a_memo', a_choiceOf', a_secondTry', a_knownBefore', a_onesBefore', a_nodeVariable', a_nodeLow', a_nodeHigh', a_nodeNext', a_listFirst', a_recentKey', a_recentNode', a_workF', a_workG', a_workPhase', a_workLow', a_nodeValue', a_left', a_made', a_onesOfVariable', a_tableBefore')) : wpX_isDecided post (f_theirs, nI M, f_wayNow, f_clausesOf, f_clauseCount, f_tableFor, f_memoFor, f_memoSide, f_depth, f_known, f_ones, f_diagramFor, f_diagramRoot, f_nodeCount, f_leftCount, f_madeCount, a_kindOf, a_setP, a_setQ, a_clauses, a_table, a_memo, a_choiceOf, a_secondTry, a_knownBefore, a_onesBefore, a_nodeVariable, a_nodeLow, a_nodeHigh, a_nodeNext, a_listFirst, a_recentKey, a_recentNode, a_workF, a_workG, a_workPhase, a_workLow, a_nodeValue, a_left, a_made, a_onesOfVariable, a_tableBefore) (qy_all M) (nI k) (nI v) := by
  obtain ⟨h1, h2, h3, h4⟩ := hC
  have hr := qy_lt_ne (qy_all_lt hM)
  have pk : 2 ^ k ≤ 2 ^ 8 := Nat.pow_le_pow_right (by decide) (by omega)
  refine br_c (fun e => ?_) (fun e => ?_)
  · refine qx_buildDiagram (rules := qy_all M) hM hV hr h1 h4 ?_
    intro co cc cl root N g b1 b2 b3 b4 b5 b6 b7 c1 c2 c3 c4 nvl hc ok hN hroot hD
    refine qx_follow ok hN (by omega) hroot ?_
    intro r hr1 hr2 hr3
    have hdec := qd_dec ok.2.1 ok.2.2.2.1 hr1 hr2 hr3
    have hE : qt_Dec (fun s => qd_D g root s = true) k (bt (nI v)) ↔ qt_Dec (qc_H M a_kindOf a_setP a_setQ (qy_all M)) k (bt (nI v)) :=
      ⟨fun z s hs => (hD s).symm.trans ((z s hs).trans (hD _)), fun z s hs => (hD s).trans ((z s hs).trans (hD _).symm)⟩
    refine pk_le 2 r (fun z => ?_) (fun z => ?_)
    · have : ¬ qt_Dec (qc_H M a_kindOf a_setP a_setQ (qy_all M)) k (bt (nI v)) := by rw [← hE, ← hdec]; omega
      exact ek_v (P := fun r => post r _) (qb_p_f this).symm (K _ _ _ _ _ _ _ _ _ _ _ _ _ _ _ _ _ _ _ _ _ _ _ _ _ _ _ _ _ _ _ _ _ _ _ _ ⟨hc, h2, h3, Or.inr ⟨N, g, root, rfl, hN, ok, rfl, hroot, hD⟩⟩)
    · have : qt_Dec (qc_H M a_kindOf a_setP a_setQ (qy_all M)) k (bt (nI v)) := hE.mp (hdec.mp z)
      exact ek_v (P := fun r => post r _) (qb_p_t this).symm (K _ _ _ _ _ _ _ _ _ _ _ _ _ _ _ _ _ _ _ _ _ _ _ _ _ _ _ _ _ _ _ _ _ _ _ _ ⟨hc, h2, h3, Or.inr ⟨N, g, root, rfl, hN, ok, rfl, hroot, hD⟩⟩)
  · refine qx_buildTable (rules := qy_all M) hM hV hr h1 h2 ?_
    intro co cc cl tb ov hc ht
    refine qx_holdsInTable (by omega) ht ?_
    refine ⟨2 ^ (8 - k) + 1, qx_isDecided_44 qc_H_dep hk hv ht ?_ (2 ^ (8 - k) + 1) 0 (Nat.zero_le _) (by omega) (fun r' hr' => by omega)⟩
    exact ek_v (P := fun r => post r _) (by rw [qt_bits (by omega)]) (K _ _ _ _ _ _ _ _ _ _ _ _ _ _ _ _ _ _ _ _ _ _ _ _ _ _ _ _ _ _ _ _ _ _ _ _ ⟨hc, Or.inr ht, h3, h4⟩)
theorem qx_decided_9 {post : Int32 → SX → Prop} {M : Nat} (hM : M ≤ 12) (hV : qc_Vs M a_kindOf a_setP a_setQ) :
    ∀ (n k v : Nat) (f_clausesOf' f_clauseCount' f_tableFor' f_memoFor' f_memoSide' f_depth' f_known' f_ones' f_diagramFor' f_diagramRoot' f_nodeCount' f_leftCount' f_madeCount' : Int32) (a_clauses' : Nat → Int32) (a_table' : Nat → Int64) (a_memo' a_choiceOf' a_secondTry' a_knownBefore' a_onesBefore' a_nodeVariable' a_nodeLow' a_nodeHigh' a_nodeNext' a_listFirst' a_recentKey' a_recentNode' a_workF' a_workG' a_workPhase' a_workLow' a_nodeValue' a_left' a_made' : Nat → Int32) (a_onesOfVariable' a_tableBefore' : Nat → Int64), k ≤ 8 → 8 < n + k → v < 2 ^ k → qx_Ca M a_kindOf a_setP a_setQ f_clausesOf' f_clauseCount' f_tableFor' f_memoFor' f_memoSide' f_diagramFor' f_diagramRoot' f_nodeCount' a_clauses' a_memo' a_nodeVariable' a_nodeLow' a_nodeHigh' a_nodeNext' a_listFirst' a_recentKey' a_recentNode' a_table' →
    (∀ (f_clausesOf' f_clauseCount' f_tableFor' f_memoFor' f_memoSide' f_depth' f_known' f_ones' f_diagramFor' f_diagramRoot' f_nodeCount' f_leftCount' f_madeCount' : Int32) (a_clauses' : Nat → Int32) (a_table' : Nat → Int64) (a_memo' a_choiceOf' a_secondTry' a_knownBefore' a_onesBefore' a_nodeVariable' a_nodeLow' a_nodeHigh' a_nodeNext' a_listFirst' a_recentKey' a_recentNode' a_workF' a_workG' a_workPhase' a_workLow' a_nodeValue' a_left' a_made' : Nat → Int32) (a_onesOfVariable' a_tableBefore' : Nat → Int64), qx_Ca M a_kindOf a_setP a_setQ f_clausesOf' f_clauseCount' f_tableFor' f_memoFor' f_memoSide' f_diagramFor' f_diagramRoot' f_nodeCount' a_clauses' a_memo' a_nodeVariable' a_nodeLow' a_nodeHigh' a_nodeNext' a_listFirst' a_recentKey' a_recentNode' a_table' → post (qy_dc (bt f_theirs) (qc_H M a_kindOf a_setP a_setQ (qy_all M)) (8 - k) k v) (f_theirs, nI M, f_wayNow, f_clausesOf', f_clauseCount', f_tableFor', f_memoFor', f_memoSide', f_depth', f_known', f_ones', f_diagramFor', f_diagramRoot', f_nodeCount', f_leftCount', f_madeCount', a_kindOf, a_setP, a_setQ, a_clauses', a_table', a_memo', a_choiceOf', a_secondTry', a_knownBefore', a_onesBefore', a_nodeVariable', a_nodeLow', a_nodeHigh', a_nodeNext', a_listFirst', a_recentKey', a_recentNode', a_workF', a_workG', a_workPhase', a_workLow', a_nodeValue', a_left', a_made', a_onesOfVariable', a_tableBefore')) →
    wX_decided_9 post (qy_all M) n (nI v) (nI k) f_theirs (nI M) f_wayNow f_clausesOf' f_clauseCount' f_tableFor' f_memoFor' f_memoSide' f_depth' f_known' f_ones' f_diagramFor' f_diagramRoot' f_nodeCount' f_leftCount' f_madeCount' a_kindOf a_setP a_setQ a_clauses' a_table' a_memo' a_choiceOf' a_secondTry' a_knownBefore' a_onesBefore' a_nodeVariable' a_nodeLow' a_nodeHigh' a_nodeNext' a_listFirst' a_recentKey' a_recentNode' a_workF' a_workG' a_workPhase' a_workLow' a_nodeValue' a_left' a_made' a_onesOfVariable' a_tableBefore' := by
  intro n
  induction n with
  | zero => intro k v; intros; omega
  | succ n ih =>
    intro k v f_clausesOf' f_clauseCount' f_tableFor' f_memoFor' f_memoSide' f_depth' f_known' f_ones' f_diagramFor' f_diagramRoot' f_nodeCount' f_leftCount' f_madeCount' a_clauses' a_table' a_memo' a_choiceOf' a_secondTry' a_knownBefore' a_onesBefore' a_nodeVariable' a_nodeLow' a_nodeHigh' a_nodeNext' a_listFirst' a_recentKey' a_recentNode' a_workF' a_workG' a_workPhase' a_workLow' a_nodeValue' a_left' a_made' a_onesOfVariable' a_tableBefore' hk hf hv hC K
    refine pk_le 8 k (fun e => ?_) (fun e => ?_)
    · have K' := K f_clausesOf' f_clauseCount' f_tableFor' f_memoFor' f_memoSide' f_depth' f_known' f_ones' f_diagramFor' f_diagramRoot' f_nodeCount' f_leftCount' f_madeCount' a_clauses' a_table' a_memo' a_choiceOf' a_secondTry' a_knownBefore' a_onesBefore' a_nodeVariable' a_nodeLow' a_nodeHigh' a_nodeNext' a_listFirst' a_recentKey' a_recentNode' a_workF' a_workG' a_workPhase' a_workLow' a_nodeValue' a_left' a_made' a_onesOfVariable' a_tableBefore' hC
      rw [show 8 - k = 0 by omega] at K'
      exact K'
    · have p2 : 2 ^ (k + 1) = 2 ^ k * 2 := Nat.pow_succ ..
      rw [show 8 - k = (8 - (k + 1)) + 1 by omega] at K
      refine qx_isDecided hM hV hC e hv ?_
      intro f_clausesOf'' f_clauseCount'' f_tableFor'' f_memoFor'' f_memoSide'' f_depth'' f_known'' f_ones'' f_diagramFor'' f_diagramRoot'' f_nodeCount'' f_leftCount'' f_madeCount'' a_clauses'' a_table'' a_memo'' a_choiceOf'' a_secondTry'' a_knownBefore'' a_onesBefore'' a_nodeVariable'' a_nodeLow'' a_nodeHigh'' a_nodeNext'' a_listFirst'' a_recentKey'' a_recentNode'' a_workF'' a_workG'' a_workPhase'' a_workLow'' a_nodeValue'' a_left'' a_made'' a_onesOfVariable'' a_tableBefore'' hC'
      refine br_c (fun z => ?_) (fun z => ?_)
      · have hz := qb_dec_f (qb_p_0.mp z)
        refine qx_move hM hV hC' e hv ?_
        intro f_clausesOf' f_clauseCount' f_tableFor' f_memoFor' f_memoSide' f_depth' f_known' f_ones' f_diagramFor' f_diagramRoot' f_nodeCount' f_leftCount' f_madeCount' a_clauses' a_table' a_memo' a_choiceOf' a_secondTry' a_knownBefore' a_onesBefore' a_nodeVariable' a_nodeLow' a_nodeHigh' a_nodeNext' a_listFirst' a_recentKey' a_recentNode' a_workF' a_workG' a_workPhase' a_workLow' a_nodeValue' a_left' a_made' a_onesOfVariable' a_tableBefore' hC''
        refine ek_if (qy_B_le _ _ _ _) (fun y => nm_r (nI_1 k) (ih (k + 1) v f_clausesOf' f_clauseCount' f_tableFor' f_memoFor' f_memoSide' f_depth' f_known' f_ones' f_diagramFor' f_diagramRoot' f_nodeCount' f_leftCount' f_madeCount' a_clauses' a_table' a_memo' a_choiceOf' a_secondTry' a_knownBefore' a_onesBefore' a_nodeVariable' a_nodeLow' a_nodeHigh' a_nodeNext' a_listFirst' a_recentKey' a_recentNode' a_workF' a_workG' a_workPhase' a_workLow' a_nodeValue' a_left' a_made' a_onesOfVariable' a_tableBefore' (by omega) (by omega) (by omega) hC'' ?_)) (fun y => nm_r (e' := nI (v + 2 ^ k)) (qy_or k e v hv) (nm_r (nI_1 k) (ih (k + 1) (v + 2 ^ k) f_clausesOf' f_clauseCount' f_tableFor' f_memoFor' f_memoSide' f_depth' f_known' f_ones' f_diagramFor' f_diagramRoot' f_nodeCount' f_leftCount' f_madeCount' a_clauses' a_table' a_memo' a_choiceOf' a_secondTry' a_knownBefore' a_onesBefore' a_nodeVariable' a_nodeLow' a_nodeHigh' a_nodeNext' a_listFirst' a_recentKey' a_recentNode' a_workF' a_workG' a_workPhase' a_workLow' a_nodeValue' a_left' a_made' a_onesOfVariable' a_tableBefore' (by omega) (by omega) (by omega) hC'' ?_)))
        · intro f_clausesOf'' f_clauseCount'' f_tableFor'' f_memoFor'' f_memoSide'' f_depth'' f_known'' f_ones'' f_diagramFor'' f_diagramRoot'' f_nodeCount'' f_leftCount'' f_madeCount'' a_clauses'' a_table'' a_memo'' a_choiceOf'' a_secondTry'' a_knownBefore'' a_onesBefore'' a_nodeVariable'' a_nodeLow'' a_nodeHigh'' a_nodeNext'' a_listFirst'' a_recentKey'' a_recentNode'' a_workF'' a_workG'' a_workPhase'' a_workLow'' a_nodeValue'' a_left'' a_made'' a_onesOfVariable'' a_tableBefore'' h
          have K' := K f_clausesOf'' f_clauseCount'' f_tableFor'' f_memoFor'' f_memoSide'' f_depth'' f_known'' f_ones'' f_diagramFor'' f_diagramRoot'' f_nodeCount'' f_leftCount'' f_madeCount'' a_clauses'' a_table'' a_memo'' a_choiceOf'' a_secondTry'' a_knownBefore'' a_onesBefore'' a_nodeVariable'' a_nodeLow'' a_nodeHigh'' a_nodeNext'' a_listFirst'' a_recentKey'' a_recentNode'' a_workF'' a_workG'' a_workPhase'' a_workLow'' a_nodeValue'' a_left'' a_made'' a_onesOfVariable'' a_tableBefore'' h
          simp only [qy_dc] at K'
          rw [if_neg (by rw [hz]; decide), if_neg y] at K'
          exact K'
        · intro f_clausesOf'' f_clauseCount'' f_tableFor'' f_memoFor'' f_memoSide'' f_depth'' f_known'' f_ones'' f_diagramFor'' f_diagramRoot'' f_nodeCount'' f_leftCount'' f_madeCount'' a_clauses'' a_table'' a_memo'' a_choiceOf'' a_secondTry'' a_knownBefore'' a_onesBefore'' a_nodeVariable'' a_nodeLow'' a_nodeHigh'' a_nodeNext'' a_listFirst'' a_recentKey'' a_recentNode'' a_workF'' a_workG'' a_workPhase'' a_workLow'' a_nodeValue'' a_left'' a_made'' a_onesOfVariable'' a_tableBefore'' h
          have K' := K f_clausesOf'' f_clauseCount'' f_tableFor'' f_memoFor'' f_memoSide'' f_depth'' f_known'' f_ones'' f_diagramFor'' f_diagramRoot'' f_nodeCount'' f_leftCount'' f_madeCount'' a_clauses'' a_table'' a_memo'' a_choiceOf'' a_secondTry'' a_knownBefore'' a_onesBefore'' a_nodeVariable'' a_nodeLow'' a_nodeHigh'' a_nodeNext'' a_listFirst'' a_recentKey'' a_recentNode'' a_workF'' a_workG'' a_workPhase'' a_workLow'' a_nodeValue'' a_left'' a_made'' a_onesOfVariable'' a_tableBefore'' h
          simp only [qy_dc] at K'
          rw [if_neg (by rw [hz]; decide), if_pos (Classical.byContradiction y)] at K'
          exact K'
      · have K' := K f_clausesOf'' f_clauseCount'' f_tableFor'' f_memoFor'' f_memoSide'' f_depth'' f_known'' f_ones'' f_diagramFor'' f_diagramRoot'' f_nodeCount'' f_leftCount'' f_madeCount'' a_clauses'' a_table'' a_memo'' a_choiceOf'' a_secondTry'' a_knownBefore'' a_onesBefore'' a_nodeVariable'' a_nodeLow'' a_nodeHigh'' a_nodeNext'' a_listFirst'' a_recentKey'' a_recentNode'' a_workF'' a_workG'' a_workPhase'' a_workLow'' a_nodeValue'' a_left'' a_made'' a_onesOfVariable'' a_tableBefore'' hC'
        simp only [qy_dc] at K'
        rw [if_pos (qb_dec_t (Classical.byContradiction (fun y => z (qb_p_f y))))] at K'
        exact K'
theorem qx_decided {post : Int32 → SX → Prop} {M : Nat} (hM : M ≤ 12) (hV : qc_Vs M a_kindOf a_setP a_setQ) (hC : qx_Ca M a_kindOf a_setP a_setQ f_clausesOf f_clauseCount f_tableFor f_memoFor f_memoSide f_diagramFor f_diagramRoot f_nodeCount a_clauses a_memo a_nodeVariable a_nodeLow a_nodeHigh a_nodeNext a_listFirst a_recentKey a_recentNode a_table)
    (K : ∀ (f_clausesOf' f_clauseCount' f_tableFor' f_memoFor' f_memoSide' f_depth' f_known' f_ones' f_diagramFor' f_diagramRoot' f_nodeCount' f_leftCount' f_madeCount' : Int32) (a_clauses' : Nat → Int32) (a_table' : Nat → Int64) (a_memo' a_choiceOf' a_secondTry' a_knownBefore' a_onesBefore' a_nodeVariable' a_nodeLow' a_nodeHigh' a_nodeNext' a_listFirst' a_recentKey' a_recentNode' a_workF' a_workG' a_workPhase' a_workLow' a_nodeValue' a_left' a_made' : Nat → Int32) (a_onesOfVariable' a_tableBefore' : Nat → Int64), qx_Ca M a_kindOf a_setP a_setQ f_clausesOf' f_clauseCount' f_tableFor' f_memoFor' f_memoSide' f_diagramFor' f_diagramRoot' f_nodeCount' a_clauses' a_memo' a_nodeVariable' a_nodeLow' a_nodeHigh' a_nodeNext' a_listFirst' a_recentKey' a_recentNode' a_table' → post (qy_dc (bt f_theirs) (qc_H M a_kindOf a_setP a_setQ (qy_all M)) 8 0 0) (f_theirs, nI M, f_wayNow, f_clausesOf', f_clauseCount', f_tableFor', f_memoFor', f_memoSide', f_depth', f_known', f_ones', f_diagramFor', f_diagramRoot', f_nodeCount', f_leftCount', f_madeCount', a_kindOf, a_setP, a_setQ, a_clauses', a_table', a_memo', a_choiceOf', a_secondTry', a_knownBefore', a_onesBefore', a_nodeVariable', a_nodeLow', a_nodeHigh', a_nodeNext', a_listFirst', a_recentKey', a_recentNode', a_workF', a_workG', a_workPhase', a_workLow', a_nodeValue', a_left', a_made', a_onesOfVariable', a_tableBefore')) : wpX_decided post (f_theirs, nI M, f_wayNow, f_clausesOf, f_clauseCount, f_tableFor, f_memoFor, f_memoSide, f_depth, f_known, f_ones, f_diagramFor, f_diagramRoot, f_nodeCount, f_leftCount, f_madeCount, a_kindOf, a_setP, a_setQ, a_clauses, a_table, a_memo, a_choiceOf, a_secondTry, a_knownBefore, a_onesBefore, a_nodeVariable, a_nodeLow, a_nodeHigh, a_nodeNext, a_listFirst, a_recentKey, a_recentNode, a_workF, a_workG, a_workPhase, a_workLow, a_nodeValue, a_left, a_made, a_onesOfVariable, a_tableBefore) := by
  unfold wpX_decided wpX_allRules
  dsimp only
  exact ⟨9, qx_decided_9 hM hV 9 0 0 f_clausesOf f_clauseCount f_tableFor f_memoFor f_memoSide f_depth f_known f_ones f_diagramFor f_diagramRoot f_nodeCount f_leftCount f_madeCount a_clauses a_table a_memo a_choiceOf a_secondTry a_knownBefore a_onesBefore a_nodeVariable a_nodeLow a_nodeHigh a_nodeNext a_listFirst a_recentKey a_recentNode a_workF a_workG a_workPhase a_workLow a_nodeValue a_left a_made a_onesOfVariable a_tableBefore (by omega) (by omega) (by decide) hC K⟩
theorem qx_isNeedless_64 {post : Int32 → SX → Prop} (K1 : (∀ w, w < 4 → a_table w = a_tableBefore w) → post 1 (f_theirs, f_ruleCount, f_wayNow, f_clausesOf, f_clauseCount, f_tableFor, f_memoFor, f_memoSide, f_depth, f_known, f_ones, f_diagramFor, f_diagramRoot, f_nodeCount, f_leftCount, f_madeCount, a_kindOf, a_setP, a_setQ, a_clauses, a_table, a_memo, a_choiceOf, a_secondTry, a_knownBefore, a_onesBefore, a_nodeVariable, a_nodeLow, a_nodeHigh, a_nodeNext, a_listFirst, a_recentKey, a_recentNode, a_workF, a_workG, a_workPhase, a_workLow, a_nodeValue, a_left, a_made, a_onesOfVariable, a_tableBefore)) (K0 : ¬ (∀ w, w < 4 → a_table w = a_tableBefore w) → post 0 (f_theirs, f_ruleCount, f_wayNow, f_clausesOf, f_clauseCount, f_tableFor, f_memoFor, f_memoSide, f_depth, f_known, f_ones, f_diagramFor, f_diagramRoot, f_nodeCount, f_leftCount, f_madeCount, a_kindOf, a_setP, a_setQ, a_clauses, a_table, a_memo, a_choiceOf, a_secondTry, a_knownBefore, a_onesBefore, a_nodeVariable, a_nodeLow, a_nodeHigh, a_nodeNext, a_listFirst, a_recentKey, a_recentNode, a_workF, a_workG, a_workPhase, a_workLow, a_nodeValue, a_left, a_made, a_onesOfVariable, a_tableBefore)) :
    ∀ (n w : Nat), w ≤ 4 → 4 < n + w → (∀ w', w' < w → a_table w' = a_tableBefore w') → wX_isNeedless_64 post f_theirs f_ruleCount f_wayNow f_clausesOf f_clauseCount f_tableFor f_memoFor f_memoSide f_depth f_known f_ones f_diagramFor f_diagramRoot f_nodeCount f_leftCount f_madeCount a_kindOf a_setP a_setQ a_clauses a_table a_memo a_choiceOf a_secondTry a_knownBefore a_onesBefore a_nodeVariable a_nodeLow a_nodeHigh a_nodeNext a_listFirst a_recentKey a_recentNode a_workF a_workG a_workPhase a_workLow a_nodeValue a_left a_made a_onesOfVariable a_tableBefore n (nI w) := by
  intro n
  induction n with
  | zero => intro w h1 h2; omega
  | succ n ih =>
    intro w hw hf hI
    refine pk_le 4 w (fun e => K1 (fun w' h => hI w' (by omega))) (fun e => ?_)
    have hin : vp_in (nI w) 4 := vp_in_nI e (by omega)
    refine ⟨hin, hin, ?_⟩
    rw [nI_clamp (by omega)]
    refine br_c (fun z => nm_r (nI_1 w) (ih (w + 1) (by omega) (by omega) ?_)) (fun z => K0 (fun y => z (y w e)))
    intro w' hw'
    by_cases e1 : w' = w
    · subst e1; exact z
    · exact hI w' (by omega)
theorem qt_same {H H' : (Nat → Bool) → Prop} (hd : qg_Dep 8 H) (hd' : qg_Dep 8 H') {tb tb' : Nat → Int64} (h : qt_T H tb) (h' : qt_T H' tb') : (∀ w, w < 4 → tb' w = tb w) ↔ ∀ s, H s ↔ H' s := by
  have hdd : qg_Dep 8 (fun s => H s ↔ H' s) := fun s s' e => by
    show (H s ↔ H' s) ↔ (H s' ↔ H' s')
    rw [hd s s' e, hd' s s' e]
  rw [qt_all hdd]
  constructor
  · intro z a ha
    rw [← h a ha, ← h' a ha, z (a / 64) (by omega)]
  · intro z w hw
    apply qt_ext
    intro j hj
    have a1 := h (64 * w + j) (by omega)
    have a2 := h' (64 * w + j) (by omega)
    have a3 := z (64 * w + j) (by omega)
    rw [show (64 * w + j) / 64 = w by omega, show (64 * w + j) % 64 = j by omega] at a1 a2
    rw [Bool.eq_iff_iff, a2, a1]
    exact a3.symm
theorem qx_isNeedless_28 {post : Int32 → SX → Prop} {M i : Nat} (hM : M ≤ 12) (hi : i < 12) (hV : qc_Vs M a_kindOf a_setP a_setQ) (hc : qc_Cache M a_kindOf a_setP a_setQ f_clausesOf f_clauseCount a_clauses) (ht : qt_T (qc_H M a_kindOf a_setP a_setQ (qy_all M)) a_table) (htf : f_tableFor = qy_all M)
    (K : ∀ co cc cl tb ov tbf, qc_Cache M a_kindOf a_setP a_setQ co cc cl → qt_T (qc_H M a_kindOf a_setP a_setQ (qy_all M &&& (((1 : Int32) <<< (nI i &&& 31)) ^^^ (-1)))) tb → post (qb_p (∀ s, qc_H M a_kindOf a_setP a_setQ (qy_all M) s ↔ qc_H M a_kindOf a_setP a_setQ (qy_all M &&& (((1 : Int32) <<< (nI i &&& 31)) ^^^ (-1))) s)) (f_theirs, nI M, f_wayNow, co, cc, (qy_all M &&& (((1 : Int32) <<< (nI i &&& 31)) ^^^ (-1))), f_memoFor, f_memoSide, f_depth, f_known, f_ones, f_diagramFor, f_diagramRoot, f_nodeCount, f_leftCount, f_madeCount, a_kindOf, a_setP, a_setQ, cl, tb, a_memo, a_choiceOf, a_secondTry, a_knownBefore, a_onesBefore, a_nodeVariable, a_nodeLow, a_nodeHigh, a_nodeNext, a_listFirst, a_recentKey, a_recentNode, a_workF, a_workG, a_workPhase, a_workLow, a_nodeValue, a_left, a_made, ov, tbf)) :
    ∀ (n w : Nat) (tbf : Nat → Int64), w ≤ 4 → 4 < n + w → (∀ w', w' < w → tbf w' = a_table w') → wX_isNeedless_28 post (qy_all M) (nI i) f_theirs (nI M) f_wayNow f_clausesOf f_clauseCount f_tableFor f_memoFor f_memoSide f_depth f_known f_ones f_diagramFor f_diagramRoot f_nodeCount f_leftCount f_madeCount n (nI w) a_kindOf a_setP a_setQ a_clauses a_table a_memo a_choiceOf a_secondTry a_knownBefore a_onesBefore a_nodeVariable a_nodeLow a_nodeHigh a_nodeNext a_listFirst a_recentKey a_recentNode a_workF a_workG a_workPhase a_workLow a_nodeValue a_left a_made a_onesOfVariable tbf := by
  intro n
  induction n with
  | zero => intro w tbf h1 h2; omega
  | succ n ih =>
    intro w tbf hw hf hI
    refine pk_le 4 w (fun e => ?_) (fun e => ?_)
    · refine qx_buildTable hM hV (qy_lt_ne (qb_lt_and (qy_all_lt hM))) hc (by rw [htf]; exact Or.inr ht) ?_
      intro co cc cl tb ov hc' ht'
      have hs := qt_same qc_H_dep qc_H_dep ht ht'
      have hw4 : (∀ w, w < 4 → tb w = tbf w) ↔ (∀ w, w < 4 → tb w = a_table w) := ⟨fun z w h => by rw [z w h]; exact hI w (by omega), fun z w h => by rw [z w h]; exact (hI w (by omega)).symm⟩
      have K' := K co cc cl tb ov tbf hc' ht'
      refine ⟨5, qx_isNeedless_64 (fun z => ?_) (fun z => ?_) 5 0 (by omega) (by omega) (fun w' hw' => by omega)⟩
      · rw [qb_p_t (hs.mp (hw4.mp z))] at K'; exact K'
      · rw [qb_p_f (fun y => z (hw4.mpr (hs.mpr y)))] at K'; exact K'
    · have hin : vp_in (nI w) 4 := vp_in_nI e (by omega)
      refine ⟨hin, hin, nm_r (e' := vp_updL tbf w (a_table w)) (by rw [nI_clamp (by omega)]) (nm_r (nI_1 w) (ih (w + 1) _ (by omega) (by omega) ?_))⟩
      intro w' hw'
      by_cases e1 : w' = w
      · subst e1; exact pk_uLs
      · rw [pk_uLn e1]; exact hI w' (by omega)
theorem qx_isNeedless {post : Int32 → SX → Prop} {M i : Nat} (hM : M ≤ 12) (hi : i < 12) (hV : qc_Vs M a_kindOf a_setP a_setQ) (hC : qx_Ca M a_kindOf a_setP a_setQ f_clausesOf f_clauseCount f_tableFor f_memoFor f_memoSide f_diagramFor f_diagramRoot f_nodeCount a_clauses a_memo a_nodeVariable a_nodeLow a_nodeHigh a_nodeNext a_listFirst a_recentKey a_recentNode a_table)
    (K : ∀ (f_clausesOf' f_clauseCount' f_tableFor' f_memoFor' f_memoSide' f_depth' f_known' f_ones' f_diagramFor' f_diagramRoot' f_nodeCount' f_leftCount' f_madeCount' : Int32) (a_clauses' : Nat → Int32) (a_table' : Nat → Int64) (a_memo' a_choiceOf' a_secondTry' a_knownBefore' a_onesBefore' a_nodeVariable' a_nodeLow' a_nodeHigh' a_nodeNext' a_listFirst' a_recentKey' a_recentNode' a_workF' a_workG' a_workPhase' a_workLow' a_nodeValue' a_left' a_made' : Nat → Int32) (a_onesOfVariable' a_tableBefore' : Nat → Int64), qx_Ca M a_kindOf a_setP a_setQ f_clausesOf' f_clauseCount' f_tableFor' f_memoFor' f_memoSide' f_diagramFor' f_diagramRoot' f_nodeCount' a_clauses' a_memo' a_nodeVariable' a_nodeLow' a_nodeHigh' a_nodeNext' a_listFirst' a_recentKey' a_recentNode' a_table' → post (qb_p (∀ s, qc_H M a_kindOf a_setP a_setQ (qy_all M) s ↔ qc_H M a_kindOf a_setP a_setQ (qy_all M &&& (((1 : Int32) <<< (nI i &&& 31)) ^^^ (-1))) s)) (f_theirs, nI M, f_wayNow, f_clausesOf', f_clauseCount', f_tableFor', f_memoFor', f_memoSide', f_depth', f_known', f_ones', f_diagramFor', f_diagramRoot', f_nodeCount', f_leftCount', f_madeCount', a_kindOf, a_setP, a_setQ, a_clauses', a_table', a_memo', a_choiceOf', a_secondTry', a_knownBefore', a_onesBefore', a_nodeVariable', a_nodeLow', a_nodeHigh', a_nodeNext', a_listFirst', a_recentKey', a_recentNode', a_workF', a_workG', a_workPhase', a_workLow', a_nodeValue', a_left', a_made', a_onesOfVariable', a_tableBefore')) : wpX_isNeedless post (f_theirs, nI M, f_wayNow, f_clausesOf, f_clauseCount, f_tableFor, f_memoFor, f_memoSide, f_depth, f_known, f_ones, f_diagramFor, f_diagramRoot, f_nodeCount, f_leftCount, f_madeCount, a_kindOf, a_setP, a_setQ, a_clauses, a_table, a_memo, a_choiceOf, a_secondTry, a_knownBefore, a_onesBefore, a_nodeVariable, a_nodeLow, a_nodeHigh, a_nodeNext, a_listFirst, a_recentKey, a_recentNode, a_workF, a_workG, a_workPhase, a_workLow, a_nodeValue, a_left, a_made, a_onesOfVariable, a_tableBefore) (qy_all M) (nI i) := by
  obtain ⟨h1, h2, h3, h4⟩ := hC
  have hr := qy_lt_ne (qy_all_lt hM)
  refine br_c (fun e => ?_) (fun e => ?_)
  · refine qx_sameDiagram hM hV hr (qy_lt_ne (qb_lt_and (qy_all_lt hM))) h1 ?_
    intro co cc cl nc b1 b2 b3 b4 b5 b6 b7 c1 c2 c3 c4 nvl hc
    exact ⟨qb_p_nb _, K _ _ _ _ _ _ _ _ _ _ _ _ _ _ _ _ _ _ _ _ _ _ _ _ _ _ _ _ _ _ _ _ _ _ _ _ ⟨hc, h2, h3, Or.inl rfl⟩⟩
  · refine qx_buildTable (rules := qy_all M) hM hV hr h1 h2 ?_
    intro co cc cl tb ov hc ht
    refine ⟨5, qx_isNeedless_28 hM hi hV hc ht rfl ?_ 5 0 a_tableBefore (by omega) (by omega) (fun w' hw' => by omega)⟩
    intro co' cc' cl' tb' ov' tbf' hc' ht'
    exact K _ _ _ _ _ _ _ _ _ _ _ _ _ _ _ _ _ _ _ _ _ _ _ _ _ _ _ _ _ _ _ _ _ _ _ _ ⟨hc', Or.inr ht', h3, h4⟩
theorem qx_needless_9 {post : Int32 → SX → Prop} {M : Nat} (hM : M ≤ 12) (hV : qc_Vs M a_kindOf a_setP a_setQ)
    (K : ∀ (f_clausesOf' f_clauseCount' f_tableFor' f_memoFor' f_memoSide' f_depth' f_known' f_ones' f_diagramFor' f_diagramRoot' f_nodeCount' f_leftCount' f_madeCount' : Int32) (a_clauses' : Nat → Int32) (a_table' : Nat → Int64) (a_memo' a_choiceOf' a_secondTry' a_knownBefore' a_onesBefore' a_nodeVariable' a_nodeLow' a_nodeHigh' a_nodeNext' a_listFirst' a_recentKey' a_recentNode' a_workF' a_workG' a_workPhase' a_workLow' a_nodeValue' a_left' a_made' : Nat → Int32) (a_onesOfVariable' a_tableBefore' : Nat → Int64), qx_Ca M a_kindOf a_setP a_setQ f_clausesOf' f_clauseCount' f_tableFor' f_memoFor' f_memoSide' f_diagramFor' f_diagramRoot' f_nodeCount' a_clauses' a_memo' a_nodeVariable' a_nodeLow' a_nodeHigh' a_nodeNext' a_listFirst' a_recentKey' a_recentNode' a_table' → post (qy_Nd (fun r => qc_H M a_kindOf a_setP a_setQ r) M) (f_theirs, nI M, f_wayNow, f_clausesOf', f_clauseCount', f_tableFor', f_memoFor', f_memoSide', f_depth', f_known', f_ones', f_diagramFor', f_diagramRoot', f_nodeCount', f_leftCount', f_madeCount', a_kindOf, a_setP, a_setQ, a_clauses', a_table', a_memo', a_choiceOf', a_secondTry', a_knownBefore', a_onesBefore', a_nodeVariable', a_nodeLow', a_nodeHigh', a_nodeNext', a_listFirst', a_recentKey', a_recentNode', a_workF', a_workG', a_workPhase', a_workLow', a_nodeValue', a_left', a_made', a_onesOfVariable', a_tableBefore')) :
    ∀ (n i : Nat) (x : Int32) (f_clausesOf' f_clauseCount' f_tableFor' f_memoFor' f_memoSide' f_depth' f_known' f_ones' f_diagramFor' f_diagramRoot' f_nodeCount' f_leftCount' f_madeCount' : Int32) (a_clauses' : Nat → Int32) (a_table' : Nat → Int64) (a_memo' a_choiceOf' a_secondTry' a_knownBefore' a_onesBefore' a_nodeVariable' a_nodeLow' a_nodeHigh' a_nodeNext' a_listFirst' a_recentKey' a_recentNode' a_workF' a_workG' a_workPhase' a_workLow' a_nodeValue' a_left' a_made' : Nat → Int32) (a_onesOfVariable' a_tableBefore' : Nat → Int64), i ≤ M → M < n + i → qy_acc (fun i => qb_dec (∀ s, qc_H M a_kindOf a_setP a_setQ (qy_all M) s ↔ qc_H M a_kindOf a_setP a_setQ (qy_all M &&& (((1 : Int32) <<< (nI i &&& 31)) ^^^ (-1))) s)) i x → qx_Ca M a_kindOf a_setP a_setQ f_clausesOf' f_clauseCount' f_tableFor' f_memoFor' f_memoSide' f_diagramFor' f_diagramRoot' f_nodeCount' a_clauses' a_memo' a_nodeVariable' a_nodeLow' a_nodeHigh' a_nodeNext' a_listFirst' a_recentKey' a_recentNode' a_table' →
    wX_needless_9 post (qy_all M) n x (nI i) f_theirs (nI M) f_wayNow f_clausesOf' f_clauseCount' f_tableFor' f_memoFor' f_memoSide' f_depth' f_known' f_ones' f_diagramFor' f_diagramRoot' f_nodeCount' f_leftCount' f_madeCount' a_kindOf a_setP a_setQ a_clauses' a_table' a_memo' a_choiceOf' a_secondTry' a_knownBefore' a_onesBefore' a_nodeVariable' a_nodeLow' a_nodeHigh' a_nodeNext' a_listFirst' a_recentKey' a_recentNode' a_workF' a_workG' a_workPhase' a_workLow' a_nodeValue' a_left' a_made' a_onesOfVariable' a_tableBefore' := by
  intro n
  induction n with
  | zero => intro i x; intros; omega
  | succ n ih =>
    intro i x f_clausesOf' f_clauseCount' f_tableFor' f_memoFor' f_memoSide' f_depth' f_known' f_ones' f_diagramFor' f_diagramRoot' f_nodeCount' f_leftCount' f_madeCount' a_clauses' a_table' a_memo' a_choiceOf' a_secondTry' a_knownBefore' a_onesBefore' a_nodeVariable' a_nodeLow' a_nodeHigh' a_nodeNext' a_listFirst' a_recentKey' a_recentNode' a_workF' a_workG' a_workPhase' a_workLow' a_nodeValue' a_left' a_made' a_onesOfVariable' a_tableBefore' hi hf hI hC
    refine pk_le M i (fun e => ?_) (fun e => ?_)
    · have ei : i = M := by omega
      subst ei
      rw [qy_acc_e (by omega) hI]
      exact K f_clausesOf' f_clauseCount' f_tableFor' f_memoFor' f_memoSide' f_depth' f_known' f_ones' f_diagramFor' f_diagramRoot' f_nodeCount' f_leftCount' f_madeCount' a_clauses' a_table' a_memo' a_choiceOf' a_secondTry' a_knownBefore' a_onesBefore' a_nodeVariable' a_nodeLow' a_nodeHigh' a_nodeNext' a_listFirst' a_recentKey' a_recentNode' a_workF' a_workG' a_workPhase' a_workLow' a_nodeValue' a_left' a_made' a_onesOfVariable' a_tableBefore' hC
    · refine qx_isNeedless hM (by omega) hV hC ?_
      intro f_clausesOf'' f_clauseCount'' f_tableFor'' f_memoFor'' f_memoSide'' f_depth'' f_known'' f_ones'' f_diagramFor'' f_diagramRoot'' f_nodeCount'' f_leftCount'' f_madeCount'' a_clauses'' a_table'' a_memo'' a_choiceOf'' a_secondTry'' a_knownBefore'' a_onesBefore'' a_nodeVariable'' a_nodeLow'' a_nodeHigh'' a_nodeNext'' a_listFirst'' a_recentKey'' a_recentNode'' a_workF'' a_workG'' a_workPhase'' a_workLow'' a_nodeValue'' a_left'' a_made'' a_onesOfVariable'' a_tableBefore'' hC'
      refine br_c (fun z => nm_r (nI_1 i) (ih (i + 1) x f_clausesOf'' f_clauseCount'' f_tableFor'' f_memoFor'' f_memoSide'' f_depth'' f_known'' f_ones'' f_diagramFor'' f_diagramRoot'' f_nodeCount'' f_leftCount'' f_madeCount'' a_clauses'' a_table'' a_memo'' a_choiceOf'' a_secondTry'' a_knownBefore'' a_onesBefore'' a_nodeVariable'' a_nodeLow'' a_nodeHigh'' a_nodeNext'' a_listFirst'' a_recentKey'' a_recentNode'' a_workF'' a_workG'' a_workPhase'' a_workLow'' a_nodeValue'' a_left'' a_made'' a_onesOfVariable'' a_tableBefore'' (by omega) (by omega) (qy_acc_f hI (qb_dec_f (qb_p_0.mp z))) hC')) (fun z => nm_e (nm_r (nI_1 i) (ih (i + 1) _ f_clausesOf'' f_clauseCount'' f_tableFor'' f_memoFor'' f_memoSide'' f_depth'' f_known'' f_ones'' f_diagramFor'' f_diagramRoot'' f_nodeCount'' f_leftCount'' f_madeCount'' a_clauses'' a_table'' a_memo'' a_choiceOf'' a_secondTry'' a_knownBefore'' a_onesBefore'' a_nodeVariable'' a_nodeLow'' a_nodeHigh'' a_nodeNext'' a_listFirst'' a_recentKey'' a_recentNode'' a_workF'' a_workG'' a_workPhase'' a_workLow'' a_nodeValue'' a_left'' a_made'' a_onesOfVariable'' a_tableBefore'' (by omega) (by omega) (qy_acc_t (by omega) hI (qb_dec_t (Classical.byContradiction (fun y => z (qb_p_f y))))) hC')))
theorem qx_needless {post : Int32 → SX → Prop} {M : Nat} (hM : M ≤ 12) (hV : qc_Vs M a_kindOf a_setP a_setQ) (hC : qx_Ca M a_kindOf a_setP a_setQ f_clausesOf f_clauseCount f_tableFor f_memoFor f_memoSide f_diagramFor f_diagramRoot f_nodeCount a_clauses a_memo a_nodeVariable a_nodeLow a_nodeHigh a_nodeNext a_listFirst a_recentKey a_recentNode a_table)
    (K : ∀ (f_clausesOf' f_clauseCount' f_tableFor' f_memoFor' f_memoSide' f_depth' f_known' f_ones' f_diagramFor' f_diagramRoot' f_nodeCount' f_leftCount' f_madeCount' : Int32) (a_clauses' : Nat → Int32) (a_table' : Nat → Int64) (a_memo' a_choiceOf' a_secondTry' a_knownBefore' a_onesBefore' a_nodeVariable' a_nodeLow' a_nodeHigh' a_nodeNext' a_listFirst' a_recentKey' a_recentNode' a_workF' a_workG' a_workPhase' a_workLow' a_nodeValue' a_left' a_made' : Nat → Int32) (a_onesOfVariable' a_tableBefore' : Nat → Int64), qx_Ca M a_kindOf a_setP a_setQ f_clausesOf' f_clauseCount' f_tableFor' f_memoFor' f_memoSide' f_diagramFor' f_diagramRoot' f_nodeCount' a_clauses' a_memo' a_nodeVariable' a_nodeLow' a_nodeHigh' a_nodeNext' a_listFirst' a_recentKey' a_recentNode' a_table' → post (qy_Nd (fun r => qc_H M a_kindOf a_setP a_setQ r) M) (f_theirs, nI M, f_wayNow, f_clausesOf', f_clauseCount', f_tableFor', f_memoFor', f_memoSide', f_depth', f_known', f_ones', f_diagramFor', f_diagramRoot', f_nodeCount', f_leftCount', f_madeCount', a_kindOf, a_setP, a_setQ, a_clauses', a_table', a_memo', a_choiceOf', a_secondTry', a_knownBefore', a_onesBefore', a_nodeVariable', a_nodeLow', a_nodeHigh', a_nodeNext', a_listFirst', a_recentKey', a_recentNode', a_workF', a_workG', a_workPhase', a_workLow', a_nodeValue', a_left', a_made', a_onesOfVariable', a_tableBefore')) : wpX_needless post (f_theirs, nI M, f_wayNow, f_clausesOf, f_clauseCount, f_tableFor, f_memoFor, f_memoSide, f_depth, f_known, f_ones, f_diagramFor, f_diagramRoot, f_nodeCount, f_leftCount, f_madeCount, a_kindOf, a_setP, a_setQ, a_clauses, a_table, a_memo, a_choiceOf, a_secondTry, a_knownBefore, a_onesBefore, a_nodeVariable, a_nodeLow, a_nodeHigh, a_nodeNext, a_listFirst, a_recentKey, a_recentNode, a_workF, a_workG, a_workPhase, a_workLow, a_nodeValue, a_left, a_made, a_onesOfVariable, a_tableBefore) := by
  unfold wpX_needless wpX_allRules
  dsimp only
  exact ⟨M + 1, qx_needless_9 hM hV K (M + 1) 0 0 f_clausesOf f_clauseCount f_tableFor f_memoFor f_memoSide f_depth f_known f_ones f_diagramFor f_diagramRoot f_nodeCount f_leftCount f_madeCount a_clauses a_table a_memo a_choiceOf a_secondTry a_knownBefore a_onesBefore a_nodeVariable a_nodeLow a_nodeHigh a_nodeNext a_listFirst a_recentKey a_recentNode a_workF a_workG a_workPhase a_workLow a_nodeValue a_left a_made a_onesOfVariable a_tableBefore (by omega) (by omega) qy_acc_0 hC⟩
end
end
section
/-! the answers of the reference, against the same picture -/
theorem qy_ix {k v : Nat} : 256 * nI k + nI v = nI (256 * k + v) := by
  have : 256 * nI k = nI (256 * k) := pk_mul 256 k
  rw [this, nI_add]
theorem qy_ix1 {k v : Nat} : 256 * (nI k + 1) + nI v = nI (256 * (k + 1) + v) := by rw [nI_1, qy_ix]
theorem qy_end {a : Nat} : (2048 : Int32) + nI a = nI (2048 + a) := nI_add 2048 a
theorem qy_T8 {th : Nat → Bool} {H : (Nat → Bool) → Prop} {tr : Nat → Int32} (h : qy_T th H tr 0) {a : Nat} (ha : a < 256) : tr (2048 + a) = qb_p (H (fun i => a.testBit i)) := by
  have := h 8 a (by omega) (by omega) ha
  rw [show 256 * 8 + a = 2048 + a by omega] at this
  rw [this, ← qt_bits ha]; rfl
section
variable {f_n : Int32} {a_kind a_p a_q a_side a_tree a_all : Nat → Int32}
variable {th : Nat → Bool} {m : Nat}
theorem qy_start {post : Int32 → SY → Prop} {x y : Int32} (hm : m ≤ 12) (hv : qc_Vs m a_kind a_p a_q) (hs : ∀ i, i < 8 → a_side i = qb_i (th i))
    (K0 : ¬ (∃ k v, x = nI k ∧ y = nI v ∧ k ≤ 8 ∧ v < 2 ^ k) → post (-1) (nI m, a_kind, a_p, a_q, a_side, a_tree, a_all))
    (K1 : ∀ k v, x = nI k → y = nI v → k ≤ 8 → v < 2 ^ k → ∀ tr, post (qb_p (qy_W th (qc_H m a_kind a_p a_q (qy_all m)) k v)) (nI m, a_kind, a_p, a_q, a_side, tr, a_all)) : wpY_won post (nI m, a_kind, a_p, a_q, a_side, a_tree, a_all) x y := by
  have p8 : ∀ k, k ≤ 8 → 2 ^ k ≤ 2 ^ 8 := fun k hk => Nat.pow_le_pow_right (by decide) hk
  have no : ∀ {P : Prop}, (∀ k v, x = nI k → y = nI v → k ≤ 8 → v < 2 ^ k → False) → (¬ (∃ k v, x = nI k ∧ y = nI v ∧ k ≤ 8 ∧ v < 2 ^ k) → P) → P := fun h g => g (fun ⟨k, v, a, b, c, d⟩ => h k v a b c d)
  unfold wpY_won
  dsimp only
  refine qy_in (fun h => br_t rfl (no (fun k v a b c d => h ?_) K0)) (fun h h' => br_f (by decide) (br_c (fun h'' => no (fun k v a b c d => ?_) K0) (fun h'' => ?_)))
  · rw [a]
    exact ⟨nI_pos' (by omega), nI_le (b := 8) c (by omega)⟩
  · rw [b] at h''
    have := p8 k c
    exact nI_pos (by omega) h''
  · obtain ⟨k, hk, ek⟩ := nI_of2 (x := x) (M := 8) (n := 8) (by decide) (Int32.not_lt.mpr h) h'
    obtain ⟨v, hv', ev⟩ := nI_of h''
    have := p8 k hk
    subst ek ev
    have h15 : nI k &&& 15 = nI k := by
      have := pk_andN (n := k) (m := 15) (by omega) 4 (by decide)
      rw [this, Nat.mod_eq_of_lt (by omega)]
    rw [h15, qs_one_shl k (by omega)]
    refine pk_lt v (2 ^ k) (fun e => ?_) (fun e => no (fun k' v' a b c d => ?_) K0)
    · refine qy_growAll (th := th) hm hv hs ?_
      intro tr hT
      dsimp only
      rw [qy_ix]
      have h1 := hT k v (Nat.zero_le _) hk e
      refine ⟨vp_in_nI (by omega) (by omega), ?_⟩
      rw [nI_clamp (by omega), h1]
      have K' := K1 k v rfl rfl hk e tr
      exact br_c (fun z => ek_v (P := fun r => post r _) z.symm K') (fun z => ek_v (P := fun r => post r _) (qb_p_1.mpr (Classical.byContradiction (fun y => z (qb_p_f y)))).symm K')
    · rw [nI_eq (by omega) (by omega)] at a
      subst a
      have := p8 k c
      rw [nI_eq (by omega) (by omega)] at b
      omega
theorem qy_best {post : Int32 → Prop} {H : (Nat → Bool) → Prop} {k v : Nat} (hs : ∀ i, i < 8 → a_side i = qb_i (th i)) (hT : qy_T th H a_tree 0) (hk : k < 8) (hv : v < 2 ^ k) (K : post (qy_B th H k v)) : wpY_best post (f_n, a_kind, a_p, a_q, a_side, a_tree, a_all) (nI k) (nI v) := by
  have p8 : 2 ^ k ≤ 2 ^ 7 := Nat.pow_le_pow_right (by decide) (by omega)
  have p2 : 2 ^ (k + 1) = 2 ^ k * 2 := Nat.pow_succ ..
  have t0 := hT (k + 1) v (Nat.zero_le _) (by omega) (by omega)
  have t1 := hT (k + 1) (v + 2 ^ k) (Nat.zero_le _) (by omega) (by omega)
  have go : ∀ o : Bool, o = !th k → wY_best_14 post (nI k) (nI v) (qb_i o) f_n a_kind a_p a_q a_side a_tree a_all := by
    intro o ho
    unfold wY_best_14
    rw [qy_or k hk v hv, qy_ix1, qy_ix1]
    refine ⟨vp_in_nI (by omega) (by omega), ?_⟩
    rw [nI_clamp (by omega), nI_clamp (by omega), t0, t1]
    refine br_c (fun e => ?_) (fun e => ⟨vp_in_nI (by omega) (by omega), br_c (fun e2 => ?_) (fun e2 => ?_)⟩)
    · have : qy_B th H k v = 0 := by
        unfold qy_B
        rw [if_pos]
        rw [← ho]; exact qb_i_inj.mp e
      rw [this] at K; exact K
    · have : qy_B th H k v = 1 := by
        unfold qy_B
        rw [if_neg, if_pos]
        · rw [← ho]; exact qb_i_inj.mp e2
        · intro z
          apply e
          rw [ho, ← z]; rfl
      rw [this] at K; exact K
    · have : qy_B th H k v = -3 := by
        unfold qy_B
        rw [if_neg, if_neg]
        · intro z
          apply e2
          rw [ho, ← z]; rfl
        · intro z
          apply e
          rw [ho, ← z]; rfl
      rw [this] at K; exact K
  refine ⟨vp_in_nI hk (by omega), ?_⟩
  rw [nI_clamp (by omega), hs k hk]
  cases e : th k with
  | false => exact br_t rfl (go true (by rw [e]; rfl))
  | true => exact br_f (by decide) (go false (by rw [e]; rfl))
theorem qy_move {post : Int32 → SY → Prop} {x y : Int32} (hm : m ≤ 12) (hv : qc_Vs m a_kind a_p a_q) (hs : ∀ i, i < 8 → a_side i = qb_i (th i))
    (K0 : ¬ (∃ k v, x = nI k ∧ y = nI v ∧ k < 8 ∧ v < 2 ^ k) → post (-1) (nI m, a_kind, a_p, a_q, a_side, a_tree, a_all))
    (K1 : ∀ k v, x = nI k → y = nI v → k < 8 → v < 2 ^ k → ∀ tr, post (qy_B th (qc_H m a_kind a_p a_q (qy_all m)) k v) (nI m, a_kind, a_p, a_q, a_side, tr, a_all)) : wpY_move post (nI m, a_kind, a_p, a_q, a_side, a_tree, a_all) x y := by
  have p8 : ∀ k, k < 8 → 2 ^ k ≤ 2 ^ 7 := fun k hk => Nat.pow_le_pow_right (by decide) (by omega)
  have no : ∀ {P : Prop}, (∀ k v, x = nI k → y = nI v → k < 8 → v < 2 ^ k → False) → (¬ (∃ k v, x = nI k ∧ y = nI v ∧ k < 8 ∧ v < 2 ^ k) → P) → P := fun h g => g (fun ⟨k, v, a, b, c, d⟩ => h k v a b c d)
  unfold wpY_move
  dsimp only
  refine qy_in (fun h => br_t rfl (no (fun k v a b c d => h ?_) K0)) (fun h h' => br_f (by decide) (br_c (fun h'' => no (fun k v a b c d => ?_) K0) (fun h'' => ?_)))
  · rw [a]
    exact ⟨nI_pos' (by omega), nI_le (b := 7) (by omega) (by omega)⟩
  · rw [b] at h''
    have := p8 k c
    exact nI_pos (by omega) h''
  · obtain ⟨k, hk, ek⟩ := nI_of2 (x := x) (M := 7) (n := 7) (by decide) (Int32.not_lt.mpr h) h'
    obtain ⟨v, hv', ev⟩ := nI_of h''
    have := p8 k (by omega)
    subst ek ev
    have h7 : nI k &&& 7 = nI k := by
      have := pk_andN (n := k) (m := 7) (by omega) 3 (by decide)
      rw [this, Nat.mod_eq_of_lt (by omega)]
    rw [h7, qs_one_shl k (by omega)]
    refine pk_lt v (2 ^ k) (fun e => ?_) (fun e => no (fun k' v' a b c d => ?_) K0)
    · refine qy_growAll (th := th) hm hv hs ?_
      intro tr hT
      exact qy_best hs hT (by omega) e (K1 k v rfl rfl (by omega) e tr)
    · rw [nI_eq (by omega) (by omega)] at a
      subst a
      have := p8 k c
      rw [nI_eq (by omega) (by omega)] at b
      omega
theorem qy_countEnds_4 {post : Int32 → Prop} {H : (Nat → Bool) → Prop} (hT : qy_T th H a_tree 0) (K : post (qy_Cnt H)) :
    ∀ (n a : Nat), a ≤ 256 → 256 < n + a → wY_countEnds_4 post f_n a_kind a_p a_q a_side a_tree a_all n (nI (qn_cnt (fun a => qb_dec (H (fun i => a.testBit i))) a)) (nI a) := by
  intro n
  induction n with
  | zero => intro a h1 h2; omega
  | succ n ih =>
    intro a ha hf
    refine pk_le 256 a (fun e => ?_) (fun e => ?_)
    · rw [show a = 256 by omega]; exact K
    · rw [qy_end]
      refine ⟨vp_in_nI (by omega) (by omega), ?_⟩
      rw [nI_clamp (by omega), qy_T8 hT e]
      refine br_c (fun z => nm_r (nI_1 a) ?_) (fun z => nm_r (e' := nI (qn_cnt (fun a => qb_dec (H (fun i => a.testBit i))) (a + 1))) ?_ (nm_r (nI_1 a) (ih (a + 1) (by omega) (by omega))))
      · have h0 : qn_cnt (fun a => qb_dec (H (fun i => a.testBit i))) (a + 1) = qn_cnt (fun a => qb_dec (H (fun i => a.testBit i))) a := by
          simp only [qn_cnt]
          rw [qb_dec_f (qb_p_0.mp z)]; rfl
        have := ih (a + 1) (by omega) (by omega)
        rw [h0] at this; exact this
      · have h1 : qn_cnt (fun a => qb_dec (H (fun i => a.testBit i))) (a + 1) = qn_cnt (fun a => qb_dec (H (fun i => a.testBit i))) a + 1 := by
          simp only [qn_cnt]
          rw [qb_dec_t (Classical.byContradiction (fun y => z (qb_p_f y)))]; rfl
        rw [h1, nI_1]
theorem qy_count {post : Int32 → SY → Prop} (hm : m ≤ 12) (hv : qc_Vs m a_kind a_p a_q) (hs : ∀ i, i < 8 → a_side i = qb_i (th i))
    (K : ∀ tr, post (qy_Cnt (qc_H m a_kind a_p a_q (qy_all m))) (nI m, a_kind, a_p, a_q, a_side, tr, a_all)) : wpY_count post (nI m, a_kind, a_p, a_q, a_side, a_tree, a_all) := by
  unfold wpY_count
  dsimp only
  refine qy_growAll (th := th) hm hv hs ?_
  intro tr hT
  exact ⟨257, qy_countEnds_4 hT (K tr) 257 0 (by omega) (by omega)⟩
theorem qy_idle_19 {post : Int32 → SY → Prop} {J : Int32 → Int32 → Prop} {H : (Nat → Bool) → Prop} {v : Nat} {x : Int32} (hd : qg_Dep 8 H) (hT : qy_T th H a_tree 0) (hv : v < 8)
    (K : ∀ x', (qt_Idle H v → x' = x ||| ((1 : Int32) <<< (nI v &&& 31))) → (¬ qt_Idle H v → x' = x) → J x' (nI (v + 1))) :
    ∀ (n a : Nat) (b : Bool), a ≤ 256 → 256 < n + a → (b = true ↔ ∀ c, c < a → (H (fun i => c.testBit i) ↔ H (fun i => (c ^^^ 2 ^ v).testBit i))) → wY_idle_19 post J x (nI v) f_n a_kind a_p a_q a_side a_tree a_all n (qb_i b) (nI a) := by
  intro n
  induction n with
  | zero => intro a b h1 h2; omega
  | succ n ih =>
    intro a b ha hf hI
    refine pk_le 256 a (fun e => ?_) (fun e => ?_)
    · have hid : b = true ↔ qt_Idle H v := by rw [hI, qt_idle_iff hd hv, show a = 256 by omega]
      cases b with
      | false => exact br_t rfl (nm_r (nI_1 v) (K x (fun z => by have := hid.mpr z; simp at this) (fun _ => rfl)))
      | true => exact br_f (by decide) (nm_e (nm_r (nI_1 v) (K _ (fun _ => rfl) (fun z => absurd (hid.mp rfl) z))))
    · have hx := qt_xlt e hv
      rw [qt_xorI hv, qy_end, qy_end]
      refine ⟨vp_in_nI (by omega) (by omega), vp_in_nI (by omega) (by omega), ?_⟩
      rw [nI_clamp (by omega), nI_clamp (by omega), qy_T8 hT e, qy_T8 hT hx]
      have hq : qb_p (H (fun i => a.testBit i)) = qb_p (H (fun i => (a ^^^ 2 ^ v).testBit i)) ↔ (H (fun i => a.testBit i) ↔ H (fun i => (a ^^^ 2 ^ v).testBit i)) := by
        show qb_i _ = qb_i _ ↔ _
        rw [qb_i_inj, Bool.eq_iff_iff, qb_dec_iff, qb_dec_iff]
      refine ek_if hq (fun z => nm_r (nI_1 a) (ih (a + 1) b (by omega) (by omega) ?_)) (fun z => nm_r (nI_1 a) (ih (a + 1) false (by omega) (by omega) ?_))
      · rw [hI]
        refine ⟨fun y c hc => ?_, fun y c hc => y c (by omega)⟩
        by_cases e1 : c = a
        · subst e1; exact z
        · exact y c (by omega)
      · exact ⟨fun y => by simp at y, fun y => absurd (y a (by omega)) z⟩
theorem qy_idle_8 {post : Int32 → SY → Prop} {H : (Nat → Bool) → Prop} (hd : qg_Dep 8 H) (hT : qy_T th H a_tree 0) (K : post (qy_Idl H) (f_n, a_kind, a_p, a_q, a_side, a_tree, a_all)) :
    ∀ (n v : Nat) (x : Int32), v ≤ 8 → 8 < n + v → qy_acc (fun v => qb_dec (qt_Idle H v)) v x → wY_idle_8 post f_n a_kind a_p a_q a_side a_tree a_all n x (nI v) := by
  intro n
  induction n with
  | zero => intro v x h1 h2; omega
  | succ n ih =>
    intro v x hv hf hI
    refine pk_le 8 v (fun e => ?_) (fun e => ⟨257, qy_idle_19 hd hT e ?_ 257 0 true (by omega) (by omega) ⟨fun _ c hc => by omega, fun _ => rfl⟩⟩)
    · have ev : v = 8 := by omega
      subst ev
      rw [qy_acc_e (by omega) hI]; exact K
    · intro x' h1 h2
      apply ih (v + 1) x' (by omega) (by omega)
      rcases Classical.em (qt_Idle H v) with z | z
      · rw [h1 z]; exact qy_acc_t (by omega) hI (qb_dec_t z)
      · rw [h2 z]; exact qy_acc_f hI (qb_dec_f z)
theorem qy_idle {post : Int32 → SY → Prop} (hm : m ≤ 12) (hv : qc_Vs m a_kind a_p a_q) (hs : ∀ i, i < 8 → a_side i = qb_i (th i))
    (K : ∀ tr, post (qy_Idl (qc_H m a_kind a_p a_q (qy_all m))) (nI m, a_kind, a_p, a_q, a_side, tr, a_all)) : wpY_idle post (nI m, a_kind, a_p, a_q, a_side, a_tree, a_all) := by
  unfold wpY_idle
  dsimp only
  refine qy_growAll (th := th) hm hv hs ?_
  intro tr hT
  exact ⟨9, qy_idle_8 qc_H_dep hT (K tr) 9 0 0 (by omega) (by omega) qy_acc_0⟩
theorem qy_openings_41 {post : Int32 → SY → Prop} {H : (Nat → Bool) → Prop} {k : Nat} (hT : qy_T th H a_tree 0) (hk : k ≤ 8) (K : post (qy_Op th H k) (f_n, a_kind, a_p, a_q, a_side, a_tree, a_all)) :
    ∀ (n v : Nat), v ≤ 2 ^ k → 2 ^ k < n + v → wY_openings_41 post (nI k) f_n a_kind a_p a_q a_side a_tree a_all n (nI (qn_cnt (fun v => qb_dec (qy_W th H k v)) v)) (nI v) := by
  have p8 : 2 ^ k ≤ 2 ^ 8 := Nat.pow_le_pow_right (by decide) hk
  intro n
  induction n with
  | zero => intro v h1 h2; omega
  | succ n ih =>
    intro v hv hf
    rw [wY_openings_41]
    dsimp only
    rw [qs_one_shl k (by omega), qy_ix]
    refine pk_le (2 ^ k) v (fun e => ?_) (fun e => ?_)
    · rw [show v = 2 ^ k by omega]; exact K
    · have h1 := hT k v (Nat.zero_le _) hk e
      refine ⟨vp_in_nI (by omega) (by omega), ?_⟩
      rw [nI_clamp (by omega), h1]
      refine br_c (fun z => nm_r (nI_1 v) ?_) (fun z => nm_r (e' := nI (qn_cnt (fun v => qb_dec (qy_W th H k v)) (v + 1))) ?_ (nm_r (nI_1 v) (ih (v + 1) (by omega) (by omega))))
      · have h0 : qn_cnt (fun v => qb_dec (qy_W th H k v)) (v + 1) = qn_cnt (fun v => qb_dec (qy_W th H k v)) v := by
          simp only [qn_cnt]
          rw [qb_dec_f (qb_p_0.mp z)]; rfl
        have := ih (v + 1) (by omega) (by omega)
        rw [h0] at this; exact this
      · have h1 : qn_cnt (fun v => qb_dec (qy_W th H k v)) (v + 1) = qn_cnt (fun v => qb_dec (qy_W th H k v)) v + 1 := by
          simp only [qn_cnt]
          rw [qb_dec_t (Classical.byContradiction (fun y => z (qb_p_f y)))]; rfl
        rw [h1, nI_1]
theorem qy_openings_10 {post : Int32 → SY → Prop} {H : (Nat → Bool) → Prop} {k : Nat} (hs : ∀ i, i < 8 → a_side i = qb_i (th i)) (hT : qy_T th H a_tree 0) (hk : qy_isk th k) (K : post (qy_Op th H k) (f_n, a_kind, a_p, a_q, a_side, a_tree, a_all)) :
    ∀ (n w j : Nat), w ≤ 8 → w < n → j ≤ 8 → w ≤ j → (j < 8 → th j ≠ th 0) → (∀ i, w ≤ i → i < j → th i = th 0) → wY_openings_10 post f_n a_kind a_p a_q a_side a_tree a_all n (nI j) (qx_dn w) := by
  intro n
  induction n with
  | zero => intro w j h1 h2; omega
  | succ n ih =>
    intro w j hw hf hj hwj h1 h2
    have hlt0 : qx_dn w < 0 ↔ w ≤ 0 := qx_dn_lt (k := 0) (by omega) (by omega)
    refine ek_if hlt0 (fun e => ⟨2 ^ k + 1, ?_⟩) (fun e => ?_)
    · have ej : j = k := by
        obtain ⟨k1, k2, k3, k4⟩ := hk
        rcases Nat.lt_trichotomy j k with z | z | z
        · exact absurd (k3 j z) (h1 (by omega))
        · exact z
        · exact absurd (h2 k (by omega) z) (k4 (by omega))
      rw [ej]
      exact qy_openings_41 hT hk.2.1 K (2 ^ k + 1) 0 (Nat.zero_le _) (by omega)
    · obtain ⟨v, rfl⟩ : ∃ v, w = v + 1 := ⟨w - 1, by omega⟩
      show vp_in (nI v) 8 ∧ _
      refine ⟨vp_in_nI (by omega) (by omega), ?_⟩
      have hcl : (qx_dn (v + 1)).toNatClampNeg = v := nI_clamp (by omega)
      rw [hcl, hs v (by omega), hs 0 (by omega)]
      refine ek_if qb_i_inj (fun z => nm_r (qx_dn_m1 v) (ih v j (by omega) (by omega) hj (by omega) h1 ?_)) (fun z => nm_r (qx_dn_m1 v) (ih v v (by omega) (by omega) (by omega) (Nat.le_refl v) (fun _ => z) (fun i a b => by omega)))
      intro i a b
      by_cases e1 : i = v
      · subst e1; exact z
      · exact h2 i (by omega) b
theorem qy_openings {post : Int32 → SY → Prop} {k : Nat} (hm : m ≤ 12) (hv : qc_Vs m a_kind a_p a_q) (hs : ∀ i, i < 8 → a_side i = qb_i (th i)) (hk : qy_isk th k)
    (K : ∀ tr, post (qy_Op th (qc_H m a_kind a_p a_q (qy_all m)) k) (nI m, a_kind, a_p, a_q, a_side, tr, a_all)) : wpY_openings post (nI m, a_kind, a_p, a_q, a_side, a_tree, a_all) := by
  unfold wpY_openings
  dsimp only
  refine qy_growAll (th := th) hm hv hs ?_
  intro tr hT
  exact ⟨9, qy_openings_10 hs hT hk (K tr) 9 8 8 (by omega) (by omega) (by omega) (by omega) (fun h => by omega) (fun i a b => by omega)⟩
theorem qy_wins {post : Int32 → SY → Prop} {rules : Int32} (hm : m ≤ 12) (hv : qc_Vs m a_kind a_p a_q) (hs : ∀ i, i < 8 → a_side i = qb_i (th i))
    (K : ∀ tr, post (qb_p (qy_W th (qc_H m a_kind a_p a_q rules) 0 0)) (nI m, a_kind, a_p, a_q, a_side, tr, a_all)) : wpY_wins post (nI m, a_kind, a_p, a_q, a_side, a_tree, a_all) rules := by
  unfold wpY_wins
  dsimp only
  refine qy_grow (th := th) hm hv hs ?_
  intro tr hT
  have h0 : tr 0 = qb_p (qy_W th (qc_H m a_kind a_p a_q rules) 0 0) := hT 0 0 (by omega) (by omega) (by decide)
  show narrow .boolean (.int (tr 0)) = .int (tr 0) ∧ post (tr 0) _
  rw [h0]
  exact ⟨qb_p_nb _, K tr⟩
theorem qy_blame_17 {post : Int32 → SY → Prop} (hm : m ≤ 12) (hv : qc_Vs m a_kind a_p a_q) (hs : ∀ i, i < 8 → a_side i = qb_i (th i)) :
    ∀ (n i : Nat) (r : Int32) (tr : Nat → Int32), i ≤ m → m < n + i → (∀ tr, post (qy_bl (fun r => qy_W th (qc_H m a_kind a_p a_q r) 0 0) (m - i) i r) (nI m, a_kind, a_p, a_q, a_side, tr, a_all)) → wY_blame_17 post n r (nI i) (nI m) a_kind a_p a_q a_side tr a_all := by
  intro n
  induction n with
  | zero => intro i r tr h1 h2; omega
  | succ n ih =>
    intro i r tr hi hf K
    refine pk_le m i (fun e => ?_) (fun e => nm_e ?_)
    · have K' := K tr
      rw [show m - i = 0 by omega] at K'
      exact K'
    · refine qy_wins (th := th) hm hv hs ?_
      intro tr'
      rw [show m - i = (m - (i + 1)) + 1 by omega] at K
      refine br_c (fun z => nm_r (nI_1 i) (ih (i + 1) _ tr' (by omega) (by omega) ?_)) (fun z => nm_r (nI_1 i) (ih (i + 1) _ tr' (by omega) (by omega) ?_))
      · intro tr''
        have K' := K tr''
        simp only [qy_bl] at K'
        rw [if_neg (by rw [qb_dec_f (qb_p_0.mp z)]; decide)] at K'
        exact K'
      · intro tr''
        have K' := K tr''
        simp only [qy_bl] at K'
        rw [if_pos (qb_dec_t (Classical.byContradiction (fun y => z (qb_p_f y))))] at K'
        exact K'
theorem qy_blame {post : Int32 → SY → Prop} (hm : m ≤ 12) (hv : qc_Vs m a_kind a_p a_q) (hs : ∀ i, i < 8 → a_side i = qb_i (th i))
    (K : ∀ tr, post (qy_Bl (fun r => qy_W th (qc_H m a_kind a_p a_q r) 0 0) m) (nI m, a_kind, a_p, a_q, a_side, tr, a_all)) : wpY_blame post (nI m, a_kind, a_p, a_q, a_side, a_tree, a_all) := by
  unfold wpY_blame wpY_everyRule
  dsimp only
  refine qy_wins (th := th) (rules := qy_all m) hm hv hs ?_
  intro tr
  refine br_c (fun z => ⟨m + 1, qy_blame_17 hm hv hs (m + 1) 0 (qy_all m) tr (by omega) (by omega) ?_⟩) (fun z => ?_)
  · intro tr'
    have K' := K tr'
    unfold qy_Bl at K'
    rw [if_neg (by rw [qb_dec_f (qb_p_0.mp z)]; decide)] at K'
    exact K'
  · have K' := K tr
    unfold qy_Bl at K'
    rw [if_pos (qb_dec_t (Classical.byContradiction (fun y => z (qb_p_f y))))] at K'
    exact K'
theorem qy_isDecided_2 {post : Int32 → Prop} {H : (Nat → Bool) → Prop} {k v : Nat} (hd : qg_Dep 8 H) (hT : qy_T th H a_tree 0) (hk : k < 8) (hv : v < 2 ^ k) (K : post (qb_p (qt_Dec H k (bt (nI v))))) :
    ∀ (n a : Nat), a ≤ 256 → 256 < n + a → (∀ b, b < a → (H (fun i => (b / 2 ^ k * 2 ^ k ||| v).testBit i) ↔ H (fun i => v.testBit i))) → wY_isDecided_2 post (nI k) (nI v) f_n a_kind a_p a_q a_side a_tree a_all n (nI a) := by
  have pk : 2 ^ k ≤ 2 ^ 7 := Nat.pow_le_pow_right (by decide) (by omega)
  rw [qt_bits (by omega)] at K
  intro n
  induction n with
  | zero => intro a h1 h2; omega
  | succ n ih =>
    intro a ha hf hI
    refine pk_le 256 a (fun e => ?_) (fun e => ?_)
    · have : qt_Dec H k (fun i => v.testBit i) := (qt_dec_y hd (by omega) hv).mpr (fun b hb => hI b (by omega))
      rw [qb_p_t this] at K; exact K
    · have hle : a / 2 ^ k * 2 ^ k ≤ a := Nat.div_mul_le_self a (2 ^ k)
      have hlt : a / 2 ^ k * 2 ^ k ||| v < 256 := Nat.or_lt_two_pow (n := 8) (by omega) (by omega)
      have hx : (((nI a >>> (nI k &&& 31)) <<< (nI k &&& 31)) ||| nI v) &&& 255 = nI (a / 2 ^ k * 2 ^ k ||| v) := by
        have a1 : nI a >>> (nI k &&& 31) = nI (a / 2 ^ k) := pk_shrN (by omega) _ k (s_l k (by omega))
        have a2 : nI (a / 2 ^ k) <<< (nI k &&& 31) = nI (a / 2 ^ k * 2 ^ k) := pk_shlN _ k (s_l k (by omega)) (by omega)
        have a3 : nI (a / 2 ^ k * 2 ^ k ||| v) &&& 255 = nI ((a / 2 ^ k * 2 ^ k ||| v) % 2 ^ 8) := pk_andN (by omega) 8 (by decide)
        rw [a1, a2, nx_or', a3, Nat.mod_eq_of_lt hlt]
      refine nm_r hx ?_
      rw [qy_end, qy_end]
      refine ⟨vp_in_nI (by omega) (by omega), vp_in_nI (by omega) (by omega), ?_⟩
      rw [nI_clamp (by omega), nI_clamp (by omega), qy_T8 hT hlt, qy_T8 hT (by omega)]
      refine br_c (fun z => nm_r (nI_1 a) (ih (a + 1) (by omega) (by omega) ?_)) (fun z => ?_)
      · intro b hb
        by_cases e1 : b = a
        · subst e1
          have := qb_i_inj.mp z
          rw [Bool.eq_iff_iff, qb_dec_iff, qb_dec_iff] at this
          exact this
        · exact hI b (by omega)
      · have : ¬ qt_Dec H k (fun i => v.testBit i) := by
          intro y
          apply z
          exact qb_p_congr ((qt_dec_y hd (by omega) hv).mp y a e)
        rw [qb_p_f this] at K; exact K
theorem qy_decided_8 {post : Int32 → SY → Prop} {H : (Nat → Bool) → Prop} (hd : qg_Dep 8 H) (hs : ∀ i, i < 8 → a_side i = qb_i (th i)) (hT : qy_T th H a_tree 0) :
    ∀ (n k v : Nat), k ≤ 8 → 8 < n + k → v < 2 ^ k → post (qy_dc th H (8 - k) k v) (f_n, a_kind, a_p, a_q, a_side, a_tree, a_all) → wY_decided_8 post f_n a_kind a_p a_q a_side a_tree a_all n (nI v) (nI k) := by
  intro n
  induction n with
  | zero => intro k v h1 h2; omega
  | succ n ih =>
    intro k v hk hf hv K
    refine pk_le 8 k (fun e => ?_) (fun e => ?_)
    · rw [show 8 - k = 0 by omega] at K; exact K
    · have p2 : 2 ^ (k + 1) = 2 ^ k * 2 := Nat.pow_succ ..
      rw [show 8 - k = (8 - (k + 1)) + 1 by omega] at K
      simp only [qy_dc] at K
      refine ⟨257, qy_isDecided_2 hd hT e hv ?_ 257 0 (by omega) (by omega) (fun b hb => by omega)⟩
      refine br_c (fun z => ?_) (fun z => ?_)
      · rw [if_neg (by rw [qb_dec_f (qb_p_0.mp z)]; decide)] at K
        refine qy_best hs hT e hv ?_
        refine br_c (fun y => nm_r (e' := nI (v + 2 ^ k)) (qy_or k e v hv) (nm_r (nI_1 k) (ih (k + 1) (v + 2 ^ k) (by omega) (by omega) (by omega) (by rw [if_pos y] at K; exact K)))) (fun y => nm_r (nI_1 k) (ih (k + 1) v (by omega) (by omega) (by omega) (by rw [if_neg y] at K; exact K)))
      · rw [if_pos (qb_dec_t (Classical.byContradiction (fun y => z (qb_p_f y))))] at K
        exact K
theorem qy_decided {post : Int32 → SY → Prop} (hm : m ≤ 12) (hv : qc_Vs m a_kind a_p a_q) (hs : ∀ i, i < 8 → a_side i = qb_i (th i))
    (K : ∀ tr, post (qy_dc th (qc_H m a_kind a_p a_q (qy_all m)) 8 0 0) (nI m, a_kind, a_p, a_q, a_side, tr, a_all)) : wpY_decided post (nI m, a_kind, a_p, a_q, a_side, a_tree, a_all) := by
  unfold wpY_decided
  dsimp only
  refine qy_growAll (th := th) hm hv hs ?_
  intro tr hT
  exact ⟨9, qy_decided_8 qc_H_dep hs hT 9 0 0 (by omega) (by omega) (by decide) (K tr)⟩
theorem qy_needless_64 {post : Int32 → SY → Prop} {J : Int32 → Int32 → Prop} {H : (Nat → Bool) → Prop} {i : Nat} {x others : Int32} (hm : m ≤ 12) (hv : qc_Vs m a_kind a_p a_q) (hd : qg_Dep 8 H) (hA : ∀ a, a < 256 → a_all a = qb_p (H (bt (nI a)))) (hi : i < 12)
    (K : ∀ x', ((∀ s, H s ↔ qc_H m a_kind a_p a_q others s) → x' = x ||| ((1 : Int32) <<< (nI i &&& 31))) → (¬ (∀ s, H s ↔ qc_H m a_kind a_p a_q others s) → x' = x) → J x' (nI (i + 1))) :
    ∀ (n a : Nat) (b : Bool), a ≤ 256 → 256 < n + a → (b = true ↔ ∀ c, c < a → (H (bt (nI c)) ↔ qc_H m a_kind a_p a_q others (bt (nI c)))) → wY_needless_64 post J x (nI i) others (nI m) a_kind a_p a_q a_side a_tree a_all n (qb_i b) (nI a) := by
  intro n
  induction n with
  | zero => intro a b h1 h2; omega
  | succ n ih =>
    intro a b ha hf hI
    refine pk_le 256 a (fun e => ?_) (fun e => ?_)
    · have hdd : qg_Dep 8 (fun s => H s ↔ qc_H m a_kind a_p a_q others s) := fun s s' e => by
        show (H s ↔ _) ↔ (H s' ↔ _)
        rw [hd s s' e, qc_H_dep s s' e]
      have hid : b = true ↔ ∀ s, H s ↔ qc_H m a_kind a_p a_q others s := by
        rw [hI, qt_all hdd, show a = 256 by omega]
        exact ⟨fun z c hc => by have := z c hc; rw [qt_bits hc] at this; exact this, fun z c hc => by rw [qt_bits hc]; exact z c hc⟩
      cases b with
      | false => exact br_t rfl (nm_r (nI_1 i) (K x (fun z => by have := hid.mpr z; simp at this) (fun _ => rfl)))
      | true => exact br_f (by decide) (nm_e (nm_r (nI_1 i) (K _ (fun _ => rfl) (fun z => absurd (hid.mp rfl) z))))
    · refine qy_areKept hm (qb_lt_nI (by omega)) hv ⟨vp_in_nI e (by omega), ?_⟩
      rw [nI_clamp (by omega), hA a e]
      have hq : qb_p (qc_H m a_kind a_p a_q others (bt (nI a))) = qb_p (H (bt (nI a))) ↔ (H (bt (nI a)) ↔ qc_H m a_kind a_p a_q others (bt (nI a))) := by
        show qb_i _ = qb_i _ ↔ _
        rw [qb_i_inj, Bool.eq_iff_iff, qb_dec_iff, qb_dec_iff]
        exact ⟨Iff.symm, Iff.symm⟩
      refine ek_if hq (fun z => nm_r (nI_1 a) (ih (a + 1) b (by omega) (by omega) ?_)) (fun z => nm_r (nI_1 a) (ih (a + 1) false (by omega) (by omega) ?_))
      · rw [hI]
        refine ⟨fun y c hc => ?_, fun y c hc => y c (by omega)⟩
        by_cases e1 : c = a
        · subst e1; exact z
        · exact y c (by omega)
      · exact ⟨fun y => by simp at y, fun y => absurd (y a (by omega)) z⟩
theorem qy_needless_39 {post : Int32 → SY → Prop} (hm : m ≤ 12) (hv : qc_Vs m a_kind a_p a_q) (hA : ∀ a, a < 256 → a_all a = qb_p (qc_H m a_kind a_p a_q (qy_all m) (bt (nI a)))) (K : post (qy_Nd (fun r => qc_H m a_kind a_p a_q r) m) (nI m, a_kind, a_p, a_q, a_side, a_tree, a_all)) :
    ∀ (n i : Nat) (x : Int32), i ≤ m → m < n + i → qy_acc (fun i => qb_dec (∀ s, qc_H m a_kind a_p a_q (qy_all m) s ↔ qc_H m a_kind a_p a_q (qy_all m &&& (((1 : Int32) <<< (nI i &&& 31)) ^^^ (-1))) s)) i x → wY_needless_39 post (nI m) a_kind a_p a_q a_side a_tree a_all n x (nI i) := by
  intro n
  induction n with
  | zero => intro i x h1 h2; omega
  | succ n ih =>
    intro i x hi hf hI
    refine pk_le m i (fun e => ?_) (fun e => nm_r (e' := qy_all m &&& (((1 : Int32) <<< (nI i &&& 31)) ^^^ (-1))) rfl ⟨257, ?_⟩)
    · have ei : i = m := by omega
      subst ei
      rw [qy_acc_e (by omega) hI]; exact K
    · refine qy_needless_64 (H := qc_H m a_kind a_p a_q (qy_all m)) hm hv qc_H_dep hA (by omega) ?_ 257 0 true (by omega) (by omega) ⟨fun _ c hc => by omega, fun _ => rfl⟩
      intro x' h1 h2
      apply ih (i + 1) x' (by omega) (by omega)
      rcases Classical.em (∀ s, qc_H m a_kind a_p a_q (qy_all m) s ↔ qc_H m a_kind a_p a_q (qy_all m &&& (((1 : Int32) <<< (nI i &&& 31)) ^^^ (-1))) s) with z | z
      · rw [h1 z]; exact qy_acc_t (by omega) hI (qb_dec_t z)
      · rw [h2 z]; exact qy_acc_f hI (qb_dec_f z)
theorem qy_needless_6 {post : Int32 → SY → Prop} (hm : m ≤ 12) (hv : qc_Vs m a_kind a_p a_q) (hT : qy_T th (qc_H m a_kind a_p a_q (qy_all m)) a_tree 0) (K : ∀ al, post (qy_Nd (fun r => qc_H m a_kind a_p a_q r) m) (nI m, a_kind, a_p, a_q, a_side, a_tree, al)) :
    ∀ (n a : Nat) (al : Nat → Int32), a ≤ 256 → 256 < n + a → (∀ b, b < a → al b = qb_p (qc_H m a_kind a_p a_q (qy_all m) (bt (nI b)))) → wY_needless_6 post (nI m) n (nI a) a_kind a_p a_q a_side a_tree al := by
  intro n
  induction n with
  | zero => intro a al h1 h2; omega
  | succ n ih =>
    intro a al ha hf hI
    refine pk_le 256 a (fun e => ⟨m + 1, qy_needless_39 hm hv (fun b hb => hI b (by omega)) (K al) (m + 1) 0 0 (by omega) (by omega) qy_acc_0⟩) (fun e => ?_)
    have h1 : a_tree (2048 + a) = qb_p (qc_H m a_kind a_p a_q (qy_all m) (bt (nI a))) := by rw [qt_bits e]; exact qy_T8 hT e
    rw [qy_end]
    refine ⟨vp_in_nI (by omega) (by omega), vp_in_nI e (by omega), nm_r (e' := upd al a (qb_p (qc_H m a_kind a_p a_q (qy_all m) (bt (nI a))))) (by rw [nI_clamp (by omega), nI_clamp (by omega), h1, qb_p_vp]) (nm_r (nI_1 a) (ih (a + 1) _ (by omega) (by omega) ?_))⟩
    intro b hb
    by_cases e1 : b = a
    · subst e1; exact pk_us
    · rw [pk_un e1]; exact hI b (by omega)
theorem qy_needless {post : Int32 → SY → Prop} (hm : m ≤ 12) (hv : qc_Vs m a_kind a_p a_q) (hs : ∀ i, i < 8 → a_side i = qb_i (th i))
    (K : ∀ tr al, post (qy_Nd (fun r => qc_H m a_kind a_p a_q r) m) (nI m, a_kind, a_p, a_q, a_side, tr, al)) : wpY_needless post (nI m, a_kind, a_p, a_q, a_side, a_tree, a_all) := by
  unfold wpY_needless
  dsimp only
  refine qy_growAll (th := th) hm hv hs ?_
  intro tr hT
  exact ⟨257, qy_needless_6 (th := th) hm hv hT (K tr) 257 0 a_all (by omega) (by omega) (fun b hb => by omega)⟩
end
end
section
/-! the relation: the same rules, the same sides; what X keeps is right -/
def i_Rel (k : Nat) (u : SX) (v : SY) : Prop := match u with
  | (f_theirs, f_ruleCount, f_wayNow, f_clausesOf, f_clauseCount, f_tableFor, f_memoFor, f_memoSide, f_depth, f_known, f_ones, f_diagramFor, f_diagramRoot, f_nodeCount, f_leftCount, f_madeCount, a_kindOf, a_setP, a_setQ, a_clauses, a_table, a_memo, a_choiceOf, a_secondTry, a_knownBefore, a_onesBefore, a_nodeVariable, a_nodeLow, a_nodeHigh, a_nodeNext, a_listFirst, a_recentKey, a_recentNode, a_workF, a_workG, a_workPhase, a_workLow, a_nodeValue, a_left, a_made, a_onesOfVariable, a_tableBefore) => match v with
    | (f_n, a_kind, a_p, a_q, a_side, a_tree, a_all) => ∃ M : Nat, (M ≤ 12 ∧ f_ruleCount = nI M ∧ f_n = nI M ∧ a_kind = a_kindOf ∧ a_p = a_setP ∧ a_q = a_setQ ∧ qc_Vs M a_kindOf a_setP a_setQ ∧ ∀ i, i < 8 → a_side i = qb_i (bt f_theirs i)) ∧ qx_Ca M a_kindOf a_setP a_setQ f_clausesOf f_clauseCount f_tableFor f_memoFor f_memoSide f_diagramFor f_diagramRoot f_nodeCount a_clauses a_memo a_nodeVariable a_nodeLow a_nodeHigh a_nodeNext a_listFirst a_recentKey a_recentNode a_table
theorem qz_el {P : SX → SY → Prop} (h : ∀ (M : Nat) (f_theirs f_wayNow f_clausesOf f_clauseCount f_tableFor f_memoFor f_memoSide f_depth f_known f_ones f_diagramFor f_diagramRoot f_nodeCount f_leftCount f_madeCount : Int32) (a_kindOf a_setP a_setQ a_clauses : Nat → Int32) (a_table : Nat → Int64) (a_memo a_choiceOf a_secondTry a_knownBefore a_onesBefore a_nodeVariable a_nodeLow a_nodeHigh a_nodeNext a_listFirst a_recentKey a_recentNode a_workF a_workG a_workPhase a_workLow a_nodeValue a_left a_made : Nat → Int32) (a_onesOfVariable a_tableBefore : Nat → Int64) (a_side a_tree a_all : Nat → Int32), M ≤ 12 → qc_Vs M a_kindOf a_setP a_setQ → (∀ i, i < 8 → a_side i = qb_i (bt f_theirs i)) → qx_Ca M a_kindOf a_setP a_setQ f_clausesOf f_clauseCount f_tableFor f_memoFor f_memoSide f_diagramFor f_diagramRoot f_nodeCount a_clauses a_memo a_nodeVariable a_nodeLow a_nodeHigh a_nodeNext a_listFirst a_recentKey a_recentNode a_table → P (f_theirs, nI M, f_wayNow, f_clausesOf, f_clauseCount, f_tableFor, f_memoFor, f_memoSide, f_depth, f_known, f_ones, f_diagramFor, f_diagramRoot, f_nodeCount, f_leftCount, f_madeCount, a_kindOf, a_setP, a_setQ, a_clauses, a_table, a_memo, a_choiceOf, a_secondTry, a_knownBefore, a_onesBefore, a_nodeVariable, a_nodeLow, a_nodeHigh, a_nodeNext, a_listFirst, a_recentKey, a_recentNode, a_workF, a_workG, a_workPhase, a_workLow, a_nodeValue, a_left, a_made, a_onesOfVariable, a_tableBefore) (nI M, a_kindOf, a_setP, a_setQ, a_side, a_tree, a_all))
    {k : Nat} {u : SX} {v : SY} (I : i_Rel k u v) : P u v := by
  obtain ⟨f_theirs, f_ruleCount, f_wayNow, f_clausesOf, f_clauseCount, f_tableFor, f_memoFor, f_memoSide, f_depth, f_known, f_ones, f_diagramFor, f_diagramRoot, f_nodeCount, f_leftCount, f_madeCount, a_kindOf, a_setP, a_setQ, a_clauses, a_table, a_memo, a_choiceOf, a_secondTry, a_knownBefore, a_onesBefore, a_nodeVariable, a_nodeLow, a_nodeHigh, a_nodeNext, a_listFirst, a_recentKey, a_recentNode, a_workF, a_workG, a_workPhase, a_workLow, a_nodeValue, a_left, a_made, a_onesOfVariable, a_tableBefore⟩ := u
  obtain ⟨f_n, a_kind, a_p, a_q, a_side, a_tree, a_all⟩ := v
  obtain ⟨M, ⟨hM, rfl, rfl, rfl, rfl, rfl, hV, hs⟩, hC⟩ := I
  exact h M f_theirs f_wayNow f_clausesOf f_clauseCount f_tableFor f_memoFor f_memoSide f_depth f_known f_ones f_diagramFor f_diagramRoot f_nodeCount f_leftCount f_madeCount a_kind a_p a_q a_clauses a_table a_memo a_choiceOf a_secondTry a_knownBefore a_onesBefore a_nodeVariable a_nodeLow a_nodeHigh a_nodeNext a_listFirst a_recentKey a_recentNode a_workF a_workG a_workPhase a_workLow a_nodeValue a_left a_made a_onesOfVariable a_tableBefore a_side a_tree a_all hM hV hs hC
section
variable {f_theirs f_ruleCount f_wayNow f_clausesOf f_clauseCount f_tableFor f_memoFor f_memoSide f_depth f_known f_ones f_diagramFor f_diagramRoot f_nodeCount f_leftCount f_madeCount : Int32} {a_kindOf a_setP a_setQ a_clauses a_memo a_choiceOf a_secondTry a_knownBefore a_onesBefore a_nodeVariable a_nodeLow a_nodeHigh a_nodeNext a_listFirst a_recentKey a_recentNode a_workF a_workG a_workPhase a_workLow a_nodeValue a_left a_made : Nat → Int32} {a_table a_onesOfVariable a_tableBefore : Nat → Int64}
variable {a_side a_tree a_all : Nat → Int32}
theorem qz_in {k M : Nat} (hM : M ≤ 12) (hV : qc_Vs M a_kindOf a_setP a_setQ) (hs : ∀ i, i < 8 → a_side i = qb_i (bt f_theirs i)) (hC : qx_Ca M a_kindOf a_setP a_setQ f_clausesOf f_clauseCount f_tableFor f_memoFor f_memoSide f_diagramFor f_diagramRoot f_nodeCount a_clauses a_memo a_nodeVariable a_nodeLow a_nodeHigh a_nodeNext a_listFirst a_recentKey a_recentNode a_table) : i_Rel k (f_theirs, nI M, f_wayNow, f_clausesOf, f_clauseCount, f_tableFor, f_memoFor, f_memoSide, f_depth, f_known, f_ones, f_diagramFor, f_diagramRoot, f_nodeCount, f_leftCount, f_madeCount, a_kindOf, a_setP, a_setQ, a_clauses, a_table, a_memo, a_choiceOf, a_secondTry, a_knownBefore, a_onesBefore, a_nodeVariable, a_nodeLow, a_nodeHigh, a_nodeNext, a_listFirst, a_recentKey, a_recentNode, a_workF, a_workG, a_workPhase, a_workLow, a_nodeValue, a_left, a_made, a_onesOfVariable, a_tableBefore) (nI M, a_kindOf, a_setP, a_setQ, a_side, a_tree, a_all) :=
  ⟨M, ⟨hM, rfl, rfl, rfl, rfl, rfl, hV, hs⟩, hC⟩
end
theorem i_up {k : Nat} {u : SX} {v : SY} (h : i_Rel k u v) : i_Rel (k + 4) u v := h
theorem qz_none {M : Nat} {kd p q : Nat → Int32} {cc ms dr nc : Int32} {cl mm nv lo hi nx lf rk rn : Nat → Int32} {tb : Nat → Int64} : qx_Ca M kd p q (-1) cc (-1) (-1) ms (-1) dr nc cl mm nv lo hi nx lf rk rn tb := ⟨Or.inl rfl, Or.inl rfl, Or.inl rfl, Or.inl rfl⟩
theorem i_vc0 : wpX_init (fun u => wpY_init (fun v => i_Rel 0 u v)) := by
  unfold wpX_init wpX_forgetAll wpY_init
  dsimp only
  exact ⟨0, ⟨by omega, rfl, rfl, rfl, rfl, rfl, fun j hj => by omega, fun i _ => by rw [b_0]; rfl⟩, qz_none⟩
/-! sides -/
theorem i_vc_give {k : Nat} {u : SX} {v : SY} (I : i_Rel k u v) (hk : k + 4 ≤ 2048) (v1 : Int32) (v2 : Int32) : wpX_give (fun r u' => wpY_give (fun r' v' => r' = r ∧ i_Rel (k + 4) u' v') v v1 v2) u v1 v2 := by
  refine qz_el (P := fun u v => wpX_give (fun r u' => wpY_give (fun r' v' => r' = r ∧ i_Rel (k + 4) u' v') v v1 v2) u v1 v2) ?_ I
  intro M f_theirs f_wayNow f_clausesOf f_clauseCount f_tableFor f_memoFor f_memoSide f_depth f_known f_ones f_diagramFor f_diagramRoot f_nodeCount f_leftCount f_madeCount a_kindOf a_setP a_setQ a_clauses a_table a_memo a_choiceOf a_secondTry a_knownBefore a_onesBefore a_nodeVariable a_nodeLow a_nodeHigh a_nodeNext a_listFirst a_recentKey a_recentNode a_workF a_workG a_workPhase a_workLow a_nodeValue a_left a_made a_onesOfVariable a_tableBefore a_side a_tree a_all hM hV hs hC
  have same : ¬ ((0 ≤ v1 ∧ v1 ≤ 7) ∧ (0 ≤ v2 ∧ v2 ≤ 1)) → wpY_give (fun r' v' => r' = 0 ∧ i_Rel (k + 4) (f_theirs, nI M, f_wayNow, f_clausesOf, f_clauseCount, f_tableFor, f_memoFor, f_memoSide, f_depth, f_known, f_ones, f_diagramFor, f_diagramRoot, f_nodeCount, f_leftCount, f_madeCount, a_kindOf, a_setP, a_setQ, a_clauses, a_table, a_memo, a_choiceOf, a_secondTry, a_knownBefore, a_onesBefore, a_nodeVariable, a_nodeLow, a_nodeHigh, a_nodeNext, a_listFirst, a_recentKey, a_recentNode, a_workF, a_workG, a_workPhase, a_workLow, a_nodeValue, a_left, a_made, a_onesOfVariable, a_tableBefore) v') (nI M, a_kindOf, a_setP, a_setQ, a_side, a_tree, a_all) v1 v2 := by
    intro hno
    unfold wpY_give
    dsimp only
    exact qy_in (fun _ => br_t rfl ⟨rfl, qz_in hM hV hs hC⟩) (fun a b => br_f (by decide) (qy_in (fun _ => br_t rfl ⟨rfl, qz_in hM hV hs hC⟩) (fun c d => absurd ⟨⟨a, b⟩, ⟨c, d⟩⟩ hno)))
  refine br_c (fun h1 => same (fun z => Int32.not_lt.mpr z.1.1 h1)) (fun h1 => br_c (fun h2 => same (fun z => Int32.not_lt.mpr z.1.2 h2)) (fun h2 => br_c (fun h3 => same (fun z => Int32.not_lt.mpr z.2.1 h3)) (fun h3 => br_c (fun h4 => ?_) (fun h4 => same (fun z => h4 z.2.2)))))
  obtain ⟨a, ha, rfl⟩ := nI_of2 (x := v1) (M := 7) (n := 7) (by decide) h1 (Int32.not_lt.mp h2)
  obtain ⟨b, hb, rfl⟩ := nI_of2 (x := v2) (M := 1) (n := 1) (by decide) h3 h4
  have go : ∀ (x : Int32) (c : Bool), nI b = qb_i c → (∀ i, bt x i = qg_up (bt f_theirs) a c i) → wpY_give (fun r' v' => r' = 1 ∧ i_Rel (k + 4) (x, nI M, f_wayNow, f_clausesOf, f_clauseCount, f_tableFor, f_memoFor, f_memoSide, f_depth, f_known, f_ones, f_diagramFor, f_diagramRoot, f_nodeCount, f_leftCount, f_madeCount, a_kindOf, a_setP, a_setQ, a_clauses, a_table, a_memo, a_choiceOf, a_secondTry, a_knownBefore, a_onesBefore, a_nodeVariable, a_nodeLow, a_nodeHigh, a_nodeNext, a_listFirst, a_recentKey, a_recentNode, a_workF, a_workG, a_workPhase, a_workLow, a_nodeValue, a_left, a_made, a_onesOfVariable, a_tableBefore) v') (nI M, a_kindOf, a_setP, a_setQ, a_side, a_tree, a_all) (nI a) (nI b) := by
    intro x c hc hx
    unfold wpY_give
    dsimp only
    refine qy_in (fun z => absurd ⟨Int32.not_lt.mp h1, Int32.not_lt.mp h2⟩ z) (fun _ _ => br_f (by decide) (qy_in (fun z => absurd ⟨Int32.not_lt.mp h3, h4⟩ z) (fun _ _ => br_f (by decide) ⟨vp_in_nI (by omega) (by omega), nm_r (e' := upd a_side a (nI b)) (by rw [nI_clamp (by omega)]) ⟨rfl, qz_in hM hV ?_ hC⟩⟩)))
    intro i hi
    rw [hx i]
    by_cases e : i = a
    · subst e; rw [pk_us, qg_up_s]; exact hc
    · rw [pk_un e, qg_up_n e]; exact hs i hi
  have hb01 : b = 0 ∨ b = 1 := by omega
  rcases hb01 with rfl | rfl
  · refine br_f (by decide) (nm_e (go _ false rfl ?_))
    intro i
    rcases Nat.lt_or_ge i 32 with hi | hi
    · rw [b_and, qb_not _ hi, qb_one (by omega)]
      by_cases e : i = a
      · subst e; rw [decide_eq_true rfl, qg_up_s]; exact Bool.and_false _
      · rw [decide_eq_false e, qg_up_n e]; exact Bool.and_true _
    · rw [b_big hi, qg_up_n (by omega), b_big hi]
  · refine br_t rfl (nm_e (go _ true rfl ?_))
    intro i
    rw [qb_or_one (by omega)]
/-! rules come -/
theorem qz_lt8 {x : Int32} : qb_lt x 8 ↔ (¬ x < 0 ∧ x ≤ 255) := by
  constructor
  · intro h
    obtain ⟨a, ha, rfl⟩ := qb_lt_of (by omega) h
    exact ⟨nI_pos (by omega), nI_le (b := 255) (by omega) (by omega)⟩
  · intro ⟨h1, h2⟩
    obtain ⟨a, ha, rfl⟩ := nI_of2 (M := 255) (n := 255) (by decide) h1 h2
    exact qb_lt_nI (by omega)
theorem qz_V {kd p q : Int32} : qc_V kd p q ↔ ((¬ kd < 0 ∧ ¬ 3 < kd) ∧ (¬ p < 0 ∧ p ≤ 255) ∧ (kd = 0 → ¬ q < 0 ∧ q ≤ 255) ∧ (kd = 1 → (¬ q < 0 ∧ ¬ 1 < q) ∧ nI (qn_cnt (bt p) 8) ≤ 4) ∧ (kd = 2 → (¬ q < 0 ∧ ¬ 4 < q) ∧ nI (qn_cnt (bt p) 8) ≤ 5)) := by
  have hc := qn_cnt_le (bt p) 8
  have c4 : nI (qn_cnt (bt p) 8) ≤ 4 ↔ qn_cnt (bt p) 8 ≤ 4 := nI_leI (b := 4) (by omega) (by omega)
  have c5 : nI (qn_cnt (bt p) 8) ≤ 5 ↔ qn_cnt (bt p) 8 ≤ 5 := nI_leI (b := 5) (by omega) (by omega)
  unfold qc_V
  rw [qz_lt8, c4, c5]
  constructor
  · intro ⟨hp, h⟩
    rcases h with ⟨rfl, h⟩ | ⟨rfl, h, h'⟩ | ⟨rfl, ⟨j, hj, rfl⟩, h'⟩ | rfl
    · exact ⟨by decide, hp, fun _ => qz_lt8.mp h, fun z => absurd z (by decide), fun z => absurd z (by decide)⟩
    · refine ⟨by decide, hp, fun z => absurd z (by decide), fun _ => ⟨?_, h'⟩, fun z => absurd z (by decide)⟩
      rcases h with rfl | rfl <;> decide
    · exact ⟨by decide, hp, fun z => absurd z (by decide), fun z => absurd z (by decide), fun _ => ⟨⟨nI_pos (by omega), nI_nlt (a := 4) hj (by omega)⟩, h'⟩⟩
    · exact ⟨by decide, hp, fun z => absurd z (by decide), fun z => absurd z (by decide), fun z => absurd z (by decide)⟩
  · intro ⟨hk, hp, h0, h1, h2⟩
    refine ⟨hp, ?_⟩
    obtain ⟨a, ha, rfl⟩ := nI_of2 (x := kd) (M := 3) (n := 3) (by decide) hk.1 (Int32.not_lt.mp hk.2)
    have ha' : a = 0 ∨ a = 1 ∨ a = 2 ∨ a = 3 := by omega
    rcases ha' with rfl | rfl | rfl | rfl
    · exact Or.inl ⟨rfl, qz_lt8.mpr (h0 rfl)⟩
    · have := h1 rfl
      obtain ⟨b, hb, rfl⟩ := nI_of2 (x := q) (M := 1) (n := 1) (by decide) this.1.1 (Int32.not_lt.mp this.1.2)
      have hb01 : b = 0 ∨ b = 1 := by omega
      refine Or.inr (Or.inl ⟨rfl, ?_, this.2⟩)
      rcases hb01 with rfl | rfl
      · exact Or.inl rfl
      · exact Or.inr rfl
    · have := h2 rfl
      obtain ⟨b, hb, rfl⟩ := nI_of2 (x := q) (M := 4) (n := 4) (by decide) this.1.1 (Int32.not_lt.mp this.1.2)
      exact Or.inr (Or.inr (Or.inl ⟨rfl, ⟨b, hb, rfl⟩, this.2⟩))
    · exact Or.inr (Or.inr (Or.inr rfl))
theorem qz_Vs {M : Nat} {kd p q : Nat → Int32} {a b c : Int32} (h : qc_Vs M kd p q) (h' : qc_V a b c) : qc_Vs (M + 1) (upd kd M a) (upd p M b) (upd q M c) := by
  intro j hj
  by_cases e : j = M
  · subst e; rw [pk_us, pk_us, pk_us]; exact h'
  · rw [pk_un e, pk_un e, pk_un e]; exact h j (by omega)
section
variable {f_theirs f_ruleCount f_wayNow f_clausesOf f_clauseCount f_tableFor f_memoFor f_memoSide f_depth f_known f_ones f_diagramFor f_diagramRoot f_nodeCount f_leftCount f_madeCount : Int32} {a_kindOf a_setP a_setQ a_clauses a_memo a_choiceOf a_secondTry a_knownBefore a_onesBefore a_nodeVariable a_nodeLow a_nodeHigh a_nodeNext a_listFirst a_recentKey a_recentNode a_workF a_workG a_workPhase a_workLow a_nodeValue a_left a_made : Nat → Int32} {a_table a_onesOfVariable a_tableBefore : Nat → Int64}
theorem qx_rule {post : Int32 → SX → Prop} {M : Nat} {a b c : Int32} (hM : M < 12) (K0 : ¬ qc_V a b c → post (-1) (f_theirs, nI M, f_wayNow, f_clausesOf, f_clauseCount, f_tableFor, f_memoFor, f_memoSide, f_depth, f_known, f_ones, f_diagramFor, f_diagramRoot, f_nodeCount, f_leftCount, f_madeCount, a_kindOf, a_setP, a_setQ, a_clauses, a_table, a_memo, a_choiceOf, a_secondTry, a_knownBefore, a_onesBefore, a_nodeVariable, a_nodeLow, a_nodeHigh, a_nodeNext, a_listFirst, a_recentKey, a_recentNode, a_workF, a_workG, a_workPhase, a_workLow, a_nodeValue, a_left, a_made, a_onesOfVariable, a_tableBefore))
    (K1 : qc_V a b c → post (nI (M + 1)) (f_theirs, nI (M + 1), f_wayNow, (-1), f_clauseCount, (-1), (-1), f_memoSide, f_depth, f_known, f_ones, (-1), f_diagramRoot, f_nodeCount, f_leftCount, f_madeCount, upd a_kindOf M a, upd a_setP M b, upd a_setQ M c, a_clauses, a_table, a_memo, a_choiceOf, a_secondTry, a_knownBefore, a_onesBefore, a_nodeVariable, a_nodeLow, a_nodeHigh, a_nodeNext, a_listFirst, a_recentKey, a_recentNode, a_workF, a_workG, a_workPhase, a_workLow, a_nodeValue, a_left, a_made, a_onesOfVariable, a_tableBefore)) : wpX_rule post (f_theirs, nI M, f_wayNow, f_clausesOf, f_clauseCount, f_tableFor, f_memoFor, f_memoSide, f_depth, f_known, f_ones, f_diagramFor, f_diagramRoot, f_nodeCount, f_leftCount, f_madeCount, a_kindOf, a_setP, a_setQ, a_clauses, a_table, a_memo, a_choiceOf, a_secondTry, a_knownBefore, a_onesBefore, a_nodeVariable, a_nodeLow, a_nodeHigh, a_nodeNext, a_listFirst, a_recentKey, a_recentNode, a_workF, a_workG, a_workPhase, a_workLow, a_nodeValue, a_left, a_made, a_onesOfVariable, a_tableBefore) a b c := by
  have hin : vp_in (nI M) 12 := vp_in_nI hM (by omega)
  have hcl : (nI M).toNatClampNeg = M := nI_clamp (by omega)
  have bad : ¬ ((¬ a < 0 ∧ ¬ 3 < a) ∧ (¬ b < 0 ∧ b ≤ 255) ∧ (a = 0 → ¬ c < 0 ∧ c ≤ 255) ∧ (a = 1 → (¬ c < 0 ∧ ¬ 1 < c) ∧ nI (qn_cnt (bt b) 8) ≤ 4) ∧ (a = 2 → (¬ c < 0 ∧ ¬ 4 < c) ∧ nI (qn_cnt (bt b) 8) ≤ 5)) → post (-1) (f_theirs, nI M, f_wayNow, f_clausesOf, f_clauseCount, f_tableFor, f_memoFor, f_memoSide, f_depth, f_known, f_ones, f_diagramFor, f_diagramRoot, f_nodeCount, f_leftCount, f_madeCount, a_kindOf, a_setP, a_setQ, a_clauses, a_table, a_memo, a_choiceOf, a_secondTry, a_knownBefore, a_onesBefore, a_nodeVariable, a_nodeLow, a_nodeHigh, a_nodeNext, a_listFirst, a_recentKey, a_recentNode, a_workF, a_workG, a_workPhase, a_workLow, a_nodeValue, a_left, a_made, a_onesOfVariable, a_tableBefore) := fun h => K0 (fun z => h (qz_V.mp z))
  refine br_t (nI_lt (b := 12) hM (by omega)) (br_c (fun h => bad (fun z => z.1.1 h)) (fun h1 => br_c (fun h => bad (fun z => z.1.2 h)) (fun h2 => br_c (fun h => bad (fun z => z.2.1.1 h)) (fun h3 => br_c (fun h4 => ?_) (fun h => bad (fun z => h z.2.1.2))))))
  have store : qc_V a b c → wX_rule_102 post a b c f_theirs (nI M) f_wayNow f_clausesOf f_clauseCount f_tableFor f_memoFor f_memoSide f_depth f_known f_ones f_diagramFor f_diagramRoot f_nodeCount f_leftCount f_madeCount a_kindOf a_setP a_setQ a_clauses a_table a_memo a_choiceOf a_secondTry a_knownBefore a_onesBefore a_nodeVariable a_nodeLow a_nodeHigh a_nodeNext a_listFirst a_recentKey a_recentNode a_workF a_workG a_workPhase a_workLow a_nodeValue a_left a_made a_onesOfVariable a_tableBefore := by
    intro hv
    obtain ⟨j, hj, ej⟩ := nI_of2 (x := a) (M := 3) (n := 3) (by decide) h1 (Int32.not_lt.mp h2)
    have hb : vp_nar .byte a.toInt8.toInt32 = a := by rw [ej]; exact qs_byte j (by omega)
    exact ⟨hin, nm_r (e' := upd a_kindOf M a) (by rw [hcl, hb]) ⟨hin, nm_r (e' := upd a_setP M b) (by rw [hcl]) ⟨hin, nm_r (e' := upd a_setQ M c) (by rw [hcl]) (nm_r (nI_1 M) (K1 hv))⟩⟩⟩
  have s80 : (a = 0 → ¬ c < 0 ∧ c ≤ 255) → (a = 1 → (¬ c < 0 ∧ ¬ 1 < c) ∧ nI (qn_cnt (bt b) 8) ≤ 4) → wX_rule_80 post a b c (nI (qn_cnt (bt b) 8)) f_theirs (nI M) f_wayNow f_clausesOf f_clauseCount f_tableFor f_memoFor f_memoSide f_depth f_known f_ones f_diagramFor f_diagramRoot f_nodeCount f_leftCount f_madeCount a_kindOf a_setP a_setQ a_clauses a_table a_memo a_choiceOf a_secondTry a_knownBefore a_onesBefore a_nodeVariable a_nodeLow a_nodeHigh a_nodeNext a_listFirst a_recentKey a_recentNode a_workF a_workG a_workPhase a_workLow a_nodeValue a_left a_made a_onesOfVariable a_tableBefore := by
    intro g0 g1
    refine br_c (fun e => br_c (fun h => bad (fun z => (z.2.2.2.2 e).1.1 h)) (fun h5 => br_c (fun h => bad (fun z => (z.2.2.2.2 e).1.2 h)) (fun h6 => br_c (fun h7 => store ?_) (fun h => bad (fun z => h (z.2.2.2.2 e).2))))) (fun e => store ?_)
    · exact qz_V.mpr ⟨⟨h1, h2⟩, ⟨h3, h4⟩, g0, g1, fun _ => ⟨⟨h5, h6⟩, h7⟩⟩
    · exact qz_V.mpr ⟨⟨h1, h2⟩, ⟨h3, h4⟩, g0, g1, fun z => absurd z e⟩
  have s58 : (a = 0 → ¬ c < 0 ∧ c ≤ 255) → wX_rule_58 post a b c (nI (qn_cnt (bt b) 8)) f_theirs (nI M) f_wayNow f_clausesOf f_clauseCount f_tableFor f_memoFor f_memoSide f_depth f_known f_ones f_diagramFor f_diagramRoot f_nodeCount f_leftCount f_madeCount a_kindOf a_setP a_setQ a_clauses a_table a_memo a_choiceOf a_secondTry a_knownBefore a_onesBefore a_nodeVariable a_nodeLow a_nodeHigh a_nodeNext a_listFirst a_recentKey a_recentNode a_workF a_workG a_workPhase a_workLow a_nodeValue a_left a_made a_onesOfVariable a_tableBefore := by
    intro g0
    exact br_c (fun e => br_c (fun h => bad (fun z => (z.2.2.2.1 e).1.1 h)) (fun h5 => br_c (fun h => bad (fun z => (z.2.2.2.1 e).1.2 h)) (fun h6 => br_c (fun h7 => s80 g0 (fun _ => ⟨⟨h5, h6⟩, h7⟩)) (fun h => bad (fun z => h (z.2.2.2.1 e).2))))) (fun e => s80 g0 (fun z => absurd z e))
  refine qx_onesIn (qz_lt8.mpr ⟨h3, h4⟩) ?_
  exact br_c (fun e => br_c (fun h => bad (fun z => (z.2.2.1 e).1 h)) (fun h5 => br_c (fun h6 => s58 (fun _ => ⟨h5, h6⟩)) (fun h => bad (fun z => h (z.2.2.1 e).2)))) (fun e => s58 (fun z => absurd z e))
end
section
variable {f_n : Int32} {a_kind a_p a_q a_side a_tree a_all : Nat → Int32}
theorem qy_rule {post : Int32 → SY → Prop} {M : Nat} {a b c : Int32} (hM : M < 12) (K0 : ¬ qc_V a b c → post (-1) (nI M, a_kind, a_p, a_q, a_side, a_tree, a_all))
    (K1 : qc_V a b c → post (nI (M + 1)) (nI (M + 1), upd a_kind M a, upd a_p M b, upd a_q M c, a_side, a_tree, a_all)) : wpY_rule post (nI M, a_kind, a_p, a_q, a_side, a_tree, a_all) a b c := by
  have hin : vp_in (nI M) 12 := vp_in_nI hM (by omega)
  have hcl : (nI M).toNatClampNeg = M := nI_clamp (by omega)
  have bad : ¬ ((¬ a < 0 ∧ ¬ 3 < a) ∧ (¬ b < 0 ∧ b ≤ 255) ∧ (a = 0 → ¬ c < 0 ∧ c ≤ 255) ∧ (a = 1 → (¬ c < 0 ∧ ¬ 1 < c) ∧ nI (qn_cnt (bt b) 8) ≤ 4) ∧ (a = 2 → (¬ c < 0 ∧ ¬ 4 < c) ∧ nI (qn_cnt (bt b) 8) ≤ 5)) → post (-1) (nI M, a_kind, a_p, a_q, a_side, a_tree, a_all) := fun h => K0 (fun z => h (qz_V.mp z))
  have lt : ∀ {x y : Int32}, ¬ x < y → y ≤ x := fun h => Int32.not_lt.mp h
  have gt : ∀ {x y : Int32}, y ≤ x → ¬ x < y := fun h => Int32.not_lt.mpr h
  have hne : ¬ nI M = 12 := by
    intro e
    have : nI M = nI 12 := e
    rw [nI_eq (by omega) (by omega)] at this
    omega
  refine br_f hne (qy_in (fun h => br_t rfl (bad (fun z => h ⟨lt z.1.1, lt z.1.2⟩))) (fun h1 h2 => br_f (by decide) (qy_in (fun h => br_t rfl (bad (fun z => h ⟨lt z.2.1.1, z.2.1.2⟩))) (fun h3 h4 => br_f (by decide) ?_))))
  have store : qc_V a b c → wY_rule_106 post a b c (nI M) a_kind a_p a_q a_side a_tree a_all := by
    intro hv
    exact ⟨hin, nm_r (e' := upd a_kind M a) (by rw [hcl]) ⟨hin, nm_r (e' := upd a_p M b) (by rw [hcl]) ⟨hin, nm_r (e' := upd a_q M c) (by rw [hcl]) (nm_r (nI_1 M) (K1 hv))⟩⟩⟩
  have s80 : (a = 0 → ¬ c < 0 ∧ c ≤ 255) → (a = 1 → (¬ c < 0 ∧ ¬ 1 < c) ∧ nI (qn_cnt (bt b) 8) ≤ 4) → wY_rule_80 post a b c (nI M) a_kind a_p a_q a_side a_tree a_all := by
    intro g0 g1
    refine br_c (fun e => qy_in (fun h => br_t rfl (bad (fun z => h ⟨lt (z.2.2.2.2 e).1.1, lt (z.2.2.2.2 e).1.2⟩))) (fun h5 h6 => br_f (by decide) (qy_sizeOf (br_c (fun h7 => store ?_) (fun h => bad (fun z => h (z.2.2.2.2 e).2)))))) (fun e => store ?_)
    · exact qz_V.mpr ⟨⟨gt h1, gt h2⟩, ⟨gt h3, h4⟩, g0, g1, fun _ => ⟨⟨gt h5, gt h6⟩, h7⟩⟩
    · exact qz_V.mpr ⟨⟨gt h1, gt h2⟩, ⟨gt h3, h4⟩, g0, g1, fun z => absurd z e⟩
  have s54 : (a = 0 → ¬ c < 0 ∧ c ≤ 255) → wY_rule_54 post a b c (nI M) a_kind a_p a_q a_side a_tree a_all := by
    intro g0
    exact br_c (fun e => qy_in (fun h => br_t rfl (bad (fun z => h ⟨lt (z.2.2.2.1 e).1.1, lt (z.2.2.2.1 e).1.2⟩))) (fun h5 h6 => br_f (by decide) (qy_sizeOf (br_c (fun h7 => s80 g0 (fun _ => ⟨⟨gt h5, gt h6⟩, h7⟩)) (fun h => bad (fun z => h (z.2.2.2.1 e).2)))))) (fun e => s80 g0 (fun z => absurd z e))
  exact br_c (fun e => qy_in (fun h => br_t rfl (bad (fun z => h ⟨lt (z.2.2.1 e).1, (z.2.2.1 e).2⟩))) (fun h5 h6 => br_f (by decide) (s54 (fun _ => ⟨gt h5, h6⟩)))) (fun e => s54 (fun z => absurd z e))
end
theorem i_vc_rule {k : Nat} {u : SX} {v : SY} (I : i_Rel k u v) (hk : k + 4 ≤ 2048) (v1 : Int32) (v2 : Int32) (v3 : Int32) : wpX_rule (fun r u' => wpY_rule (fun r' v' => r' = r ∧ i_Rel (k + 4) u' v') v v1 v2 v3) u v1 v2 v3 := by
  refine qz_el (P := fun u v => wpX_rule (fun r u' => wpY_rule (fun r' v' => r' = r ∧ i_Rel (k + 4) u' v') v v1 v2 v3) u v1 v2 v3) ?_ I
  intro M f_theirs f_wayNow f_clausesOf f_clauseCount f_tableFor f_memoFor f_memoSide f_depth f_known f_ones f_diagramFor f_diagramRoot f_nodeCount f_leftCount f_madeCount a_kindOf a_setP a_setQ a_clauses a_table a_memo a_choiceOf a_secondTry a_knownBefore a_onesBefore a_nodeVariable a_nodeLow a_nodeHigh a_nodeNext a_listFirst a_recentKey a_recentNode a_workF a_workG a_workPhase a_workLow a_nodeValue a_left a_made a_onesOfVariable a_tableBefore a_side a_tree a_all hM hV hs hC
  by_cases h12 : M < 12
  · refine qx_rule h12 (fun hno => ?_) (fun hv => ?_)
    · exact qy_rule h12 (fun _ => ⟨rfl, qz_in hM hV hs hC⟩) (fun hv => absurd hv hno)
    · exact qy_rule h12 (fun hno => absurd hv hno) (fun _ => ⟨rfl, qz_in (by omega) (qz_Vs hV hv) hs qz_none⟩)
  · have e : M = 12 := by omega
    subst e
    exact br_f (by decide) (br_t rfl ⟨rfl, qz_in hM hV hs hC⟩)
/-! rules go -/
def qz_sh (a : Nat → Int32) (i k : Nat) : Nat → Int32 := fun j => if i ≤ j ∧ j < k then a (j + 1) else a j
theorem qz_sh_0 {a : Nat → Int32} {i : Nat} : qz_sh a i i = a := by
  funext j
  exact if_neg (by omega)
theorem qz_sh_n {a : Nat → Int32} {i k : Nat} : qz_sh a i k (k + 1) = a (k + 1) := if_neg (by omega)
theorem qz_sh_s {a : Nat → Int32} {i k : Nat} (h : i ≤ k) : upd (qz_sh a i k) k (a (k + 1)) = qz_sh a i (k + 1) := by
  funext j
  by_cases e : j = k
  · subst e
    rw [pk_us]
    exact (if_pos (by omega)).symm
  · rw [pk_un e]
    unfold qz_sh
    by_cases e1 : i ≤ j ∧ j < k
    · rw [if_pos e1, if_pos (by omega)]
    · rw [if_neg e1, if_neg (by omega)]
theorem qz_sh_V {M i : Nat} {kd p q : Nat → Int32} (h : qc_Vs (M + 1) kd p q) : qc_Vs M (qz_sh kd i M) (qz_sh p i M) (qz_sh q i M) := by
  intro j hj
  unfold qz_sh
  by_cases e : i ≤ j ∧ j < M
  · rw [if_pos e, if_pos e, if_pos e]; exact h (j + 1) (by omega)
  · rw [if_neg e, if_neg e, if_neg e]; exact h j (by omega)
section
variable {f_theirs f_ruleCount f_wayNow f_clausesOf f_clauseCount f_tableFor f_memoFor f_memoSide f_depth f_known f_ones f_diagramFor f_diagramRoot f_nodeCount f_leftCount f_madeCount : Int32} {a_kindOf a_setP a_setQ a_clauses a_memo a_choiceOf a_secondTry a_knownBefore a_onesBefore a_nodeVariable a_nodeLow a_nodeHigh a_nodeNext a_listFirst a_recentKey a_recentNode a_workF a_workG a_workPhase a_workLow a_nodeValue a_left a_made : Nat → Int32} {a_table a_onesOfVariable a_tableBefore : Nat → Int64}
theorem qx_drop_26 {post : Int32 → SX → Prop} {M i : Nat} (hM : M < 12) (hV : qc_Vs (M + 1) a_kindOf a_setP a_setQ)
    (K : post (nI M) (f_theirs, nI M, f_wayNow, (-1), f_clauseCount, (-1), (-1), f_memoSide, f_depth, f_known, f_ones, (-1), f_diagramRoot, f_nodeCount, f_leftCount, f_madeCount, qz_sh a_kindOf i M, qz_sh a_setP i M, qz_sh a_setQ i M, a_clauses, a_table, a_memo, a_choiceOf, a_secondTry, a_knownBefore, a_onesBefore, a_nodeVariable, a_nodeLow, a_nodeHigh, a_nodeNext, a_listFirst, a_recentKey, a_recentNode, a_workF, a_workG, a_workPhase, a_workLow, a_nodeValue, a_left, a_made, a_onesOfVariable, a_tableBefore)) :
    ∀ (n k : Nat), i ≤ k → k ≤ M → M < n + k → wX_drop_26 post f_theirs (nI M) f_wayNow f_clausesOf f_clauseCount f_tableFor f_memoFor f_memoSide f_depth f_known f_ones f_diagramFor f_diagramRoot f_nodeCount f_leftCount f_madeCount n (nI k) (qz_sh a_kindOf i k) (qz_sh a_setP i k) (qz_sh a_setQ i k) a_clauses a_table a_memo a_choiceOf a_secondTry a_knownBefore a_onesBefore a_nodeVariable a_nodeLow a_nodeHigh a_nodeNext a_listFirst a_recentKey a_recentNode a_workF a_workG a_workPhase a_workLow a_nodeValue a_left a_made a_onesOfVariable a_tableBefore := by
  intro n
  induction n with
  | zero => intro k h1 h2 h3; omega
  | succ n ih =>
    intro k hik hk hf
    refine pk_le M k (fun e => ?_) (fun e => ?_)
    · have ek : k = M := by omega
      subst ek
      exact K
    · have in1 : vp_in (nI k + 1) 12 := by rw [nI_1]; exact vp_in_nI (by omega) (by omega)
      have in0 : vp_in (nI k) 12 := vp_in_nI (by omega) (by omega)
      have cl1 : (nI k + 1).toNatClampNeg = k + 1 := by rw [nI_1]; exact nI_clamp (by omega)
      have cl0 : (nI k).toNatClampNeg = k := nI_clamp (by omega)
      have hkd : vp_nar .byte (a_kindOf (k + 1)) = a_kindOf (k + 1) := by
        rw [vp_nar_byte]
        rcases (hV (k + 1) (by omega)).2 with ⟨h, _⟩ | ⟨h, _⟩ | ⟨h, _⟩ | h <;> rw [h] <;> decide
      refine ⟨in1, in0, nm_r (e' := qz_sh a_kindOf i (k + 1)) (by rw [cl0, cl1, qz_sh_n, hkd, qz_sh_s hik]) ⟨in1, in0, nm_r (e' := qz_sh a_setP i (k + 1)) (by rw [cl0, cl1, qz_sh_n, qz_sh_s hik]) ⟨in1, in0, nm_r (e' := qz_sh a_setQ i (k + 1)) (by rw [cl0, cl1, qz_sh_n, qz_sh_s hik]) (nm_r (nI_1 k) (ih (k + 1) (by omega) (by omega) (by omega)))⟩⟩⟩
end
section
variable {f_n : Int32} {a_kind a_p a_q a_side a_tree a_all : Nat → Int32}
theorem qy_drop_16 {post : Int32 → SY → Prop} {M i : Nat} (hM : M < 12)
    (K : post (nI M) (nI M, qz_sh a_kind i M, qz_sh a_p i M, qz_sh a_q i M, a_side, a_tree, a_all)) :
    ∀ (n k : Nat), i ≤ k → k ≤ M → M < n + k → wY_drop_16 post (nI (M + 1)) n (nI k) (qz_sh a_kind i k) (qz_sh a_p i k) (qz_sh a_q i k) a_side a_tree a_all := by
  intro n
  induction n with
  | zero => intro k h1 h2 h3; omega
  | succ n ih =>
    intro k hik hk hf
    refine pk_le M k (fun e => nm_r (e' := nI M) (nI_pred M) ?_) (fun e => ?_) (hx := nI_pred M)
    · have ek : k = M := by omega
      subst ek
      exact K
    · have in1 : vp_in (nI k + 1) 12 := by rw [nI_1]; exact vp_in_nI (by omega) (by omega)
      have in0 : vp_in (nI k) 12 := vp_in_nI (by omega) (by omega)
      have cl1 : (nI k + 1).toNatClampNeg = k + 1 := by rw [nI_1]; exact nI_clamp (by omega)
      have cl0 : (nI k).toNatClampNeg = k := nI_clamp (by omega)
      refine ⟨in1, in0, nm_r (e' := qz_sh a_kind i (k + 1)) (by rw [cl0, cl1, qz_sh_n, qz_sh_s hik]) ⟨in1, in0, nm_r (e' := qz_sh a_p i (k + 1)) (by rw [cl0, cl1, qz_sh_n, qz_sh_s hik]) ⟨in1, in0, nm_r (e' := qz_sh a_q i (k + 1)) (by rw [cl0, cl1, qz_sh_n, qz_sh_s hik]) (nm_r (nI_1 k) (ih (k + 1) (by omega) (by omega) (by omega)))⟩⟩⟩
end
theorem i_vc_drop {k : Nat} {u : SX} {v : SY} (I : i_Rel k u v) (hk : k + 4 ≤ 2048) (v1 : Int32) : wpX_drop (fun r u' => wpY_drop (fun r' v' => r' = r ∧ i_Rel (k + 4) u' v') v v1) u v1 := by
  refine qz_el (P := fun u v => wpX_drop (fun r u' => wpY_drop (fun r' v' => r' = r ∧ i_Rel (k + 4) u' v') v v1) u v1) ?_ I
  intro M f_theirs f_wayNow f_clausesOf f_clauseCount f_tableFor f_memoFor f_memoSide f_depth f_known f_ones f_diagramFor f_diagramRoot f_nodeCount f_leftCount f_madeCount a_kindOf a_setP a_setQ a_clauses a_table a_memo a_choiceOf a_secondTry a_knownBefore a_onesBefore a_nodeVariable a_nodeLow a_nodeHigh a_nodeNext a_listFirst a_recentKey a_recentNode a_workF a_workG a_workPhase a_workLow a_nodeValue a_left a_made a_onesOfVariable a_tableBefore a_side a_tree a_all hM hV hs hC
  refine br_c (fun h => br_t h ⟨rfl, qz_in hM hV hs hC⟩) (fun h => br_c (fun h' => ?_) (fun h' => br_f h (br_f h' ⟨rfl, qz_in hM hV hs hC⟩)))
  obtain ⟨i, hi, rfl⟩ := nI_of h
  rw [nI_ltI hi (by omega)] at h'
  obtain ⟨M', rfl⟩ : ∃ M', M = M' + 1 := ⟨M - 1, by omega⟩
  refine nm_r (e' := nI M') (nI_pred M') ⟨M' + 1, ?_⟩
  have hx : wX_drop_26 (fun r u' => wpY_drop (fun r' v' => r' = r ∧ i_Rel (k + 4) u' v') (nI (M' + 1), a_kindOf, a_setP, a_setQ, a_side, a_tree, a_all) (nI i)) f_theirs (nI M') f_wayNow f_clausesOf f_clauseCount f_tableFor f_memoFor f_memoSide f_depth f_known f_ones f_diagramFor f_diagramRoot f_nodeCount f_leftCount f_madeCount (M' + 1) (nI i) (qz_sh a_kindOf i i) (qz_sh a_setP i i) (qz_sh a_setQ i i) a_clauses a_table a_memo a_choiceOf a_secondTry a_knownBefore a_onesBefore a_nodeVariable a_nodeLow a_nodeHigh a_nodeNext a_listFirst a_recentKey a_recentNode a_workF a_workG a_workPhase a_workLow a_nodeValue a_left a_made a_onesOfVariable a_tableBefore := by
    refine qx_drop_26 (by omega) hV ?_ (M' + 1) i (Nat.le_refl i) (by omega) (by omega)
    refine br_f h (br_t (nI_lt h' (by omega)) ⟨M' + 1, ?_⟩)
    have hy := qy_drop_16 (i := i) (M := M') (a_kind := a_kindOf) (a_p := a_setP) (a_q := a_setQ) (a_side := a_side) (a_tree := a_tree) (a_all := a_all) (post := fun r' v' => r' = nI M' ∧ i_Rel (k + 4) (f_theirs, nI M', f_wayNow, (-1), f_clauseCount, (-1), (-1), f_memoSide, f_depth, f_known, f_ones, (-1), f_diagramRoot, f_nodeCount, f_leftCount, f_madeCount, qz_sh a_kindOf i M', qz_sh a_setP i M', qz_sh a_setQ i M', a_clauses, a_table, a_memo, a_choiceOf, a_secondTry, a_knownBefore, a_onesBefore, a_nodeVariable, a_nodeLow, a_nodeHigh, a_nodeNext, a_listFirst, a_recentKey, a_recentNode, a_workF, a_workG, a_workPhase, a_workLow, a_nodeValue, a_left, a_made, a_onesOfVariable, a_tableBefore) v') (by omega) ⟨rfl, qz_in (by omega) (qz_sh_V hV) hs qz_none⟩ (M' + 1) i (Nat.le_refl i) (by omega) (by omega)
    rw [qz_sh_0, qz_sh_0, qz_sh_0] at hy
    exact hy
  rw [qz_sh_0, qz_sh_0, qz_sh_0] at hx
  exact hx
/-! rules at given values; the way -/
theorem i_vc_holds {k : Nat} {u : SX} {v : SY} (I : i_Rel k u v) (hk : k + 4 ≤ 2048) (v1 : Int32) : wpX_holds (fun r => wpY_holds (fun r' => r' = r ∧ i_Rel (k + 4) u v) v v1) u v1 := by
  refine qz_el (P := fun u v => wpX_holds (fun r => wpY_holds (fun r' => r' = r ∧ i_Rel (k + 4) u v) v v1) u v1) ?_ I
  intro M f_theirs f_wayNow f_clausesOf f_clauseCount f_tableFor f_memoFor f_memoSide f_depth f_known f_ones f_diagramFor f_diagramRoot f_nodeCount f_leftCount f_madeCount a_kindOf a_setP a_setQ a_clauses a_table a_memo a_choiceOf a_secondTry a_knownBefore a_onesBefore a_nodeVariable a_nodeLow a_nodeHigh a_nodeNext a_listFirst a_recentKey a_recentNode a_workF a_workG a_workPhase a_workLow a_nodeValue a_left a_made a_onesOfVariable a_tableBefore a_side a_tree a_all hM hV hs hC
  refine qx_holds (rules := qy_all M) hM hV (fun j hj => by rw [qy_all_bit hM, decide_eq_true hj]) (fun h => ?_) (fun h => ?_)
  · unfold wpY_holds
    dsimp only
    exact qy_in (fun _ => br_t rfl ⟨rfl, qz_in hM hV hs hC⟩) (fun a b => absurd ⟨a, b⟩ h)
  · unfold wpY_holds wpY_everyRule
    dsimp only
    have h8 := qz_lt8.mp h
    exact qy_in (fun z => absurd ⟨Int32.not_lt.mp h8.1, h8.2⟩ z) (fun _ _ => br_f (by decide) (qy_areKept (rules := qy_all M) hM h hV ⟨qb_p_nb _, rfl, qz_in hM hV hs hC⟩))
theorem i_vc_way {k : Nat} {u : SX} {v : SY} (I : i_Rel k u v) (hk : k + 4 ≤ 2048) (v1 : Int32) : wpX_way (fun r u' => wpY_way (fun r' => r' = r ∧ i_Rel (k + 4) u' v) v v1) u v1 := by
  refine qz_el (P := fun u v => wpX_way (fun r u' => wpY_way (fun r' => r' = r ∧ i_Rel (k + 4) u' v) v v1) u v1) ?_ I
  intro M f_theirs f_wayNow f_clausesOf f_clauseCount f_tableFor f_memoFor f_memoSide f_depth f_known f_ones f_diagramFor f_diagramRoot f_nodeCount f_leftCount f_madeCount a_kindOf a_setP a_setQ a_clauses a_table a_memo a_choiceOf a_secondTry a_knownBefore a_onesBefore a_nodeVariable a_nodeLow a_nodeHigh a_nodeNext a_listFirst a_recentKey a_recentNode a_workF a_workG a_workPhase a_workLow a_nodeValue a_left a_made a_onesOfVariable a_tableBefore a_side a_tree a_all hM hV hs hC
  refine br_c (fun h => ?_) (fun h => br_c (fun h' => ?_) (fun h' => ?_))
  · unfold wpY_way
    dsimp only
    exact qy_in (fun _ => ⟨rfl, rfl, qz_in hM hV hs hC⟩) (fun a b => absurd h (Int32.not_lt.mpr a))
  · unfold wpY_way
    dsimp only
    exact qy_in (fun z => absurd ⟨Int32.not_lt.mp h, h'⟩ z) (fun _ _ => ⟨rfl, rfl, qz_in hM hV hs hC⟩)
  · unfold wpY_way
    dsimp only
    exact qy_in (fun _ => ⟨rfl, rfl, qz_in hM hV hs hC⟩) (fun a b => absurd b h')
end
section
/-! the answers agree -/
theorem i_vc_won {k : Nat} {u : SX} {v : SY} (I : i_Rel k u v) (hk : k + 4 ≤ 2048) (v1 : Int32) (v2 : Int32) : wpX_won (fun r u' => wpY_won (fun r' v' => r' = r ∧ i_Rel (k + 4) u' v') v v1 v2) u v1 v2 := by
  refine qz_el (P := fun u v => wpX_won (fun r u' => wpY_won (fun r' v' => r' = r ∧ i_Rel (k + 4) u' v') v v1 v2) u v1 v2) ?_ I
  intro M f_theirs f_wayNow f_clausesOf f_clauseCount f_tableFor f_memoFor f_memoSide f_depth f_known f_ones f_diagramFor f_diagramRoot f_nodeCount f_leftCount f_madeCount a_kindOf a_setP a_setQ a_clauses a_table a_memo a_choiceOf a_secondTry a_knownBefore a_onesBefore a_nodeVariable a_nodeLow a_nodeHigh a_nodeNext a_listFirst a_recentKey a_recentNode a_workF a_workG a_workPhase a_workLow a_nodeValue a_left a_made a_onesOfVariable a_tableBefore a_side a_tree a_all hM hV hs hC
  unfold wpX_won
  dsimp only
  refine qx_isStart (fun h => br_t rfl ?_) (fun a b ea eb ha hb => br_f (by decide) ?_)
  · exact qy_start (th := bt f_theirs) hM hV hs (fun _ => ⟨rfl, qz_in hM hV hs hC⟩) (fun k' v' e1 e2 e3 e4 => absurd ⟨k', v', e1, e2, e3, e4⟩ h)
  · subst ea eb
    have pa : 2 ^ a ≤ 2 ^ 8 := Nat.pow_le_pow_right (by decide) ha
    unfold wpX_allRules
    dsimp only
    refine qx_isWon (rules := qy_all M) hM hV (qy_all_lt hM) hC ha hb ?_
    intro f_clausesOf' f_clauseCount' f_tableFor' f_memoFor' f_memoSide' f_depth' f_known' f_ones' f_diagramFor' f_diagramRoot' f_nodeCount' f_leftCount' f_madeCount' a_clauses' a_table' a_memo' a_choiceOf' a_secondTry' a_knownBefore' a_onesBefore' a_nodeVariable' a_nodeLow' a_nodeHigh' a_nodeNext' a_listFirst' a_recentKey' a_recentNode' a_workF' a_workG' a_workPhase' a_workLow' a_nodeValue' a_left' a_made' a_onesOfVariable' a_tableBefore' hC'
    have Y : ∀ r, r = qb_p (qy_W (bt f_theirs) (qc_H M a_kindOf a_setP a_setQ (qy_all M)) a b) → wpY_won (fun r' v' => r' = r ∧ i_Rel (k + 4) (f_theirs, nI M, f_wayNow, f_clausesOf', f_clauseCount', f_tableFor', f_memoFor', f_memoSide', f_depth', f_known', f_ones', f_diagramFor', f_diagramRoot', f_nodeCount', f_leftCount', f_madeCount', a_kindOf, a_setP, a_setQ, a_clauses', a_table', a_memo', a_choiceOf', a_secondTry', a_knownBefore', a_onesBefore', a_nodeVariable', a_nodeLow', a_nodeHigh', a_nodeNext', a_listFirst', a_recentKey', a_recentNode', a_workF', a_workG', a_workPhase', a_workLow', a_nodeValue', a_left', a_made', a_onesOfVariable', a_tableBefore') v') (nI M, a_kindOf, a_setP, a_setQ, a_side, a_tree, a_all) (nI a) (nI b) := by
      intro r hr
      refine qy_start (th := bt f_theirs) hM hV hs (fun h => absurd ⟨a, b, rfl, rfl, ha, hb⟩ h) ?_
      intro k' v' e1 e2 e3 e4 tr
      have pk' : 2 ^ k' ≤ 2 ^ 8 := Nat.pow_le_pow_right (by decide) e3
      rw [nI_eq (by omega) (by omega)] at e1 e2
      subst e1 e2
      exact ⟨hr.symm, qz_in hM hV hs hC'⟩
    exact br_c (fun z => Y 0 z.symm) (fun z => Y 1 (qb_p_1.mpr (Classical.byContradiction (fun y => z (qb_p_f y)))).symm)
section
variable {f_theirs f_ruleCount f_wayNow f_clausesOf f_clauseCount f_tableFor f_memoFor f_memoSide f_depth f_known f_ones f_diagramFor f_diagramRoot f_nodeCount f_leftCount f_madeCount : Int32} {a_kindOf a_setP a_setQ a_clauses a_memo a_choiceOf a_secondTry a_knownBefore a_onesBefore a_nodeVariable a_nodeLow a_nodeHigh a_nodeNext a_listFirst a_recentKey a_recentNode a_workF a_workG a_workPhase a_workLow a_nodeValue a_left a_made : Nat → Int32} {a_table a_onesOfVariable a_tableBefore : Nat → Int64}
theorem qx_move_bad {post : Int32 → SX → Prop} {x y : Int32} (h : ¬ ∃ k v, x = nI k ∧ y = nI v ∧ k < 8 ∧ v < 2 ^ k) (K : post (-1) (f_theirs, f_ruleCount, f_wayNow, f_clausesOf, f_clauseCount, f_tableFor, f_memoFor, f_memoSide, f_depth, f_known, f_ones, f_diagramFor, f_diagramRoot, f_nodeCount, f_leftCount, f_madeCount, a_kindOf, a_setP, a_setQ, a_clauses, a_table, a_memo, a_choiceOf, a_secondTry, a_knownBefore, a_onesBefore, a_nodeVariable, a_nodeLow, a_nodeHigh, a_nodeNext, a_listFirst, a_recentKey, a_recentNode, a_workF, a_workG, a_workPhase, a_workLow, a_nodeValue, a_left, a_made, a_onesOfVariable, a_tableBefore)) : wpX_move post (f_theirs, f_ruleCount, f_wayNow, f_clausesOf, f_clauseCount, f_tableFor, f_memoFor, f_memoSide, f_depth, f_known, f_ones, f_diagramFor, f_diagramRoot, f_nodeCount, f_leftCount, f_madeCount, a_kindOf, a_setP, a_setQ, a_clauses, a_table, a_memo, a_choiceOf, a_secondTry, a_knownBefore, a_onesBefore, a_nodeVariable, a_nodeLow, a_nodeHigh, a_nodeNext, a_listFirst, a_recentKey, a_recentNode, a_workF, a_workG, a_workPhase, a_workLow, a_nodeValue, a_left, a_made, a_onesOfVariable, a_tableBefore) x y := by
  refine br_c (fun _ => K) (fun h1 => br_c (fun _ => K) (fun h2 => qx_isStart (fun _ => br_t rfl K) (fun a b ea eb ha hb => ?_)))
  exfalso
  apply h
  refine ⟨a, b, ea, eb, ?_, hb⟩
  rw [ea] at h2
  have h3 := Int32.not_lt.mp h2
  have h4 : nI a ≤ nI 7 := h3
  rw [nI_leI (by omega) (by omega)] at h4
  omega
end
theorem i_vc_move {k : Nat} {u : SX} {v : SY} (I : i_Rel k u v) (hk : k + 4 ≤ 2048) (v1 : Int32) (v2 : Int32) : wpX_move (fun r u' => wpY_move (fun r' v' => r' = r ∧ i_Rel (k + 4) u' v') v v1 v2) u v1 v2 := by
  refine qz_el (P := fun u v => wpX_move (fun r u' => wpY_move (fun r' v' => r' = r ∧ i_Rel (k + 4) u' v') v v1 v2) u v1 v2) ?_ I
  intro M f_theirs f_wayNow f_clausesOf f_clauseCount f_tableFor f_memoFor f_memoSide f_depth f_known f_ones f_diagramFor f_diagramRoot f_nodeCount f_leftCount f_madeCount a_kindOf a_setP a_setQ a_clauses a_table a_memo a_choiceOf a_secondTry a_knownBefore a_onesBefore a_nodeVariable a_nodeLow a_nodeHigh a_nodeNext a_listFirst a_recentKey a_recentNode a_workF a_workG a_workPhase a_workLow a_nodeValue a_left a_made a_onesOfVariable a_tableBefore a_side a_tree a_all hM hV hs hC
  rcases Classical.em (∃ k v, v1 = nI k ∧ v2 = nI v ∧ k < 8 ∧ v < 2 ^ k) with ⟨a, b, rfl, rfl, ha, hb⟩ | h
  · have pa : 2 ^ a ≤ 2 ^ 8 := Nat.pow_le_pow_right (by decide) (by omega)
    refine qx_move hM hV hC ha hb ?_
    intro f_clausesOf' f_clauseCount' f_tableFor' f_memoFor' f_memoSide' f_depth' f_known' f_ones' f_diagramFor' f_diagramRoot' f_nodeCount' f_leftCount' f_madeCount' a_clauses' a_table' a_memo' a_choiceOf' a_secondTry' a_knownBefore' a_onesBefore' a_nodeVariable' a_nodeLow' a_nodeHigh' a_nodeNext' a_listFirst' a_recentKey' a_recentNode' a_workF' a_workG' a_workPhase' a_workLow' a_nodeValue' a_left' a_made' a_onesOfVariable' a_tableBefore' hC'
    refine qy_move (th := bt f_theirs) hM hV hs (fun h => absurd ⟨a, b, rfl, rfl, ha, hb⟩ h) ?_
    intro k' v' e1 e2 e3 e4 tr
    have pk' : 2 ^ k' ≤ 2 ^ 8 := Nat.pow_le_pow_right (by decide) (by omega)
    rw [nI_eq (by omega) (by omega)] at e1 e2
    subst e1 e2
    exact ⟨rfl, qz_in hM hV hs hC'⟩
  · refine qx_move_bad h ?_
    exact qy_move (th := bt f_theirs) hM hV hs (fun _ => ⟨rfl, qz_in hM hV hs hC⟩) (fun k' v' e1 e2 e3 e4 => absurd ⟨k', v', e1, e2, e3, e4⟩ h)
theorem i_vc_count {k : Nat} {u : SX} {v : SY} (I : i_Rel k u v) (hk : k + 4 ≤ 2048) : wpX_count (fun r u' => wpY_count (fun r' v' => r' = r ∧ i_Rel (k + 4) u' v') v) u := by
  refine qz_el (P := fun u v => wpX_count (fun r u' => wpY_count (fun r' v' => r' = r ∧ i_Rel (k + 4) u' v') v) u) ?_ I
  intro M f_theirs f_wayNow f_clausesOf f_clauseCount f_tableFor f_memoFor f_memoSide f_depth f_known f_ones f_diagramFor f_diagramRoot f_nodeCount f_leftCount f_madeCount a_kindOf a_setP a_setQ a_clauses a_table a_memo a_choiceOf a_secondTry a_knownBefore a_onesBefore a_nodeVariable a_nodeLow a_nodeHigh a_nodeNext a_listFirst a_recentKey a_recentNode a_workF a_workG a_workPhase a_workLow a_nodeValue a_left a_made a_onesOfVariable a_tableBefore a_side a_tree a_all hM hV hs hC
  refine qx_count hM hV hC ?_
  intro f_clausesOf' f_clauseCount' f_tableFor' f_memoFor' f_memoSide' f_depth' f_known' f_ones' f_diagramFor' f_diagramRoot' f_nodeCount' f_leftCount' f_madeCount' a_clauses' a_table' a_memo' a_choiceOf' a_secondTry' a_knownBefore' a_onesBefore' a_nodeVariable' a_nodeLow' a_nodeHigh' a_nodeNext' a_listFirst' a_recentKey' a_recentNode' a_workF' a_workG' a_workPhase' a_workLow' a_nodeValue' a_left' a_made' a_onesOfVariable' a_tableBefore' hC'
  exact qy_count (th := bt f_theirs) hM hV hs (fun tr => ⟨rfl, qz_in hM hV hs hC'⟩)
theorem i_vc_idle {k : Nat} {u : SX} {v : SY} (I : i_Rel k u v) (hk : k + 4 ≤ 2048) : wpX_idle (fun r u' => wpY_idle (fun r' v' => r' = r ∧ i_Rel (k + 4) u' v') v) u := by
  refine qz_el (P := fun u v => wpX_idle (fun r u' => wpY_idle (fun r' v' => r' = r ∧ i_Rel (k + 4) u' v') v) u) ?_ I
  intro M f_theirs f_wayNow f_clausesOf f_clauseCount f_tableFor f_memoFor f_memoSide f_depth f_known f_ones f_diagramFor f_diagramRoot f_nodeCount f_leftCount f_madeCount a_kindOf a_setP a_setQ a_clauses a_table a_memo a_choiceOf a_secondTry a_knownBefore a_onesBefore a_nodeVariable a_nodeLow a_nodeHigh a_nodeNext a_listFirst a_recentKey a_recentNode a_workF a_workG a_workPhase a_workLow a_nodeValue a_left a_made a_onesOfVariable a_tableBefore a_side a_tree a_all hM hV hs hC
  refine qx_idle hM hV hC ?_
  intro f_clausesOf' f_clauseCount' f_tableFor' f_memoFor' f_memoSide' f_depth' f_known' f_ones' f_diagramFor' f_diagramRoot' f_nodeCount' f_leftCount' f_madeCount' a_clauses' a_table' a_memo' a_choiceOf' a_secondTry' a_knownBefore' a_onesBefore' a_nodeVariable' a_nodeLow' a_nodeHigh' a_nodeNext' a_listFirst' a_recentKey' a_recentNode' a_workF' a_workG' a_workPhase' a_workLow' a_nodeValue' a_left' a_made' a_onesOfVariable' a_tableBefore' hC'
  exact qy_idle (th := bt f_theirs) hM hV hs (fun tr => ⟨rfl, qz_in hM hV hs hC'⟩)
theorem i_vc_blame {k : Nat} {u : SX} {v : SY} (I : i_Rel k u v) (hk : k + 4 ≤ 2048) : wpX_blame (fun r u' => wpY_blame (fun r' v' => r' = r ∧ i_Rel (k + 4) u' v') v) u := by
  refine qz_el (P := fun u v => wpX_blame (fun r u' => wpY_blame (fun r' v' => r' = r ∧ i_Rel (k + 4) u' v') v) u) ?_ I
  intro M f_theirs f_wayNow f_clausesOf f_clauseCount f_tableFor f_memoFor f_memoSide f_depth f_known f_ones f_diagramFor f_diagramRoot f_nodeCount f_leftCount f_madeCount a_kindOf a_setP a_setQ a_clauses a_table a_memo a_choiceOf a_secondTry a_knownBefore a_onesBefore a_nodeVariable a_nodeLow a_nodeHigh a_nodeNext a_listFirst a_recentKey a_recentNode a_workF a_workG a_workPhase a_workLow a_nodeValue a_left a_made a_onesOfVariable a_tableBefore a_side a_tree a_all hM hV hs hC
  refine qx_blame hM hV hC ?_
  intro f_clausesOf' f_clauseCount' f_tableFor' f_memoFor' f_memoSide' f_depth' f_known' f_ones' f_diagramFor' f_diagramRoot' f_nodeCount' f_leftCount' f_madeCount' a_clauses' a_table' a_memo' a_choiceOf' a_secondTry' a_knownBefore' a_onesBefore' a_nodeVariable' a_nodeLow' a_nodeHigh' a_nodeNext' a_listFirst' a_recentKey' a_recentNode' a_workF' a_workG' a_workPhase' a_workLow' a_nodeValue' a_left' a_made' a_onesOfVariable' a_tableBefore' hC'
  exact qy_blame (th := bt f_theirs) hM hV hs (fun tr => ⟨rfl, qz_in hM hV hs hC'⟩)
theorem i_vc_decided {k : Nat} {u : SX} {v : SY} (I : i_Rel k u v) (hk : k + 4 ≤ 2048) : wpX_decided (fun r u' => wpY_decided (fun r' v' => r' = r ∧ i_Rel (k + 4) u' v') v) u := by
  refine qz_el (P := fun u v => wpX_decided (fun r u' => wpY_decided (fun r' v' => r' = r ∧ i_Rel (k + 4) u' v') v) u) ?_ I
  intro M f_theirs f_wayNow f_clausesOf f_clauseCount f_tableFor f_memoFor f_memoSide f_depth f_known f_ones f_diagramFor f_diagramRoot f_nodeCount f_leftCount f_madeCount a_kindOf a_setP a_setQ a_clauses a_table a_memo a_choiceOf a_secondTry a_knownBefore a_onesBefore a_nodeVariable a_nodeLow a_nodeHigh a_nodeNext a_listFirst a_recentKey a_recentNode a_workF a_workG a_workPhase a_workLow a_nodeValue a_left a_made a_onesOfVariable a_tableBefore a_side a_tree a_all hM hV hs hC
  refine qx_decided hM hV hC ?_
  intro f_clausesOf' f_clauseCount' f_tableFor' f_memoFor' f_memoSide' f_depth' f_known' f_ones' f_diagramFor' f_diagramRoot' f_nodeCount' f_leftCount' f_madeCount' a_clauses' a_table' a_memo' a_choiceOf' a_secondTry' a_knownBefore' a_onesBefore' a_nodeVariable' a_nodeLow' a_nodeHigh' a_nodeNext' a_listFirst' a_recentKey' a_recentNode' a_workF' a_workG' a_workPhase' a_workLow' a_nodeValue' a_left' a_made' a_onesOfVariable' a_tableBefore' hC'
  exact qy_decided (th := bt f_theirs) hM hV hs (fun tr => ⟨rfl, qz_in hM hV hs hC'⟩)
theorem i_vc_openings {k : Nat} {u : SX} {v : SY} (I : i_Rel k u v) (hk : k + 4 ≤ 2048) : wpX_openings (fun r u' => wpY_openings (fun r' v' => r' = r ∧ i_Rel (k + 4) u' v') v) u := by
  refine qz_el (P := fun u v => wpX_openings (fun r u' => wpY_openings (fun r' v' => r' = r ∧ i_Rel (k + 4) u' v') v) u) ?_ I
  intro M f_theirs f_wayNow f_clausesOf f_clauseCount f_tableFor f_memoFor f_memoSide f_depth f_known f_ones f_diagramFor f_diagramRoot f_nodeCount f_leftCount f_madeCount a_kindOf a_setP a_setQ a_clauses a_table a_memo a_choiceOf a_secondTry a_knownBefore a_onesBefore a_nodeVariable a_nodeLow a_nodeHigh a_nodeNext a_listFirst a_recentKey a_recentNode a_workF a_workG a_workPhase a_workLow a_nodeValue a_left a_made a_onesOfVariable a_tableBefore a_side a_tree a_all hM hV hs hC
  obtain ⟨j, hj⟩ := qy_isk_ex (bt f_theirs)
  refine qx_openings hM hV hC hj ?_
  intro f_clausesOf' f_clauseCount' f_tableFor' f_memoFor' f_memoSide' f_depth' f_known' f_ones' f_diagramFor' f_diagramRoot' f_nodeCount' f_leftCount' f_madeCount' a_clauses' a_table' a_memo' a_choiceOf' a_secondTry' a_knownBefore' a_onesBefore' a_nodeVariable' a_nodeLow' a_nodeHigh' a_nodeNext' a_listFirst' a_recentKey' a_recentNode' a_workF' a_workG' a_workPhase' a_workLow' a_nodeValue' a_left' a_made' a_onesOfVariable' a_tableBefore' hC'
  exact qy_openings (th := bt f_theirs) hM hV hs hj (fun tr => ⟨rfl, qz_in hM hV hs hC'⟩)
theorem i_vc_needless {k : Nat} {u : SX} {v : SY} (I : i_Rel k u v) (hk : k + 4 ≤ 2048) : wpX_needless (fun r u' => wpY_needless (fun r' v' => r' = r ∧ i_Rel (k + 4) u' v') v) u := by
  refine qz_el (P := fun u v => wpX_needless (fun r u' => wpY_needless (fun r' v' => r' = r ∧ i_Rel (k + 4) u' v') v) u) ?_ I
  intro M f_theirs f_wayNow f_clausesOf f_clauseCount f_tableFor f_memoFor f_memoSide f_depth f_known f_ones f_diagramFor f_diagramRoot f_nodeCount f_leftCount f_madeCount a_kindOf a_setP a_setQ a_clauses a_table a_memo a_choiceOf a_secondTry a_knownBefore a_onesBefore a_nodeVariable a_nodeLow a_nodeHigh a_nodeNext a_listFirst a_recentKey a_recentNode a_workF a_workG a_workPhase a_workLow a_nodeValue a_left a_made a_onesOfVariable a_tableBefore a_side a_tree a_all hM hV hs hC
  refine qx_needless hM hV hC ?_
  intro f_clausesOf' f_clauseCount' f_tableFor' f_memoFor' f_memoSide' f_depth' f_known' f_ones' f_diagramFor' f_diagramRoot' f_nodeCount' f_leftCount' f_madeCount' a_clauses' a_table' a_memo' a_choiceOf' a_secondTry' a_knownBefore' a_onesBefore' a_nodeVariable' a_nodeLow' a_nodeHigh' a_nodeNext' a_listFirst' a_recentKey' a_recentNode' a_workF' a_workG' a_workPhase' a_workLow' a_nodeValue' a_left' a_made' a_onesOfVariable' a_tableBefore' hC'
  exact qy_needless (th := bt f_theirs) hM hV hs (fun tr al => ⟨rfl, qz_in hM hV hs hC'⟩)
end

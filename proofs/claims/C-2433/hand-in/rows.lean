section
/-! pure rows to paste: stores, nI and lN arithmetic, masks, shifts, narrowing, branches by naturals (pk_le, pk_lt, pk_eq), loops (lp1 .. lp16: the measure of the state; rp1 ..: recursion), negatives. Take what you need -/
theorem pk_us {f : Nat → Int32} {k : Nat} {x : Int32} : upd f k x k = x := if_pos rfl
theorem pk_un {f : Nat → Int32} {k j : Nat} {x : Int32} (h : j ≠ k) : upd f k x j = f j := if_neg h
theorem pk_uLs {f : Nat → Int64} {k : Nat} {x : Int64} : vp_updL f k x k = x := if_pos rfl
theorem pk_uLn {f : Nat → Int64} {k j : Nat} {x : Int64} (h : j ≠ k) : vp_updL f k x j = f j := if_neg h
theorem pk_sub {a b : Nat} (h : b ≤ a) : nI a - nI b = nI (a - b) := by
  obtain ⟨c, rfl⟩ : ∃ c, a = c + b := ⟨a - b, by omega⟩
  rw [← nI_add, Int32.add_sub_cancel, Nat.add_sub_cancel]
theorem pk_m1 (n : Nat) : nI (n + 1) + (-1) = nI n := by
  rw [← nI_1, Int32.add_assoc, show (1 : Int32) + (-1) = 0 from rfl, Int32.add_zero]
theorem pk_mul (a b : Nat) : nI a * nI b = nI (a * b) := (Int32.ofNat_mul a b).symm
theorem pk_div {a d : Nat} (ha : a < 2 ^ 31) (h0 : 0 < d) (hd : d < 2 ^ 31) : nI a / nI d = nI (a / d) := by
  apply Int32.toInt_inj.mp
  rw [lg_idiv_nonneg (by rw [nI_toInt ha]; omega) (by rw [nI_toInt hd]; omega), nI_toInt ha, nI_toInt hd, nI_toInt (Nat.lt_of_le_of_lt (Nat.div_le_self a d) ha)]
  first | rfl | exact (Int.natCast_ediv _ _).symm
theorem pk_rem {a d : Nat} (ha : a < 2 ^ 31) (h0 : 0 < d) (hd : d < 2 ^ 31) : nI a - nI a / nI d * nI d = nI (a % d) := by
  rw [pk_div ha h0 hd, pk_mul, pk_sub (Nat.div_mul_le_self a d)]
  exact congrArg nI (by have := Nat.div_add_mod' a d; omega)
theorem pk_sub_toInt {a b : Nat} (ha : a < 2 ^ 30) (hb : b < 2 ^ 30) : (nI a - nI b).toInt = (a : Int) - b := by
  rw [Int32.toInt_sub, nI_toInt (by omega), nI_toInt (by omega)]
  exact Int.bmod_eq_of_le (by omega) (by omega)
theorem pk_sneg {a b : Nat} (hb : b < 2 ^ 30) (h : a < b) : nI a - nI b < 0 := by
  rw [Int32.lt_iff_toInt_lt, pk_sub_toInt (by omega) hb, show (0 : Int32).toInt = 0 from by decide]
  omega
theorem pk_ix (x : Int32) {n : Nat} (hn : n < 2 ^ 31) : x < 0 ∨ nI n ≤ x ∨ ∃ j : Nat, j < n ∧ x = nI j := by
  by_cases h : x < 0
  · exact Or.inl h
  · obtain ⟨j, hj, rfl⟩ := nI_of h
    by_cases h2 : j < n
    · exact Or.inr (Or.inr ⟨j, h2, rfl⟩)
    · exact Or.inr (Or.inl (nI_le (by omega) hj))
theorem pk_le {x y : Int32} {A B : Prop} (a b : Nat) (f : a ≤ b → A) (g : b < a → B) (hx : x = nI a := by rfl) (hy : y = nI b := by rfl) (ha : a < 2 ^ 31 := by omega) (hb : b < 2 ^ 31 := by omega) : (x ≤ y → A) ∧ (¬ x ≤ y → B) := by
  subst hx hy
  rw [nI_leI ha hb]
  exact ⟨f, fun z => g (by omega)⟩
theorem pk_lt {x y : Int32} {A B : Prop} (a b : Nat) (f : a < b → A) (g : b ≤ a → B) (hx : x = nI a := by rfl) (hy : y = nI b := by rfl) (ha : a < 2 ^ 31 := by omega) (hb : b < 2 ^ 31 := by omega) : (x < y → A) ∧ (¬ x < y → B) := by
  subst hx hy
  rw [nI_ltI ha hb]
  exact ⟨f, fun z => g (by omega)⟩
theorem pk_eq {x y : Int32} {A B : Prop} (a b : Nat) (f : a = b → A) (g : a ≠ b → B) (hx : x = nI a := by rfl) (hy : y = nI b := by rfl) (ha : a < 2 ^ 31 := by omega) (hb : b < 2 ^ 31 := by omega) : (x = y → A) ∧ (¬ x = y → B) := by
  subst hx hy
  rw [nI_eq ha hb]
  exact ⟨f, g⟩
theorem pk_in {x : Int32} (n N : Nat) (h : n < N) (hx : x = nI n := by rfl) (hN : N < 2 ^ 31 := by omega) : vp_in x N := by
  subst hx
  exact vp_in_nI h hN
theorem pk_cl {x : Int32} (n : Nat) (hx : x = nI n := by rfl) (h : n < 2 ^ 31 := by omega) : x.toNatClampNeg = n := by
  subst hx
  exact nI_clamp h
theorem pk_tn {n : Nat} (h : n < 2 ^ 32) : (nI n).toBitVec.toNat = n := Nat.mod_eq_of_lt h
theorem pk_and (x : Int32) {m : Int32} (k : Nat) (hm : m.toBitVec.toNat = 2 ^ k - 1) : x &&& m = nI (x.toBitVec.toNat % 2 ^ k) := by
  apply Int32.toBitVec_inj.mp
  apply BitVec.eq_of_toNat_eq
  rw [Int32.toBitVec_and, BitVec.toNat_and, hm, Nat.and_two_pow_sub_one_eq_mod]
  show _ = (BitVec.ofNat 32 _).toNat
  rw [BitVec.toNat_ofNat]
  exact (Nat.mod_eq_of_lt (Nat.lt_of_le_of_lt (Nat.mod_le _ _) x.toBitVec.isLt)).symm
theorem pk_andN {n : Nat} (h : n < 2 ^ 32) {m : Int32} (k : Nat) (hm : m.toBitVec.toNat = 2 ^ k - 1) : nI n &&& m = nI (n % 2 ^ k) := by
  rw [pk_and _ k hm, pk_tn h]
theorem pk_andE (x : Int32) {m : Int32} (k : Nat) (hm : m.toBitVec.toNat = 2 ^ k - 1) : ∃ j : Nat, j < 2 ^ k ∧ x &&& m = nI j := ⟨_, Nat.mod_lt _ (Nat.two_pow_pos k), pk_and x k hm⟩
theorem pk_andIn (x : Int32) {m : Int32} (k : Nat) (hm : m.toBitVec.toNat = 2 ^ k - 1) (hk : k ≤ 30) : vp_in (x &&& m) (2 ^ k) := by
  obtain ⟨j, hj, e⟩ := pk_andE x k hm
  rw [e]
  exact vp_in_nI hj (Nat.lt_of_le_of_lt (Nat.pow_le_pow_right (by decide) hk) (by decide))
theorem pk_shl (a s : Int32) (k : Nat) (hs : (s.toBitVec.smod 32).toNat = k) : (a <<< s).toBitVec.toNat = a.toBitVec.toNat * 2 ^ k % 2 ^ 32 := by
  show (a.toBitVec <<< (s.toBitVec.smod 32).toNat).toNat = _
  rw [hs, BitVec.toNat_shiftLeft, Nat.shiftLeft_eq]
theorem pk_shlN {n : Nat} (s : Int32) (k : Nat) (hs : (s.toBitVec.smod 32).toNat = k) (h : n * 2 ^ k < 2 ^ 32) : nI n <<< s = nI (n * 2 ^ k) := by
  apply Int32.toBitVec_inj.mp
  apply BitVec.eq_of_toNat_eq
  have hn : n < 2 ^ 32 := Nat.lt_of_le_of_lt (Nat.le_mul_of_pos_right n (Nat.two_pow_pos k)) h
  rw [pk_shl _ _ k hs, pk_tn hn, pk_tn h, Nat.mod_eq_of_lt h]
theorem pk_shr (a s : Int32) (k : Nat) (hs : (s.toBitVec.smod 32).toNat = k) : (a >>> s).toInt = a.toInt >>> k := by
  show (a.toBitVec.sshiftRight (s.toBitVec.smod 32).toNat).toInt = _
  rw [hs, BitVec.toInt_sshiftRight]
  rfl
theorem pk_shrN {n : Nat} (h : n < 2 ^ 31) (s : Int32) (k : Nat) (hs : (s.toBitVec.smod 32).toNat = k) : nI n >>> s = nI (n / 2 ^ k) := by
  apply Int32.toInt_inj.mp
  have h2 : n / 2 ^ k ≤ n := Nat.div_le_self _ _
  rw [pk_shr _ _ k hs, nI_toInt h, nI_toInt (by omega), Int.shiftRight_eq_div_pow]
  rfl
theorem pk_ushr (x s : Int32) (k : Nat) (hs : ((s.toUInt32 &&& Int32.toUInt32 31).toBitVec % 32).toNat = k) : (x.toUInt32 >>> (s.toUInt32 &&& Int32.toUInt32 31)).toInt32.toBitVec.toNat = x.toBitVec.toNat / 2 ^ k := by
  have e : (x.toUInt32 >>> (s.toUInt32 &&& Int32.toUInt32 31)).toInt32.toBitVec = x.toBitVec >>> k := by
    rw [← hs]
    exact UInt32.toBitVec_shiftRight _ _
  rw [e, BitVec.toNat_ushiftRight, Nat.shiftRight_eq_div_pow]
theorem pk_ushrN {n : Nat} (hn : n < 2 ^ 32) (s : Int32) (k : Nat) (hs : ((s.toUInt32 &&& Int32.toUInt32 31).toBitVec % 32).toNat = k) : ((nI n).toUInt32 >>> (s.toUInt32 &&& Int32.toUInt32 31)).toInt32 = nI (n / 2 ^ k) := by
  apply Int32.toBitVec_inj.mp
  apply BitVec.eq_of_toNat_eq
  rw [pk_ushr _ s k hs, pk_tn hn, pk_tn (Nat.lt_of_le_of_lt (Nat.div_le_self _ _) hn)]
theorem pk_nb (z : Int32) : narrow .byte (.int z.toInt8.toInt32) = .int z.toInt8.toInt32 := congrArg Value.int (by simp)
theorem pk_ns (z : Int32) : narrow .short (.int z.toInt16.toInt32) = .int z.toInt16.toInt32 := congrArg Value.int (by simp)
theorem pk_fb (r : Int32) : fits .byte (.int r.toInt8.toInt32) = true := by
  have ⟨a, b⟩ := lg_i2b_range r
  have h1 : (-128 : Int32).toInt = -128 := by decide
  have h2 : (127 : Int32).toInt = 127 := by decide
  simp only [fits, Bool.and_eq_true, decide_eq_true_eq, Int32.le_iff_toInt_le, h1, h2]
  omega
theorem pk_fs (r : Int32) : fits .short (.int r.toInt16.toInt32) = true := by
  have ⟨a, b⟩ := lg_i2s_range r
  have h1 : (-32768 : Int32).toInt = -32768 := by decide
  have h2 : (32767 : Int32).toInt = 32767 := by decide
  simp only [fits, Bool.and_eq_true, decide_eq_true_eq, Int32.le_iff_toInt_le, h1, h2]
  omega
theorem pk_charN {q : Nat} (hq : q < 65536) : narrow .char (.int (nI q)) = .int (nI q) ∧ fits .char (.int (nI q)) = true := by
  constructor
  · have e : (nI q).toUInt32.toUInt16.toUInt32.toInt32 = nI q := by
      apply Int32.toBitVec_inj.mp
      apply BitVec.eq_of_toNat_eq
      show (nI q).toUInt32.toUInt16.toUInt32.toNat = q % 2 ^ 32
      rw [UInt16.toNat_toUInt32, UInt32.toNat_toUInt16, show (nI q).toUInt32.toNat = q % 2 ^ 32 from rfl]
      omega
    exact congrArg Value.int e
  · have a : (0 : Int32) ≤ nI q := nI_pos' (by omega)
    have b : nI q ≤ 65535 := nI_le (b := 65535) (by omega) (by decide)
    show (decide ((0 : Int32) ≤ nI q) && decide (nI q ≤ 65535)) = true
    rw [decide_eq_true a, decide_eq_true b]
    rfl
theorem pk_char (x : Int32) : (x.toUInt32 % 65536).toInt32 = nI (x.toBitVec.toNat % 65536) := by
  apply Int32.toBitVec_inj.mp
  apply BitVec.eq_of_toNat_eq
  rw [pk_tn (by omega)]
  show (x.toUInt32 % 65536).toNat = _
  rw [UInt32.toNat_mod]
  rfl
theorem pk_nc (x : Int32) : narrow .char (.int (x.toUInt32 % 65536).toInt32) = .int (x.toUInt32 % 65536).toInt32 := by
  rw [pk_char]
  exact (pk_charN (Nat.mod_lt _ (by decide))).1
theorem pk_fc (x : Int32) : fits .char (.int (x.toUInt32 % 65536).toInt32) = true := by
  rw [pk_char]
  exact (pk_charN (Nat.mod_lt _ (by decide))).2
theorem pk_vb (z : Int32) : vp_nar .byte z.toInt8.toInt32 = z.toInt8.toInt32 := by rw [vp_nar_byte]; simp
theorem pk_vs (z : Int32) : vp_nar .short z.toInt16.toInt32 = z.toInt16.toInt32 := by rw [vp_nar_short]; simp
theorem pk_vc (z : Int32) : vp_nar .char (z.toUInt32 % 65536).toInt32 = (z.toUInt32 % 65536).toInt32 := Value.int.inj (pk_nc z)
theorem pk_lT {n : Nat} (h : n < 2 ^ 63) : (lN n).toInt = (n : Int) := lg_ofNat_toInt h
theorem pk_lLT {a b : Nat} (ha : a < 2 ^ 63) (hb : b < 2 ^ 63) : lN a < lN b ↔ a < b := by
  rw [Int64.lt_iff_toInt_lt, pk_lT ha, pk_lT hb]; omega
theorem pk_lLE {a b : Nat} (ha : a < 2 ^ 63) (hb : b < 2 ^ 63) : lN a ≤ lN b ↔ a ≤ b := by
  rw [Int64.le_iff_toInt_le, pk_lT ha, pk_lT hb]; omega
theorem pk_lEQ {a b : Nat} (ha : a < 2 ^ 63) (hb : b < 2 ^ 63) : lN a = lN b ↔ a = b := by
  rw [← Int64.toInt_inj, pk_lT ha, pk_lT hb]; omega
theorem pk_lOf {x : Int64} (h : ¬ x < 0) : ∃ k : Nat, k < 2 ^ 63 ∧ x = lN k := by
  rw [Int64.lt_iff_toInt_lt] at h
  have h0 : (0 : Int64).toInt = 0 := by decide
  have hx := Int64.toInt_lt x
  refine ⟨x.toInt.toNat, by omega, Int64.toInt_inj.mp ?_⟩
  rw [pk_lT (by omega)]
  omega
theorem pk_lDiv {a b : Nat} (ha : a < 2 ^ 63) (h0 : 0 < b) (hb : b < 2 ^ 63) : lN a / lN b = lN (a / b) := by
  apply Int64.toInt_inj.mp
  rw [lg_ldiv_nonneg (by rw [pk_lT ha]; omega) (by rw [pk_lT hb]; omega), pk_lT ha, pk_lT hb, pk_lT (Nat.lt_of_le_of_lt (Nat.div_le_self a b) ha)]
  rfl
theorem pk_lRem {a b : Nat} (ha : a < 2 ^ 63) (h0 : 0 < b) (hb : b < 2 ^ 63) : lN a - lN a / lN b * lN b = lN (a % b) := by
  rw [pk_lDiv ha h0 hb, lN_mul, lN_sub (Nat.div_mul_le_self a b)]
  exact congrArg lN (by have := Nat.div_add_mod' a b; omega)
theorem pk_loop {σ : Type} (W : Nat → Nat → σ → Prop) (I : Nat → σ → Prop) (e i0 : Nat) (s : σ) (hi : i0 ≤ e) (h0 : I i0 s) (hx : ∀ n s, I e s → W (n + 1) e s)
    (hs : ∀ n i s, i < e → I i s → (∀ s', I (i + 1) s' → W n (i + 1) s') → W (n + 1) i s) : ∃ n, W n i0 s :=
  ⟨e + 1, loop_i W I e hx hs (e + 1) i0 s hi (by omega) h0⟩
theorem pk_loopD {σ : Type} (W : Nat → Nat → σ → Prop) (I : Nat → σ → Prop) (hx : ∀ n s, I 0 s → W (n + 1) 0 s)
    (hs : ∀ n i s, I (i + 1) s → (∀ s', I i s' → W n i s') → W (n + 1) (i + 1) s) : ∀ (e : Nat) (s : σ), I e s → W (e + 1) e s := by
  intro e
  induction e with
  | zero => exact fun s h => hx 0 s h
  | succ e ih => exact fun s h => hs (e + 1) e s h (fun s' h' => ih s' h')
end
section
section
abbrev ln_T : Type := Nat × Nat × Int32
abbrev ln_K : Type := Nat × Int32
def ln_in (m : Nat) (t : ln_T) : Bool := m.testBit t.1
def ln_rg (L : List ln_T) : Prop := ∀ t, t ∈ L → t.1 < 4 ∧ t.2.1 < 16
def ln_df (a b : Nat) : Nat := a &&& (15 ^^^ b)
def ln_sb (a b : Nat) : Prop := ∀ p, p < 4 → a.testBit p = true → b.testBit p = true
theorem ln_nc {α : Type} {a : α} {p : Prop} (h : none = some a) : p := absurd h.symm (Option.some_ne_none a)
theorem ln_cn0 {α : Type} {a : α} {p : Prop} (h : some a = none) : p := absurd h (Option.some_ne_none a)
theorem ln_m1 : ∀ a b : Fin 16, (nI a.1 &&& (nI b.1 ^^^ (-1))) = nI (a.1 &&& (15 ^^^ b.1)) := by decide +kernel
theorem ln_m2 : ∀ a b : Fin 16, (nI a.1 ||| nI b.1) = nI (a.1 ||| b.1) := by decide +kernel
theorem ln_m3 : ∀ a b : Fin 16, (a.1 &&& (15 ^^^ b.1)) < 16 ∧ (a.1 ||| b.1) < 16 := by decide +kernel
theorem ln_m4 : ∀ a b : Fin 16, ∀ p : Fin 4, (a.1 &&& (15 ^^^ b.1)).testBit p.1 = (a.1.testBit p.1 && !b.1.testBit p.1) := by decide +kernel
theorem ln_m5 : ∀ a b : Fin 16, (∀ p : Fin 4, a.1.testBit p.1 = b.1.testBit p.1) → a.1 = b.1 := by decide +kernel
theorem ln_m6 : ∀ a : Fin 16, ∀ p : Fin 4, ((nI a.1 >>> (nI p.1 &&& 31)) &&& 1) = if a.1.testBit p.1 then 1 else 0 := by decide +kernel
theorem ln_m7 : ∀ a : Fin 16, ∀ p : Fin 4, (nI a.1 &&& (((1 : Int32) <<< (nI p.1 &&& 31) : Int32) ^^^ (-1 : Int32))) = nI (a.1 &&& (15 ^^^ (1 <<< p.1))) := by decide +kernel
theorem ln_m8 : ∀ p q : Fin 4, (1 <<< p.1 : Nat).testBit q.1 = decide (p.1 = q.1) := by decide +kernel
theorem ln_m9 : ∀ a : Fin 128, (nI a.1).toInt8.toInt32 = nI a.1 := by decide +kernel
theorem ln_m10 : ∀ a b : Fin 16, (a.1 &&& (15 ^^^ b.1)) = 0 ↔ ∀ p : Fin 4, a.1.testBit p.1 = true → b.1.testBit p.1 = true := by decide +kernel
theorem ln_m11 : ∀ p : Fin 4, (1 <<< p.1 : Nat) < 16 := by decide +kernel
theorem ln_diff {a b : Nat} (ha : a < 16) (hb : b < 16) : nI a &&& (nI b ^^^ (-1)) = nI (ln_df a b) := ln_m1 ⟨a, ha⟩ ⟨b, hb⟩
theorem ln_or {a b : Nat} (ha : a < 16) (hb : b < 16) : nI a ||| nI b = nI (a ||| b) := ln_m2 ⟨a, ha⟩ ⟨b, hb⟩
theorem ln_df_lt {a b : Nat} (ha : a < 16) (hb : b < 16) : ln_df a b < 16 := (ln_m3 ⟨a, ha⟩ ⟨b, hb⟩).1
theorem ln_or_lt {a b : Nat} (ha : a < 16) (hb : b < 16) : a ||| b < 16 := (ln_m3 ⟨a, ha⟩ ⟨b, hb⟩).2
theorem ln_df_b {a b p : Nat} (ha : a < 16) (hb : b < 16) (hp : p < 4) : (ln_df a b).testBit p = (a.testBit p && !b.testBit p) := ln_m4 ⟨a, ha⟩ ⟨b, hb⟩ ⟨p, hp⟩
theorem ln_ext {a b : Nat} (ha : a < 16) (hb : b < 16) (h : ∀ p, p < 4 → a.testBit p = b.testBit p) : a = b := ln_m5 ⟨a, ha⟩ ⟨b, hb⟩ (fun p => h p.1 p.2)
theorem ln_bit {a p : Nat} (ha : a < 16) (hp : p < 4) : ((nI a >>> (nI p &&& 31)) &&& 1) = if a.testBit p then 1 else 0 := ln_m6 ⟨a, ha⟩ ⟨p, hp⟩
theorem ln_clr {a p : Nat} (ha : a < 16) (hp : p < 4) : nI a &&& (((1 : Int32) <<< (nI p &&& 31) : Int32) ^^^ (-1 : Int32)) = nI (ln_df a (1 <<< p)) := ln_m7 ⟨a, ha⟩ ⟨p, hp⟩
theorem ln_one {p q : Nat} (hp : p < 4) (hq : q < 4) : (1 <<< p : Nat).testBit q = decide (p = q) := ln_m8 ⟨p, hp⟩ ⟨q, hq⟩
theorem ln_one_lt {p : Nat} (hp : p < 4) : (1 <<< p : Nat) < 16 := ln_m11 ⟨p, hp⟩
theorem ln_i8 {a : Nat} (ha : a < 128) : (nI a).toInt8.toInt32 = nI a := ln_m9 ⟨a, ha⟩
theorem ln_nb {a : Nat} (ha : a < 128) : vp_nar .byte (nI a) = nI a := by rw [vp_nar_byte, ln_i8 ha]
theorem ln_nb8 {a : Nat} (ha : a < 128) : vp_nar .byte (nI a).toInt8.toInt32 = nI a := by rw [ln_i8 ha, ln_nb ha]
theorem ln_df0 {a b : Nat} (ha : a < 16) (hb : b < 16) : ln_df a b = 0 ↔ ln_sb a b :=
  (ln_m10 ⟨a, ha⟩ ⟨b, hb⟩).trans ⟨fun h p hp e => h ⟨p, hp⟩ e, fun h p e => h p.1 p.2 e⟩
theorem ln_b15 : ∀ p, p < 4 → Nat.testBit 15 p = true := by decide
theorem ln_b0 (p : Nat) : Nat.testBit 0 p = false := Nat.zero_testBit p
theorem ln_sb15 {a b : Nat} (h : a = 15) (hb : b < 16) (hs : ln_sb a b) : b = 15 :=
  ln_ext hb (by decide) (fun p hp => by rw [hs p hp (by rw [h]; exact ln_b15 p hp), ln_b15 p hp])
theorem ln_sb_r (a : Nat) : ln_sb a a := fun _ _ h => h
theorem ln_sb_t {a b c : Nat} (h : ln_sb a b) (g : ln_sb b c) : ln_sb a c := fun p hp e => g p hp (h p hp e)
theorem ln_sb_or_l (a b : Nat) : ln_sb a (a ||| b) := fun p _ e => by rw [Nat.testBit_or, e]; rfl
theorem ln_sb_or_r (a b : Nat) : ln_sb b (a ||| b) := fun p _ e => by rw [Nat.testBit_or, e]; exact Bool.or_true _
theorem ln_nz {a : Nat} (ha : a < 16) (h : a ≠ 0) : ∃ p, p < 4 ∧ a.testBit p = true := by
  refine Classical.byContradiction fun z => h (ln_ext ha (by decide) fun p hp => ?_)
  rw [ln_b0]
  cases e : a.testBit p with
  | false => rfl
  | true => exact absurd ⟨p, hp, e⟩ z
theorem ln_sb_nz {a b : Nat} (ha : a < 16) (h : a ≠ 0) (hs : ln_sb a b) : b ≠ 0 := by
  obtain ⟨p, hp, e⟩ := ln_nz ha h
  intro z
  have := hs p hp e
  rw [z, ln_b0] at this
  exact Bool.noConfusion this
theorem ln_and3 {k : Nat} (h : k < 2 ^ 32) : nI k &&& 3 = nI (k % 4) := pk_andN h 2 (by decide)
theorem ln_and3E (x : Int32) : ∃ j : Nat, j < 4 ∧ x &&& 3 = nI j := pk_andE x 2 (by decide)
theorem ln_and15 (x : Int32) : (x &&& 15).toNatClampNeg < 16 ∧ x &&& 15 = nI (x &&& 15).toNatClampNeg := by
  obtain ⟨j, hj, e⟩ := pk_andE x (m := 15) 4 (by decide)
  rw [e, nI_clamp (by omega)]
  exact ⟨hj, rfl⟩
theorem ln_48 (a b : Nat) : 48 * nI a + nI b = nI (48 * a + b) := by
  rw [← nI_add, ← pk_mul]; rfl
theorem ln_48m (a : Nat) : 48 * nI a = nI (48 * a) := pk_mul 48 a
theorem ln_24 (a b : Nat) : 24 * nI a + nI b = nI (24 * a + b) := by
  rw [← nI_add, ← pk_mul]; rfl
theorem ln_24m (a : Nat) : 24 * nI a = nI (24 * a) := pk_mul 24 a
theorem ln_vb0 : vp_nar .boolean 0 = 0 := by decide
theorem ln_vb1 : vp_nar .boolean 1 = 1 := by decide
theorem ln_vy0 : vp_nar .byte 0 = 0 := by decide
theorem ln_vy1 : vp_nar .byte 1 = 1 := by decide
theorem ln_vy2 : vp_nar .byte 2 = 2 := by decide
theorem ln_dm (n : Nat) (h : 0 < n) : nI n + (-1) = nI (n - 1) := by
  obtain ⟨m, rfl⟩ : ∃ m, n = m + 1 := ⟨n - 1, by omega⟩
  exact pk_m1 m
theorem ln_ds (n : Nat) (h : 0 < n) : nI n - 1 = nI (n - 1) := by
  obtain ⟨m, rfl⟩ : ∃ m, n = m + 1 := ⟨n - 1, by omega⟩
  exact nI_pred m
theorem ln_inj {a b : Nat} (ha : a < 2 ^ 31) (hb : b < 2 ^ 31) (h : nI a = nI b) : a = b := (nI_eq ha hb).mp h
theorem ln_10 : ¬ (1 : Int32) = 0 := by decide
/-! the order of pairs: by key, then by value -/
def ln_le (a b : ln_K) : Prop := a.1 < b.1 ∨ (a.1 = b.1 ∧ a.2 ≤ b.2)
theorem ln_le_t {a b c : ln_K} (h : ln_le a b) (g : ln_le b c) : ln_le a c := by
  unfold ln_le at *
  rw [Int32.le_iff_toInt_le] at *
  omega
theorem ln_le_as {a b : ln_K} (h : ln_le a b) (g : ln_le b a) : a = b := by
  unfold ln_le at *
  rw [Int32.le_iff_toInt_le] at *
  refine Prod.ext (by omega) (Int32.toInt_inj.mp (by omega))
theorem ln_le_n {a b : ln_K} (h : ¬ ln_le a b) : ln_le b a := by
  unfold ln_le at *
  rw [Int32.le_iff_toInt_le] at *
  omega
end
end
section
section
theorem ln_fil_sub {L : List ln_T} {s m : Nat} (hs : ln_sb m s) (hL : ln_rg L) : (L.filter (ln_in s)).filter (ln_in m) = L.filter (ln_in m) := by
  rw [List.filter_filter]
  refine List.filter_congr fun t ht => ?_
  show (m.testBit t.1 && s.testBit t.1) = m.testBit t.1
  cases e : m.testBit t.1 with
  | false => rfl
  | true => rw [hs t.1 (hL t ht).1 e]; rfl
theorem ln_fil_15 {L : List ln_T} (hL : ln_rg L) : L.filter (ln_in 15) = L :=
  List.filter_eq_self.mpr fun t ht => ln_b15 t.1 (hL t ht).1
theorem ln_fil_0 (L : List ln_T) : L.filter (ln_in 0) = [] :=
  List.filter_eq_nil_iff.mpr fun t _ h => by
    have e : ln_in 0 t = false := ln_b0 t.1
    rw [e] at h
    exact Bool.noConfusion h
theorem ln_fil_or {L : List ln_T} {s m : Nat} (hd : ∀ p, p < 4 → m.testBit p = true → s.testBit p = false) (hL : ln_rg L) :
    (L.filter (ln_in s) ++ L.filter (ln_in m)).Perm (L.filter (ln_in (s ||| m))) := by
  have h := List.filter_append_perm (ln_in s) (L.filter (ln_in (s ||| m)))
  rw [ln_fil_sub (ln_sb_or_l s m) hL, List.filter_filter] at h
  have e : L.filter (fun a => !ln_in s a && ln_in (s ||| m) a) = L.filter (ln_in m) := by
    refine List.filter_congr fun t ht => ?_
    show (!s.testBit t.1 && (s ||| m).testBit t.1) = m.testBit t.1
    rw [Nat.testBit_or]
    cases e : m.testBit t.1 with
    | false => cases s.testBit t.1 <;> rfl
    | true => rw [hd t.1 (hL t ht).1 e]; rfl
  rw [e] at h
  exact h
theorem ln_rg_p {L L' : List ln_T} (h : L.Perm L') (g : ln_rg L') : ln_rg L := fun t ht => g t (h.mem_iff.mp ht)
theorem ln_rg_f {L : List ln_T} (g : ln_rg L) (p : ln_T → Bool) : ln_rg (L.filter p) := fun t ht => g t (List.mem_filter.mp ht).1
theorem ln_rg_a {L L' : List ln_T} (h : ln_rg L) (g : ln_rg L') : ln_rg (L ++ L') := fun t ht => (List.mem_append.mp ht).elim (h t) (g t)
theorem ln_rg_n : ln_rg [] := fun _ h => absurd h List.not_mem_nil
theorem ln_rg_c {t : ln_T} {L : List ln_T} (h1 : t.1 < 4) (h2 : t.2.1 < 16) (g : ln_rg L) : ln_rg (t :: L) := fun s hs => by
  rcases List.mem_cons.mp hs with rfl | h
  · exact ⟨h1, h2⟩
  · exact g s h
theorem ln_flatMap_p {α β : Type} {f g : α → List β} : ∀ (L : List α), (∀ t, (f t).Perm (g t)) → (L.flatMap f).Perm (L.flatMap g)
  | [], _ => .refl _
  | t :: L, h => by
    rw [List.flatMap_cons, List.flatMap_cons]
    exact (h t).append (ln_flatMap_p L h)
theorem ln_flatMap_2 {α β : Type} {f g : α → List β} {L L' : List α} (h : L.Perm L') (e : ∀ t, (f t).Perm (g t)) : (L.flatMap f).Perm (L'.flatMap g) :=
  (ln_flatMap_p L e).trans (h.flatMap_right g)
/-- a list whose pairs are all made of one pair each, filtered by a condition on the source -/
theorem ln_flatMap_f {α β : Type} {g : α → List β} {f : β → Bool} {q : α → Bool} : ∀ (L : List α), (∀ t, t ∈ L → ∀ b, b ∈ g t → f b = q t) → (L.flatMap g).filter f = (L.filter q).flatMap g
  | [], _ => rfl
  | t :: L, h => by
    rw [List.flatMap_cons, List.filter_append, ln_flatMap_f L (fun s hs => h s (List.mem_cons_of_mem _ hs))]
    cases e : q t with
    | true =>
      rw [List.filter_cons_of_pos (by exact e), List.flatMap_cons]
      congr 1
      exact List.filter_eq_self.mpr fun b hb => by rw [h t List.mem_cons_self b hb, e]
    | false =>
      rw [List.filter_cons_of_neg (by rw [e]; exact Bool.noConfusion)]
      have z : (g t).filter f = [] := List.filter_eq_nil_iff.mpr fun b hb hf => by
        rw [h t List.mem_cons_self b hb, e] at hf
        exact Bool.noConfusion hf
      rw [z, List.nil_append]
theorem ln_filterMap_f {α β : Type} {g : α → Option β} {f : β → Bool} {q : α → Bool} : ∀ (L : List α), (∀ t, t ∈ L → ∀ b, g t = some b → f b = q t) → (L.filterMap g).filter f = (L.filter q).filterMap g
  | [], _ => rfl
  | t :: L, h => by
    have ih := ln_filterMap_f L (fun s hs => h s (List.mem_cons_of_mem _ hs))
    cases eg : g t with
    | none =>
      rw [List.filterMap_cons_none eg, ih]
      cases e : q t with
      | true => rw [List.filter_cons_of_pos (by exact e), List.filterMap_cons_none eg]
      | false => rw [List.filter_cons_of_neg (by rw [e]; exact Bool.noConfusion)]
    | some b =>
      rw [List.filterMap_cons_some eg]
      have hb := h t List.mem_cons_self b eg
      cases e : q t with
      | true =>
        rw [List.filter_cons_of_pos (by rw [hb, e]), List.filter_cons_of_pos (by exact e), List.filterMap_cons_some eg, ih]
      | false =>
        rw [List.filter_cons_of_neg (by rw [hb, e]; exact Bool.noConfusion), List.filter_cons_of_neg (by rw [e]; exact Bool.noConfusion), ih]
theorem ln_map_f {α β : Type} {g : α → β} {f : β → Bool} {q : α → Bool} (L : List α) (h : ∀ t, t ∈ L → f (g t) = q t) : (L.map g).filter f = (L.filter q).map g := by
  rw [List.filter_map]
  congr 1
  exact List.filter_congr h
/-- two sorted lists of the same pairs are one list -/
theorem ln_sorted_eq {L L' : List ln_K} (h : L.Perm L') (g : L.Pairwise ln_le) (g' : L'.Pairwise ln_le) : L = L' :=
  List.Perm.eq_of_pairwise (fun _ _ _ _ a b => ln_le_as a b) g g' h
/-! reading a list by its index -/
theorem ln_at {α : Type} (pre : List α) (t : α) (r : List α) : (pre ++ t :: r)[pre.length]? = some t := by
  rw [List.getElem?_append_right (Nat.le_refl _), Nat.sub_self]
  rfl
theorem ln_lt_of {α : Type} {L : List α} {i : Nat} {t : α} (h : L[i]? = some t) : i < L.length := by
  obtain ⟨hi, _⟩ := List.getElem?_eq_some_iff.mp h
  exact hi
theorem ln_mem_of {α : Type} {L : List α} {i : Nat} {t : α} (h : L[i]? = some t) : t ∈ L := List.mem_of_getElem? h
theorem ln_some_of {α : Type} {L : List α} {i : Nat} (h : i < L.length) : ∃ t, L[i]? = some t := ⟨L[i], List.getElem?_eq_getElem h⟩
theorem ln_get_app {α : Type} {L : List α} {t s : α} {i : Nat} (h : (L ++ [t])[i]? = some s) : (i < L.length ∧ L[i]? = some s) ∨ (i = L.length ∧ s = t) := by
  have hl := ln_lt_of h
  rw [List.length_append] at hl
  by_cases hi : i < L.length
  · rw [List.getElem?_append_left hi] at h
    exact Or.inl ⟨hi, h⟩
  · have e : i = L.length := by
      have : ([t] : List α).length = 1 := rfl
      omega
    subst e
    rw [ln_at L t []] at h
    exact Or.inr ⟨rfl, (Option.some.inj h).symm⟩
end
end
section
section
/-! an entry of the plan: kind, x, a, b, source -/
abbrev ln_E : Type := Nat × Nat × Int32 × Int32 × List ln_K
def ln_ka (e : ln_E) : Nat := e.1
def ln_fx (e : ln_E) : Nat := e.2.1
def ln_aa (e : ln_E) : Int32 := e.2.2.1
def ln_bb (e : ln_E) : Int32 := e.2.2.2.1
def ln_sr (e : ln_E) : List ln_K := e.2.2.2.2
def ln_an (e : ln_E) : Nat := (ln_aa e).toNatClampNeg
abbrev ln_two (k : Nat) : Prop := k = 5 ∨ k = 7 ∨ k = 9
abbrev ln_stp (k : Nat) : Prop := k = 1 ∨ k = 2 ∨ k = 3 ∨ k = 11
abbrev ln_wid (k : Nat) : Prop := 6 ≤ k ∧ k ≤ 10
/-! rows -/
def ln_rw : Nat → List ln_K → List ln_T
  | _, [] => []
  | i, q :: s => (i % 4, q) :: ln_rw (i + 1) s
theorem ln_rw_map : ∀ (s : List ln_K) (i : Nat), (ln_rw i s).map Prod.snd = s
  | [], _ => rfl
  | q :: s, i => by
    show q :: (ln_rw (i + 1) s).map Prod.snd = q :: s
    rw [ln_rw_map s (i + 1)]
theorem ln_rw_len (s : List ln_K) (i : Nat) : (ln_rw i s).length = s.length := by
  rw [← List.length_map (f := Prod.snd) (as := ln_rw i s), ln_rw_map]
theorem ln_rw_rg : ∀ (s : List ln_K) (i : Nat), (∀ q, q ∈ s → q.1 < 16) → ln_rg (ln_rw i s)
  | [], _, _ => ln_rg_n
  | q :: s, i, h => ln_rg_c (Nat.mod_lt _ (by decide)) (h q List.mem_cons_self) (ln_rw_rg s (i + 1) (fun p hp => h p (List.mem_cons_of_mem _ hp)))
/-! steps -/
def ln_ps1 (e : ln_E) (q : ln_K) : Option ln_K :=
  if ln_ka e = 2 then (if q.2 < ln_aa e then none else some q)
  else if ln_ka e = 1 then some (q.1, q.2 * ln_aa e + ln_bb e)
  else if ln_ka e = 3 then some (((nI q.1 * ln_aa e + ln_bb e) &&& 15).toNatClampNeg, q.2)
  else some ((q.2 &&& 15).toNatClampNeg, nI q.1)
def ln_pass (e : ln_E) (t : ln_T) : Option ln_T := (ln_ps1 e t.2).map (fun q => (t.1, q))
theorem ln_ps1_k {e : ln_E} {q r : ln_K} (h : ln_ps1 e q = some r) (hq : q.1 < 16) : r.1 < 16 := by
  unfold ln_ps1 at h
  split at h
  · split at h
    · exact ln_nc h
    · cases h; exact hq
  · split at h
    · cases h; exact hq
    · split at h
      · cases h; exact (ln_and15 _).1
      · cases h; exact (ln_and15 _).1
theorem ln_pass_p {e : ln_E} {t s : ln_T} (h : ln_pass e t = some s) : s.1 = t.1 := by
  unfold ln_pass at h
  cases z : ln_ps1 e t.2 with
  | none => rw [z] at h; exact ln_nc h
  | some q => rw [z] at h; cases h; rfl
theorem ln_pass_k {e : ln_E} {t s : ln_T} (h : ln_pass e t = some s) (ht : t.2.1 < 16) : s.2.1 < 16 := by
  unfold ln_pass at h
  cases z : ln_ps1 e t.2 with
  | none => rw [z] at h; exact ln_nc h
  | some q => rw [z] at h; cases h; exact ln_ps1_k z ht
/-! reduce -/
def ln_ad (h s v : Int32) : Int32 := if h = 1 then (if s ≤ v then s else v) else if h = 2 then (if v ≤ s then s else v) else s + v
def ln_vl (h v : Int32) : Int32 := if h = 3 then 1 else v
def ln_oa (h : Int32) (o : Option Int32) (v : Int32) : Option Int32 := some (o.elim v (fun s => ln_ad h s v))
def ln_rf (h : Int32) (k : Nat) (o : Option Int32) (q : ln_K) : Option Int32 := if q.1 = k then ln_oa h o (ln_vl h q.2) else o
def ln_rd (h : Int32) (k : Nat) (L : List ln_K) : Option Int32 := L.foldl (ln_rf h k) none
theorem ln_ad_c (h s v : Int32) : ln_ad h s v = ln_ad h v s := by
  by_cases h1 : h = 1
  · have e : ∀ a b, ln_ad h a b = if a ≤ b then a else b := fun a b => if_pos h1
    simp only [e]
    by_cases a : s ≤ v <;> by_cases b : v ≤ s <;> simp only [a, b, if_true, if_false] <;> rw [Int32.le_iff_toInt_le] at a b <;> apply Int32.toInt_inj.mp <;> omega
  · by_cases h2 : h = 2
    · have e : ∀ a b, ln_ad h a b = if b ≤ a then a else b := fun a b => (if_neg h1).trans (if_pos h2)
      simp only [e]
      by_cases a : s ≤ v <;> by_cases b : v ≤ s <;> simp only [a, b, if_true, if_false] <;> rw [Int32.le_iff_toInt_le] at a b <;> apply Int32.toInt_inj.mp <;> omega
    · have e : ∀ a b, ln_ad h a b = a + b := fun a b => (if_neg h1).trans (if_neg h2)
      simp only [e]
      exact Int32.add_comm s v
theorem ln_ad_a (h s v w : Int32) : ln_ad h (ln_ad h s v) w = ln_ad h s (ln_ad h v w) := by
  by_cases h1 : h = 1
  · have e : ∀ a b, ln_ad h a b = if a ≤ b then a else b := fun a b => if_pos h1
    simp only [e]
    by_cases a : s ≤ v <;> by_cases b : v ≤ w <;> by_cases c : s ≤ w <;> simp only [a, b, c, if_true, if_false] <;> rw [Int32.le_iff_toInt_le] at a b c <;> apply Int32.toInt_inj.mp <;> omega
  · by_cases h2 : h = 2
    · have e : ∀ a b, ln_ad h a b = if b ≤ a then a else b := fun a b => (if_neg h1).trans (if_pos h2)
      simp only [e]
      by_cases a : v ≤ s <;> by_cases b : w ≤ v <;> by_cases c : w ≤ s <;> simp only [a, b, c, if_true, if_false] <;> rw [Int32.le_iff_toInt_le] at a b c <;> apply Int32.toInt_inj.mp <;> omega
    · have e : ∀ a b, ln_ad h a b = a + b := fun a b => (if_neg h1).trans (if_neg h2)
      simp only [e]
      exact Int32.add_assoc s v w
theorem ln_oa_c (h : Int32) (o : Option Int32) (v w : Int32) : ln_oa h (ln_oa h o v) w = ln_oa h (ln_oa h o w) v := by
  cases o with
  | none => exact congrArg some (ln_ad_c h v w)
  | some s =>
    show some (ln_ad h (ln_ad h s v) w) = some (ln_ad h (ln_ad h s w) v)
    rw [ln_ad_a, ln_ad_a, ln_ad_c h v w]
theorem ln_rd_p {h : Int32} {k : Nat} {L L' : List ln_K} (p : L.Perm L') : ln_rd h k L = ln_rd h k L' := by
  refine p.foldl_eq' (fun x _ y _ z => ?_) none
  unfold ln_rf
  split <;> split
  · exact ln_oa_c _ _ _ _
  · rfl
  · rfl
  · rfl
def ln_cb (h : Int32) (o : Option Int32) (l : Option Int32) : Option Int32 := l.elim o (fun v => ln_oa h o v)
theorem ln_cb_f (h : Int32) (k : Nat) : ∀ (L : List ln_K) (o o' : Option Int32), L.foldl (ln_rf h k) (ln_cb h o o') = ln_cb h o (L.foldl (ln_rf h k) o')
  | [], _, _ => rfl
  | q :: L, o, o' => by
    show L.foldl (ln_rf h k) (ln_rf h k (ln_cb h o o') q) = ln_cb h o (L.foldl (ln_rf h k) (ln_rf h k o' q))
    rw [← ln_cb_f h k L o (ln_rf h k o' q)]
    congr 1
    unfold ln_rf
    split
    · cases o' with
      | none => rfl
      | some l =>
        cases o with
        | none => rfl
        | some s => exact congrArg some (ln_ad_a h s l _)
    · rfl
theorem ln_cb_a (h : Int32) (k : Nat) (A B : List ln_K) : ln_rd h k (A ++ B) = ln_cb h (ln_rd h k A) (ln_rd h k B) := by
  unfold ln_rd
  rw [List.foldl_append]
  exact ln_cb_f h k B _ none
theorem ln_rd_b (h : Int32) (k : Nat) (A : List ln_K) (q : ln_K) : ln_rd h k (A ++ [q]) = ln_rf h k (ln_rd h k A) q := by
  unfold ln_rd
  rw [List.foldl_append]
  rfl
def ln_sm (h : Int32) (L : List ln_K) : List ln_K := (List.range 16).filterMap (fun k => (ln_rd h k L).map (fun s => (k, s)))
theorem ln_sm_p {h : Int32} {L L' : List ln_K} (p : L.Perm L') : ln_sm h L = ln_sm h L' := by
  unfold ln_sm
  congr 1
  funext k
  rw [ln_rd_p p]
/-! join -/
def ln_jn1 (B : List ln_K) (q : ln_K) : List ln_K := (B.filter (fun s => s.1 == q.1)).map (fun s => (q.1, q.2 + s.2))
def ln_jn (A B : List ln_K) : List ln_K := A.flatMap (ln_jn1 B)
theorem ln_jn_p {A A' B B' : List ln_K} (p : A.Perm A') (q : B.Perm B') : (ln_jn A B).Perm (ln_jn A' B') :=
  ln_flatMap_2 p (fun t => (q.filter _).map _)
/-! distinct -/
def ln_dk : List ln_K → List ln_K
  | [] => []
  | q :: r => if q ∈ r then ln_dk r else q :: ln_dk r
theorem ln_dk_s (q : ln_K) (r : List ln_K) : ln_dk (q :: r) = if q ∈ r then ln_dk r else q :: ln_dk r := rfl
theorem ln_dk_m {p : ln_K} : ∀ (L : List ln_K), p ∈ ln_dk L ↔ p ∈ L
  | [] => Iff.rfl
  | q :: r => by
    rw [ln_dk_s]
    split
    · rename_i h
      rw [ln_dk_m r, List.mem_cons]
      exact ⟨Or.inr, fun z => z.elim (fun e => e ▸ h) id⟩
    · rw [List.mem_cons, List.mem_cons, ln_dk_m r]
theorem ln_dk_n : ∀ (L : List ln_K), (ln_dk L).Nodup
  | [] => List.nodup_nil
  | q :: r => by
    rw [ln_dk_s]
    split
    · exact ln_dk_n r
    · rename_i h
      exact List.nodup_cons.mpr ⟨fun z => h ((ln_dk_m r).mp z), ln_dk_n r⟩
theorem ln_dk_u {L D : List ln_K} (hn : D.Nodup) (hm : ∀ p, p ∈ D ↔ p ∈ L) : D.Perm (ln_dk L) :=
  (List.perm_ext_iff_of_nodup hn (ln_dk_n L)).mpr fun p => (hm p).trans (ln_dk_m L).symm
theorem ln_dk_p {L L' : List ln_K} (p : L.Perm L') : (ln_dk L).Perm (ln_dk L') :=
  ln_dk_u (ln_dk_n L) fun q => (ln_dk_m L).trans p.mem_iff
theorem ln_dk_len : ∀ (L : List ln_K), (ln_dk L).length ≤ L.length
  | [] => Nat.le_refl _
  | q :: r => by
    have := ln_dk_len r
    rw [ln_dk_s]
    split
    · exact Nat.le_succ_of_le this
    · exact Nat.succ_le_succ this
/-! without -/
def ln_wo (A B : List ln_K) : List ln_K := A.filter (fun q => !B.any (fun s => s.1 == q.1))
theorem ln_wo_p {A A' B B' : List ln_K} (p : A.Perm A') (q : B.Perm B') : (ln_wo A B).Perm (ln_wo A' B') := by
  unfold ln_wo
  have e : (fun q : ln_K => !B.any (fun s => s.1 == q.1)) = (fun q : ln_K => !B'.any (fun s => s.1 == q.1)) := by
    funext z
    rw [q.any_eq]
  rw [e]
  exact p.filter _
/-! last -/
def ln_gt (a b : ln_K) : Bool := decide (b.2 < a.2 ∨ (a.2 = b.2 ∧ b.1 < a.1))
def ln_sl (c : Nat) (G : List ln_K) : List ln_K → List ln_K
  | [] => []
  | q :: r => if G.countP (fun s => ln_gt s q) + r.count q < c then q :: ln_sl c G r else ln_sl c G r
theorem ln_sl_e (c : Nat) (G : List ln_K) (q : ln_K) (r : List ln_K) : ln_sl c G (q :: r) = if G.countP (fun s => ln_gt s q) + r.count q < c then q :: ln_sl c G r else ln_sl c G r := rfl
def ln_la (c : Nat) (L : List ln_K) : List ln_K := ln_sl c L L
theorem ln_sl_c {c : Nat} {G : List ln_K} (p : ln_K) : ∀ (L : List ln_K), (ln_sl c G L).count p = min (L.count p) (c - G.countP (fun s => ln_gt s p))
  | [] => by
    show 0 = min 0 _
    omega
  | q :: r => by
    have ih := ln_sl_c p r (c := c) (G := G)
    rw [ln_sl_e]
    by_cases e : q = p
    · subst e
      split
      · rw [List.count_cons_self, List.count_cons_self, ih]
        omega
      · rw [List.count_cons_self, ih]
        omega
    · split
      · rw [List.count_cons_of_ne e, List.count_cons_of_ne e, ih]
      · rw [List.count_cons_of_ne e, ih]
theorem ln_la_p {c : Nat} {L L' : List ln_K} (p : L.Perm L') : (ln_la c L).Perm (ln_la c L') := by
  refine List.perm_iff_count.mpr fun q => ?_
  unfold ln_la
  rw [ln_sl_c, ln_sl_c, p.count_eq, p.countP_eq]
theorem ln_sl_s {c : Nat} {G : List ln_K} : ∀ (L : List ln_K), (ln_sl c G L).Sublist L
  | [] => .slnil
  | q :: r => by
    rw [ln_sl_e]
    split
    · exact (ln_sl_s r).cons_cons q
    · exact (ln_sl_s r).cons q
/-! the wide kinds, on pairs without parts -/
def ln_wd (e : ln_E) (A B : List ln_K) : List ln_K :=
  if ln_ka e = 6 then ln_sm (ln_aa e) A else if ln_ka e = 7 then ln_jn A B else if ln_ka e = 8 then ln_dk A else if ln_ka e = 9 then ln_wo A B else ln_la (ln_an e) A
theorem ln_wd_p {e : ln_E} {A A' B B' : List ln_K} (p : A.Perm A') (q : B.Perm B') : (ln_wd e A B).Perm (ln_wd e A' B') := by
  unfold ln_wd
  split
  · rw [ln_sm_p p]
  · split
    · exact ln_jn_p p q
    · split
      · exact ln_dk_p p
      · split
        · exact ln_wo_p p q
        · exact ln_la_p p
def ln_pt (e : ln_E) (q : ln_K) : Nat := if ln_ka e = 10 then 0 else q.1 % 4
/-- the content of a set, by its entry and the contents of its sources -/
def ln_raw (e : ln_E) (X A : List ln_T) : List ln_T :=
  if ln_ka e = 0 then ln_rw 0 (ln_sr e)
  else if ln_ka e = 4 then X.flatMap (fun t => List.replicate (ln_an e) t)
  else if ln_ka e = 5 then X ++ A
  else if 6 ≤ ln_ka e ∧ ln_ka e ≤ 10 then (ln_wd e (X.map Prod.snd) (A.map Prod.snd)).map (fun q => (ln_pt e q, q))
  else X.filterMap (ln_pass e)
end
end
section
section
def ln_s1 (e : ln_E) (C : Nat → Option (List ln_T)) : Option (List ln_T) := if ln_ka e = 0 then some [] else C (ln_fx e)
def ln_s2 (e : ln_E) (C : Nat → Option (List ln_T)) : Option (List ln_T) := if ln_two (ln_ka e) then C (ln_an e) else some []
def ln_st (e : ln_E) (C : Nat → Option (List ln_T)) : Option (List ln_T) :=
  (ln_s1 e C).bind fun X => (ln_s2 e C).bind fun A => if (ln_raw e X A).length ≤ 48 then some (ln_raw e X A) else none
/-- what a plan's entry at d must be -/
def ln_we (d : Nat) (e : ln_E) : Prop :=
  ln_ka e ≤ 11 ∧ (ln_ka e ≠ 0 → ln_fx e < d) ∧ (ln_two (ln_ka e) → ln_an e < d ∧ ln_aa e = nI (ln_an e)) ∧ (ln_ka e = 4 ∨ ln_ka e = 6 → ln_an e ≤ 3 ∧ ln_aa e = nI (ln_an e)) ∧
  (ln_ka e = 10 → ln_an e ≤ 8 ∧ ln_aa e = nI (ln_an e)) ∧ (ln_sr e).length ≤ 24 ∧ ∀ q, q ∈ ln_sr e → q.1 < 16
def ln_wf (n : Nat) (P : Nat → ln_E) : Prop := ∀ d, d < n → ln_we d (P d)
def ln_ct (n : Nat) (P : Nat → ln_E) (C : Nat → Option (List ln_T)) : Prop := ∀ d, d < n → C d = ln_st (P d) C
theorem ln_st_some {e : ln_E} {C : Nat → Option (List ln_T)} {L : List ln_T} (h : ln_st e C = some L) : ∃ X A, ln_s1 e C = some X ∧ ln_s2 e C = some A ∧ L = ln_raw e X A ∧ L.length ≤ 48 := by
  unfold ln_st at h
  cases h1 : ln_s1 e C with
  | none => rw [h1] at h; exact ln_nc h
  | some X =>
    cases h2 : ln_s2 e C with
    | none => rw [h1, h2] at h; exact ln_nc h
    | some A =>
      rw [h1, h2] at h
      have h' : (if (ln_raw e X A).length ≤ 48 then some (ln_raw e X A) else none) = some L := h
      split at h'
      · rename_i hl
        cases h'
        exact ⟨X, A, rfl, rfl, rfl, hl⟩
      · exact ln_nc h'
theorem ln_st_i {e : ln_E} {C : Nat → Option (List ln_T)} {X A : List ln_T} (h1 : ln_s1 e C = some X) (h2 : ln_s2 e C = some A) (hl : (ln_raw e X A).length ≤ 48) : ln_st e C = some (ln_raw e X A) := by
  unfold ln_st
  rw [h1, h2]
  exact if_pos hl
theorem ln_st_n {e : ln_E} {C : Nat → Option (List ln_T)} {X A : List ln_T} (h1 : ln_s1 e C = some X) (h2 : ln_s2 e C = some A) (hl : 48 < (ln_raw e X A).length) : ln_st e C = none := by
  unfold ln_st
  rw [h1, h2]
  exact if_neg (by omega)
theorem ln_sm_k {h : Int32} {L : List ln_K} {q : ln_K} (hq : q ∈ ln_sm h L) : q.1 < 16 := by
  unfold ln_sm at hq
  obtain ⟨k, hk, e⟩ := List.mem_filterMap.mp hq
  have hk' := List.mem_range.mp hk
  cases z : ln_rd h k L with
  | none => rw [z] at e; exact ln_nc e
  | some s => rw [z] at e; cases e; exact hk'
theorem ln_wd_k {e : ln_E} {A B : List ln_K} (hA : ∀ q, q ∈ A → q.1 < 16) {q : ln_K} (hq : q ∈ ln_wd e A B) : q.1 < 16 := by
  unfold ln_wd at hq
  split at hq
  · exact ln_sm_k hq
  · split at hq
    · unfold ln_jn at hq
      obtain ⟨s, hs, h⟩ := List.mem_flatMap.mp hq
      unfold ln_jn1 at h
      obtain ⟨r, _, e⟩ := List.mem_map.mp h
      rw [← e]
      exact hA s hs
    · split at hq
      · exact hA q ((ln_dk_m A).mp hq)
      · split at hq
        · exact hA q (List.mem_filter.mp hq).1
        · exact hA q ((ln_sl_s A).subset hq)
theorem ln_pt_lt (e : ln_E) (q : ln_K) : ln_pt e q < 4 := by
  unfold ln_pt
  split <;> omega
theorem ln_raw_rg {d : Nat} {e : ln_E} {X A : List ln_T} (w : ln_we d e) (hX : ln_rg X) (hA : ln_rg A) : ln_rg (ln_raw e X A) := by
  unfold ln_raw
  split
  · exact ln_rw_rg _ _ w.2.2.2.2.2.2
  · split
    · intro t ht
      obtain ⟨s, hs, h⟩ := List.mem_flatMap.mp ht
      rw [List.eq_of_mem_replicate h]
      exact hX s hs
    · split
      · exact ln_rg_a hX hA
      · split
        · intro t ht
          obtain ⟨q, hq, h⟩ := List.mem_map.mp ht
          rw [← h]
          refine ⟨ln_pt_lt e q, ln_wd_k (fun p hp => ?_) hq⟩
          obtain ⟨s, hs, h⟩ := List.mem_map.mp hp
          rw [← h]
          exact (hX s hs).2
        · intro t ht
          obtain ⟨s, hs, h⟩ := List.mem_filterMap.mp ht
          rw [ln_pass_p h]
          exact ⟨(hX s hs).1, ln_pass_k h (hX s hs).2⟩
theorem ln_ct_rg {n : Nat} {P : Nat → ln_E} {C : Nat → Option (List ln_T)} (w : ln_wf n P) (c : ln_ct n P C) : ∀ d, d < n → ∀ L, C d = some L → ln_rg L := by
  intro d
  induction d using Nat.strongRecOn with
  | _ d ih =>
    intro hd L hL
    rw [c d hd] at hL
    obtain ⟨X, A, h1, h2, rfl, _⟩ := ln_st_some hL
    have wd := w d hd
    refine ln_raw_rg wd ?_ ?_
    · unfold ln_s1 at h1
      split at h1
      · cases h1; exact ln_rg_n
      · rename_i hk
        have := wd.2.1 hk
        exact ih _ this (by omega) X h1
    · unfold ln_s2 at h2
      split at h2
      · rename_i hk
        have := (wd.2.2.1 hk).1
        exact ih _ this (by omega) A h2
      · cases h2; exact ln_rg_n
theorem ln_ct_len {n : Nat} {P : Nat → ln_E} {C : Nat → Option (List ln_T)} (c : ln_ct n P C) {d : Nat} (hd : d < n) {L : List ln_T} (h : C d = some L) : L.length ≤ 48 := by
  rw [c d hd] at h
  obtain ⟨_, _, _, _, _, hl⟩ := ln_st_some h
  exact hl
/-- a set that is not big has sources that are not big -/
theorem ln_ct_x {n : Nat} {P : Nat → ln_E} {C : Nat → Option (List ln_T)} (c : ln_ct n P C) {d : Nat} (hd : d < n) (h : C d ≠ none) (hk : ln_ka (P d) ≠ 0) : C (ln_fx (P d)) ≠ none := by
  cases z : C d with
  | none => exact absurd z h
  | some L =>
    rw [c d hd] at z
    obtain ⟨X, A, h1, _⟩ := ln_st_some z
    unfold ln_s1 at h1
    rw [if_neg hk] at h1
    rw [h1]
    exact Option.some_ne_none _
theorem ln_ct_a {n : Nat} {P : Nat → ln_E} {C : Nat → Option (List ln_T)} (c : ln_ct n P C) {d : Nat} (hd : d < n) (h : C d ≠ none) (hk : ln_two (ln_ka (P d))) : C (ln_an (P d)) ≠ none := by
  cases z : C d with
  | none => exact absurd z h
  | some L =>
    rw [c d hd] at z
    obtain ⟨X, A, _, h2, _⟩ := ln_st_some z
    unfold ln_s2 at h2
    rw [if_pos hk] at h2
    rw [h2]
    exact Option.some_ne_none _
/-! a function of naturals with one value changed -/
def ln_up {α : Type} (M : Nat → α) (d : Nat) (L : α) : Nat → α := fun j => if j = d then L else M j
theorem ln_up_s {α : Type} {M : Nat → α} {d : Nat} {L : α} : ln_up M d L d = L := if_pos rfl
theorem ln_up_n {α : Type} {M : Nat → α} {d j : Nat} {L : α} (h : j ≠ d) : ln_up M d L j = M j := if_neg h
theorem ln_up_u {α : Type} {M : Nat → α} {d : Nat} {L L' : α} : ln_up (ln_up M d L) d L' = ln_up M d L' := by
  funext j
  unfold ln_up
  split <;> rfl
theorem ln_up_i {α : Type} {M : Nat → α} {d : Nat} : ln_up M d (M d) = M := by
  funext j
  unfold ln_up
  split
  · rename_i h; rw [h]
  · rfl
/-- derive: the content goes on -/
theorem ln_st_congr {d : Nat} {e : ln_E} {C C' : Nat → Option (List ln_T)} (w : ln_we d e) (h : ∀ j, j < d → C j = C' j) : ln_st e C = ln_st e C' := by
  have h1 : ln_s1 e C = ln_s1 e C' := by
    unfold ln_s1
    split
    · rfl
    · rename_i hk; exact h _ (w.2.1 hk)
  have h2 : ln_s2 e C = ln_s2 e C' := by
    unfold ln_s2
    split
    · rename_i hk; exact h _ (w.2.2.1 hk).1
    · rfl
  unfold ln_st
  rw [h1, h2]
theorem ln_ct_new {n : Nat} {P : Nat → ln_E} {C : Nat → Option (List ln_T)} {e : ln_E} (w : ln_wf n P) (we : ln_we n e) (c : ln_ct n P C) : ln_ct (n + 1) (ln_up P n e) (ln_up C n (ln_st e C)) := by
  intro d hd
  by_cases h : d = n
  · subst h
    rw [ln_up_s, ln_up_s]
    exact ln_st_congr we (fun j hj => (ln_up_n (by omega)).symm)
  · rw [ln_up_n h, ln_up_n h, c d (by omega)]
    exact ln_st_congr (w d (by omega)) (fun j hj => (ln_up_n (by omega)).symm)
theorem ln_wf_new {n : Nat} {P : Nat → ln_E} {e : ln_E} (w : ln_wf n P) (we : ln_we n e) : ln_wf (n + 1) (ln_up P n e) := by
  intro d hd
  by_cases h : d = n
  · subst h
    rw [ln_up_s]
    exact we
  · rw [ln_up_n h]
    exact w d (by omega)
/-! the pair store of X -/
def ln_s3 (pp pk pv : Nat → Int32) (d : Nat) (L : List ln_T) : Prop := ∀ i t, L[i]? = some t → pp (48 * d + i) = nI t.1 ∧ pk (48 * d + i) = nI t.2.1 ∧ pv (48 * d + i) = t.2.2
def ln_ps (pc pp pk pv : Nat → Int32) (M : Nat → List ln_T) : Prop :=
  ∀ d, d < 16 → pc d = nI (M d).length ∧ (M d).length ≤ 48 ∧ ln_rg (M d) ∧ ln_s3 pp pk pv d (M d)
def ln_ms (th : Nat → Int32) (Th : Nat → Nat) : Prop := ∀ d, d < 16 → th d = nI (Th d) ∧ Th d < 16
theorem ln_ms_u {th : Nat → Int32} {Th : Nat → Nat} (h : ln_ms th Th) {d m : Nat} (hm : m < 16) : ln_ms (upd th d (nI m)) (ln_up Th d m) := by
  intro j hj
  by_cases e : j = d
  · subst e
    rw [pk_us, ln_up_s]
    exact ⟨rfl, hm⟩
  · rw [pk_un e, ln_up_n e]
    exact h j hj
theorem ln_ps_add {pc pp pk pv : Nat → Int32} {M : Nat → List ln_T} {d : Nat} {W : List ln_T} {t : ln_T} (h : ln_ps pc pp pk pv (ln_up M d W)) (hd : d < 16) (hl : W.length < 48) (h1 : t.1 < 4) (h2 : t.2.1 < 16) :
    ln_ps (upd pc d (nI (W.length + 1))) (upd pp (48 * d + W.length) (nI t.1)) (upd pk (48 * d + W.length) (nI t.2.1)) (upd pv (48 * d + W.length) t.2.2) (ln_up M d (W ++ [t])) := by
  intro j hj
  obtain ⟨a, b, c, s⟩ := h j hj
  by_cases e : j = d
  · subst e
    rw [ln_up_s] at a b c s ⊢
    rw [pk_us, List.length_append]
    refine ⟨rfl, by simp only [List.length_singleton]; omega, ln_rg_a c (ln_rg_c h1 h2 ln_rg_n), ?_⟩
    intro i u hu
    rcases ln_get_app hu with ⟨hi, hu⟩ | ⟨hi, rfl⟩
    · rw [pk_un (by omega), pk_un (by omega), pk_un (by omega)]
      exact s i u hu
    · subst hi
      rw [pk_us, pk_us, pk_us]
      exact ⟨rfl, rfl, rfl⟩
  · rw [ln_up_n e] at a b c s ⊢
    rw [pk_un e]
    refine ⟨a, b, c, fun i u hu => ?_⟩
    have := ln_lt_of hu
    rw [pk_un (by omega), pk_un (by omega), pk_un (by omega)]
    exact s i u hu
theorem ln_ps_fg {pc pp pk pv : Nat → Int32} {M : Nat → List ln_T} {d : Nat} (h : ln_ps pc pp pk pv M) : ln_ps (upd pc d 0) pp pk pv (ln_up M d []) := by
  intro j hj
  obtain ⟨a, b, c, s⟩ := h j hj
  by_cases e : j = d
  · subst e
    rw [ln_up_s, pk_us]
    exact ⟨rfl, by decide, ln_rg_n, fun i t ht => absurd (ln_mem_of ht) List.not_mem_nil⟩
  · rw [ln_up_n e, pk_un e]
    exact ⟨a, b, c, s⟩
end
end
section
section
abbrev ln_J8 : Type := Int32 → Int32 → Int32 → Int32 → Int32 → Int32 → Int32 → Int32 → (Nat → Int32) → (Nat → Int32) → (Nat → Int32) → (Nat → Int32) → (Nat → Int32) → (Nat → Int32) → (Nat → Int32) → (Nat → Int32) → (Nat → Int32) → (Nat → Int32) → (Nat → Int32) → (Nat → Int32) → (Nat → Int32) → (Nat → Int32) → (Nat → Int32) → (Nat → Int32) → (Nat → Int32) → (Nat → Int32) → (Nat → Int32) → (Nat → Int32) → (Nat → Int32) → (Nat → Int32) → (Nat → Int32) → (Nat → Int32) → (Nat → Int32) → Prop
variable {f_handCount f_setCount f_levelNow f_chainLength f_pairKeyNow f_pairValueNow f_orderCount : Int32} {a_handKey a_handValue a_kindOf a_fromX a_numberA a_numberB a_sourceCount a_sourceKey a_sourceValue a_pairCount a_pairPart a_pairKey a_pairValue a_there a_kept a_bigness a_needed a_users a_chain a_hasLocal a_local a_hasSum a_sums a_orderKey a_orderValue : Nat → Int32}
theorem ln_xisSet1 {post : Int32 → Prop} {n d : Nat} (hn : f_setCount = nI n) (hn16 : n ≤ 16) (hd : d < n) (k : post 1) : wpX_isSet post (f_handCount, f_setCount, f_levelNow, f_chainLength, f_pairKeyNow, f_pairValueNow, f_orderCount, a_handKey, a_handValue, a_kindOf, a_fromX, a_numberA, a_numberB, a_sourceCount, a_sourceKey, a_sourceValue, a_pairCount, a_pairPart, a_pairKey, a_pairValue, a_there, a_kept, a_bigness, a_needed, a_users, a_chain, a_hasLocal, a_local, a_hasSum, a_sums, a_orderKey, a_orderValue) (nI d) := by
  unfold wpX_isSet
  subst hn
  exact br_f (nI_pos (by omega)) (br_f (nI_ge hd (by omega)) k)
theorem ln_xisSet0 {post : Int32 → Prop} {x : Int32} {n : Nat} (hn : f_setCount = nI n) (hd : x < 0 ∨ nI n ≤ x) (k : post 0) : wpX_isSet post (f_handCount, f_setCount, f_levelNow, f_chainLength, f_pairKeyNow, f_pairValueNow, f_orderCount, a_handKey, a_handValue, a_kindOf, a_fromX, a_numberA, a_numberB, a_sourceCount, a_sourceKey, a_sourceValue, a_pairCount, a_pairPart, a_pairKey, a_pairValue, a_there, a_kept, a_bigness, a_needed, a_users, a_chain, a_hasLocal, a_local, a_hasSum, a_sums, a_orderKey, a_orderValue) x := by
  unfold wpX_isSet
  subst hn
  by_cases h : x < 0
  · exact br_t h k
  · exact br_f h (br_t (hd.resolve_left h) k)
theorem ln_xhasTwo {post : Int32 → Prop} {k : Nat} (hk : k < 16) (k1 : ln_two k → post 1) (k0 : ¬ ln_two k → post 0) : wpX_hasTwo post (f_handCount, f_setCount, f_levelNow, f_chainLength, f_pairKeyNow, f_pairValueNow, f_orderCount, a_handKey, a_handValue, a_kindOf, a_fromX, a_numberA, a_numberB, a_sourceCount, a_sourceKey, a_sourceValue, a_pairCount, a_pairPart, a_pairKey, a_pairValue, a_there, a_kept, a_bigness, a_needed, a_users, a_chain, a_hasLocal, a_local, a_hasSum, a_sums, a_orderKey, a_orderValue) (nI k) := by
  unfold wpX_hasTwo
  exact pk_eq k 5 (fun h => k1 (Or.inl h)) fun h5 => pk_eq k 7 (fun h => k1 (Or.inr (Or.inl h))) fun h7 => pk_eq k 9 (fun h => k1 (Or.inr (Or.inr h))) fun h9 => k0 (by omega)
theorem ln_xisWide {post : Int32 → Prop} {k : Nat} (hk : k < 16) (k1 : ln_wid k → post 1) (k0 : ¬ ln_wid k → post 0) : wpX_isWide post (f_handCount, f_setCount, f_levelNow, f_chainLength, f_pairKeyNow, f_pairValueNow, f_orderCount, a_handKey, a_handValue, a_kindOf, a_fromX, a_numberA, a_numberB, a_sourceCount, a_sourceKey, a_sourceValue, a_pairCount, a_pairPart, a_pairKey, a_pairValue, a_there, a_kept, a_bigness, a_needed, a_users, a_chain, a_hasLocal, a_local, a_hasSum, a_sums, a_orderKey, a_orderValue) (nI k) := by
  unfold wpX_isWide
  exact pk_lt k 6 (fun h => k0 (by omega)) fun h6 => pk_lt 10 k (fun h => k0 (by omega)) fun h10 => k1 (by omega)
theorem ln_xisStep {post : Int32 → Prop} {k : Nat} (hk : k < 16) (k1 : ln_stp k → post 1) (k0 : ¬ ln_stp k → post 0) : wpX_isStep post (f_handCount, f_setCount, f_levelNow, f_chainLength, f_pairKeyNow, f_pairValueNow, f_orderCount, a_handKey, a_handValue, a_kindOf, a_fromX, a_numberA, a_numberB, a_sourceCount, a_sourceKey, a_sourceValue, a_pairCount, a_pairPart, a_pairKey, a_pairValue, a_there, a_kept, a_bigness, a_needed, a_users, a_chain, a_hasLocal, a_local, a_hasSum, a_sums, a_orderKey, a_orderValue) (nI k) := by
  unfold wpX_isStep
  exact pk_eq k 1 (fun h => k1 (by omega)) fun h1 => pk_eq k 2 (fun h => k1 (by omega)) fun h2 => pk_eq k 3 (fun h => k1 (by omega)) fun h3 => pk_eq k 11 (fun h => k1 (by omega)) fun h11 => k0 (by omega)
theorem ln_xisPart {post : Int32 → Prop} {m p : Nat} (hm : m < 16) (hp : p < 4) (k1 : m.testBit p = true → post 1) (k0 : m.testBit p = false → post 0) : wpX_isPart post (f_handCount, f_setCount, f_levelNow, f_chainLength, f_pairKeyNow, f_pairValueNow, f_orderCount, a_handKey, a_handValue, a_kindOf, a_fromX, a_numberA, a_numberB, a_sourceCount, a_sourceKey, a_sourceValue, a_pairCount, a_pairPart, a_pairKey, a_pairValue, a_there, a_kept, a_bigness, a_needed, a_users, a_chain, a_hasLocal, a_local, a_hasSum, a_sums, a_orderKey, a_orderValue) (nI m) (nI p) := by
  unfold wpX_isPart
  dsimp only
  rw [ln_bit hm hp]
  cases e : m.testBit p with
  | true => exact br_f ln_10 (k1 e)
  | false => exact br_t rfl (k0 e)
theorem ln_xisReady {post : Int32 → Prop} {d m : Nat} {Th : Nat → Nat} (hm : m < 16) (hd : d < 16) (ht : ln_ms a_there Th) (k1 : ln_sb m (Th d) → post 1) (k0 : ¬ ln_sb m (Th d) → post 0) : wpX_isReady post (f_handCount, f_setCount, f_levelNow, f_chainLength, f_pairKeyNow, f_pairValueNow, f_orderCount, a_handKey, a_handValue, a_kindOf, a_fromX, a_numberA, a_numberB, a_sourceCount, a_sourceKey, a_sourceValue, a_pairCount, a_pairPart, a_pairKey, a_pairValue, a_there, a_kept, a_bigness, a_needed, a_users, a_chain, a_hasLocal, a_local, a_hasSum, a_sums, a_orderKey, a_orderValue) (nI d) (nI m) := by
  unfold wpX_isReady
  dsimp only
  rw [nI_clamp (by omega), (ht d hd).1, ln_diff hm (ht d hd).2]
  exact ⟨vp_in_nI hd (by decide), pk_eq _ 0 (fun h => k1 ((ln_df0 hm (ht d hd).2).mp h)) (fun h => k0 (fun z => h ((ln_df0 hm (ht d hd).2).mpr z))) rfl rfl (Nat.lt_trans (ln_df_lt hm (ht d hd).2) (by decide)) (by decide)⟩
theorem ln_xadded {post : Int32 → Prop} {h s v : Int32} (k : post (ln_ad h s v)) : wpX_added post (f_handCount, f_setCount, f_levelNow, f_chainLength, f_pairKeyNow, f_pairValueNow, f_orderCount, a_handKey, a_handValue, a_kindOf, a_fromX, a_numberA, a_numberB, a_sourceCount, a_sourceKey, a_sourceValue, a_pairCount, a_pairPart, a_pairKey, a_pairValue, a_there, a_kept, a_bigness, a_needed, a_users, a_chain, a_hasLocal, a_local, a_hasSum, a_sums, a_orderKey, a_orderValue) h s v := by
  unfold wpX_added
  unfold ln_ad at k
  refine br_c (fun h1 => ?_) (fun h1 => ?_)
  · rw [if_pos h1] at k
    refine br_c (fun h2 => ?_) (fun h2 => ?_)
    · rw [if_pos h2] at k; exact k
    · rw [if_neg h2] at k; exact k
  · rw [if_neg h1] at k
    refine br_c (fun h2 => ?_) (fun h2 => ?_)
    · rw [if_pos h2] at k
      refine br_c (fun h3 => ?_) (fun h3 => ?_)
      · rw [if_pos h3] at k; exact k
      · rw [if_neg h3] at k; exact k
    · rw [if_neg h2] at k; exact k
theorem ln_xadd {post : Int32 → SX → Prop} {M : Nat → List ln_T} {W : List ln_T} {id p k : Nat} {v : Int32} (hp : ln_ps a_pairCount a_pairPart a_pairKey a_pairValue (ln_up M id W)) (hid : id < 16) (h4 : p < 4) (hk : k < 16)
    (k1 : W.length < 48 → ∀ pc pp pk pv, ln_ps pc pp pk pv (ln_up M id (W ++ [(p, k, v)])) → post 1 (f_handCount, f_setCount, f_levelNow, f_chainLength, f_pairKeyNow, f_pairValueNow, f_orderCount, a_handKey, a_handValue, a_kindOf, a_fromX, a_numberA, a_numberB, a_sourceCount, a_sourceKey, a_sourceValue, pc, pp, pk, pv, a_there, a_kept, a_bigness, a_needed, a_users, a_chain, a_hasLocal, a_local, a_hasSum, a_sums, a_orderKey, a_orderValue)) (k0 : W.length = 48 → post 0 (f_handCount, f_setCount, f_levelNow, f_chainLength, f_pairKeyNow, f_pairValueNow, f_orderCount, a_handKey, a_handValue, a_kindOf, a_fromX, a_numberA, a_numberB, a_sourceCount, a_sourceKey, a_sourceValue, a_pairCount, a_pairPart, a_pairKey, a_pairValue, a_there, a_kept, a_bigness, a_needed, a_users, a_chain, a_hasLocal, a_local, a_hasSum, a_sums, a_orderKey, a_orderValue)) :
    wpX_addPair post (f_handCount, f_setCount, f_levelNow, f_chainLength, f_pairKeyNow, f_pairValueNow, f_orderCount, a_handKey, a_handValue, a_kindOf, a_fromX, a_numberA, a_numberB, a_sourceCount, a_sourceKey, a_sourceValue, a_pairCount, a_pairPart, a_pairKey, a_pairValue, a_there, a_kept, a_bigness, a_needed, a_users, a_chain, a_hasLocal, a_local, a_hasSum, a_sums, a_orderKey, a_orderValue) (nI id) (nI p) (nI k) v := by
  have hq := hp id hid
  rw [ln_up_s] at hq
  obtain ⟨ec, hl, _, _⟩ := hq
  have hin : vp_in (nI id) 16 := vp_in_nI hid (by decide)
  have ec' : a_pairCount (nI id).toNatClampNeg = nI W.length := by rw [nI_clamp (by omega)]; exact ec
  unfold wpX_addPair
  dsimp only
  rw [ec']
  refine ⟨hin, pk_lt W.length 48 (fun h => ?_) (fun h => k0 (by omega))⟩
  have hi7 : vp_in (nI (48 * id + W.length)) 768 := vp_in_nI (by omega) (by decide)
  refine ⟨hin, nm_r (ln_48 _ _) ⟨hi7, nm_r (e' := upd a_pairPart (48 * id + W.length) (nI p)) (by rw [nI_clamp (by omega), ln_nb8 (by omega)]) ⟨hi7, nm_r (e' := upd a_pairKey (48 * id + W.length) (nI k)) (by rw [nI_clamp (by omega), ln_nb8 (by omega)]) ⟨hi7, nm_r (e' := upd a_pairValue (48 * id + W.length) v) (by rw [nI_clamp (by omega)]) ⟨hin, hin, nm_r (e' := upd a_pairCount id (nI (W.length + 1))) (by rw [nI_clamp (by omega), nI_1, ln_nb8 (by omega)]) ?_⟩⟩⟩⟩⟩
  exact k1 h _ _ _ _ (ln_ps_add (t := (p, k, v)) hp hid h h4 hk)
theorem ln_xforget {post : SX → Prop} {M : Nat → List ln_T} {Th : Nat → Nat} {d : Nat} (hp : ln_ps a_pairCount a_pairPart a_pairKey a_pairValue M) (ht : ln_ms a_there Th) (hd : d < 16)
    (k : ∀ pc th, ln_ps pc a_pairPart a_pairKey a_pairValue (ln_up M d []) → ln_ms th (ln_up Th d 0) → post (f_handCount, f_setCount, f_levelNow, f_chainLength, f_pairKeyNow, f_pairValueNow, f_orderCount, a_handKey, a_handValue, a_kindOf, a_fromX, a_numberA, a_numberB, a_sourceCount, a_sourceKey, a_sourceValue, pc, a_pairPart, a_pairKey, a_pairValue, th, a_kept, a_bigness, a_needed, a_users, a_chain, a_hasLocal, a_local, a_hasSum, a_sums, a_orderKey, a_orderValue)) : wpX_forget post (f_handCount, f_setCount, f_levelNow, f_chainLength, f_pairKeyNow, f_pairValueNow, f_orderCount, a_handKey, a_handValue, a_kindOf, a_fromX, a_numberA, a_numberB, a_sourceCount, a_sourceKey, a_sourceValue, a_pairCount, a_pairPart, a_pairKey, a_pairValue, a_there, a_kept, a_bigness, a_needed, a_users, a_chain, a_hasLocal, a_local, a_hasSum, a_sums, a_orderKey, a_orderValue) (nI d) := by
  have hin : vp_in (nI d) 16 := vp_in_nI hd (by decide)
  unfold wpX_forget
  dsimp only
  refine ⟨hin, nm_r (e' := upd a_pairCount d 0) (by rw [nI_clamp (by omega), ln_vy0]) ⟨hin, nm_r (e' := upd a_there d (nI 0)) (by rw [nI_clamp (by omega), ln_vy0]; rfl) ?_⟩⟩
  exact k _ _ (ln_ps_fg hp) (ln_ms_u ht (by decide))
def ln_td (Th : Nat → Nat) (M : Nat → List ln_T) (Th' : Nat → Nat) (M' : Nat → List ln_T) : Prop := ∀ j, (Th' j = Th j ∧ M' j = M j) ∨ (Th' j = 0 ∧ M' j = [])
theorem ln_td_r (Th : Nat → Nat) (M : Nat → List ln_T) : ln_td Th M Th M := fun _ => Or.inl ⟨rfl, rfl⟩
theorem ln_td_f {Th Th' : Nat → Nat} {M M' : Nat → List ln_T} (h : ln_td Th M Th' M') (d : Nat) : ln_td Th M (ln_up Th' d 0) (ln_up M' d []) := by
  intro j
  by_cases e : j = d
  · subst e
    rw [ln_up_s, ln_up_s]
    exact Or.inr ⟨rfl, rfl⟩
  · rw [ln_up_n e, ln_up_n e]
    exact h j
theorem ln_xtidy_2 {post : SX → Prop} {n : Nat} (hn : f_setCount = nI n) (hn16 : n ≤ 16) {Th0 : Nat → Nat} {M0 : Nat → List ln_T} : ∀ (r d : Nat) (pc th : Nat → Int32) (M : Nat → List ln_T) (Th : Nat → Nat), d + r = n → ln_ps pc a_pairPart a_pairKey a_pairValue M → ln_ms th Th → ln_td Th0 M0 Th M →
    (∀ pc th M Th, ln_ps pc a_pairPart a_pairKey a_pairValue M → ln_ms th Th → ln_td Th0 M0 Th M → post (f_handCount, f_setCount, f_levelNow, f_chainLength, f_pairKeyNow, f_pairValueNow, f_orderCount, a_handKey, a_handValue, a_kindOf, a_fromX, a_numberA, a_numberB, a_sourceCount, a_sourceKey, a_sourceValue, pc, a_pairPart, a_pairKey, a_pairValue, th, a_kept, a_bigness, a_needed, a_users, a_chain, a_hasLocal, a_local, a_hasSum, a_sums, a_orderKey, a_orderValue)) → wX_tidy_2 post (r + 1) (nI d) f_handCount f_setCount f_levelNow f_chainLength f_pairKeyNow f_pairValueNow f_orderCount a_handKey a_handValue a_kindOf a_fromX a_numberA a_numberB a_sourceCount a_sourceKey a_sourceValue pc a_pairPart a_pairKey a_pairValue th a_kept a_bigness a_needed a_users a_chain a_hasLocal a_local a_hasSum a_sums a_orderKey a_orderValue := by
  intro r
  induction r with
  | zero =>
    intro d pc th M Th hd hp ht h k
    subst hn
    exact br_t (nI_le (by omega) (by omega)) (k pc th M Th hp ht h)
  | succ r ih =>
    intro d pc th M Th hd hp ht h k
    subst hn
    refine br_f (nI_ge (by omega) (by omega)) ⟨vp_in_nI (by omega) (by decide), br_c (fun _ => ?_) (fun _ => ?_)⟩
    · refine ln_xforget hp ht (by omega) fun pc' th' hp' ht' => nm_r (nI_1 d) ?_
      exact ih (d + 1) pc' th' _ _ (by omega) hp' ht' (ln_td_f h d) k
    · exact nm_r (nI_1 d) (ih (d + 1) pc th M Th (by omega) hp ht h k)
theorem ln_xtidy {post : SX → Prop} {n : Nat} (hn : f_setCount = nI n) (hn16 : n ≤ 16) {Th : Nat → Nat} {M : Nat → List ln_T} (hp : ln_ps a_pairCount a_pairPart a_pairKey a_pairValue M) (ht : ln_ms a_there Th)
    (k : ∀ pc th M' Th', ln_ps pc a_pairPart a_pairKey a_pairValue M' → ln_ms th Th' → ln_td Th M Th' M' → post (f_handCount, f_setCount, f_levelNow, f_chainLength, f_pairKeyNow, f_pairValueNow, f_orderCount, a_handKey, a_handValue, a_kindOf, a_fromX, a_numberA, a_numberB, a_sourceCount, a_sourceKey, a_sourceValue, pc, a_pairPart, a_pairKey, a_pairValue, th, a_kept, a_bigness, a_needed, a_users, a_chain, a_hasLocal, a_local, a_hasSum, a_sums, a_orderKey, a_orderValue)) : wpX_tidy post (f_handCount, f_setCount, f_levelNow, f_chainLength, f_pairKeyNow, f_pairValueNow, f_orderCount, a_handKey, a_handValue, a_kindOf, a_fromX, a_numberA, a_numberB, a_sourceCount, a_sourceKey, a_sourceValue, a_pairCount, a_pairPart, a_pairKey, a_pairValue, a_there, a_kept, a_bigness, a_needed, a_users, a_chain, a_hasLocal, a_local, a_hasSum, a_sums, a_orderKey, a_orderValue) := by
  unfold wpX_tidy
  exact ⟨n + 1, ln_xtidy_2 hn hn16 n 0 _ _ M Th (by omega) hp ht (ln_td_r Th M) k⟩
end
end
section
section
def ln_pl (n : Nat) (P : Nat → ln_E) (K X A B G GK GV : Nat → Int32) : Prop := ∀ d, d < n →
  K d = nI (ln_ka (P d)) ∧ (ln_ka (P d) ≠ 0 → X d = nI (ln_fx (P d))) ∧ A d = ln_aa (P d) ∧ B d = ln_bb (P d) ∧
  (ln_ka (P d) = 0 → G d = nI (ln_sr (P d)).length ∧ ∀ i q, (ln_sr (P d))[i]? = some q → GK (24 * d + i) = nI q.1 ∧ GV (24 * d + i) = q.2)
/-- what is there of set d: nothing, or just the parts in Th d of a content that isn't big -/
def ln_gd (C : Nat → Option (List ln_T)) (Th : Nat → Nat) (M : Nat → List ln_T) (d : Nat) : Prop :=
  (Th d = 0 ∧ M d = []) ∨ ∃ L, C d = some L ∧ (M d).Perm (L.filter (ln_in (Th d)))
theorem ln_gd_some {C : Nat → Option (List ln_T)} {Th : Nat → Nat} {M : Nat → List ln_T} {d : Nat} (h : ln_gd C Th M d) (hz : Th d ≠ 0) : ∃ L, C d = some L ∧ (M d).Perm (L.filter (ln_in (Th d))) := h.resolve_left fun z => hz z.1
theorem ln_gd_ne {C : Nat → Option (List ln_T)} {Th : Nat → Nat} {M : Nat → List ln_T} {d : Nat} (h : ln_gd C Th M d) (hz : Th d ≠ 0) : C d ≠ none := by
  obtain ⟨L, e, _⟩ := ln_gd_some h hz
  rw [e]
  exact Option.some_ne_none _
theorem ln_gd_perm {C : Nat → Option (List ln_T)} {Th : Nat → Nat} {M : Nat → List ln_T} {d : Nat} {L : List ln_T} (h : ln_gd C Th M d) (hL : C d = some L) : (M d).Perm (L.filter (ln_in (Th d))) := by
  rcases h with ⟨a, b⟩ | ⟨L', e, p⟩
  · rw [a, b, ln_fil_0]
  · rw [hL] at e
    cases e
    exact p
theorem ln_gd_td {C : Nat → Option (List ln_T)} {Th Th' : Nat → Nat} {M M' : Nat → List ln_T} {d : Nat} (h : ln_gd C Th M d) (t : ln_td Th M Th' M') : ln_gd C Th' M' d := by
  unfold ln_gd
  rcases t d with ⟨a, b⟩ | ⟨a, b⟩
  · rw [a, b]; exact h
  · exact Or.inl ⟨a, b⟩
def ln_us (e : ln_E) (s : Nat) : Prop := s = ln_fx e ∨ (ln_two (ln_ka e) ∧ s = ln_an e)
def ln_act (P : Nat → ln_E) (N : Nat → Nat) (u : Nat) : Prop := N u ≠ 0 ∧ ln_ka (P u) ≠ 0
def ln_pa (P : Nat → ln_E) (N : Nat → Nat) (u : Nat) : Nat := if ln_wid (ln_ka (P u)) then 15 else N u
theorem ln_us_lt {d s : Nat} {e : ln_E} (w : ln_we d e) (hk : ln_ka e ≠ 0) (h : ln_us e s) : s < d := by
  rcases h with rfl | ⟨h2, rfl⟩
  · exact w.2.1 hk
  · exact (w.2.2.1 h2).1
theorem ln_us_ne {n : Nat} {P : Nat → ln_E} {C : Nat → Option (List ln_T)} (c : ln_ct n P C) {d s : Nat} (hd : d < n) (h : C d ≠ none) (hk : ln_ka (P d) ≠ 0) (hs : ln_us (P d) s) : C s ≠ none := by
  rcases hs with rfl | ⟨h2, rfl⟩
  · exact ln_ct_x c hd h hk
  · exact ln_ct_a c hd h h2
/-- what the backward pass knows when the sets from r on are done -/
def ln_nv (P : Nat → ln_E) (C : Nat → Option (List ln_T)) (Th : Nat → Nat) (d r : Nat) (N U : Nat → Nat) : Prop :=
  N d = ln_df 15 (Th d) ∧ (∀ j, d < j → N j = 0) ∧
  (∀ u, r ≤ u → u ≤ d → ln_act P N u → ∀ s, ln_us (P u) s → ln_sb (ln_pa P N u) (N s ||| Th s) ∧ 1 ≤ U s) ∧
  (∀ j p, p < 4 → (N j).testBit p = true → (Th j).testBit p = false) ∧
  (∀ j, j ≤ d → N j ≠ 0 → C j ≠ none ∨ ln_sb 15 (N j ||| Th j)) ∧
  (∀ u u', r ≤ u → u ≤ d → r ≤ u' → u' ≤ d → u ≠ u' → ln_act P N u → ln_act P N u' → ∀ s, ln_us (P u) s → ln_us (P u') s → 2 ≤ U s) ∧
  (∀ j, j ≤ d → N j ≠ 0 → C d ≠ none → C j ≠ none)
theorem ln_nv_0 {P : Nat → ln_E} {C : Nat → Option (List ln_T)} {Th : Nat → Nat} {d : Nat} (hT : Th d < 16) : ln_nv P C Th d (d + 1) (ln_up (fun _ => 0) d (ln_df 15 (Th d))) (fun _ => 0) := by
  have hb : ∀ p, p < 4 → (ln_df 15 (Th d)).testBit p = !(Th d).testBit p := fun p hp => by
    rw [ln_df_b (by decide) hT hp, ln_b15 p hp]; rfl
  refine ⟨ln_up_s, fun j hj => ln_up_n (by omega), fun u h1 h2 => absurd h1 (by omega), fun j p hp h => ?_, fun j hj h => ?_, fun u u' h1 h2 => absurd h1 (by omega), fun j hj h hc => ?_⟩
  · by_cases e : j = d
    · subst e
      rw [ln_up_s, hb p hp] at h
      cases z : (Th j).testBit p with
      | false => rfl
      | true => rw [z] at h; exact Bool.noConfusion h
    · rw [ln_up_n e, ln_b0] at h
      exact Bool.noConfusion h
  · by_cases e : j = d
    · subst e
      refine Or.inr fun p hp _ => ?_
      rw [ln_up_s, Nat.testBit_or, hb p hp]
      cases (Th j).testBit p <;> rfl
    · rw [ln_up_n e] at h
      exact absurd rfl h
  · by_cases e : j = d
    · subst e; exact hc
    · rw [ln_up_n e] at h
      exact absurd rfl h
theorem ln_nv_skip {P : Nat → ln_E} {C : Nat → Option (List ln_T)} {Th : Nat → Nat} {d r : Nat} {N U : Nat → Nat} (h : ln_nv P C Th d (r + 1) N U) (hi : ¬ ln_act P N r) : ln_nv P C Th d r N U := by
  obtain ⟨a, b, c, e, f, g, z⟩ := h
  have ne : ∀ u, r ≤ u → ln_act P N u → r + 1 ≤ u := fun u h1 h2 => by
    by_cases z : u = r
    · subst z; exact absurd h2 hi
    · omega
  exact ⟨a, b, fun u h1 h2 h3 => c u (ne u h1 h3) h2 h3, e, f, fun u u' h1 h2 h3 h4 h5 h6 h7 => g u u' (ne u h1 h6) h2 (ne u' h3 h7) h4 h5 h6 h7, z⟩
theorem ln_nv_step {n : Nat} {P : Nat → ln_E} {C : Nat → Option (List ln_T)} {Th : Nat → Nat} {M : Nat → List ln_T} {d r : Nat} {N U N' U' : Nat → Nat} (w : ln_wf n P) (ct : ln_ct n P C) (hd : d < n) (hg : ∀ j, j < n → ln_gd C Th M j) (h : ln_nv P C Th d (r + 1) N U) (hr : r ≤ d) (ha : ln_act P N r)
    (g1 : ∀ j, r ≤ j → N' j = N j) (g2 : ∀ j, ln_sb (N j) (N' j)) (g3 : ∀ j, U j ≤ U' j) (g4 : ∀ j p, p < 4 → (N' j).testBit p = true → (Th j).testBit p = false)
    (g5 : ∀ s, ln_us (P r) s → ln_sb (ln_pa P N r) (N' s ||| Th s) ∧ U s + 1 ≤ U' s) (g6 : ∀ j, N' j ≠ 0 → N j ≠ 0 ∨ ln_us (P r) j) : ln_nv P C Th d r N' U' := by
  obtain ⟨a, b, c, e, f, g, zz⟩ := h
  have act : ∀ u, r ≤ u → (ln_act P N' u ↔ ln_act P N u) := fun u hu => by unfold ln_act; rw [g1 u hu]
  have par : ∀ u, r ≤ u → ln_pa P N' u = ln_pa P N u := fun u hu => by unfold ln_pa; rw [g1 u hu]
  have mono : ∀ (m s : Nat), ln_sb m (N s ||| Th s) → ln_sb m (N' s ||| Th s) := fun m s hm p hp hb => by
    have := hm p hp hb
    rw [Nat.testBit_or] at this ⊢
    cases z : (N s).testBit p with
    | true => rw [g2 s p hp z]; rfl
    | false => rw [z, Bool.false_or] at this; rw [this, Bool.or_true]
  refine ⟨by rw [g1 d hr]; exact a, fun j hj => by rw [g1 j (by omega)]; exact b j hj, ?_, g4, ?_, ?_, ?_⟩
  · intro u h1 h2 h3 s hs
    rw [par u h1]
    by_cases z : u = r
    · subst z
      have := g5 s hs
      exact ⟨this.1, by omega⟩
    · have := c u (by omega) h2 ((act u h1).mp h3) s hs
      exact ⟨mono _ _ this.1, Nat.le_trans this.2 (g3 s)⟩
  · intro j hj hn
    rcases g6 j hn with h1 | h1
    · rcases f j hj h1 with h2 | h2
      · exact Or.inl h2
      · exact Or.inr (mono _ _ h2)
    · have h5 := (g5 j h1).1
      unfold ln_pa at h5
      split at h5
      · exact Or.inr h5
      · rcases f r hr ha.1 with h2 | h2
        · exact Or.inl (ln_us_ne ct (by omega) h2 ha.2 h1)
        · by_cases hz : Th r = 0
          · rw [hz, Nat.or_zero] at h2
            exact Or.inr (ln_sb_t h2 h5)
          · exact Or.inl (ln_us_ne ct (by omega) (ln_gd_ne (hg r (by omega)) hz) ha.2 h1)
  · intro u u' h1 h2 h3 h4 h5 h6 h7 s h8 h9
    have h6' := (act u h1).mp h6
    have h7' := (act u' h3).mp h7
    by_cases z : u = r
    · subst z
      have q1 := (g5 s h8).2
      have q2 := (c u' (by omega) h4 h7' s h9).2
      omega
    · by_cases z' : u' = r
      · subst z'
        have q1 := (g5 s h9).2
        have q2 := (c u (by omega) h2 h6' s h8).2
        omega
      · have := g u u' (by omega) h2 (by omega) h4 h5 h6' h7' s h8 h9
        exact Nat.le_trans this (g3 s)
  · intro j hj hn hc
    rcases g6 j hn with h1 | h1
    · exact zz j hj h1 hc
    · exact ln_us_ne ct (by omega) (zz r hr ha.1 hc) ha.2 h1
/-- one call of need -/
def ln_n1 (Th N : Nat → Nat) (x m : Nat) : Nat → Nat := ln_up N x (N x ||| ln_df m (Th x))
theorem ln_n1_s {Th N : Nat → Nat} {x m : Nat} (hm : m < 16) (hT : Th x < 16) : ln_sb m (ln_n1 Th N x m x ||| Th x) := by
  intro p hp h
  unfold ln_n1
  rw [ln_up_s, Nat.testBit_or, Nat.testBit_or, ln_df_b hm hT hp, h]
  cases (Th x).testBit p <;> cases (N x).testBit p <;> rfl
theorem ln_n1_g {Th N : Nat → Nat} {x m : Nat} (j : Nat) : ln_sb (N j) (ln_n1 Th N x m j) := by
  intro p hp h
  unfold ln_n1
  by_cases e : j = x
  · subst e
    rw [ln_up_s, Nat.testBit_or, h]
    rfl
  · rw [ln_up_n e]
    exact h
theorem ln_n1_d {Th N : Nat → Nat} {x m : Nat} (hm : m < 16) (hT : Th x < 16) (h : ∀ j p, p < 4 → (N j).testBit p = true → (Th j).testBit p = false) : ∀ j p, p < 4 → (ln_n1 Th N x m j).testBit p = true → (Th j).testBit p = false := by
  intro j p hp hb
  unfold ln_n1 at hb
  by_cases e : j = x
  · subst e
    rw [ln_up_s, Nat.testBit_or, ln_df_b hm hT hp] at hb
    cases z : (N j).testBit p with
    | true => exact h j p hp z
    | false =>
      rw [z] at hb
      cases y : (Th j).testBit p with
      | false => rfl
      | true => rw [y, Bool.not_true, Bool.and_false] at hb; exact Bool.noConfusion hb
  · rw [ln_up_n e] at hb
    exact h j p hp hb
theorem ln_nv_1 {n : Nat} {P : Nat → ln_E} {C : Nat → Option (List ln_T)} {Th : Nat → Nat} {M : Nat → List ln_T} {d r : Nat} {N U : Nat → Nat} (w : ln_wf n P) (ct : ln_ct n P C) (hd : d < n) (hT : ∀ j, j < n → Th j < 16) (hg : ∀ j, j < n → ln_gd C Th M j) (h : ln_nv P C Th d (r + 1) N U) (hr : r ≤ d) (ha : ln_act P N r) (hp : ln_pa P N r < 16) (h2 : ¬ ln_two (ln_ka (P r))) :
    ln_nv P C Th d r (ln_n1 Th N (ln_fx (P r)) (ln_pa P N r)) (ln_up U (ln_fx (P r)) (U (ln_fx (P r)) + 1)) := by
  have hx : ln_fx (P r) < r := (w r (by omega)).2.1 ha.2
  have hTx := hT (ln_fx (P r)) (by omega)
  refine ln_nv_step w ct hd hg h hr ha (fun j hj => ln_up_n (by omega)) (fun j => ln_n1_g j) (fun j => ?_) (ln_n1_d hp hTx h.2.2.2.1) (fun s hs => ?_) (fun j hj => ?_)
  · by_cases e : j = ln_fx (P r)
    · subst e; rw [ln_up_s]; omega
    · rw [ln_up_n e]; omega
  · rcases hs with rfl | ⟨z, _⟩
    · rw [ln_up_s]
      exact ⟨ln_n1_s hp hTx, Nat.le_refl _⟩
    · exact absurd z h2
  · by_cases e : j = ln_fx (P r)
    · exact Or.inr (Or.inl e)
    · unfold ln_n1 at hj
      rw [ln_up_n e] at hj
      exact Or.inl hj
theorem ln_nv_2 {n : Nat} {P : Nat → ln_E} {C : Nat → Option (List ln_T)} {Th : Nat → Nat} {M : Nat → List ln_T} {d r : Nat} {N U : Nat → Nat} (w : ln_wf n P) (ct : ln_ct n P C) (hd : d < n) (hT : ∀ j, j < n → Th j < 16) (hg : ∀ j, j < n → ln_gd C Th M j) (h : ln_nv P C Th d (r + 1) N U) (hr : r ≤ d) (ha : ln_act P N r) (hp : ln_pa P N r < 16) (h2 : ln_two (ln_ka (P r))) :
    ln_nv P C Th d r (ln_n1 Th (ln_n1 Th N (ln_fx (P r)) (ln_pa P N r)) (ln_an (P r)) (ln_pa P N r)) (ln_up (ln_up U (ln_fx (P r)) (U (ln_fx (P r)) + 1)) (ln_an (P r)) (ln_up U (ln_fx (P r)) (U (ln_fx (P r)) + 1) (ln_an (P r)) + 1)) := by
  have hx : ln_fx (P r) < r := (w r (by omega)).2.1 ha.2
  have hy : ln_an (P r) < r := ((w r (by omega)).2.2.1 h2).1
  have hTx := hT (ln_fx (P r)) (by omega)
  have hTy := hT (ln_an (P r)) (by omega)
  have uu : ∀ (V : Nat → Nat) (x j : Nat), V j ≤ ln_up V x (V x + 1) j := fun V x j => by
    by_cases e : j = x
    · subst e; rw [ln_up_s]; omega
    · rw [ln_up_n e]; omega
  refine ln_nv_step w ct hd hg h hr ha (fun j hj => (ln_up_n (by omega)).trans (ln_up_n (by omega))) (fun j => ln_sb_t (ln_n1_g j) (ln_n1_g j)) (fun j => Nat.le_trans (uu U _ j) (uu _ _ j)) (ln_n1_d hp hTy (ln_n1_d hp hTx h.2.2.2.1)) (fun s hs => ?_) (fun j hj => ?_)
  · rcases hs with rfl | ⟨_, rfl⟩
    · refine ⟨?_, ?_⟩
      · have := ln_n1_s (N := N) hp hTx
        intro p hp' hb
        have z := this p hp' hb
        rw [Nat.testBit_or] at z ⊢
        cases y : (ln_n1 Th N (ln_fx (P r)) (ln_pa P N r) (ln_fx (P r))).testBit p with
        | true => rw [ln_n1_g _ p hp' y]; rfl
        | false => rw [y, Bool.false_or] at z; rw [z, Bool.or_true]
      · refine Nat.le_trans ?_ (uu _ _ _)
        rw [ln_up_s]
        exact Nat.le_refl _
    · refine ⟨ln_n1_s hp hTy, ?_⟩
      rw [ln_up_s]
      exact Nat.succ_le_succ (uu U _ _)
  · by_cases e : j = ln_an (P r)
    · exact Or.inr (Or.inr ⟨h2, e⟩)
    · by_cases e' : j = ln_fx (P r)
      · exact Or.inr (Or.inl e')
      · unfold ln_n1 at hj
        rw [ln_up_n e, ln_up_n e'] at hj
        exact Or.inl hj
end
end
section
section
variable {f_handCount f_setCount f_levelNow f_chainLength f_pairKeyNow f_pairValueNow f_orderCount : Int32} {a_handKey a_handValue a_kindOf a_fromX a_numberA a_numberB a_sourceCount a_sourceKey a_sourceValue a_pairCount a_pairPart a_pairKey a_pairValue a_there a_kept a_bigness a_needed a_users a_chain a_hasLocal a_local a_hasSum a_sums a_orderKey a_orderValue : Nat → Int32}
def ln_uc (us : Nat → Int32) (U : Nat → Nat) (b : Nat) : Prop := ∀ d, d < 16 → us d = nI (U d) ∧ U d ≤ b
theorem ln_uc_u {us : Nat → Int32} {U : Nat → Nat} {b x : Nat} (h : ln_uc us U b) (hx : x < 16) : ln_uc (upd us x (nI (U x + 1))) (ln_up U x (U x + 1)) (b + 1) := by
  intro j hj
  by_cases e : j = x
  · subst e
    rw [pk_us, ln_up_s]
    exact ⟨rfl, Nat.succ_le_succ (h j hj).2⟩
  · rw [pk_un e, ln_up_n e]
    exact ⟨(h j hj).1, Nat.le_succ_of_le (h j hj).2⟩
theorem ln_uc_m {us : Nat → Int32} {U : Nat → Nat} {b c : Nat} (h : ln_uc us U b) (hb : b ≤ c) : ln_uc us U c := fun j hj => ⟨(h j hj).1, Nat.le_trans (h j hj).2 hb⟩
theorem ln_xneed {post : SX → Prop} {Th N U : Nat → Nat} {x m b : Nat} (hN : ln_ms a_needed N) (hU : ln_uc a_users U b) (hb : b < 100) (hT : ln_ms a_there Th) (hx : x < 16) (hm : m < 16)
    (k : ∀ nd us, ln_ms nd (ln_n1 Th N x m) → ln_uc us (ln_up U x (U x + 1)) (b + 1) → post (f_handCount, f_setCount, f_levelNow, f_chainLength, f_pairKeyNow, f_pairValueNow, f_orderCount, a_handKey, a_handValue, a_kindOf, a_fromX, a_numberA, a_numberB, a_sourceCount, a_sourceKey, a_sourceValue, a_pairCount, a_pairPart, a_pairKey, a_pairValue, a_there, a_kept, a_bigness, nd, us, a_chain, a_hasLocal, a_local, a_hasSum, a_sums, a_orderKey, a_orderValue)) : wpX_need post (f_handCount, f_setCount, f_levelNow, f_chainLength, f_pairKeyNow, f_pairValueNow, f_orderCount, a_handKey, a_handValue, a_kindOf, a_fromX, a_numberA, a_numberB, a_sourceCount, a_sourceKey, a_sourceValue, a_pairCount, a_pairPart, a_pairKey, a_pairValue, a_there, a_kept, a_bigness, a_needed, a_users, a_chain, a_hasLocal, a_local, a_hasSum, a_sums, a_orderKey, a_orderValue) (nI x) (nI m) := by
  have hin : vp_in (nI x) 16 := vp_in_nI hx (by decide)
  have e1 := (hN x hx).1
  have e2 := (hT x hx).1
  have e3 := (hU x hx).1
  have h1 := (hN x hx).2
  have h2 := ln_df_lt hm (hT x hx).2
  have h3 := (hU x hx).2
  have h4 := ln_or_lt h1 h2
  unfold wpX_need
  dsimp only
  refine ⟨hin, hin, hin, nm_r (e' := upd a_needed x (nI (N x ||| ln_df m (Th x)))) (by rw [nI_clamp (by omega), e1, e2, ln_diff hm (hT x hx).2, ln_or h1 h2, ln_nb8 (by omega)]) ⟨hin, hin, nm_r (e' := upd a_users x (nI (U x + 1))) (by rw [nI_clamp (by omega), e3, nI_1, ln_nb8 (by omega)]) ?_⟩⟩
  exact k _ _ (ln_ms_u hN h4) (ln_uc_u hU hx)
theorem ln_xfn97 {post : SX → Prop} {J48 : ln_J8}
    {n : Nat} {P : Nat → ln_E} {C : Nat → Option (List ln_T)} {M : Nat → List ln_T} {Th N U : Nat → Nat} {d r b : Nat} (hn16 : n ≤ 16) (pl : ln_pl n P a_kindOf a_fromX a_numberA a_numberB a_sourceCount a_sourceKey a_sourceValue) (w : ln_wf n P) (ct : ln_ct n P C) (hd : d < n) (hT : ln_ms a_there Th) (hg : ∀ j, j < n → ln_gd C Th M j)
    (h : ln_nv P C Th d (r + 1) N U) (hr : r ≤ d) (ha : ln_act P N r) (hp : ln_pa P N r < 16) (hN : ln_ms a_needed N) (hU : ln_uc a_users U b) (hb : b + 2 < 100)
    (k : ∀ nd us N' U', ln_ms nd N' → ln_uc us U' (b + 2) → ln_nv P C Th d r N' U' → J48 (nI r + (-1)) f_handCount f_setCount f_levelNow f_chainLength f_pairKeyNow f_pairValueNow f_orderCount a_handKey a_handValue a_kindOf a_fromX a_numberA a_numberB a_sourceCount a_sourceKey a_sourceValue a_pairCount a_pairPart a_pairKey a_pairValue a_there a_kept a_bigness nd us a_chain a_hasLocal a_local a_hasSum a_sums a_orderKey a_orderValue) : wX_findNeeded_97 post J48 (nI r) (nI (ln_pa P N r)) f_handCount f_setCount f_levelNow f_chainLength f_pairKeyNow f_pairValueNow f_orderCount a_handKey a_handValue a_kindOf a_fromX a_numberA a_numberB a_sourceCount a_sourceKey a_sourceValue a_pairCount a_pairPart a_pairKey a_pairValue a_there a_kept a_bigness a_needed a_users a_chain a_hasLocal a_local a_hasSum a_sums a_orderKey a_orderValue := by
  have wr := w r (by omega)
  have pr := pl r (by omega)
  have hx := wr.2.1 ha.2
  have hin : vp_in (nI r) 16 := vp_in_nI (by omega) (by decide)
  have eX : a_fromX (nI r).toNatClampNeg = nI (ln_fx (P r)) := by rw [nI_clamp (by omega)]; exact pr.2.1 ha.2
  have eK : a_kindOf (nI r).toNatClampNeg = nI (ln_ka (P r)) := by rw [nI_clamp (by omega)]; exact pr.1
  have hTn : ∀ j, j < n → Th j < 16 := fun j hj => (hT j (by omega)).2
  have hka := wr.1
  unfold wX_findNeeded_97
  rw [eX]
  refine ⟨hin, ?_⟩
  refine ln_xneed hN hU (by omega) hT (by omega) hp fun nd us hN' hU' => ?_
  dsimp only
  rw [eK]
  refine ⟨hin, ?_⟩
  refine ln_xhasTwo (by omega) (fun h2 => ?_) (fun h2 => ?_)
  · have hy := wr.2.2.1 h2
    have eA : a_numberA (nI r).toNatClampNeg = nI (ln_an (P r)) := by rw [nI_clamp (by omega), pr.2.2.1]; exact hy.2
    refine br_f ln_10 ⟨hin, ?_⟩
    rw [eA]
    refine ln_xneed hN' hU' (by omega) hT (by omega) hp fun nd us hN'' hU'' => ?_
    exact nm_e (k nd us _ _ hN'' hU'' (ln_nv_2 w ct hd hTn hg h hr ha hp h2))
  · refine br_t rfl ?_
    exact nm_e (k nd us _ _ hN' (ln_uc_m hU' (by omega)) (ln_nv_1 w ct hd hTn hg h hr ha hp h2))
theorem ln_m1lt : nI 0 + (-1) < 0 := by decide
theorem ln_xfn48 {post : SX → Prop} {n : Nat} {P : Nat → ln_E} {C : Nat → Option (List ln_T)} {M : Nat → List ln_T} {Th : Nat → Nat} {d : Nat} (hn16 : n ≤ 16) (pl : ln_pl n P a_kindOf a_fromX a_numberA a_numberB a_sourceCount a_sourceKey a_sourceValue) (w : ln_wf n P) (ct : ln_ct n P C) (hd : d < n) (hT : ln_ms a_there Th) (hg : ∀ j, j < n → ln_gd C Th M j)
    (k : ∀ nd us N U, ln_ms nd N → ln_uc us U 34 → ln_nv P C Th d 0 N U → post (f_handCount, f_setCount, f_levelNow, f_chainLength, f_pairKeyNow, f_pairValueNow, f_orderCount, a_handKey, a_handValue, a_kindOf, a_fromX, a_numberA, a_numberB, a_sourceCount, a_sourceKey, a_sourceValue, a_pairCount, a_pairPart, a_pairKey, a_pairValue, a_there, a_kept, a_bigness, nd, us, a_chain, a_hasLocal, a_local, a_hasSum, a_sums, a_orderKey, a_orderValue)) : ∀ (r : Nat) (nd us : Nat → Int32) (N U : Nat → Nat), r ≤ d + 1 → ln_ms nd N → ln_uc us U (2 * (d + 1 - r)) → ln_nv P C Th d r N U → wX_findNeeded_48 post (r + 1) (nI r + (-1)) f_handCount f_setCount f_levelNow f_chainLength f_pairKeyNow f_pairValueNow f_orderCount a_handKey a_handValue a_kindOf a_fromX a_numberA a_numberB a_sourceCount a_sourceKey a_sourceValue a_pairCount a_pairPart a_pairKey a_pairValue a_there a_kept a_bigness nd us a_chain a_hasLocal a_local a_hasSum a_sums a_orderKey a_orderValue := by
  intro r
  induction r with
  | zero =>
    intro nd us N U hr hN hU h
    exact br_t ln_m1lt (k nd us N U hN (ln_uc_m hU (by omega)) h)
  | succ r ih =>
    intro nd us N U hr hN hU h
    have hin : vp_in (nI r) 16 := vp_in_nI (by omega) (by decide)
    have eN : nd (nI r).toNatClampNeg = nI (N r) := by rw [nI_clamp (by omega)]; exact (hN r (by omega)).1
    have eK : a_kindOf (nI r).toNatClampNeg = nI (ln_ka (P r)) := by rw [nI_clamp (by omega)]; exact (pl r (by omega)).1
    have hN16 := (hN r (by omega)).2
    have hka := (w r (by omega)).1
    rw [pk_m1]
    unfold wX_findNeeded_48
    rw [eN, eK]
    refine br_f (nI_pos (by omega)) ⟨hin, pk_eq (N r) 0 (fun hz => ?_) (fun hz => ?_)⟩
    · exact nm_e (ih nd us N U (by omega) hN (ln_uc_m hU (by omega)) (ln_nv_skip h (fun z => z.1 hz)))
    · refine ⟨hin, pk_eq (ln_ka (P r)) 0 (fun hk => ?_) (fun hk => ?_)⟩
      · exact nm_e (ih nd us N U (by omega) hN (ln_uc_m hU (by omega)) (ln_nv_skip h (fun z => z.2 hk)))
      · refine ⟨hin, ?_⟩
        have ha : ln_act P N r := ⟨hz, hk⟩
        have kk : ∀ nd us N' U', ln_ms nd N' → ln_uc us U' (2 * (d + 1 - (r + 1)) + 2) → ln_nv P C Th d r N' U' → wX_findNeeded_48 post (r + 1) (nI r + (-1)) f_handCount f_setCount f_levelNow f_chainLength f_pairKeyNow f_pairValueNow f_orderCount a_handKey a_handValue a_kindOf a_fromX a_numberA a_numberB a_sourceCount a_sourceKey a_sourceValue a_pairCount a_pairPart a_pairKey a_pairValue a_there a_kept a_bigness nd us a_chain a_hasLocal a_local a_hasSum a_sums a_orderKey a_orderValue := fun nd us N' U' a b c => ih nd us N' U' (by omega) a (ln_uc_m b (by omega)) c
        refine ln_xisWide (by omega) (fun hw => ?_) (fun hw => ?_)
        · have e : ln_pa P N r = 15 := if_pos hw
          have := ln_xfn97 (post := post) hn16 pl w ct hd hT hg h (by omega) ha (by rw [e]; decide) hN hU (by omega) kk
          rw [e] at this
          exact br_f ln_10 this
        · have e : ln_pa P N r = N r := if_neg hw
          have := ln_xfn97 (post := post) hn16 pl w ct hd hT hg h (by omega) ha (by rw [e]; exact hN16) hN hU (by omega) kk
          rw [e] at this
          exact br_t rfl ⟨hin, this⟩
theorem ln_xfn2 {post : SX → Prop} {n : Nat} {P : Nat → ln_E} {C : Nat → Option (List ln_T)} {M : Nat → List ln_T} {Th : Nat → Nat} {d : Nat} (hn16 : n ≤ 16) (pl : ln_pl n P a_kindOf a_fromX a_numberA a_numberB a_sourceCount a_sourceKey a_sourceValue) (w : ln_wf n P) (ct : ln_ct n P C) (hd : d < n) (hT : ln_ms a_there Th) (hg : ∀ j, j < n → ln_gd C Th M j)
    (k : ∀ nd us N U, ln_ms nd N → ln_uc us U 34 → ln_nv P C Th d 0 N U → post (f_handCount, f_setCount, f_levelNow, f_chainLength, f_pairKeyNow, f_pairValueNow, f_orderCount, a_handKey, a_handValue, a_kindOf, a_fromX, a_numberA, a_numberB, a_sourceCount, a_sourceKey, a_sourceValue, a_pairCount, a_pairPart, a_pairKey, a_pairValue, a_there, a_kept, a_bigness, nd, us, a_chain, a_hasLocal, a_local, a_hasSum, a_sums, a_orderKey, a_orderValue)) : ∀ (r i : Nat) (nd us : Nat → Int32), i + r = 16 → (∀ j, j < i → nd j = 0 ∧ us j = 0) → wX_findNeeded_2 post (nI d) f_handCount f_setCount f_levelNow f_chainLength f_pairKeyNow f_pairValueNow f_orderCount (r + 1) (nI i) a_handKey a_handValue a_kindOf a_fromX a_numberA a_numberB a_sourceCount a_sourceKey a_sourceValue a_pairCount a_pairPart a_pairKey a_pairValue a_there a_kept a_bigness nd us a_chain a_hasLocal a_local a_hasSum a_sums a_orderKey a_orderValue := by
  intro r
  induction r with
  | zero =>
    intro i nd us hi h
    obtain rfl : i = 16 := by omega
    have hin : vp_in (nI d) 16 := vp_in_nI (by omega) (by decide)
    have hTd := hT d (by omega)
    have hdf := ln_df_lt (a := 15) (by decide) hTd.2
    refine br_t (nI_le (a := 16) (b := 16) (by omega) (by decide)) ⟨hin, hin, nm_r (e' := upd nd d (nI (ln_df 15 (Th d)))) ?_ ?_⟩
    · rw [nI_clamp (by omega), hTd.1]
      have : (15 : Int32) &&& (nI (Th d) ^^^ (-1)) = nI (ln_df 15 (Th d)) := ln_diff (a := 15) (by decide) hTd.2
      rw [this, ln_nb8 (by omega)]
    · refine ⟨d + 2, ?_⟩
      have := ln_xfn48 (post := post) hn16 pl w ct hd hT hg k (d + 1) (upd nd d (nI (ln_df 15 (Th d)))) us (ln_up (fun _ => 0) d (ln_df 15 (Th d))) (fun _ => 0) (by omega) ?_ ?_ (ln_nv_0 hTd.2)
      · rw [pk_m1] at this
        exact this
      · exact ln_ms_u (fun j hj => ⟨(h j hj).1, (by decide : 0 < 16)⟩) hdf
      · exact fun j hj => ⟨(h j hj).2, Nat.zero_le _⟩
  | succ r ih =>
    intro i nd us hi h
    have hin : vp_in (nI i) 16 := vp_in_nI (by omega) (by decide)
    refine br_f (nI_ge (b := 16) (by omega) (by decide)) ⟨hin, nm_r (e' := upd nd i 0) (by rw [nI_clamp (by omega), ln_vy0]) ⟨hin, nm_r (e' := upd us i 0) (by rw [nI_clamp (by omega), ln_vy0]) (nm_r (nI_1 i) ?_)⟩⟩
    refine ih (i + 1) _ _ (by omega) fun j hj => ?_
    by_cases e : j = i
    · subst e
      rw [pk_us, pk_us]
      exact ⟨rfl, rfl⟩
    · rw [pk_un e, pk_un e]
      exact h j (by omega)
theorem ln_xfindNeeded {post : SX → Prop} {n : Nat} {P : Nat → ln_E} {C : Nat → Option (List ln_T)} {M : Nat → List ln_T} {Th : Nat → Nat} {d : Nat} (hn16 : n ≤ 16) (pl : ln_pl n P a_kindOf a_fromX a_numberA a_numberB a_sourceCount a_sourceKey a_sourceValue) (w : ln_wf n P) (ct : ln_ct n P C) (hd : d < n) (hT : ln_ms a_there Th) (hg : ∀ j, j < n → ln_gd C Th M j)
    (k : ∀ nd us N U, ln_ms nd N → ln_uc us U 34 → ln_nv P C Th d 0 N U → post (f_handCount, f_setCount, f_levelNow, f_chainLength, f_pairKeyNow, f_pairValueNow, f_orderCount, a_handKey, a_handValue, a_kindOf, a_fromX, a_numberA, a_numberB, a_sourceCount, a_sourceKey, a_sourceValue, a_pairCount, a_pairPart, a_pairKey, a_pairValue, a_there, a_kept, a_bigness, nd, us, a_chain, a_hasLocal, a_local, a_hasSum, a_sums, a_orderKey, a_orderValue)) : wpX_findNeeded post (f_handCount, f_setCount, f_levelNow, f_chainLength, f_pairKeyNow, f_pairValueNow, f_orderCount, a_handKey, a_handValue, a_kindOf, a_fromX, a_numberA, a_numberB, a_sourceCount, a_sourceKey, a_sourceValue, a_pairCount, a_pairPart, a_pairKey, a_pairValue, a_there, a_kept, a_bigness, a_needed, a_users, a_chain, a_hasLocal, a_local, a_hasSum, a_sums, a_orderKey, a_orderValue) (nI d) := by
  unfold wpX_findNeeded
  exact ⟨17, ln_xfn2 hn16 pl w ct hd hT hg k 16 0 _ _ rfl (fun j hj => absurd hj (by omega))⟩
/-- a step that is passed over -/
def ln_po (P : Nat → ln_E) (Th N U : Nat → Nat) (d s : Nat) : Prop :=
  ln_stp (ln_ka (P s)) ∧ Th s = 0 ∧ U s = 1 ∧ s ≠ d ∧ ∃ u, u ≤ d ∧ ln_act P N u ∧ ln_us (P u) s ∧ ln_stp (ln_ka (P u))
theorem ln_xpo59 {post : Int32 → Prop} {n : Nat} {P : Nat → ln_E} {Th N U : Nat → Nat} {d s : Nat} (hn16 : n ≤ 16) (pl : ln_pl n P a_kindOf a_fromX a_numberA a_numberB a_sourceCount a_sourceKey a_sourceValue) (w : ln_wf n P) (hd : d < n) (hs : s < 16) (hN : ln_ms a_needed N)
    (k0 : post 0) (k1 : (∃ u, u ≤ d ∧ ln_act P N u ∧ ln_us (P u) s ∧ ln_stp (ln_ka (P u))) → post 1) : ∀ (r u : Nat), u + r = d + 1 → wX_isPassedOver_59 post (nI s) (nI d) f_handCount f_setCount f_levelNow f_chainLength f_pairKeyNow f_pairValueNow f_orderCount a_handKey a_handValue a_kindOf a_fromX a_numberA a_numberB a_sourceCount a_sourceKey a_sourceValue a_pairCount a_pairPart a_pairKey a_pairValue a_there a_kept a_bigness a_needed a_users a_chain a_hasLocal a_local a_hasSum a_sums a_orderKey a_orderValue (r + 1) (nI u) := by
  intro r
  induction r with
  | zero =>
    intro u hu
    exact br_t (nI_lt (by omega) (by omega)) k0
  | succ r ih =>
    intro u hu
    have hin : vp_in (nI u) 16 := vp_in_nI (by omega) (by decide)
    have pu := pl u (by omega)
    have wu := w u (by omega)
    have hka := wu.1
    have eN : a_needed (nI u).toNatClampNeg = nI (N u) := by rw [nI_clamp (by omega)]; exact (hN u (by omega)).1
    have eK : a_kindOf (nI u).toNatClampNeg = nI (ln_ka (P u)) := by rw [nI_clamp (by omega)]; exact pu.1
    have hN16 := (hN u (by omega)).2
    have nx := ih (u + 1) (by omega)
    have fnd : ln_act P N u → ln_us (P u) s → wX_isPassedOver_118 post (wX_isPassedOver_59 post (nI s) (nI d) f_handCount f_setCount f_levelNow f_chainLength f_pairKeyNow f_pairValueNow f_orderCount a_handKey a_handValue a_kindOf a_fromX a_numberA a_numberB a_sourceCount a_sourceKey a_sourceValue a_pairCount a_pairPart a_pairKey a_pairValue a_there a_kept a_bigness a_needed a_users a_chain a_hasLocal a_local a_hasSum a_sums a_orderKey a_orderValue (r + 1)) (nI s) (nI d) (nI u) f_handCount f_setCount f_levelNow f_chainLength f_pairKeyNow f_pairValueNow f_orderCount a_handKey a_handValue a_kindOf a_fromX a_numberA a_numberB a_sourceCount a_sourceKey a_sourceValue a_pairCount a_pairPart a_pairKey a_pairValue a_there a_kept a_bigness a_needed a_users a_chain a_hasLocal a_local a_hasSum a_sums a_orderKey a_orderValue := fun ha hu' => by
      unfold wX_isPassedOver_118 wX_isPassedOver_123
      rw [eK]
      exact br_f ln_10 ⟨hin, ln_xisStep (by omega) (fun z => ⟨narrow_b1, k1 ⟨u, by omega, ha, hu', z⟩⟩) (fun _ => ⟨narrow_b0, k0⟩)⟩
    have nfd : wX_isPassedOver_122 post (wX_isPassedOver_59 post (nI s) (nI d) f_handCount f_setCount f_levelNow f_chainLength f_pairKeyNow f_pairValueNow f_orderCount a_handKey a_handValue a_kindOf a_fromX a_numberA a_numberB a_sourceCount a_sourceKey a_sourceValue a_pairCount a_pairPart a_pairKey a_pairValue a_there a_kept a_bigness a_needed a_users a_chain a_hasLocal a_local a_hasSum a_sums a_orderKey a_orderValue (r + 1)) (nI s) (nI d) (nI u) f_handCount f_setCount f_levelNow f_chainLength f_pairKeyNow f_pairValueNow f_orderCount a_handKey a_handValue a_kindOf a_fromX a_numberA a_numberB a_sourceCount a_sourceKey a_sourceValue a_pairCount a_pairPart a_pairKey a_pairValue a_there a_kept a_bigness a_needed a_users a_chain a_hasLocal a_local a_hasSum a_sums a_orderKey a_orderValue := by
      unfold wX_isPassedOver_122 wX_isPassedOver_123
      exact br_t rfl (nm_r (nI_1 u) nx)
    unfold wX_isPassedOver_59
    rw [eN, eK]
    refine br_f (nI_nlt (by omega) (by omega)) ⟨hin, pk_eq (N u) 0 (fun _ => nm_r (nI_1 u) nx) (fun hz => ⟨hin, pk_eq (ln_ka (P u)) 0 (fun _ => nm_r (nI_1 u) nx) (fun hk => ⟨hin, ?_⟩)⟩)⟩
    have ha : ln_act P N u := ⟨hz, hk⟩
    have hfx := wu.2.1 hk
    have eX : a_fromX (nI u).toNatClampNeg = nI (ln_fx (P u)) := by rw [nI_clamp (by omega)]; exact pu.2.1 hk
    rw [eX]
    refine pk_eq (ln_fx (P u)) s (fun e => fnd ha (Or.inl e.symm)) (fun e => ⟨hin, ?_⟩)
    refine ln_xhasTwo (by omega) (fun h2 => ?_) (fun h2 => br_t rfl nfd)
    have hy := wu.2.2.1 h2
    have eA : a_numberA (nI u).toNatClampNeg = nI (ln_an (P u)) := by rw [nI_clamp (by omega), pu.2.2.1]; exact hy.2
    refine br_f ln_10 ⟨hin, ?_⟩
    rw [eA]
    exact pk_eq (ln_an (P u)) s (fun e => fnd ha (Or.inr ⟨h2, e.symm⟩)) (fun e => nfd)
theorem ln_xpo {post : Int32 → Prop} {n : Nat} {P : Nat → ln_E} {Th N U : Nat → Nat} {d s : Nat} (hn16 : n ≤ 16) (pl : ln_pl n P a_kindOf a_fromX a_numberA a_numberB a_sourceCount a_sourceKey a_sourceValue) (w : ln_wf n P) (hd : d < n) (hs : s ≤ d) (hN : ln_ms a_needed N) (hT : ln_ms a_there Th) (hU : ln_uc a_users U 34)
    (k0 : post 0) (k1 : ln_po P Th N U d s → post 1) : wpX_isPassedOver post (f_handCount, f_setCount, f_levelNow, f_chainLength, f_pairKeyNow, f_pairValueNow, f_orderCount, a_handKey, a_handValue, a_kindOf, a_fromX, a_numberA, a_numberB, a_sourceCount, a_sourceKey, a_sourceValue, a_pairCount, a_pairPart, a_pairKey, a_pairValue, a_there, a_kept, a_bigness, a_needed, a_users, a_chain, a_hasLocal, a_local, a_hasSum, a_sums, a_orderKey, a_orderValue) (nI s) (nI d) := by
  have hin : vp_in (nI s) 16 := vp_in_nI (by omega) (by decide)
  have ws := w s (by omega)
  have hka := ws.1
  have eT : a_there (nI s).toNatClampNeg = nI (Th s) := by rw [nI_clamp (by omega)]; exact (hT s (by omega)).1
  have eU : a_users (nI s).toNatClampNeg = nI (U s) := by rw [nI_clamp (by omega)]; exact (hU s (by omega)).1
  have eK : a_kindOf (nI s).toNatClampNeg = nI (ln_ka (P s)) := by rw [nI_clamp (by omega)]; exact (pl s (by omega)).1
  have hT16 := (hT s (by omega)).2
  have hU34 := (hU s (by omega)).2
  unfold wpX_isPassedOver
  dsimp only
  rw [eT, eU, eK]
  refine br_c (fun _ => k0) fun _ => pk_eq s d (fun _ => k0) fun hsd => ⟨hin, br_c (fun _ => ⟨hin, pk_eq (Th s) 0 (fun hz => ⟨hin, pk_eq (U s) 1 (fun h1 => ⟨hin, ?_⟩) (fun _ => k0)⟩) (fun _ => k0)⟩) (fun _ => k0)⟩
  refine ln_xisStep (by omega) (fun hst => br_f ln_10 (nm_r (nI_1 s) ?_)) (fun _ => br_t rfl k0)
  exact ⟨d - s + 1, ln_xpo59 (Th := Th) (U := U) hn16 pl w hd (by omega) hN k0 (fun hu => k1 ⟨hst, hz, h1, hsd, hu⟩) (d - s) (s + 1) (by omega)⟩
end
end
section
section
variable {f_handCount f_setCount f_levelNow f_chainLength f_pairKeyNow f_pairValueNow f_orderCount : Int32} {a_handKey a_handValue a_kindOf a_fromX a_numberA a_numberB a_sourceCount a_sourceKey a_sourceValue a_pairCount a_pairPart a_pairKey a_pairValue a_there a_kept a_bigness a_needed a_users a_chain a_hasLocal a_local a_hasSum a_sums a_orderKey a_orderValue : Nat → Int32}
theorem ln_rdc {pc pp pk pv : Nat → Int32} {M : Nat → List ln_T} {id x : Nat} {W : List ln_T} (hp : ln_ps pc pp pk pv (ln_up M id W)) (hx : x < 16) (hne : x ≠ id) : pc x = nI (M x).length ∧ (M x).length ≤ 48 := by
  have h := hp x hx
  rw [ln_up_n hne] at h
  exact ⟨h.1, h.2.1⟩
theorem ln_rd1 {pc pp pk pv : Nat → Int32} {M : Nat → List ln_T} {id x : Nat} {W pre r : List ln_T} {t : ln_T} (hp : ln_ps pc pp pk pv (ln_up M id W)) (hx : x < 16) (hne : x ≠ id) (e : M x = pre ++ t :: r) :
    pp (48 * x + pre.length) = nI t.1 ∧ pk (48 * x + pre.length) = nI t.2.1 ∧ pv (48 * x + pre.length) = t.2.2 ∧ t.1 < 4 ∧ t.2.1 < 16 ∧ pre.length + r.length < 48 := by
  have h := hp x hx
  rw [ln_up_n hne, e] at h
  have h1 := h.2.2.2 pre.length t (ln_at pre t r)
  have h2 := h.2.2.1 t (by simp)
  have h3 := h.2.1
  rw [List.length_append, List.length_cons] at h3
  exact ⟨h1.1, h1.2.1, h1.2.2, h2.1, h2.2, by omega⟩
theorem ln_pre {α : Type} {L pre r : List α} {t : α} (e : L = pre ++ t :: r) : L = (pre ++ [t]) ++ r := by rw [e, List.append_assoc]; rfl
theorem ln_pl1 {α : Type} (pre : List α) (t : α) : (pre ++ [t]).length = pre.length + 1 := by rw [List.length_append]; rfl
/-! rows -/
theorem ln_xrows2 {post : SX → Prop} {n : Nat} {P : Nat → ln_E} {M : Nat → List ln_T} {id m : Nat} (hn16 : n ≤ 16) (pl : ln_pl n P a_kindOf a_fromX a_numberA a_numberB a_sourceCount a_sourceKey a_sourceValue) (w : ln_wf n P) (hid : id < n) (hk : ln_ka (P id) = 0) (hm : m < 16) :
    ∀ (rest pre : List ln_K) (W : List ln_T) (pc pp pk pv : Nat → Int32), ln_sr (P id) = pre ++ rest → ln_ps pc pp pk pv (ln_up M id W) → W.length + ((ln_rw pre.length rest).filter (ln_in m)).length ≤ 48 →
    (∀ pc pp pk pv, ln_ps pc pp pk pv (ln_up M id (W ++ (ln_rw pre.length rest).filter (ln_in m))) → post (f_handCount, f_setCount, f_levelNow, f_chainLength, f_pairKeyNow, f_pairValueNow, f_orderCount, a_handKey, a_handValue, a_kindOf, a_fromX, a_numberA, a_numberB, a_sourceCount, a_sourceKey, a_sourceValue, pc, pp, pk, pv, a_there, a_kept, a_bigness, a_needed, a_users, a_chain, a_hasLocal, a_local, a_hasSum, a_sums, a_orderKey, a_orderValue)) → wX_makeRows_2 post (nI id) (nI m) (rest.length + 1) (nI pre.length) f_handCount f_setCount f_levelNow f_chainLength f_pairKeyNow f_pairValueNow f_orderCount a_handKey a_handValue a_kindOf a_fromX a_numberA a_numberB a_sourceCount a_sourceKey a_sourceValue pc pp pk pv a_there a_kept a_bigness a_needed a_users a_chain a_hasLocal a_local a_hasSum a_sums a_orderKey a_orderValue := by
  have hin : vp_in (nI id) 16 := vp_in_nI (by omega) (by decide)
  have pd := (pl id hid).2.2.2.2 hk
  have wd := (w id hid).2.2.2.2.2
  have eC : a_sourceCount (nI id).toNatClampNeg = nI (ln_sr (P id)).length := by rw [nI_clamp (by omega)]; exact pd.1
  intro rest
  induction rest with
  | nil =>
    intro pre W pc pp pk pv e hp _ k
    have hl := wd.1
    unfold wX_makeRows_2
    rw [eC, e, List.append_nil]
    rw [e, List.append_nil] at hl
    have hk := k pc pp pk pv
    have z : (ln_rw pre.length []).filter (ln_in m) = [] := rfl
    rw [z, List.append_nil] at hk
    exact ⟨hin, br_t (nI_le (Nat.le_refl _) (by omega)) (hk hp)⟩
  | cons q rest ih =>
    intro pre W pc pp pk pv e hp hl k
    have hll := wd.1
    have hq := pd.2 pre.length q (by rw [e]; exact ln_at pre q rest)
    have hq16 := wd.2 q (by rw [e]; simp)
    have hlen : (ln_sr (P id)).length = pre.length + (rest.length + 1) := by rw [e, List.length_append]; rfl
    have ih' := ih (pre ++ [q])
    rw [ln_pl1] at ih'
    have e' := ln_pre e
    have hi3 : vp_in (24 * nI id + nI pre.length) 384 := by rw [ln_24]; exact vp_in_nI (by omega) (by decide)
    have eI : (24 * nI id + nI pre.length).toNatClampNeg = 24 * id + pre.length := by rw [ln_24]; exact nI_clamp (by omega)
    unfold wX_makeRows_2
    rw [eC, ln_and3 (by omega), eI, hq.1, hq.2]
    refine ⟨hin, br_f (nI_ge (by omega) (by omega)) ?_⟩
    refine ln_xisPart hm (Nat.mod_lt _ (by decide)) (fun hb => ?_) (fun hb => ?_)
    · have z : (ln_rw pre.length (q :: rest)).filter (ln_in m) = (pre.length % 4, q) :: (ln_rw (pre.length + 1) rest).filter (ln_in m) := List.filter_cons_of_pos hb
      rw [z] at hl k
      rw [List.length_cons] at hl
      refine br_f ln_10 ⟨hi3, hi3, ?_⟩
      refine ln_xadd hp (by omega) (Nat.mod_lt _ (by decide)) hq16 (fun hw pc' pp' pk' pv' hp' => ?_) (fun hw => absurd hl (by omega))
      refine nm_r (nI_1 _) (ih' _ _ _ _ _ e' hp' (by rw [ln_pl1]; omega) ?_)
      rw [List.append_assoc]
      exact k
    · have z : (ln_rw pre.length (q :: rest)).filter (ln_in m) = (ln_rw (pre.length + 1) rest).filter (ln_in m) := List.filter_cons_of_neg (by show ¬ m.testBit _ = true; rw [hb]; exact Bool.noConfusion)
      rw [z] at hl k
      exact br_t rfl (nm_r (nI_1 _) (ih' _ _ _ _ _ e' hp hl k))
theorem ln_xrows {post : SX → Prop} {n : Nat} {P : Nat → ln_E} {M : Nat → List ln_T} {id m : Nat} (hn16 : n ≤ 16) (pl : ln_pl n P a_kindOf a_fromX a_numberA a_numberB a_sourceCount a_sourceKey a_sourceValue) (w : ln_wf n P) (hid : id < n) (hk : ln_ka (P id) = 0) (hm : m < 16) (hp : ln_ps a_pairCount a_pairPart a_pairKey a_pairValue M)
    (hl : (M id).length + ((ln_rw 0 (ln_sr (P id))).filter (ln_in m)).length ≤ 48) (k : ∀ pc pp pk pv, ln_ps pc pp pk pv (ln_up M id (M id ++ (ln_rw 0 (ln_sr (P id))).filter (ln_in m))) → post (f_handCount, f_setCount, f_levelNow, f_chainLength, f_pairKeyNow, f_pairValueNow, f_orderCount, a_handKey, a_handValue, a_kindOf, a_fromX, a_numberA, a_numberB, a_sourceCount, a_sourceKey, a_sourceValue, pc, pp, pk, pv, a_there, a_kept, a_bigness, a_needed, a_users, a_chain, a_hasLocal, a_local, a_hasSum, a_sums, a_orderKey, a_orderValue)) : wpX_makeRows post (f_handCount, f_setCount, f_levelNow, f_chainLength, f_pairKeyNow, f_pairValueNow, f_orderCount, a_handKey, a_handValue, a_kindOf, a_fromX, a_numberA, a_numberB, a_sourceCount, a_sourceKey, a_sourceValue, a_pairCount, a_pairPart, a_pairKey, a_pairValue, a_there, a_kept, a_bigness, a_needed, a_users, a_chain, a_hasLocal, a_local, a_hasSum, a_sums, a_orderKey, a_orderValue) (nI id) (nI m) := by
  unfold wpX_makeRows
  exact ⟨_, ln_xrows2 (M := M) hn16 pl w hid hk hm (ln_sr (P id)) [] (M id) _ _ _ _ rfl (by rw [ln_up_i]; exact hp) hl k⟩
/-! copies -/
theorem ln_xcp43 {post : Int32 → SX → Prop} {J6 : ln_J8} {M : Nat → List ln_T} {id x m c : Nat} {pre rest : List ln_T} {t : ln_T} (hid : id < 16) (hx : x < 16) (hne : x ≠ id) (hc : c < 16) (e : M x = pre ++ t :: rest) :
    ∀ (r : Nat) (W : List ln_T) (pc pp pk pv : Nat → Int32), r ≤ c → ln_ps pc pp pk pv (ln_up M id W) →
    (W.length + r ≤ 48 → ∀ pc pp pk pv, ln_ps pc pp pk pv (ln_up M id (W ++ List.replicate r t)) → J6 (nI (48 * x + pre.length + 1)) f_handCount f_setCount f_levelNow f_chainLength f_pairKeyNow f_pairValueNow f_orderCount a_handKey a_handValue a_kindOf a_fromX a_numberA a_numberB a_sourceCount a_sourceKey a_sourceValue pc pp pk pv a_there a_kept a_bigness a_needed a_users a_chain a_hasLocal a_local a_hasSum a_sums a_orderKey a_orderValue) →
    (48 < W.length + r → ∀ pc pp pk pv W', ln_ps pc pp pk pv (ln_up M id W') → post 0 (f_handCount, f_setCount, f_levelNow, f_chainLength, f_pairKeyNow, f_pairValueNow, f_orderCount, a_handKey, a_handValue, a_kindOf, a_fromX, a_numberA, a_numberB, a_sourceCount, a_sourceKey, a_sourceValue, pc, pp, pk, pv, a_there, a_kept, a_bigness, a_needed, a_users, a_chain, a_hasLocal, a_local, a_hasSum, a_sums, a_orderKey, a_orderValue)) →
    wX_copyPairs_43 post J6 (nI id) (nI x) (nI m) (nI c) (nI (48 * x + pre.length)) (r + 1) (nI (c - r)) f_handCount f_setCount f_levelNow f_chainLength f_pairKeyNow f_pairValueNow f_orderCount a_handKey a_handValue a_kindOf a_fromX a_numberA a_numberB a_sourceCount a_sourceKey a_sourceValue pc pp pk pv a_there a_kept a_bigness a_needed a_users a_chain a_hasLocal a_local a_hasSum a_sums a_orderKey a_orderValue := by
  intro r
  induction r with
  | zero =>
    intro W pc pp pk pv hr hp k1 k0
    have hw := (hp id hid).2.1
    rw [ln_up_s] at hw
    refine br_t (nI_le (by omega) (by omega)) (nm_r (nI_1 _) (k1 (by omega) pc pp pk pv ?_))
    rw [List.replicate_zero, List.append_nil]
    exact hp
  | succ r ih =>
    intro W pc pp pk pv hr hp k1 k0
    obtain ⟨e1, e2, e3, h4, h16, h48⟩ := ln_rd1 hp hx hne e
    have hi7 : vp_in (nI (48 * x + pre.length)) 768 := vp_in_nI (by omega) (by decide)
    have eI : (nI (48 * x + pre.length)).toNatClampNeg = 48 * x + pre.length := nI_clamp (by omega)
    unfold wX_copyPairs_43
    rw [eI, e1, e2, e3]
    refine br_f (nI_ge (by omega) (by omega)) ⟨hi7, hi7, hi7, ?_⟩
    refine ln_xadd hp hid h4 h16 (fun hw pc' pp' pk' pv' hp' => br_f ln_10 (nm_r (e' := nI (c - r)) ?_ ?_)) (fun hw => br_t rfl (k0 (by omega) _ _ _ _ _ hp))
    · rw [nI_1]; exact congrArg nI (by omega)
    · refine ih _ _ _ _ _ (by omega) hp' (fun hl => ?_) (fun hl => ?_)
      · rw [ln_pl1] at hl
        rw [List.append_assoc]
        exact k1 (by omega)
      · rw [ln_pl1] at hl
        exact k0 (by omega)
def ln_cq (m c : Nat) (L : List ln_T) : List ln_T := (L.filter (ln_in m)).flatMap (fun t => List.replicate c t)
theorem ln_cq_t {m c : Nat} {t : ln_T} {L : List ln_T} (h : m.testBit t.1 = true) : ln_cq m c (t :: L) = List.replicate c t ++ ln_cq m c L := by
  unfold ln_cq
  rw [List.filter_cons_of_pos (show ln_in m t = true from h), List.flatMap_cons]
theorem ln_cq_f {m c : Nat} {t : ln_T} {L : List ln_T} (h : m.testBit t.1 = false) : ln_cq m c (t :: L) = ln_cq m c L := by
  unfold ln_cq
  rw [List.filter_cons_of_neg (by show ¬ m.testBit _ = true; rw [h]; exact Bool.noConfusion)]
theorem ln_xcp6 {post : Int32 → SX → Prop} {M : Nat → List ln_T} {id x m c : Nat} (hid : id < 16) (hx : x < 16) (hne : x ≠ id) (hm : m < 16) (hc : c < 16) :
    ∀ (rest pre W : List ln_T) (pc pp pk pv : Nat → Int32), M x = pre ++ rest → ln_ps pc pp pk pv (ln_up M id W) →
    (W.length + (ln_cq m c rest).length ≤ 48 → ∀ pc pp pk pv, ln_ps pc pp pk pv (ln_up M id (W ++ ln_cq m c rest)) → post 1 (f_handCount, f_setCount, f_levelNow, f_chainLength, f_pairKeyNow, f_pairValueNow, f_orderCount, a_handKey, a_handValue, a_kindOf, a_fromX, a_numberA, a_numberB, a_sourceCount, a_sourceKey, a_sourceValue, pc, pp, pk, pv, a_there, a_kept, a_bigness, a_needed, a_users, a_chain, a_hasLocal, a_local, a_hasSum, a_sums, a_orderKey, a_orderValue)) →
    (48 < W.length + (ln_cq m c rest).length → ∀ pc pp pk pv W', ln_ps pc pp pk pv (ln_up M id W') → post 0 (f_handCount, f_setCount, f_levelNow, f_chainLength, f_pairKeyNow, f_pairValueNow, f_orderCount, a_handKey, a_handValue, a_kindOf, a_fromX, a_numberA, a_numberB, a_sourceCount, a_sourceKey, a_sourceValue, pc, pp, pk, pv, a_there, a_kept, a_bigness, a_needed, a_users, a_chain, a_hasLocal, a_local, a_hasSum, a_sums, a_orderKey, a_orderValue)) →
    wX_copyPairs_6 post (nI id) (nI x) (nI m) (nI c) (rest.length + 1) (nI (48 * x + pre.length)) f_handCount f_setCount f_levelNow f_chainLength f_pairKeyNow f_pairValueNow f_orderCount a_handKey a_handValue a_kindOf a_fromX a_numberA a_numberB a_sourceCount a_sourceKey a_sourceValue pc pp pk pv a_there a_kept a_bigness a_needed a_users a_chain a_hasLocal a_local a_hasSum a_sums a_orderKey a_orderValue := by
  have hin : vp_in (nI x) 16 := vp_in_nI hx (by decide)
  intro rest
  induction rest with
  | nil =>
    intro pre W pc pp pk pv e hp k1 k0
    obtain ⟨ec, hl⟩ := ln_rdc hp hx hne
    have hw := (hp id hid).2.1
    rw [ln_up_s] at hw
    have ec' : pc (nI x).toNatClampNeg = nI (M x).length := by rw [nI_clamp (by omega)]; exact ec
    rw [e, List.append_nil] at ec' hl
    unfold wX_copyPairs_6
    rw [ec', ln_48]
    refine ⟨hin, br_t (nI_le (Nat.le_refl _) (by omega)) (k1 (by show W.length + 0 ≤ 48; omega) _ _ _ _ ?_)⟩
    show ln_ps pc pp pk pv (ln_up M id (W ++ []))
    rw [List.append_nil]
    exact hp
  | cons t rest ih =>
    intro pre W pc pp pk pv e hp k1 k0
    obtain ⟨ec, hl⟩ := ln_rdc hp hx hne
    obtain ⟨e1, e2, e3, h4, h16, h48⟩ := ln_rd1 hp hx hne e
    have hlen : (M x).length = pre.length + (rest.length + 1) := by rw [e, List.length_append]; rfl
    have ec' : pc (nI x).toNatClampNeg = nI (M x).length := by rw [nI_clamp (by omega)]; exact ec
    have hi7 : vp_in (nI (48 * x + pre.length)) 768 := vp_in_nI (by omega) (by decide)
    have eI : (nI (48 * x + pre.length)).toNatClampNeg = 48 * x + pre.length := nI_clamp (by omega)
    have e' := ln_pre e
    have ih' := ih (pre ++ [t])
    rw [ln_pl1, ← Nat.add_assoc] at ih'
    unfold wX_copyPairs_6
    rw [ec', ln_48, eI, e1]
    refine ⟨hin, br_f (nI_ge (by omega) (by omega)) ⟨hi7, ?_⟩⟩
    refine ln_xisPart hm h4 (fun hb => ?_) (fun hb => ?_)
    · rw [ln_cq_t hb] at k1 k0
      rw [List.length_append, List.length_replicate] at k1 k0
      refine br_f ln_10 ⟨c + 1, ?_⟩
      have h0 : (0 : Int32) = nI (c - c) := by rw [Nat.sub_self]; rfl
      rw [h0]
      refine ln_xcp43 hid hx hne hc e c W pc pp pk pv (Nat.le_refl _) hp (fun hl pc' pp' pk' pv' hp' => ?_) (fun hl => k0 (by omega))
      refine ih' _ _ _ _ _ e' hp' (fun hl => ?_) (fun hl => ?_)
      · rw [List.length_append, List.length_replicate] at hl
        rw [List.append_assoc]
        exact k1 (by omega)
      · rw [List.length_append, List.length_replicate] at hl
        exact k0 (by omega)
    · rw [ln_cq_f hb] at k1 k0
      exact br_t rfl (nm_r (nI_1 _) (ih' _ _ _ _ _ e' hp k1 k0))
theorem ln_xcp {post : Int32 → SX → Prop} {M : Nat → List ln_T} {W : List ln_T} {id x m c : Nat} (hid : id < 16) (hx : x < 16) (hne : x ≠ id) (hm : m < 16) (hc : c < 16) (hp : ln_ps a_pairCount a_pairPart a_pairKey a_pairValue (ln_up M id W))
    (k1 : W.length + (ln_cq m c (M x)).length ≤ 48 → ∀ pc pp pk pv, ln_ps pc pp pk pv (ln_up M id (W ++ ln_cq m c (M x))) → post 1 (f_handCount, f_setCount, f_levelNow, f_chainLength, f_pairKeyNow, f_pairValueNow, f_orderCount, a_handKey, a_handValue, a_kindOf, a_fromX, a_numberA, a_numberB, a_sourceCount, a_sourceKey, a_sourceValue, pc, pp, pk, pv, a_there, a_kept, a_bigness, a_needed, a_users, a_chain, a_hasLocal, a_local, a_hasSum, a_sums, a_orderKey, a_orderValue))
    (k0 : 48 < W.length + (ln_cq m c (M x)).length → ∀ pc pp pk pv W', ln_ps pc pp pk pv (ln_up M id W') → post 0 (f_handCount, f_setCount, f_levelNow, f_chainLength, f_pairKeyNow, f_pairValueNow, f_orderCount, a_handKey, a_handValue, a_kindOf, a_fromX, a_numberA, a_numberB, a_sourceCount, a_sourceKey, a_sourceValue, pc, pp, pk, pv, a_there, a_kept, a_bigness, a_needed, a_users, a_chain, a_hasLocal, a_local, a_hasSum, a_sums, a_orderKey, a_orderValue)) : wpX_copyPairs post (f_handCount, f_setCount, f_levelNow, f_chainLength, f_pairKeyNow, f_pairValueNow, f_orderCount, a_handKey, a_handValue, a_kindOf, a_fromX, a_numberA, a_numberB, a_sourceCount, a_sourceKey, a_sourceValue, a_pairCount, a_pairPart, a_pairKey, a_pairValue, a_there, a_kept, a_bigness, a_needed, a_users, a_chain, a_hasLocal, a_local, a_hasSum, a_sums, a_orderKey, a_orderValue) (nI id) (nI x) (nI m) (nI c) := by
  unfold wpX_copyPairs
  exact nm_r (ln_48m x) ⟨_, ln_xcp6 hid hx hne hm hc (M x) [] W _ _ _ _ rfl hp k1 k0⟩
/-- repeat and union -/
def ln_kq (e : ln_E) (m : Nat) (X A : List ln_T) : List ln_T := if ln_ka e = 4 then ln_cq m (ln_an e) X else ln_cq m 1 X ++ ln_cq m 1 A
theorem ln_xcopies {post : Int32 → SX → Prop} {n : Nat} {P : Nat → ln_E} {M : Nat → List ln_T} {id m : Nat} (hn16 : n ≤ 16) (pl : ln_pl n P a_kindOf a_fromX a_numberA a_numberB a_sourceCount a_sourceKey a_sourceValue) (w : ln_wf n P) (hid : id < n) (hk : ln_ka (P id) = 4 ∨ ln_ka (P id) = 5) (hm : m < 16) (hp : ln_ps a_pairCount a_pairPart a_pairKey a_pairValue M)
    (k1 : (M id).length + (ln_kq (P id) m (M (ln_fx (P id))) (M (ln_an (P id)))).length ≤ 48 → ∀ pc pp pk pv, ln_ps pc pp pk pv (ln_up M id (M id ++ ln_kq (P id) m (M (ln_fx (P id))) (M (ln_an (P id))))) → post 1 (f_handCount, f_setCount, f_levelNow, f_chainLength, f_pairKeyNow, f_pairValueNow, f_orderCount, a_handKey, a_handValue, a_kindOf, a_fromX, a_numberA, a_numberB, a_sourceCount, a_sourceKey, a_sourceValue, pc, pp, pk, pv, a_there, a_kept, a_bigness, a_needed, a_users, a_chain, a_hasLocal, a_local, a_hasSum, a_sums, a_orderKey, a_orderValue))
    (k0 : 48 < (M id).length + (ln_kq (P id) m (M (ln_fx (P id))) (M (ln_an (P id)))).length → ∀ pc pp pk pv W', ln_ps pc pp pk pv (ln_up M id W') → post 0 (f_handCount, f_setCount, f_levelNow, f_chainLength, f_pairKeyNow, f_pairValueNow, f_orderCount, a_handKey, a_handValue, a_kindOf, a_fromX, a_numberA, a_numberB, a_sourceCount, a_sourceKey, a_sourceValue, pc, pp, pk, pv, a_there, a_kept, a_bigness, a_needed, a_users, a_chain, a_hasLocal, a_local, a_hasSum, a_sums, a_orderKey, a_orderValue)) : wpX_makeCopies post (f_handCount, f_setCount, f_levelNow, f_chainLength, f_pairKeyNow, f_pairValueNow, f_orderCount, a_handKey, a_handValue, a_kindOf, a_fromX, a_numberA, a_numberB, a_sourceCount, a_sourceKey, a_sourceValue, a_pairCount, a_pairPart, a_pairKey, a_pairValue, a_there, a_kept, a_bigness, a_needed, a_users, a_chain, a_hasLocal, a_local, a_hasSum, a_sums, a_orderKey, a_orderValue) (nI id) (nI (ln_ka (P id))) (nI m) := by
  have hin : vp_in (nI id) 16 := vp_in_nI (by omega) (by decide)
  have pd := pl id hid
  have wd := w id hid
  have hx := wd.2.1 (by omega)
  have hp' : ln_ps a_pairCount a_pairPart a_pairKey a_pairValue (ln_up M id (M id)) := by rw [ln_up_i]; exact hp
  have eX : a_fromX (nI id).toNatClampNeg = nI (ln_fx (P id)) := by rw [nI_clamp (by omega)]; exact pd.2.1 (by omega)
  have eA : a_numberA (nI id).toNatClampNeg = ln_aa (P id) := by rw [nI_clamp (by omega)]; exact pd.2.2.1
  unfold wpX_makeCopies
  dsimp only
  by_cases h4 : ln_ka (P id) = 4
  · have ha := wd.2.2.2.1 (Or.inl h4)
    have eq : ∀ X A, ln_kq (P id) m X A = ln_cq m (ln_an (P id)) X := fun X A => if_pos h4
    rw [eq] at k1 k0
    have h4' : nI (ln_ka (P id)) = 4 := by rw [h4]; rfl
    refine br_t h4' ⟨hin, ?_⟩
    unfold wX_makeCopies_15
    rw [eX, eA, ha.2]
    refine ⟨hin, ?_⟩
    refine ln_xcp (by omega) (by omega) (by omega) hm (by omega) hp' (fun hl pc pp pk pv hq => ?_) (fun hl pc pp pk pv W' hq => ?_)
    · exact br_f ln_10 (br_t h4' (k1 hl pc pp pk pv hq))
    · exact br_t rfl (k0 hl pc pp pk pv W' hq)
  · have h5 : ln_ka (P id) = 5 := by omega
    have ha := wd.2.2.1 (Or.inl h5)
    have eq : ∀ X A, ln_kq (P id) m X A = ln_cq m 1 X ++ ln_cq m 1 A := fun X A => if_neg h4
    rw [eq] at k1 k0
    rw [List.length_append] at k1 k0
    have h4' : ¬ nI (ln_ka (P id)) = 4 := by rw [h5]; decide
    refine br_f h4' ?_
    unfold wX_makeCopies_15
    rw [eX]
    refine ⟨hin, ?_⟩
    refine ln_xcp (c := 1) (by omega) (by omega) (by omega) hm (by omega) hp' (fun hl pc pp pk pv hq => ?_) (fun hl pc pp pk pv W' hq => ?_)
    · refine br_f ln_10 (br_f h4' ⟨hin, ?_⟩)
      rw [eA, ha.2]
      refine ln_xcp (c := 1) (by omega) (by omega) (by omega) hm (by omega) hq (fun hl' pc pp pk pv hq' => ?_) (fun hl' pc pp pk pv W' hq' => ?_)
      · rw [List.length_append] at hl'
        rw [List.append_assoc] at hq'
        exact br_f ln_10 (k1 (by omega) pc pp pk pv hq')
      · rw [List.length_append] at hl'
        exact br_t rfl (k0 (by omega) pc pp pk pv W' hq')
    · exact br_t rfl (k0 (by omega) pc pp pk pv W' hq)
end
end
section
section
variable {f_handCount f_setCount f_levelNow f_chainLength f_pairKeyNow f_pairValueNow f_orderCount : Int32} {a_handKey a_handValue a_kindOf a_fromX a_numberA a_numberB a_sourceCount a_sourceKey a_sourceValue a_pairCount a_pairPart a_pairKey a_pairValue a_there a_kept a_bigness a_needed a_users a_chain a_hasLocal a_local a_hasSum a_sums a_orderKey a_orderValue : Nat → Int32}
theorem ln_rd0 {pc pp pk pv : Nat → Int32} {M : Nat → List ln_T} {x : Nat} {pre r : List ln_T} {t : ln_T} (hp : ln_ps pc pp pk pv M) (hx : x < 16) (e : M x = pre ++ t :: r) :
    pp (48 * x + pre.length) = nI t.1 ∧ pk (48 * x + pre.length) = nI t.2.1 ∧ pv (48 * x + pre.length) = t.2.2 ∧ t.1 < 4 ∧ t.2.1 < 16 ∧ pre.length + r.length < 48 := by
  have h := hp x hx
  rw [e] at h
  have h1 := h.2.2.2 pre.length t (ln_at pre t r)
  have h2 := h.2.2.1 t (by simp)
  have h3 := h.2.1
  rw [List.length_append, List.length_cons] at h3
  exact ⟨h1.1, h1.2.1, h1.2.2, h2.1, h2.2, by omega⟩
/-! join -/
def ln_j1 (t : ln_T) (B : List ln_T) : List ln_T := (B.filter (fun s => s.2.1 == t.2.1)).map (fun s => (t.2.1 % 4, t.2.1, t.2.2 + s.2.2))
def ln_jq (m : Nat) (B : List ln_T) : List ln_T → List ln_T
  | [] => []
  | t :: r => (if m.testBit (t.2.1 % 4) = true then ln_j1 t B else []) ++ ln_jq m B r
theorem ln_j1_t {t s : ln_T} {B : List ln_T} (h : s.2.1 = t.2.1) : ln_j1 t (s :: B) = (t.2.1 % 4, t.2.1, t.2.2 + s.2.2) :: ln_j1 t B := by
  unfold ln_j1
  rw [List.filter_cons_of_pos (by rw [h]; exact beq_self_eq_true _), List.map_cons]
theorem ln_j1_f {t s : ln_T} {B : List ln_T} (h : s.2.1 ≠ t.2.1) : ln_j1 t (s :: B) = ln_j1 t B := by
  unfold ln_j1
  rw [List.filter_cons_of_neg (by intro z; exact h (eq_of_beq z))]
theorem ln_xjn68 {post : Int32 → SX → Prop} {J21 : ln_J8} {M : Nat → List ln_T} {id x y m : Nat} {pre rest : List ln_T} {t : ln_T} (hid : id < 16) (hx : x < 16) (hne : x ≠ id) (hy : y < 16) (hny : y ≠ id) (e : M x = pre ++ t :: rest) :
    ∀ (r2 pre2 W : List ln_T) (pc pp pk pv : Nat → Int32), M y = pre2 ++ r2 → ln_ps pc pp pk pv (ln_up M id W) →
    (W.length + (ln_j1 t r2).length ≤ 48 → ∀ pc pp pk pv, ln_ps pc pp pk pv (ln_up M id (W ++ ln_j1 t r2)) → J21 (nI (48 * x + pre.length + 1)) f_handCount f_setCount f_levelNow f_chainLength f_pairKeyNow f_pairValueNow f_orderCount a_handKey a_handValue a_kindOf a_fromX a_numberA a_numberB a_sourceCount a_sourceKey a_sourceValue pc pp pk pv a_there a_kept a_bigness a_needed a_users a_chain a_hasLocal a_local a_hasSum a_sums a_orderKey a_orderValue) →
    (48 < W.length + (ln_j1 t r2).length → ∀ pc pp pk pv W', ln_ps pc pp pk pv (ln_up M id W') → post 0 (f_handCount, f_setCount, f_levelNow, f_chainLength, f_pairKeyNow, f_pairValueNow, f_orderCount, a_handKey, a_handValue, a_kindOf, a_fromX, a_numberA, a_numberB, a_sourceCount, a_sourceKey, a_sourceValue, pc, pp, pk, pv, a_there, a_kept, a_bigness, a_needed, a_users, a_chain, a_hasLocal, a_local, a_hasSum, a_sums, a_orderKey, a_orderValue)) →
    wX_makeJoin_68 post J21 (nI id) (nI m) (nI x) (nI y) (nI (48 * x + pre.length)) (nI (t.2.1 % 4)) (r2.length + 1) (nI (48 * y + pre2.length)) f_handCount f_setCount f_levelNow f_chainLength f_pairKeyNow f_pairValueNow f_orderCount a_handKey a_handValue a_kindOf a_fromX a_numberA a_numberB a_sourceCount a_sourceKey a_sourceValue pc pp pk pv a_there a_kept a_bigness a_needed a_users a_chain a_hasLocal a_local a_hasSum a_sums a_orderKey a_orderValue := by
  have hin : vp_in (nI y) 16 := vp_in_nI hy (by decide)
  intro r2
  induction r2 with
  | nil =>
    intro pre2 W pc pp pk pv e2 hp k1 k0
    obtain ⟨ec, hl⟩ := ln_rdc hp hy hny
    have hw := (hp id hid).2.1
    rw [ln_up_s] at hw
    have ec' : pc (nI y).toNatClampNeg = nI (M y).length := by rw [nI_clamp (by omega)]; exact ec
    rw [e2, List.append_nil] at ec' hl
    unfold wX_makeJoin_68
    rw [ec', ln_48]
    refine ⟨hin, br_t (nI_le (Nat.le_refl _) (by omega)) (nm_r (nI_1 _) (k1 (by show W.length + 0 ≤ 48; omega) _ _ _ _ ?_))⟩
    show ln_ps pc pp pk pv (ln_up M id (W ++ []))
    rw [List.append_nil]
    exact hp
  | cons s r2 ih =>
    intro pre2 W pc pp pk pv e2 hp k1 k0
    obtain ⟨ec, hl⟩ := ln_rdc hp hy hny
    obtain ⟨_, e1, e3, h4, h16, h48⟩ := ln_rd1 hp hx hne e
    obtain ⟨_, f1, f3, g4, g16, g48⟩ := ln_rd1 hp hy hny e2
    have hlen : (M y).length = pre2.length + (r2.length + 1) := by rw [e2, List.length_append]; rfl
    have ec' : pc (nI y).toNatClampNeg = nI (M y).length := by rw [nI_clamp (by omega)]; exact ec
    have hi7 : vp_in (nI (48 * x + pre.length)) 768 := vp_in_nI (by omega) (by decide)
    have hj7 : vp_in (nI (48 * y + pre2.length)) 768 := vp_in_nI (by omega) (by decide)
    have eI : (nI (48 * x + pre.length)).toNatClampNeg = 48 * x + pre.length := nI_clamp (by omega)
    have eJ : (nI (48 * y + pre2.length)).toNatClampNeg = 48 * y + pre2.length := nI_clamp (by omega)
    have e' := ln_pre e2
    have ih' := ih (pre2 ++ [s])
    rw [ln_pl1, ← Nat.add_assoc] at ih'
    unfold wX_makeJoin_68
    rw [ec', ln_48, eI, eJ, e1, e3, f1, f3]
    refine ⟨hin, br_f (nI_ge (by omega) (by omega)) ⟨hj7, hi7, pk_eq s.2.1 t.2.1 (fun h => ?_) (fun h => ?_)⟩⟩
    · rw [ln_j1_t h] at k1 k0
      rw [List.length_cons] at k1 k0
      refine ⟨hi7, hi7, hj7, ?_⟩
      refine ln_xadd hp hid (Nat.mod_lt _ (by decide)) h16 (fun hw pc' pp' pk' pv' hp' => br_f ln_10 (nm_r (nI_1 _) ?_)) (fun hw => br_t rfl (k0 (by omega) _ _ _ _ _ hp))
      refine ih' _ _ _ _ _ e' hp' (fun hl => ?_) (fun hl => ?_)
      · rw [ln_pl1] at hl
        rw [List.append_assoc]
        exact k1 (by omega)
      · rw [ln_pl1] at hl
        exact k0 (by omega)
    · rw [ln_j1_f h] at k1 k0
      exact nm_r (nI_1 _) (ih' _ _ _ _ _ e' hp k1 k0)
theorem ln_xjn21 {post : Int32 → SX → Prop} {M : Nat → List ln_T} {id x y m : Nat} (hid : id < 16) (hx : x < 16) (hne : x ≠ id) (hy : y < 16) (hny : y ≠ id) (hm : m < 16) :
    ∀ (rest pre W : List ln_T) (pc pp pk pv : Nat → Int32), M x = pre ++ rest → ln_ps pc pp pk pv (ln_up M id W) →
    (W.length + (ln_jq m (M y) rest).length ≤ 48 → ∀ pc pp pk pv, ln_ps pc pp pk pv (ln_up M id (W ++ ln_jq m (M y) rest)) → post 1 (f_handCount, f_setCount, f_levelNow, f_chainLength, f_pairKeyNow, f_pairValueNow, f_orderCount, a_handKey, a_handValue, a_kindOf, a_fromX, a_numberA, a_numberB, a_sourceCount, a_sourceKey, a_sourceValue, pc, pp, pk, pv, a_there, a_kept, a_bigness, a_needed, a_users, a_chain, a_hasLocal, a_local, a_hasSum, a_sums, a_orderKey, a_orderValue)) →
    (48 < W.length + (ln_jq m (M y) rest).length → ∀ pc pp pk pv W', ln_ps pc pp pk pv (ln_up M id W') → post 0 (f_handCount, f_setCount, f_levelNow, f_chainLength, f_pairKeyNow, f_pairValueNow, f_orderCount, a_handKey, a_handValue, a_kindOf, a_fromX, a_numberA, a_numberB, a_sourceCount, a_sourceKey, a_sourceValue, pc, pp, pk, pv, a_there, a_kept, a_bigness, a_needed, a_users, a_chain, a_hasLocal, a_local, a_hasSum, a_sums, a_orderKey, a_orderValue)) →
    wX_makeJoin_21 post (nI id) (nI m) (nI x) (nI y) (rest.length + 1) (nI (48 * x + pre.length)) f_handCount f_setCount f_levelNow f_chainLength f_pairKeyNow f_pairValueNow f_orderCount a_handKey a_handValue a_kindOf a_fromX a_numberA a_numberB a_sourceCount a_sourceKey a_sourceValue pc pp pk pv a_there a_kept a_bigness a_needed a_users a_chain a_hasLocal a_local a_hasSum a_sums a_orderKey a_orderValue := by
  have hin : vp_in (nI x) 16 := vp_in_nI hx (by decide)
  intro rest
  induction rest with
  | nil =>
    intro pre W pc pp pk pv e hp k1 k0
    obtain ⟨ec, hl⟩ := ln_rdc hp hx hne
    have hw := (hp id hid).2.1
    rw [ln_up_s] at hw
    have ec' : pc (nI x).toNatClampNeg = nI (M x).length := by rw [nI_clamp (by omega)]; exact ec
    rw [e, List.append_nil] at ec' hl
    unfold wX_makeJoin_21
    rw [ec', ln_48]
    refine ⟨hin, br_t (nI_le (Nat.le_refl _) (by omega)) (k1 (by show W.length + 0 ≤ 48; omega) _ _ _ _ ?_)⟩
    show ln_ps pc pp pk pv (ln_up M id (W ++ []))
    rw [List.append_nil]
    exact hp
  | cons t rest ih =>
    intro pre W pc pp pk pv e hp k1 k0
    obtain ⟨ec, hl⟩ := ln_rdc hp hx hne
    obtain ⟨e1, e2, e3, h4, h16, h48⟩ := ln_rd1 hp hx hne e
    have hlen : (M x).length = pre.length + (rest.length + 1) := by rw [e, List.length_append]; rfl
    have ec' : pc (nI x).toNatClampNeg = nI (M x).length := by rw [nI_clamp (by omega)]; exact ec
    have hi7 : vp_in (nI (48 * x + pre.length)) 768 := vp_in_nI (by omega) (by decide)
    have eI : (nI (48 * x + pre.length)).toNatClampNeg = 48 * x + pre.length := nI_clamp (by omega)
    have e' := ln_pre e
    have ih' := ih (pre ++ [t])
    rw [ln_pl1, ← Nat.add_assoc] at ih'
    have jq : ln_jq m (M y) (t :: rest) = (if m.testBit (t.2.1 % 4) = true then ln_j1 t (M y) else []) ++ ln_jq m (M y) rest := rfl
    rw [jq, List.length_append] at k1 k0
    unfold wX_makeJoin_21
    rw [ec', ln_48, eI, e2, ln_and3 (by omega)]
    refine ⟨hin, br_f (nI_ge (by omega) (by omega)) ⟨hi7, nm_e ?_⟩⟩
    refine ln_xisPart hm (Nat.mod_lt _ (by decide)) (fun hb => ?_) (fun hb => ?_)
    · rw [if_pos hb] at k1 k0
      refine br_f ln_10 (nm_r (ln_48m y) ⟨(M y).length + 1, ?_⟩)
      refine ln_xjn68 hid hx hne hy hny e (M y) [] W pc pp pk pv rfl hp (fun hl pc' pp' pk' pv' hp' => ?_) (fun hl => k0 (by omega))
      refine ih' _ _ _ _ _ e' hp' (fun hl => ?_) (fun hl => ?_)
      · rw [List.length_append] at hl
        rw [List.append_assoc]
        exact k1 (by omega)
      · rw [List.length_append] at hl
        exact k0 (by omega)
    · have hb' : ¬ m.testBit (t.2.1 % 4) = true := by rw [hb]; exact Bool.noConfusion
      rw [if_neg hb', List.length_nil, Nat.zero_add] at k1 k0
      rw [List.nil_append] at k1
      exact br_t rfl (nm_r (nI_1 _) (ih' _ _ _ _ _ e' hp k1 k0))
theorem ln_xjoin {post : Int32 → SX → Prop} {n : Nat} {P : Nat → ln_E} {M : Nat → List ln_T} {id m : Nat} (hn16 : n ≤ 16) (pl : ln_pl n P a_kindOf a_fromX a_numberA a_numberB a_sourceCount a_sourceKey a_sourceValue) (w : ln_wf n P) (hid : id < n) (hk : ln_ka (P id) = 7) (hm : m < 16) (hp : ln_ps a_pairCount a_pairPart a_pairKey a_pairValue M)
    (k1 : (M id).length + (ln_jq m (M (ln_an (P id))) (M (ln_fx (P id)))).length ≤ 48 → ∀ pc pp pk pv, ln_ps pc pp pk pv (ln_up M id (M id ++ ln_jq m (M (ln_an (P id))) (M (ln_fx (P id))))) → post 1 (f_handCount, f_setCount, f_levelNow, f_chainLength, f_pairKeyNow, f_pairValueNow, f_orderCount, a_handKey, a_handValue, a_kindOf, a_fromX, a_numberA, a_numberB, a_sourceCount, a_sourceKey, a_sourceValue, pc, pp, pk, pv, a_there, a_kept, a_bigness, a_needed, a_users, a_chain, a_hasLocal, a_local, a_hasSum, a_sums, a_orderKey, a_orderValue))
    (k0 : 48 < (M id).length + (ln_jq m (M (ln_an (P id))) (M (ln_fx (P id)))).length → ∀ pc pp pk pv W', ln_ps pc pp pk pv (ln_up M id W') → post 0 (f_handCount, f_setCount, f_levelNow, f_chainLength, f_pairKeyNow, f_pairValueNow, f_orderCount, a_handKey, a_handValue, a_kindOf, a_fromX, a_numberA, a_numberB, a_sourceCount, a_sourceKey, a_sourceValue, pc, pp, pk, pv, a_there, a_kept, a_bigness, a_needed, a_users, a_chain, a_hasLocal, a_local, a_hasSum, a_sums, a_orderKey, a_orderValue)) : wpX_makeJoin post (f_handCount, f_setCount, f_levelNow, f_chainLength, f_pairKeyNow, f_pairValueNow, f_orderCount, a_handKey, a_handValue, a_kindOf, a_fromX, a_numberA, a_numberB, a_sourceCount, a_sourceKey, a_sourceValue, a_pairCount, a_pairPart, a_pairKey, a_pairValue, a_there, a_kept, a_bigness, a_needed, a_users, a_chain, a_hasLocal, a_local, a_hasSum, a_sums, a_orderKey, a_orderValue) (nI id) (nI m) := by
  have hin : vp_in (nI id) 16 := vp_in_nI (by omega) (by decide)
  have pd := pl id hid
  have wd := w id hid
  have hx := wd.2.1 (by omega)
  have ha := wd.2.2.1 (Or.inr (Or.inl hk))
  have hp' : ln_ps a_pairCount a_pairPart a_pairKey a_pairValue (ln_up M id (M id)) := by rw [ln_up_i]; exact hp
  have eX : a_fromX (nI id).toNatClampNeg = nI (ln_fx (P id)) := by rw [nI_clamp (by omega)]; exact pd.2.1 (by omega)
  have eA : a_numberA (nI id).toNatClampNeg = nI (ln_an (P id)) := by rw [nI_clamp (by omega), pd.2.2.1]; exact ha.2
  unfold wpX_makeJoin
  dsimp only
  refine ⟨hin, nm_r eX ⟨hin, nm_r eA (nm_r (ln_48m _) ⟨(M (ln_fx (P id))).length + 1, ?_⟩)⟩⟩
  exact ln_xjn21 (by omega) (by omega) (by omega) (by omega) (by omega) hm (M (ln_fx (P id))) [] (M id) _ _ _ _ rfl hp' k1 k0
end
end
section
section
variable {f_handCount f_setCount f_levelNow f_chainLength f_pairKeyNow f_pairValueNow f_orderCount : Int32} {a_handKey a_handValue a_kindOf a_fromX a_numberA a_numberB a_sourceCount a_sourceKey a_sourceValue a_pairCount a_pairPart a_pairKey a_pairValue a_there a_kept a_bigness a_needed a_users a_chain a_hasLocal a_local a_hasSum a_sums a_orderKey a_orderValue : Nat → Int32}
def ln_fd (k9 : Bool) (t : ln_T) (O : List ln_T) : Bool := O.any (fun s => s.2.1 == t.2.1 && (k9 || s.2.2 == t.2.2))
def ln_fq (k9 : Bool) (m : Nat) (A : List ln_T) : List ln_T → List ln_T → List ln_T
  | _, [] => []
  | W, t :: r => if m.testBit (t.2.1 % 4) = true ∧ ln_fd k9 t (bif k9 then A else W) = false then (t.2.1 % 4, t.2) :: ln_fq k9 m A (W ++ [(t.2.1 % 4, t.2)]) r else ln_fq k9 m A W r
theorem ln_xfl85 {post : Int32 → SX → Prop} {J33 : ln_J8} {M : Nat → List ln_T} {id x o m kd : Nat} {pre rest : List ln_T} {t : ln_T} (hx : x < 16) (ho : o < 16) (hkd : kd = 8 ∨ kd = 9) (e : M x = pre ++ t :: rest) (hp : ln_ps a_pairCount a_pairPart a_pairKey a_pairValue M) :
    ∀ (r2 pre2 : List ln_T), M o = pre2 ++ r2 →
    (ln_fd (kd == 9) t r2 = true → wX_makeFiltered_161 post J33 (nI id) (nI kd) (nI m) (nI x) (nI o) (nI (48 * x + pre.length)) (nI (t.2.1 % 4)) 1 f_handCount f_setCount f_levelNow f_chainLength f_pairKeyNow f_pairValueNow f_orderCount a_handKey a_handValue a_kindOf a_fromX a_numberA a_numberB a_sourceCount a_sourceKey a_sourceValue a_pairCount a_pairPart a_pairKey a_pairValue a_there a_kept a_bigness a_needed a_users a_chain a_hasLocal a_local a_hasSum a_sums a_orderKey a_orderValue) →
    (ln_fd (kd == 9) t r2 = false → wX_makeFiltered_161 post J33 (nI id) (nI kd) (nI m) (nI x) (nI o) (nI (48 * x + pre.length)) (nI (t.2.1 % 4)) 0 f_handCount f_setCount f_levelNow f_chainLength f_pairKeyNow f_pairValueNow f_orderCount a_handKey a_handValue a_kindOf a_fromX a_numberA a_numberB a_sourceCount a_sourceKey a_sourceValue a_pairCount a_pairPart a_pairKey a_pairValue a_there a_kept a_bigness a_needed a_users a_chain a_hasLocal a_local a_hasSum a_sums a_orderKey a_orderValue) →
    wX_makeFiltered_85 post J33 (nI id) (nI kd) (nI m) (nI x) (nI o) (nI (48 * x + pre.length)) (nI (t.2.1 % 4)) f_handCount f_setCount f_levelNow f_chainLength f_pairKeyNow f_pairValueNow f_orderCount a_handKey a_handValue a_kindOf a_fromX a_numberA a_numberB a_sourceCount a_sourceKey a_sourceValue a_pairCount a_pairPart a_pairKey a_pairValue a_there a_kept a_bigness a_needed a_users a_chain a_hasLocal a_local a_hasSum a_sums a_orderKey a_orderValue (r2.length + 1) 0 (nI (48 * o + pre2.length)) := by
  have hin : vp_in (nI o) 16 := vp_in_nI ho (by decide)
  have ec := (hp o ho).1
  have hl := (hp o ho).2.1
  have ec' : a_pairCount (nI o).toNatClampNeg = nI (M o).length := by rw [nI_clamp (by omega)]; exact ec
  obtain ⟨_, e2, e3, h4, h16, h48⟩ := ln_rd0 hp hx e
  have hi7 : vp_in (nI (48 * x + pre.length)) 768 := vp_in_nI (by omega) (by decide)
  have eI : (nI (48 * x + pre.length)).toNatClampNeg = 48 * x + pre.length := nI_clamp (by omega)
  intro r2
  induction r2 with
  | nil =>
    intro pre2 eo k1 k0
    rw [eo, List.append_nil] at ec' hl
    unfold wX_makeFiltered_85
    rw [ec', ln_48]
    exact ⟨hin, br_t (nI_le (Nat.le_refl _) (by omega)) (k0 rfl)⟩
  | cons s r2 ih =>
    intro pre2 eo k1 k0
    obtain ⟨_, f2, f3, g4, g16, g48⟩ := ln_rd0 hp ho eo
    have hlen : (M o).length = pre2.length + (r2.length + 1) := by rw [eo, List.length_append]; rfl
    have hj7 : vp_in (nI (48 * o + pre2.length)) 768 := vp_in_nI (by omega) (by decide)
    have eJ : (nI (48 * o + pre2.length)).toNatClampNeg = 48 * o + pre2.length := nI_clamp (by omega)
    have ih' := ih (pre2 ++ [s]) (ln_pre eo)
    rw [ln_pl1, ← Nat.add_assoc] at ih'
    have fd : ln_fd (kd == 9) t (s :: r2) = ((s.2.1 == t.2.1 && (kd == 9 || s.2.2 == t.2.2)) || ln_fd (kd == 9) t r2) := List.any_cons
    have hit : (s.2.1 == t.2.1 && (kd == 9 || s.2.2 == t.2.2)) = true → wX_makeFiltered_85 post J33 (nI id) (nI kd) (nI m) (nI x) (nI o) (nI (48 * x + pre.length)) (nI (t.2.1 % 4)) f_handCount f_setCount f_levelNow f_chainLength f_pairKeyNow f_pairValueNow f_orderCount a_handKey a_handValue a_kindOf a_fromX a_numberA a_numberB a_sourceCount a_sourceKey a_sourceValue a_pairCount a_pairPart a_pairKey a_pairValue a_there a_kept a_bigness a_needed a_users a_chain a_hasLocal a_local a_hasSum a_sums a_orderKey a_orderValue (r2.length + 1) 1 (nI (48 * o + pre2.length + 1)) := fun h => by
      have := k1 (by rw [fd, h]; rfl)
      unfold wX_makeFiltered_85
      exact ⟨hin, br_c (fun _ => this) (fun _ => br_f ln_10 this)⟩
    have mis : (s.2.1 == t.2.1 && (kd == 9 || s.2.2 == t.2.2)) = false → wX_makeFiltered_85 post J33 (nI id) (nI kd) (nI m) (nI x) (nI o) (nI (48 * x + pre.length)) (nI (t.2.1 % 4)) f_handCount f_setCount f_levelNow f_chainLength f_pairKeyNow f_pairValueNow f_orderCount a_handKey a_handValue a_kindOf a_fromX a_numberA a_numberB a_sourceCount a_sourceKey a_sourceValue a_pairCount a_pairPart a_pairKey a_pairValue a_there a_kept a_bigness a_needed a_users a_chain a_hasLocal a_local a_hasSum a_sums a_orderKey a_orderValue (r2.length + 1) 0 (nI (48 * o + pre2.length + 1)) := fun h => by
      rw [fd, h, Bool.false_or] at k1 k0
      exact ih' k1 k0
    unfold wX_makeFiltered_85
    rw [ec', ln_48, eI, eJ, e2, e3, f2, f3]
    refine ⟨hin, br_f (nI_ge (by omega) (by omega)) (br_t rfl ⟨hj7, hi7, pk_eq s.2.1 t.2.1 (fun h => ?_) (fun h => ?_)⟩)⟩
    · rcases hkd with rfl | rfl
      · refine br_f (by decide) ⟨hj7, hi7, br_c (fun hv => ?_) (fun hv => ?_)⟩
        · exact nm_r (nI_1 _) (hit (by rw [h, hv]; simp))
        · exact nm_r (nI_1 _) (mis (by simp [hv]))
      · exact br_t rfl (nm_r (nI_1 _) (hit (by rw [h]; simp)))
    · exact nm_r (nI_1 _) (mis (by simp [h]))
theorem ln_xfl33 {post : Int32 → SX → Prop} {M : Nat → List ln_T} {id x o m kd : Nat} (hid : id < 16) (hx : x < 16) (hne : x ≠ id) (ho : o < 16) (hm : m < 16) (hkd : (kd = 8 ∧ o = id) ∨ (kd = 9 ∧ o ≠ id)) :
    ∀ (rest pre W : List ln_T) (pc pp pk pv : Nat → Int32), M x = pre ++ rest → ln_ps pc pp pk pv (ln_up M id W) →
    (W.length + (ln_fq (kd == 9) m (M o) W rest).length ≤ 48 → ∀ pc pp pk pv, ln_ps pc pp pk pv (ln_up M id (W ++ ln_fq (kd == 9) m (M o) W rest)) → post 1 (f_handCount, f_setCount, f_levelNow, f_chainLength, f_pairKeyNow, f_pairValueNow, f_orderCount, a_handKey, a_handValue, a_kindOf, a_fromX, a_numberA, a_numberB, a_sourceCount, a_sourceKey, a_sourceValue, pc, pp, pk, pv, a_there, a_kept, a_bigness, a_needed, a_users, a_chain, a_hasLocal, a_local, a_hasSum, a_sums, a_orderKey, a_orderValue)) →
    (48 < W.length + (ln_fq (kd == 9) m (M o) W rest).length → ∀ pc pp pk pv W', ln_ps pc pp pk pv (ln_up M id W') → post 0 (f_handCount, f_setCount, f_levelNow, f_chainLength, f_pairKeyNow, f_pairValueNow, f_orderCount, a_handKey, a_handValue, a_kindOf, a_fromX, a_numberA, a_numberB, a_sourceCount, a_sourceKey, a_sourceValue, pc, pp, pk, pv, a_there, a_kept, a_bigness, a_needed, a_users, a_chain, a_hasLocal, a_local, a_hasSum, a_sums, a_orderKey, a_orderValue)) →
    wX_makeFiltered_33 post (nI id) (nI kd) (nI m) (nI x) (nI o) (rest.length + 1) (nI (48 * x + pre.length)) f_handCount f_setCount f_levelNow f_chainLength f_pairKeyNow f_pairValueNow f_orderCount a_handKey a_handValue a_kindOf a_fromX a_numberA a_numberB a_sourceCount a_sourceKey a_sourceValue pc pp pk pv a_there a_kept a_bigness a_needed a_users a_chain a_hasLocal a_local a_hasSum a_sums a_orderKey a_orderValue := by
  have hin : vp_in (nI x) 16 := vp_in_nI hx (by decide)
  intro rest
  induction rest with
  | nil =>
    intro pre W pc pp pk pv e hp k1 k0
    obtain ⟨ec, hl⟩ := ln_rdc hp hx hne
    have hw := (hp id hid).2.1
    rw [ln_up_s] at hw
    have ec' : pc (nI x).toNatClampNeg = nI (M x).length := by rw [nI_clamp (by omega)]; exact ec
    rw [e, List.append_nil] at ec' hl
    unfold wX_makeFiltered_33
    rw [ec', ln_48]
    refine ⟨hin, br_t (nI_le (Nat.le_refl _) (by omega)) (k1 (by show W.length + 0 ≤ 48; omega) _ _ _ _ ?_)⟩
    show ln_ps pc pp pk pv (ln_up M id (W ++ []))
    rw [List.append_nil]
    exact hp
  | cons t rest ih =>
    intro pre W pc pp pk pv e hp k1 k0
    obtain ⟨ec, hl⟩ := ln_rdc hp hx hne
    obtain ⟨e1, e2, e3, h4, h16, h48⟩ := ln_rd1 hp hx hne e
    have hlen : (M x).length = pre.length + (rest.length + 1) := by rw [e, List.length_append]; rfl
    have ec' : pc (nI x).toNatClampNeg = nI (M x).length := by rw [nI_clamp (by omega)]; exact ec
    have hi7 : vp_in (nI (48 * x + pre.length)) 768 := vp_in_nI (by omega) (by decide)
    have eI : (nI (48 * x + pre.length)).toNatClampNeg = 48 * x + pre.length := nI_clamp (by omega)
    have e' := ln_pre e
    have ih' := ih (pre ++ [t])
    rw [ln_pl1, ← Nat.add_assoc] at ih'
    have fq : ln_fq (kd == 9) m (M o) W (t :: rest) = if m.testBit (t.2.1 % 4) = true ∧ ln_fd (kd == 9) t (bif (kd == 9) then M o else W) = false then (t.2.1 % 4, t.2) :: ln_fq (kd == 9) m (M o) (W ++ [(t.2.1 % 4, t.2)]) rest else ln_fq (kd == 9) m (M o) W rest := rfl
    rw [fq] at k1 k0
    have hO : (bif (kd == 9) then M o else W) = ln_up M id W o := by
      rcases hkd with ⟨rfl, rfl⟩ | ⟨rfl, h⟩
      · rw [ln_up_s]; rfl
      · rw [ln_up_n h]; rfl
    have eM : ln_up M id W x = pre ++ t :: rest := by rw [ln_up_n hne]; exact e
    unfold wX_makeFiltered_33
    rw [ec', ln_48, eI, e2, ln_and3 (by omega)]
    refine ⟨hin, br_f (nI_ge (by omega) (by omega)) ⟨hi7, nm_e ?_⟩⟩
    refine ln_xisPart hm (Nat.mod_lt _ (by decide)) (fun hb => ?_) (fun hb => ?_)
    · refine br_f ln_10 (nm_r (ln_48m o) ⟨(ln_up M id W o).length + 1, ?_⟩)
      refine ln_xfl85 hx ho (by omega) eM hp (ln_up M id W o) [] rfl (fun hf => ?_) (fun hf => ?_)
      · rw [if_neg (by rw [hO, hf]; exact fun z => Bool.noConfusion z.2)] at k1 k0
        unfold wX_makeFiltered_161
        exact br_f ln_10 (nm_r (nI_1 _) (ih' _ _ _ _ _ e' hp k1 k0))
      · rw [if_pos ⟨hb, by rw [hO]; exact hf⟩] at k1 k0
        rw [List.length_cons] at k1 k0
        unfold wX_makeFiltered_161
        rw [eI, e2, e3]
        refine br_t rfl ⟨hi7, hi7, ?_⟩
        refine ln_xadd hp hid (Nat.mod_lt _ (by decide)) h16 (fun hw pc' pp' pk' pv' hp' => br_f ln_10 (nm_r (nI_1 _) ?_)) (fun hw => br_t rfl (k0 (by omega) _ _ _ _ _ hp))
        refine ih' (W ++ [(t.2.1 % 4, t.2)]) _ _ _ _ e' hp' (fun hl => ?_) (fun hl => ?_)
        · rw [ln_pl1] at hl
          rw [List.append_assoc]
          exact k1 (by omega)
        · rw [ln_pl1] at hl
          exact k0 (by omega)
    · rw [if_neg (by rw [hb]; exact fun z => Bool.noConfusion z.1)] at k1 k0
      exact br_t rfl (nm_r (nI_1 _) (ih' _ _ _ _ _ e' hp k1 k0))
/-- the other list of distinct and of without -/
theorem ln_xfiltered {post : Int32 → SX → Prop} {n : Nat} {P : Nat → ln_E} {M : Nat → List ln_T} {id m : Nat} (hn16 : n ≤ 16) (pl : ln_pl n P a_kindOf a_fromX a_numberA a_numberB a_sourceCount a_sourceKey a_sourceValue) (w : ln_wf n P) (hid : id < n) (hk : ln_ka (P id) = 8 ∨ ln_ka (P id) = 9) (hm : m < 16) (hp : ln_ps a_pairCount a_pairPart a_pairKey a_pairValue M)
    (k1 : (M id).length + (ln_fq (ln_ka (P id) == 9) m (M (ln_an (P id))) (M id) (M (ln_fx (P id)))).length ≤ 48 → ∀ pc pp pk pv, ln_ps pc pp pk pv (ln_up M id (M id ++ ln_fq (ln_ka (P id) == 9) m (M (ln_an (P id))) (M id) (M (ln_fx (P id))))) → post 1 (f_handCount, f_setCount, f_levelNow, f_chainLength, f_pairKeyNow, f_pairValueNow, f_orderCount, a_handKey, a_handValue, a_kindOf, a_fromX, a_numberA, a_numberB, a_sourceCount, a_sourceKey, a_sourceValue, pc, pp, pk, pv, a_there, a_kept, a_bigness, a_needed, a_users, a_chain, a_hasLocal, a_local, a_hasSum, a_sums, a_orderKey, a_orderValue))
    (k0 : 48 < (M id).length + (ln_fq (ln_ka (P id) == 9) m (M (ln_an (P id))) (M id) (M (ln_fx (P id)))).length → ∀ pc pp pk pv W', ln_ps pc pp pk pv (ln_up M id W') → post 0 (f_handCount, f_setCount, f_levelNow, f_chainLength, f_pairKeyNow, f_pairValueNow, f_orderCount, a_handKey, a_handValue, a_kindOf, a_fromX, a_numberA, a_numberB, a_sourceCount, a_sourceKey, a_sourceValue, pc, pp, pk, pv, a_there, a_kept, a_bigness, a_needed, a_users, a_chain, a_hasLocal, a_local, a_hasSum, a_sums, a_orderKey, a_orderValue)) : wpX_makeFiltered post (f_handCount, f_setCount, f_levelNow, f_chainLength, f_pairKeyNow, f_pairValueNow, f_orderCount, a_handKey, a_handValue, a_kindOf, a_fromX, a_numberA, a_numberB, a_sourceCount, a_sourceKey, a_sourceValue, a_pairCount, a_pairPart, a_pairKey, a_pairValue, a_there, a_kept, a_bigness, a_needed, a_users, a_chain, a_hasLocal, a_local, a_hasSum, a_sums, a_orderKey, a_orderValue) (nI id) (nI (ln_ka (P id))) (nI m) := by
  have hin : vp_in (nI id) 16 := vp_in_nI (by omega) (by decide)
  have pd := pl id hid
  have wd := w id hid
  have hx := wd.2.1 (by omega)
  have hp' : ln_ps a_pairCount a_pairPart a_pairKey a_pairValue (ln_up M id (M id)) := by rw [ln_up_i]; exact hp
  have eX : a_fromX (nI id).toNatClampNeg = nI (ln_fx (P id)) := by rw [nI_clamp (by omega)]; exact pd.2.1 (by omega)
  unfold wpX_makeFiltered
  dsimp only
  refine ⟨hin, nm_r eX ?_⟩
  by_cases h8 : ln_ka (P id) = 8
  · have fqi : ∀ (m : Nat) (A B W L : List ln_T), ln_fq (8 == 9) m A W L = ln_fq (8 == 9) m B W L := by
      intro m A B W L
      induction L generalizing W with
      | nil => rfl
      | cons t r ih =>
        show (if m.testBit (t.2.1 % 4) = true ∧ ln_fd (8 == 9) t W = false then (t.2.1 % 4, t.2) :: ln_fq (8 == 9) m A (W ++ [(t.2.1 % 4, t.2)]) r else ln_fq (8 == 9) m A W r) = (if m.testBit (t.2.1 % 4) = true ∧ ln_fd (8 == 9) t W = false then (t.2.1 % 4, t.2) :: ln_fq (8 == 9) m B (W ++ [(t.2.1 % 4, t.2)]) r else ln_fq (8 == 9) m B W r)
        rw [ih, ih]
    rw [h8] at k1 k0 ⊢
    rw [fqi m _ (M id)] at k1 k0
    refine br_t rfl (nm_r (ln_48m _) ⟨(M (ln_fx (P id))).length + 1, ?_⟩)
    exact ln_xfl33 (kd := 8) (by omega) (by omega) (by omega) (by omega) hm (Or.inl ⟨rfl, rfl⟩) (M (ln_fx (P id))) [] (M id) _ _ _ _ rfl hp' k1 k0
  · have h9 : ln_ka (P id) = 9 := by omega
    have ha := wd.2.2.1 (Or.inr (Or.inr h9))
    have eA : a_numberA (nI id).toNatClampNeg = nI (ln_an (P id)) := by rw [nI_clamp (by omega), pd.2.2.1]; exact ha.2
    rw [h9] at k1 k0 ⊢
    refine br_f (by decide) ⟨hin, nm_r eA (nm_r (ln_48m _) ⟨(M (ln_fx (P id))).length + 1, ?_⟩)⟩
    exact ln_xfl33 (kd := 9) (by omega) (by omega) (by omega) (by omega) hm (Or.inr ⟨rfl, by omega⟩) (M (ln_fx (P id))) [] (M id) _ _ _ _ rfl hp' k1 k0
end
end
section
section
variable {f_handCount f_setCount f_levelNow f_chainLength f_pairKeyNow f_pairValueNow f_orderCount : Int32} {a_handKey a_handValue a_kindOf a_fromX a_numberA a_numberB a_sourceCount a_sourceKey a_sourceValue a_pairCount a_pairPart a_pairKey a_pairValue a_there a_kept a_bigness a_needed a_users a_chain a_hasLocal a_local a_hasSum a_sums a_orderKey a_orderValue : Nat → Int32}
def ln_cn (t : ln_K) (i : Nat) : Nat → List ln_T → Nat
  | _, [] => 0
  | k, s :: r => (if ln_gt s.2 t = true ∨ (s.2 = t ∧ i < k) then 1 else 0) + ln_cn t i (k + 1) r
def ln_lq (c : Nat) (G : List ln_T) : Nat → List ln_T → List ln_T
  | _, [] => []
  | i, t :: r => if ln_cn t.2 i 0 G < c then (0, t.2) :: ln_lq c G (i + 1) r else ln_lq c G (i + 1) r
theorem ln_cn_le (t : ln_K) (i : Nat) : ∀ (L : List ln_T) (k : Nat), ln_cn t i k L ≤ L.length
  | [], _ => Nat.le_refl _
  | s :: r, k => by
    have := ln_cn_le t i r (k + 1)
    show (if ln_gt s.2 t = true ∨ (s.2 = t ∧ i < k) then 1 else 0) + ln_cn t i (k + 1) r ≤ r.length + 1
    split <;> omega
theorem ln_i32_lt {a b : Int32} (h : ¬ a ≤ b) : b < a := by rw [Int32.le_iff_toInt_le] at h; rw [Int32.lt_iff_toInt_lt]; omega
theorem ln_i32_nlt {a b : Int32} (h : a ≤ b) : ¬ b < a := by rw [Int32.le_iff_toInt_le] at h; rw [Int32.lt_iff_toInt_lt]; omega
theorem ln_xcb {post : Int32 → Prop} {M : Nat → List ln_T} {x : Nat} {pre rest pre2 r2 : List ln_T} {t s : ln_T} (hx : x < 16) (e : M x = pre ++ t :: rest) (e2 : M x = pre2 ++ s :: r2) (hp : ln_ps a_pairCount a_pairPart a_pairKey a_pairValue M)
    (k1 : ln_gt s.2 t.2 = true ∨ (s.2 = t.2 ∧ pre.length < pre2.length) → post 1) (k0 : ¬ (ln_gt s.2 t.2 = true ∨ (s.2 = t.2 ∧ pre.length < pre2.length)) → post 0) : wpX_comesBehind post (f_handCount, f_setCount, f_levelNow, f_chainLength, f_pairKeyNow, f_pairValueNow, f_orderCount, a_handKey, a_handValue, a_kindOf, a_fromX, a_numberA, a_numberB, a_sourceCount, a_sourceKey, a_sourceValue, a_pairCount, a_pairPart, a_pairKey, a_pairValue, a_there, a_kept, a_bigness, a_needed, a_users, a_chain, a_hasLocal, a_local, a_hasSum, a_sums, a_orderKey, a_orderValue) (nI (48 * x + pre2.length)) (nI (48 * x + pre.length)) := by
  obtain ⟨_, e1, e3, h4, h16, h48⟩ := ln_rd0 hp hx e
  obtain ⟨_, f1, f3, g4, g16, g48⟩ := ln_rd0 hp hx e2
  have hi7 : vp_in (nI (48 * x + pre.length)) 768 := vp_in_nI (by omega) (by decide)
  have hj7 : vp_in (nI (48 * x + pre2.length)) 768 := vp_in_nI (by omega) (by decide)
  have eI : (nI (48 * x + pre.length)).toNatClampNeg = 48 * x + pre.length := nI_clamp (by omega)
  have eJ : (nI (48 * x + pre2.length)).toNatClampNeg = 48 * x + pre2.length := nI_clamp (by omega)
  have gt : ln_gt s.2 t.2 = true ↔ (t.2.2 < s.2.2 ∨ (s.2.2 = t.2.2 ∧ t.2.1 < s.2.1)) := decide_eq_true_iff
  unfold wpX_comesBehind
  dsimp only
  rw [eI, eJ, e1, e3, f1, f3]
  refine ⟨hj7, hi7, br_c (fun hv => ⟨hj7, hi7, pk_eq s.2.1 t.2.1 (fun hk => ?_) (fun hk => ⟨hj7, hi7, ?_⟩)⟩) (fun hv => ⟨hj7, hi7, ?_⟩)⟩
  · have he : s.2 = t.2 := Prod.ext hk hv
    refine pk_le (48 * x + pre2.length) (48 * x + pre.length) (fun h => k0 fun z => ?_) (fun h => k1 (Or.inr ⟨he, by omega⟩))
    rcases z with z | ⟨_, z⟩
    · rw [gt, hv, hk] at z
      rcases z with z | ⟨_, z⟩
      · exact Int32.lt_irrefl z
      · exact Nat.lt_irrefl _ z
    · omega
  · refine pk_le s.2.1 t.2.1 (fun h => k0 fun z => ?_) (fun h => k1 (Or.inl (gt.mpr (Or.inr ⟨hv, by omega⟩))))
    rcases z with z | ⟨z, _⟩
    · rw [gt, hv] at z
      rcases z with z | ⟨_, z⟩
      · exact Int32.lt_irrefl z
      · omega
    · exact hk (congrArg Prod.fst z)
  · refine br_c (fun h => k0 fun z => ?_) (fun h => k1 (Or.inl (gt.mpr (Or.inl (ln_i32_lt h)))))
    rcases z with z | ⟨z, _⟩
    · rcases gt.mp z with z | ⟨z, _⟩
      · exact ln_i32_nlt h z
      · exact hv z
    · exact hv (congrArg Prod.snd z)
theorem ln_xla48 {post : SX → Prop} {J23 : ln_J8} {M : Nat → List ln_T} {W : List ln_T} {id x c : Nat} {pre rest : List ln_T} {t : ln_T} (hid : id < 16) (hx : x < 16) (hne : x ≠ id) (hc : c ≤ 8) (eA : a_numberA id = nI c) (e : M x = pre ++ t :: rest) (hp : ln_ps a_pairCount a_pairPart a_pairKey a_pairValue (ln_up M id W)) (hw : W.length < 48) :
    ∀ (r2 pre2 : List ln_T) (b : Nat), M x = pre2 ++ r2 → b ≤ pre2.length →
    (c ≤ b + ln_cn t.2 pre.length pre2.length r2 → J23 (nI (48 * x + pre.length + 1)) f_handCount f_setCount f_levelNow f_chainLength f_pairKeyNow f_pairValueNow f_orderCount a_handKey a_handValue a_kindOf a_fromX a_numberA a_numberB a_sourceCount a_sourceKey a_sourceValue a_pairCount a_pairPart a_pairKey a_pairValue a_there a_kept a_bigness a_needed a_users a_chain a_hasLocal a_local a_hasSum a_sums a_orderKey a_orderValue) →
    (b + ln_cn t.2 pre.length pre2.length r2 < c → ∀ pc pp pk pv, ln_ps pc pp pk pv (ln_up M id (W ++ [(0, t.2)])) → J23 (nI (48 * x + pre.length + 1)) f_handCount f_setCount f_levelNow f_chainLength f_pairKeyNow f_pairValueNow f_orderCount a_handKey a_handValue a_kindOf a_fromX a_numberA a_numberB a_sourceCount a_sourceKey a_sourceValue pc pp pk pv a_there a_kept a_bigness a_needed a_users a_chain a_hasLocal a_local a_hasSum a_sums a_orderKey a_orderValue) →
    wX_makeLast_48 post J23 (nI id) (nI x) (nI (48 * x + pre.length)) f_handCount f_setCount f_levelNow f_chainLength f_pairKeyNow f_pairValueNow f_orderCount a_handKey a_handValue a_kindOf a_fromX a_numberA a_numberB a_sourceCount a_sourceKey a_sourceValue a_pairCount a_pairPart a_pairKey a_pairValue a_there a_kept a_bigness a_needed a_users a_chain a_hasLocal a_local a_hasSum a_sums a_orderKey a_orderValue (r2.length + 1) (nI b) (nI (48 * x + pre2.length)) := by
  have hin : vp_in (nI x) 16 := vp_in_nI hx (by decide)
  have hin' : vp_in (nI id) 16 := vp_in_nI hid (by decide)
  obtain ⟨ec, hl⟩ := ln_rdc hp hx hne
  have ec' : a_pairCount (nI x).toNatClampNeg = nI (M x).length := by rw [nI_clamp (by omega)]; exact ec
  have eA' : a_numberA (nI id).toNatClampNeg = nI c := by rw [nI_clamp (by omega)]; exact eA
  obtain ⟨_, e2, e3, h4, h16, h48⟩ := ln_rd1 hp hx hne e
  have hi7 : vp_in (nI (48 * x + pre.length)) 768 := vp_in_nI (by omega) (by decide)
  have eI : (nI (48 * x + pre.length)).toNatClampNeg = 48 * x + pre.length := nI_clamp (by omega)
  have eM : ln_up M id W x = pre ++ t :: rest := by rw [ln_up_n hne]; exact e
  intro r2
  induction r2 with
  | nil =>
    intro pre2 b eo hb k1 k0
    rw [eo, List.append_nil] at ec' hl
    unfold wX_makeLast_48
    rw [ec', ln_48, eA', eI, e2, e3]
    refine ⟨hin, br_t (nI_le (Nat.le_refl _) (by omega)) ⟨hin', pk_le c b (fun h => nm_r (nI_1 _) (k1 h)) (fun h => ⟨hi7, hi7, ?_⟩)⟩⟩
    refine ln_xadd (p := 0) hp hid (by decide) h16 (fun _ pc pp pk pv hp' => nm_r (nI_1 _) (k0 h pc pp pk pv hp')) (fun h => absurd h (by omega))
  | cons s r2 ih =>
    intro pre2 b eo hb k1 k0
    have hlen : (M x).length = pre2.length + (r2.length + 1) := by rw [eo, List.length_append]; rfl
    have ih' := ih (pre2 ++ [s])
    rw [ln_pl1, ← Nat.add_assoc] at ih'
    have eM2 : ln_up M id W x = pre2 ++ s :: r2 := by rw [ln_up_n hne]; exact eo
    have cn : ln_cn t.2 pre.length pre2.length (s :: r2) = (if ln_gt s.2 t.2 = true ∨ (s.2 = t.2 ∧ pre.length < pre2.length) then 1 else 0) + ln_cn t.2 pre.length (pre2.length + 1) r2 := rfl
    rw [cn] at k1 k0
    unfold wX_makeLast_48
    rw [ec', ln_48]
    refine ⟨hin, br_f (nI_ge (by omega) (by omega)) ?_⟩
    refine ln_xcb hx eM eM2 hp (fun h => ?_) (fun h => ?_)
    · rw [if_pos h] at k1 k0
      refine br_f ln_10 (nm_r (nI_1 _) (nm_r (nI_1 _) (ih' (b + 1) (ln_pre eo) (by omega) (fun z => k1 (by omega)) (fun z => k0 (by omega)))))
    · rw [if_neg h] at k1 k0
      exact br_t rfl (nm_r (nI_1 _) (ih' b (ln_pre eo) (by omega) (fun z => k1 (by omega)) (fun z => k0 (by omega))))
theorem ln_xla23 {post : SX → Prop} {M : Nat → List ln_T} {id x c : Nat} (hid : id < 16) (hx : x < 16) (hne : x ≠ id) (hc : c ≤ 8) (eA : a_numberA id = nI c) :
    ∀ (rest pre W : List ln_T) (pc pp pk pv : Nat → Int32), M x = pre ++ rest → ln_ps pc pp pk pv (ln_up M id W) → W.length + rest.length ≤ 48 →
    (∀ pc pp pk pv, ln_ps pc pp pk pv (ln_up M id (W ++ ln_lq c (M x) pre.length rest)) → post (f_handCount, f_setCount, f_levelNow, f_chainLength, f_pairKeyNow, f_pairValueNow, f_orderCount, a_handKey, a_handValue, a_kindOf, a_fromX, a_numberA, a_numberB, a_sourceCount, a_sourceKey, a_sourceValue, pc, pp, pk, pv, a_there, a_kept, a_bigness, a_needed, a_users, a_chain, a_hasLocal, a_local, a_hasSum, a_sums, a_orderKey, a_orderValue)) →
    wX_makeLast_23 post (nI id) (nI x) (rest.length + 1) (nI (48 * x + pre.length)) f_handCount f_setCount f_levelNow f_chainLength f_pairKeyNow f_pairValueNow f_orderCount a_handKey a_handValue a_kindOf a_fromX a_numberA a_numberB a_sourceCount a_sourceKey a_sourceValue pc pp pk pv a_there a_kept a_bigness a_needed a_users a_chain a_hasLocal a_local a_hasSum a_sums a_orderKey a_orderValue := by
  have hin : vp_in (nI x) 16 := vp_in_nI hx (by decide)
  intro rest
  induction rest with
  | nil =>
    intro pre W pc pp pk pv e hp hl0 k
    obtain ⟨ec, hl⟩ := ln_rdc hp hx hne
    have ec' : pc (nI x).toNatClampNeg = nI (M x).length := by rw [nI_clamp (by omega)]; exact ec
    rw [e, List.append_nil] at ec' hl
    unfold wX_makeLast_23
    rw [ec', ln_48]
    refine ⟨hin, br_t (nI_le (Nat.le_refl _) (by omega)) (k _ _ _ _ ?_)⟩
    show ln_ps pc pp pk pv (ln_up M id (W ++ []))
    rw [List.append_nil]
    exact hp
  | cons t rest ih =>
    intro pre W pc pp pk pv e hp hl0 k
    obtain ⟨ec, hl⟩ := ln_rdc hp hx hne
    have hlen : (M x).length = pre.length + (rest.length + 1) := by rw [e, List.length_append]; rfl
    have ec' : pc (nI x).toNatClampNeg = nI (M x).length := by rw [nI_clamp (by omega)]; exact ec
    have e' := ln_pre e
    rw [List.length_cons] at hl0
    have ih' := ih (pre ++ [t])
    rw [ln_pl1, ← Nat.add_assoc] at ih'
    have lq : ln_lq c (M x) pre.length (t :: rest) = if ln_cn t.2 pre.length 0 (M x) < c then (0, t.2) :: ln_lq c (M x) (pre.length + 1) rest else ln_lq c (M x) (pre.length + 1) rest := rfl
    rw [lq] at k
    unfold wX_makeLast_23
    rw [ec', ln_48]
    refine ⟨hin, br_f (nI_ge (by omega) (by omega)) (nm_r (ln_48m x) ⟨(M x).length + 1, ?_⟩)⟩
    refine ln_xla48 hid hx hne hc eA e hp (by omega) (M x) [] 0 rfl (Nat.le_refl _) (fun h => ?_) (fun h pc' pp' pk' pv' hp' => ?_)
    · rw [Nat.zero_add, List.length_nil] at h
      rw [if_neg (Nat.not_lt.mpr h)] at k
      exact ih' _ _ _ _ _ e' hp (by omega) k
    · rw [Nat.zero_add, List.length_nil] at h
      rw [if_pos h] at k
      refine ih' _ _ _ _ _ e' hp' (by rw [ln_pl1]; omega) ?_
      rw [List.append_assoc]
      exact k
theorem ln_xlast {post : SX → Prop} {n : Nat} {P : Nat → ln_E} {M : Nat → List ln_T} {id m : Nat} (hn16 : n ≤ 16) (pl : ln_pl n P a_kindOf a_fromX a_numberA a_numberB a_sourceCount a_sourceKey a_sourceValue) (w : ln_wf n P) (hid : id < n) (hk : ln_ka (P id) = 10) (hm : m < 16) (hp : ln_ps a_pairCount a_pairPart a_pairKey a_pairValue M)
    (k1 : m.testBit 0 = true → (M id).length = 0 ∧ ∀ pc pp pk pv, ln_ps pc pp pk pv (ln_up M id (M id ++ ln_lq (ln_an (P id)) (M (ln_fx (P id))) 0 (M (ln_fx (P id))))) → post (f_handCount, f_setCount, f_levelNow, f_chainLength, f_pairKeyNow, f_pairValueNow, f_orderCount, a_handKey, a_handValue, a_kindOf, a_fromX, a_numberA, a_numberB, a_sourceCount, a_sourceKey, a_sourceValue, pc, pp, pk, pv, a_there, a_kept, a_bigness, a_needed, a_users, a_chain, a_hasLocal, a_local, a_hasSum, a_sums, a_orderKey, a_orderValue))
    (k0 : m.testBit 0 = false → post (f_handCount, f_setCount, f_levelNow, f_chainLength, f_pairKeyNow, f_pairValueNow, f_orderCount, a_handKey, a_handValue, a_kindOf, a_fromX, a_numberA, a_numberB, a_sourceCount, a_sourceKey, a_sourceValue, a_pairCount, a_pairPart, a_pairKey, a_pairValue, a_there, a_kept, a_bigness, a_needed, a_users, a_chain, a_hasLocal, a_local, a_hasSum, a_sums, a_orderKey, a_orderValue)) : wpX_makeLast post (f_handCount, f_setCount, f_levelNow, f_chainLength, f_pairKeyNow, f_pairValueNow, f_orderCount, a_handKey, a_handValue, a_kindOf, a_fromX, a_numberA, a_numberB, a_sourceCount, a_sourceKey, a_sourceValue, a_pairCount, a_pairPart, a_pairKey, a_pairValue, a_there, a_kept, a_bigness, a_needed, a_users, a_chain, a_hasLocal, a_local, a_hasSum, a_sums, a_orderKey, a_orderValue) (nI id) (nI m) := by
  have hin : vp_in (nI id) 16 := vp_in_nI (by omega) (by decide)
  have pd := pl id hid
  have wd := w id hid
  have hx := wd.2.1 (by omega)
  have ha := wd.2.2.2.2.1 hk
  have hp' : ln_ps a_pairCount a_pairPart a_pairKey a_pairValue (ln_up M id (M id)) := by rw [ln_up_i]; exact hp
  have eX : a_fromX (nI id).toNatClampNeg = nI (ln_fx (P id)) := by rw [nI_clamp (by omega)]; exact pd.2.1 (by omega)
  have eA : a_numberA id = nI (ln_an (P id)) := by rw [pd.2.2.1]; exact ha.2
  have hlx := (hp (ln_fx (P id)) (by omega)).2.1
  unfold wpX_makeLast
  dsimp only
  refine ln_xisPart (p := 0) hm (by decide) (fun hb => ?_) (fun hb => br_t rfl (k0 hb))
  refine br_f ln_10 ⟨hin, nm_r eX (nm_r (ln_48m _) ⟨(M (ln_fx (P id))).length + 1, ?_⟩)⟩
  exact ln_xla23 (by omega) (by omega) (by omega) ha.1 eA (M (ln_fx (P id))) [] (M id) _ _ _ _ rfl hp' (by have := (k1 hb).1; omega) (k1 hb).2
end
end
section
section
variable {f_handCount f_setCount f_levelNow f_chainLength f_pairKeyNow f_pairValueNow f_orderCount : Int32} {a_handKey a_handValue a_kindOf a_fromX a_numberA a_numberB a_sourceCount a_sourceKey a_sourceValue a_pairCount a_pairPart a_pairKey a_pairValue a_there a_kept a_bigness a_needed a_users a_chain a_hasLocal a_local a_hasSum a_sums a_orderKey a_orderValue : Nat → Int32}
def ln_oc (h v : Nat → Int32) (o : Nat → Option Int32) : Prop := ∀ k, k < 16 → (o k = none → h k = 0) ∧ (∀ s, o k = some s → h k = 1 ∧ v k = s)
theorem ln_oc_u {h v : Nat → Int32} {o : Nat → Option Int32} {k : Nat} {s : Int32} (ho : ln_oc h v o) : ln_oc (upd h k 1) (upd v k s) (ln_up o k (some s)) := by
  intro j hj
  by_cases e : j = k
  · subst e
    rw [ln_up_s, pk_us, pk_us]
    exact ⟨fun z => ln_cn0 z, fun z hz => ⟨rfl, Option.some.inj hz⟩⟩
  · rw [ln_up_n e, pk_un e, pk_un e]
    exact ho j hj
theorem ln_oc_c {h v : Nat → Int32} {o o' : Nat → Option Int32} (ho : ln_oc h v o) (e : ∀ k, k < 16 → o k = o' k) : ln_oc h v o' := by
  intro k hk
  rw [← e k hk]
  exact ho k hk
theorem ln_xaddLocal {post : SX → Prop} {o : Nat → Option Int32} {k : Nat} {v h : Int32} (hk : k < 16) (ho : ln_oc a_hasLocal a_local o)
    (K : ∀ hl lc, ln_oc hl lc (ln_up o k (ln_oa h (o k) v)) → post (f_handCount, f_setCount, f_levelNow, f_chainLength, f_pairKeyNow, f_pairValueNow, f_orderCount, a_handKey, a_handValue, a_kindOf, a_fromX, a_numberA, a_numberB, a_sourceCount, a_sourceKey, a_sourceValue, a_pairCount, a_pairPart, a_pairKey, a_pairValue, a_there, a_kept, a_bigness, a_needed, a_users, a_chain, hl, lc, a_hasSum, a_sums, a_orderKey, a_orderValue)) : wpX_addLocal post (f_handCount, f_setCount, f_levelNow, f_chainLength, f_pairKeyNow, f_pairValueNow, f_orderCount, a_handKey, a_handValue, a_kindOf, a_fromX, a_numberA, a_numberB, a_sourceCount, a_sourceKey, a_sourceValue, a_pairCount, a_pairPart, a_pairKey, a_pairValue, a_there, a_kept, a_bigness, a_needed, a_users, a_chain, a_hasLocal, a_local, a_hasSum, a_sums, a_orderKey, a_orderValue) (nI k) v h := by
  have hin : vp_in (nI k) 16 := vp_in_nI hk (by decide)
  have eI : (nI k).toNatClampNeg = k := nI_clamp (by omega)
  unfold wpX_addLocal
  dsimp only
  rw [eI, ln_vb1]
  cases e : o k with
  | none =>
    rw [e] at K
    refine ⟨hin, br_t ((ho k hk).1 e) ⟨hin, nm_e ⟨hin, nm_e (K _ _ (ln_oc_u ho))⟩⟩⟩
  | some s =>
    obtain ⟨h1, h2⟩ := (ho k hk).2 s e
    rw [e] at K
    rw [h1, h2]
    refine ⟨hin, br_f ln_10 ⟨hin, ?_⟩⟩
    exact ln_xadded ⟨hin, nm_e ⟨hin, nm_e (K _ _ (ln_oc_u ho))⟩⟩
theorem ln_xaddSum {post : SX → Prop} {o s : Nat → Option Int32} {k : Nat} {v h : Int32} (hk : k < 16) (ho : ln_oc a_hasLocal a_local o) (hs : ln_oc a_hasSum a_sums s) (e : o k = some v)
    (K : ∀ hs sm, ln_oc hs sm (ln_up s k (ln_oa h (s k) v)) → post (f_handCount, f_setCount, f_levelNow, f_chainLength, f_pairKeyNow, f_pairValueNow, f_orderCount, a_handKey, a_handValue, a_kindOf, a_fromX, a_numberA, a_numberB, a_sourceCount, a_sourceKey, a_sourceValue, a_pairCount, a_pairPart, a_pairKey, a_pairValue, a_there, a_kept, a_bigness, a_needed, a_users, a_chain, a_hasLocal, a_local, hs, sm, a_orderKey, a_orderValue)) : wpX_addSum post (f_handCount, f_setCount, f_levelNow, f_chainLength, f_pairKeyNow, f_pairValueNow, f_orderCount, a_handKey, a_handValue, a_kindOf, a_fromX, a_numberA, a_numberB, a_sourceCount, a_sourceKey, a_sourceValue, a_pairCount, a_pairPart, a_pairKey, a_pairValue, a_there, a_kept, a_bigness, a_needed, a_users, a_chain, a_hasLocal, a_local, a_hasSum, a_sums, a_orderKey, a_orderValue) (nI k) h := by
  have hin : vp_in (nI k) 16 := vp_in_nI hk (by decide)
  have eI : (nI k).toNatClampNeg = k := nI_clamp (by omega)
  obtain ⟨_, h2⟩ := (ho k hk).2 v e
  unfold wpX_addSum
  dsimp only
  rw [eI, ln_vb1, h2]
  cases e : s k with
  | none =>
    rw [e] at K
    exact ⟨hin, br_t ((hs k hk).1 e) ⟨hin, hin, nm_e ⟨hin, nm_e (K _ _ (ln_oc_u hs))⟩⟩⟩
  | some q =>
    obtain ⟨g1, g2⟩ := (hs k hk).2 q e
    rw [e] at K
    rw [g1, g2]
    refine ⟨hin, br_f ln_10 ⟨hin, hin, ?_⟩⟩
    exact ln_xadded ⟨hin, nm_e ⟨hin, nm_e (K _ _ (ln_oc_u hs))⟩⟩
/-! the output -/
def ln_sq1 (s : Nat → Option Int32) (m i : Nat) : List ln_T := if m.testBit (i % 4) = true then ((s i).map (fun v => (i % 4, i, v))).toList else []
def ln_sq (s : Nat → Option Int32) (m : Nat) : Nat → Nat → List ln_T
  | _, 0 => []
  | i, r + 1 => ln_sq1 s m i ++ ln_sq s m (i + 1) r
theorem ln_xsm207 {post : SX → Prop} {M : Nat → List ln_T} {s : Nat → Option Int32} {id m : Nat} (hid : id < 16) (hm : m < 16) (hs : ln_oc a_hasSum a_sums s) :
    ∀ (r i : Nat) (W : List ln_T) (pc pp pk pv : Nat → Int32), i + r = 16 → ln_ps pc pp pk pv (ln_up M id W) → W.length + (ln_sq s m i r).length ≤ 48 →
    (∀ pc pp pk pv, ln_ps pc pp pk pv (ln_up M id (W ++ ln_sq s m i r)) → post (f_handCount, f_setCount, f_levelNow, f_chainLength, f_pairKeyNow, f_pairValueNow, f_orderCount, a_handKey, a_handValue, a_kindOf, a_fromX, a_numberA, a_numberB, a_sourceCount, a_sourceKey, a_sourceValue, pc, pp, pk, pv, a_there, a_kept, a_bigness, a_needed, a_users, a_chain, a_hasLocal, a_local, a_hasSum, a_sums, a_orderKey, a_orderValue)) → wX_makeSums_207 post (nI id) (nI m) (r + 1) (nI i) f_handCount f_setCount f_levelNow f_chainLength f_pairKeyNow f_pairValueNow f_orderCount a_handKey a_handValue a_kindOf a_fromX a_numberA a_numberB a_sourceCount a_sourceKey a_sourceValue pc pp pk pv a_there a_kept a_bigness a_needed a_users a_chain a_hasLocal a_local a_hasSum a_sums a_orderKey a_orderValue := by
  intro r
  induction r with
  | zero =>
    intro i W pc pp pk pv hi hp _ k
    refine br_t (nI_le (a := 16) (by omega) (by omega)) (k _ _ _ _ ?_)
    show ln_ps pc pp pk pv (ln_up M id (W ++ []))
    rw [List.append_nil]
    exact hp
  | succ r ih =>
    intro i W pc pp pk pv hi hp hl k
    have hin : vp_in (nI i) 16 := vp_in_nI (by omega) (by decide)
    have eI : (nI i).toNatClampNeg = i := nI_clamp (by omega)
    have sq : ln_sq s m i (r + 1) = ln_sq1 s m i ++ ln_sq s m (i + 1) r := rfl
    rw [sq] at k hl
    rw [List.length_append] at hl
    unfold wX_makeSums_207
    rw [eI, ln_and3 (by omega)]
    refine br_f (nI_ge (b := 16) (by omega) (by decide)) ⟨hin, ?_⟩
    cases e : s i with
    | none =>
      have z : ln_sq1 s m i = [] := by
        unfold ln_sq1
        rw [e]
        split <;> rfl
      rw [z, List.nil_append] at k
      rw [z, List.length_nil] at hl
      exact br_t ((hs i (by omega)).1 e) (nm_r (nI_1 _) (ih (i + 1) W _ _ _ _ (by omega) hp (by omega) k))
    | some v =>
      obtain ⟨g1, g2⟩ := (hs i (by omega)).2 v e
      rw [g1, g2]
      refine br_f ln_10 ?_
      refine ln_xisPart hm (Nat.mod_lt _ (by decide)) (fun hb => ?_) (fun hb => ?_)
      · have z : ln_sq1 s m i = [(i % 4, i, v)] := by
          unfold ln_sq1
          rw [e, if_pos hb]
          rfl
        rw [z] at k hl
        rw [List.length_singleton] at hl
        refine br_f ln_10 ⟨hin, ?_⟩
        refine ln_xadd hp hid (Nat.mod_lt _ (by decide)) (by omega) (fun hw pc' pp' pk' pv' hp' => nm_r (nI_1 _) ?_) (fun hw => absurd hl (by omega))
        refine ih (i + 1) _ _ _ _ _ (by omega) hp' (by rw [ln_pl1]; omega) ?_
        rw [List.append_assoc]
        exact k
      · have z : ln_sq1 s m i = [] := by
          unfold ln_sq1
          rw [if_neg (by rw [hb]; exact Bool.noConfusion)]
        rw [z, List.nil_append] at k
        rw [z, List.length_nil] at hl
        exact br_t rfl (nm_r (nI_1 _) (ih (i + 1) W _ _ _ _ (by omega) hp (by omega) k))
/-! one part added up, then sent -/
theorem ln_xsm167 {post : SX → Prop} {J57 : ln_J8} {o s : Nat → Option Int32} {x1 x2 x3 x5 h : Int32} {p : Nat} (ho : ln_oc a_hasLocal a_local o)
    (k : ∀ hs sm, ln_oc hs sm (fun k => ln_cb h (s k) (o k)) → J57 (nI (p + 1)) f_handCount f_setCount f_levelNow f_chainLength f_pairKeyNow f_pairValueNow f_orderCount a_handKey a_handValue a_kindOf a_fromX a_numberA a_numberB a_sourceCount a_sourceKey a_sourceValue a_pairCount a_pairPart a_pairKey a_pairValue a_there a_kept a_bigness a_needed a_users a_chain a_hasLocal a_local hs sm a_orderKey a_orderValue) :
    ∀ (r i : Nat) (hs sm : Nat → Int32), i + r = 16 → ln_oc hs sm (fun k => if k < i then ln_cb h (s k) (o k) else s k) → wX_makeSums_167 post J57 x1 x2 x3 h x5 (nI p) (r + 1) (nI i) f_handCount f_setCount f_levelNow f_chainLength f_pairKeyNow f_pairValueNow f_orderCount a_handKey a_handValue a_kindOf a_fromX a_numberA a_numberB a_sourceCount a_sourceKey a_sourceValue a_pairCount a_pairPart a_pairKey a_pairValue a_there a_kept a_bigness a_needed a_users a_chain a_hasLocal a_local hs sm a_orderKey a_orderValue := by
  intro r
  induction r with
  | zero =>
    intro i hs sm hi hh
    refine br_t (nI_le (a := 16) (by omega) (by omega)) (nm_r (nI_1 _) (k hs sm (ln_oc_c hh fun k hk => if_pos (by omega))))
  | succ r ih =>
    intro i hs sm hi hh
    have hin : vp_in (nI i) 16 := vp_in_nI (by omega) (by decide)
    have eI : (nI i).toNatClampNeg = i := nI_clamp (by omega)
    unfold wX_makeSums_167
    rw [eI]
    refine br_f (nI_ge (b := 16) (by omega) (by decide)) ⟨hin, ?_⟩
    cases e : o i with
    | none =>
      refine br_t ((ho i (by omega)).1 e) (nm_r (nI_1 _) (ih (i + 1) hs sm (by omega) (ln_oc_c hh fun k hk => ?_)))
      by_cases z : k = i
      · subst z
        rw [if_neg (Nat.lt_irrefl _), if_pos (Nat.lt_succ_self _), e]
        rfl
      · by_cases y : k < i
        · rw [if_pos y, if_pos (by omega)]
        · rw [if_neg y, if_neg (by omega)]
    | some v =>
      obtain ⟨g1, g2⟩ := (ho i (by omega)).2 v e
      refine br_f (by rw [g1]; exact ln_10) ?_
      refine ln_xaddSum (by omega) ho hh e fun hs' sm' hh' => nm_r (nI_1 _) (ih (i + 1) hs' sm' (by omega) (ln_oc_c hh' fun k hk => ?_))
      by_cases z : k = i
      · subst z
        rw [ln_up_s, if_neg (Nat.lt_irrefl _), if_pos (Nat.lt_succ_self _), e]
        rfl
      · rw [ln_up_n z]
        by_cases y : k < i
        · rw [if_pos y, if_pos (by omega)]
        · rw [if_neg y, if_neg (by omega)]
def ln_sel (R p : Nat) (t : ln_T) : Bool := R == 1 || t.1 == p
def ln_lo (h : Int32) (k : Nat) (R p : Nat) (L : List ln_T) (o : Option Int32) : Option Int32 := ((L.filter (ln_sel R p)).map Prod.snd).foldl (ln_rf h k) o
theorem ln_lo_t {h : Int32} {k R p : Nat} {t : ln_T} {L : List ln_T} {o : Option Int32} (hs : ln_sel R p t = true) : ln_lo h k R p (t :: L) o = ln_lo h k R p L (ln_rf h k o t.2) := by
  unfold ln_lo
  rw [List.filter_cons_of_pos hs]
  rfl
theorem ln_lo_f {h : Int32} {k R p : Nat} {t : ln_T} {L : List ln_T} {o : Option Int32} (hs : ln_sel R p t = false) : ln_lo h k R p (t :: L) o = ln_lo h k R p L o := by
  unfold ln_lo
  rw [List.filter_cons_of_neg (by rw [hs]; exact Bool.noConfusion)]
theorem ln_xsm94 {post : SX → Prop} {J57 : ln_J8} {M : Nat → List ln_T} {x1 x2 h : Int32} {x R p : Nat} (hx : x < 16) (hR : R < 16) (hp4 : p < 4) (hp : ln_ps a_pairCount a_pairPart a_pairKey a_pairValue M) {s : Nat → Option Int32} (hs : ln_oc a_hasSum a_sums s)
    {O : Nat → Option Int32} (k : ∀ hl lc hs sm, ln_oc hs sm (fun k => ln_cb h (s k) (O k)) → J57 (nI (p + 1)) f_handCount f_setCount f_levelNow f_chainLength f_pairKeyNow f_pairValueNow f_orderCount a_handKey a_handValue a_kindOf a_fromX a_numberA a_numberB a_sourceCount a_sourceKey a_sourceValue a_pairCount a_pairPart a_pairKey a_pairValue a_there a_kept a_bigness a_needed a_users a_chain hl lc hs sm a_orderKey a_orderValue) :
    ∀ (rest pre : List ln_T) (o : Nat → Option Int32) (hl lc : Nat → Int32), M x = pre ++ rest → ln_oc hl lc o → (∀ k, k < 16 → ln_lo h k R p rest (o k) = O k) → wX_makeSums_94 post J57 x1 x2 (nI x) h (nI R) (nI p) (rest.length + 1) (nI (48 * x + pre.length)) f_handCount f_setCount f_levelNow f_chainLength f_pairKeyNow f_pairValueNow f_orderCount a_handKey a_handValue a_kindOf a_fromX a_numberA a_numberB a_sourceCount a_sourceKey a_sourceValue a_pairCount a_pairPart a_pairKey a_pairValue a_there a_kept a_bigness a_needed a_users a_chain hl lc a_hasSum a_sums a_orderKey a_orderValue := by
  have hin : vp_in (nI x) 16 := vp_in_nI hx (by decide)
  have ec := (hp x hx).1
  have hlx := (hp x hx).2.1
  have ec' : a_pairCount (nI x).toNatClampNeg = nI (M x).length := by rw [nI_clamp (by omega)]; exact ec
  intro rest
  induction rest with
  | nil =>
    intro pre o hl lc e ho hO
    rw [e, List.append_nil] at ec' hlx
    unfold wX_makeSums_94
    rw [ec', ln_48]
    refine ⟨hin, br_t (nI_le (Nat.le_refl _) (by omega)) ⟨17, ?_⟩⟩
    refine ln_xsm167 (s := s) (o := O) (ln_oc_c ho hO) (fun hs sm hh => k hl lc hs sm hh) 16 0 _ _ rfl (ln_oc_c hs fun k hk => (if_neg (Nat.not_lt_zero k)).symm)
  | cons t rest ih =>
    intro pre o hl lc e ho hO
    obtain ⟨e1, e2, e3, h4, h16, h48⟩ := ln_rd0 hp hx e
    have hlen : (M x).length = pre.length + (rest.length + 1) := by rw [e, List.length_append]; rfl
    have hi7 : vp_in (nI (48 * x + pre.length)) 768 := vp_in_nI (by omega) (by decide)
    have eI : (nI (48 * x + pre.length)).toNatClampNeg = 48 * x + pre.length := nI_clamp (by omega)
    have e' := ln_pre e
    have ih' := ih (pre ++ [t])
    rw [ln_pl1, ← Nat.add_assoc] at ih'
    have add : ln_sel R p t = true → wX_makeSums_128 post J57 (wX_makeSums_94 post J57 x1 x2 (nI x) h (nI R) (nI p) (rest.length + 1)) x1 x2 (nI x) h (nI R) (nI p) (nI (48 * x + pre.length)) f_handCount f_setCount f_levelNow f_chainLength f_pairKeyNow f_pairValueNow f_orderCount a_handKey a_handValue a_kindOf a_fromX a_numberA a_numberB a_sourceCount a_sourceKey a_sourceValue a_pairCount a_pairPart a_pairKey a_pairValue a_there a_kept a_bigness a_needed a_users a_chain hl lc a_hasSum a_sums a_orderKey a_orderValue := fun hsel => by
      have go : ∀ v, v = ln_vl h t.2.2 → wX_makeSums_153 post J57 (wX_makeSums_94 post J57 x1 x2 (nI x) h (nI R) (nI p) (rest.length + 1)) x1 x2 (nI x) h (nI R) (nI p) (nI (48 * x + pre.length)) v (nI t.2.1) f_handCount f_setCount f_levelNow f_chainLength f_pairKeyNow f_pairValueNow f_orderCount a_handKey a_handValue a_kindOf a_fromX a_numberA a_numberB a_sourceCount a_sourceKey a_sourceValue a_pairCount a_pairPart a_pairKey a_pairValue a_there a_kept a_bigness a_needed a_users a_chain hl lc a_hasSum a_sums a_orderKey a_orderValue := fun v hv => by
        unfold wX_makeSums_153
        refine ln_xaddLocal h16 ho fun hl' lc' ho' => nm_r (nI_1 _) (ih' _ hl' lc' e' ho' fun k hk => ?_)
        rw [← hO k hk, ln_lo_t hsel]
        congr 1
        unfold ln_rf
        by_cases z : t.2.1 = k
        · subst z
          rw [ln_up_s, if_pos rfl, hv]
        · rw [ln_up_n (Ne.symm z), if_neg z]
      unfold wX_makeSums_128
      rw [eI, e2, e3]
      refine ⟨hi7, br_c (fun h3 => go 1 (if_pos h3).symm) (fun h3 => ⟨hi7, go _ (if_neg h3).symm⟩)⟩
    unfold wX_makeSums_94
    rw [ec', ln_48, eI, e1]
    refine ⟨hin, br_f (nI_ge (by omega) (by omega)) (pk_eq R 1 (fun h1 => add ?_) (fun h1 => ⟨hi7, pk_eq t.1 p (fun h2 => add ?_) (fun h2 => ?_)⟩))⟩
    · unfold ln_sel; rw [h1]; rfl
    · unfold ln_sel; rw [h2, beq_self_eq_true, Bool.or_true]
    · refine nm_r (nI_1 _) (ih' o hl lc e' ho fun k hk => ?_)
      rw [← hO k hk, ln_lo_f]
      unfold ln_sel
      rw [beq_false_of_ne h1, beq_false_of_ne h2]
      rfl
theorem ln_xsm67 {post : SX → Prop} {J57 : ln_J8} {M : Nat → List ln_T} {x1 x2 h : Int32} {x R p : Nat} (hx : x < 16) (hR : R < 16) (hp4 : p < 4) (hp : ln_ps a_pairCount a_pairPart a_pairKey a_pairValue M) {s : Nat → Option Int32} (hs : ln_oc a_hasSum a_sums s)
    (k : ∀ hl lc hs sm, ln_oc hs sm (fun k => ln_cb h (s k) (ln_lo h k R p (M x) none)) → J57 (nI (p + 1)) f_handCount f_setCount f_levelNow f_chainLength f_pairKeyNow f_pairValueNow f_orderCount a_handKey a_handValue a_kindOf a_fromX a_numberA a_numberB a_sourceCount a_sourceKey a_sourceValue a_pairCount a_pairPart a_pairKey a_pairValue a_there a_kept a_bigness a_needed a_users a_chain hl lc hs sm a_orderKey a_orderValue) :
    ∀ (r i : Nat) (hl : Nat → Int32), i + r = 16 → (∀ j, j < i → hl j = 0) → wX_makeSums_67 post J57 x1 x2 (nI x) h (nI R) (nI p) f_handCount f_setCount f_levelNow f_chainLength f_pairKeyNow f_pairValueNow f_orderCount (r + 1) (nI i) a_handKey a_handValue a_kindOf a_fromX a_numberA a_numberB a_sourceCount a_sourceKey a_sourceValue a_pairCount a_pairPart a_pairKey a_pairValue a_there a_kept a_bigness a_needed a_users a_chain hl a_local a_hasSum a_sums a_orderKey a_orderValue := by
  intro r
  induction r with
  | zero =>
    intro i hl hi hz
    refine br_t (nI_le (a := 16) (by omega) (by omega)) (nm_r (ln_48m x) ⟨(M x).length + 1, ?_⟩)
    exact ln_xsm94 (O := fun k => ln_lo h k R p (M x) none) hx hR hp4 hp hs k (M x) [] (fun _ => none) hl _ rfl (fun k hk => ⟨fun _ => hz k (by omega), fun s z => ln_nc z⟩) (fun k hk => rfl)
  | succ r ih =>
    intro i hl hi hz
    have hin : vp_in (nI i) 16 := vp_in_nI (by omega) (by decide)
    refine br_f (nI_ge (b := 16) (by omega) (by decide)) ⟨hin, nm_r (e' := upd hl i 0) (by rw [nI_clamp (by omega), ln_vb0]) (nm_r (nI_1 _) (ih (i + 1) _ (by omega) fun j hj => ?_))⟩
    by_cases e : j = i
    · subst e; exact pk_us
    · rw [pk_un e]; exact hz j (by omega)
def ln_ss (h : Int32) (R : Nat) (L : List ln_T) : Nat → Nat → Option Int32
  | 0, _ => none
  | p + 1, k => ln_cb h (ln_ss h R L p k) (ln_lo h k R p L none)
theorem ln_xsm57 {post : SX → Prop} {M : Nat → List ln_T} {h : Int32} {id m x R : Nat} (hid : id < 16) (hne : x ≠ id) (hm : m < 16) (hx : x < 16) (hR : R ≤ 4) (hp : ln_ps a_pairCount a_pairPart a_pairKey a_pairValue M)
    (hl0 : (M id).length + (ln_sq (ln_ss h R (M x) R) m 0 16).length ≤ 48)
    (k : ∀ hl lc hs sm pc pp pk pv, ln_ps pc pp pk pv (ln_up M id (M id ++ ln_sq (ln_ss h R (M x) R) m 0 16)) → post (f_handCount, f_setCount, f_levelNow, f_chainLength, f_pairKeyNow, f_pairValueNow, f_orderCount, a_handKey, a_handValue, a_kindOf, a_fromX, a_numberA, a_numberB, a_sourceCount, a_sourceKey, a_sourceValue, pc, pp, pk, pv, a_there, a_kept, a_bigness, a_needed, a_users, a_chain, hl, lc, hs, sm, a_orderKey, a_orderValue)) :
    ∀ (r p : Nat) (hl lc hs sm : Nat → Int32), p + r = R → ln_oc hs sm (ln_ss h R (M x) p) → wX_makeSums_57 post (nI id) (nI m) (nI x) h (nI R) (r + 1) (nI p) f_handCount f_setCount f_levelNow f_chainLength f_pairKeyNow f_pairValueNow f_orderCount a_handKey a_handValue a_kindOf a_fromX a_numberA a_numberB a_sourceCount a_sourceKey a_sourceValue a_pairCount a_pairPart a_pairKey a_pairValue a_there a_kept a_bigness a_needed a_users a_chain hl lc hs sm a_orderKey a_orderValue := by
  intro r
  induction r with
  | zero =>
    intro p hl lc hs sm hpr hh
    obtain rfl : p = R := by omega
    refine br_t (nI_le (Nat.le_refl _) (by omega)) ⟨17, ?_⟩
    exact ln_xsm207 (M := M) hid hm hh 16 0 (M id) _ _ _ _ rfl (by rw [ln_up_i]; exact hp) hl0 (fun pc pp pk pv q => k hl lc hs sm pc pp pk pv q)
  | succ r ih =>
    intro p hl lc hs sm hpr hh
    refine br_f (nI_ge (by omega) (by omega)) ⟨17, ?_⟩
    refine ln_xsm67 hx (by omega) (by omega) hp hh (fun hl lc hs sm hh' => ?_) 16 0 hl rfl (fun j hj => absurd hj (Nat.not_lt_zero j))
    exact ih (p + 1) hl lc hs sm (by omega) hh'
def ln_rn (lv : Int32) : Nat := if lv = 2 then 4 else 1
theorem ln_xsm18 {post : SX → Prop} {M : Nat → List ln_T} {h : Int32} {id m x : Nat} (hid : id < 16) (hne : x ≠ id) (hm : m < 16) (hx : x < 16) (hp : ln_ps a_pairCount a_pairPart a_pairKey a_pairValue M)
    (hl0 : (M id).length + (ln_sq (ln_ss h (ln_rn f_levelNow) (M x) (ln_rn f_levelNow)) m 0 16).length ≤ 48)
    (k : ∀ hl lc hs sm pc pp pk pv, ln_ps pc pp pk pv (ln_up M id (M id ++ ln_sq (ln_ss h (ln_rn f_levelNow) (M x) (ln_rn f_levelNow)) m 0 16)) → post (f_handCount, f_setCount, f_levelNow, f_chainLength, f_pairKeyNow, f_pairValueNow, f_orderCount, a_handKey, a_handValue, a_kindOf, a_fromX, a_numberA, a_numberB, a_sourceCount, a_sourceKey, a_sourceValue, pc, pp, pk, pv, a_there, a_kept, a_bigness, a_needed, a_users, a_chain, hl, lc, hs, sm, a_orderKey, a_orderValue)) :
    ∀ (r i : Nat) (hs : Nat → Int32), i + r = 16 → (∀ j, j < i → hs j = 0) → wX_makeSums_18 post (nI id) (nI m) (nI x) h f_handCount f_setCount f_levelNow f_chainLength f_pairKeyNow f_pairValueNow f_orderCount (r + 1) (nI i) a_handKey a_handValue a_kindOf a_fromX a_numberA a_numberB a_sourceCount a_sourceKey a_sourceValue a_pairCount a_pairPart a_pairKey a_pairValue a_there a_kept a_bigness a_needed a_users a_chain a_hasLocal a_local hs a_sums a_orderKey a_orderValue := by
  intro r
  induction r with
  | zero =>
    intro i hs hi hz
    have ho : ∀ (R : Nat), ln_oc hs a_sums (ln_ss h R (M x) 0) := fun R k hk => ⟨fun _ => hz k (by omega), fun s z => ln_nc z⟩
    refine br_t (nI_le (a := 16) (by omega) (by omega)) (br_c (fun h2 => ⟨5, ?_⟩) (fun h2 => ⟨2, ?_⟩))
    · have e : ln_rn f_levelNow = 4 := if_pos h2
      rw [e] at hl0 k
      exact ln_xsm57 (R := 4) hid hne hm hx (by decide) hp hl0 k 4 0 _ _ _ _ rfl (ho 4)
    · have e : ln_rn f_levelNow = 1 := if_neg h2
      rw [e] at hl0 k
      exact ln_xsm57 (R := 1) hid hne hm hx (by decide) hp hl0 k 1 0 _ _ _ _ rfl (ho 1)
  | succ r ih =>
    intro i hs hi hz
    have hin : vp_in (nI i) 16 := vp_in_nI (by omega) (by decide)
    refine br_f (nI_ge (b := 16) (by omega) (by decide)) ⟨hin, nm_r (e' := upd hs i 0) (by rw [nI_clamp (by omega), ln_vb0]) (nm_r (nI_1 _) (ih (i + 1) _ (by omega) fun j hj => ?_))⟩
    by_cases e : j = i
    · subst e; exact pk_us
    · rw [pk_un e]; exact hz j (by omega)
theorem ln_xsums {post : SX → Prop} {n : Nat} {P : Nat → ln_E} {M : Nat → List ln_T} {id m : Nat} (hn16 : n ≤ 16) (pl : ln_pl n P a_kindOf a_fromX a_numberA a_numberB a_sourceCount a_sourceKey a_sourceValue) (w : ln_wf n P) (hid : id < n) (hk : ln_ka (P id) = 6) (hm : m < 16) (hp : ln_ps a_pairCount a_pairPart a_pairKey a_pairValue M)
    (hl0 : (M id).length + (ln_sq (ln_ss (ln_aa (P id)) (ln_rn f_levelNow) (M (ln_fx (P id))) (ln_rn f_levelNow)) m 0 16).length ≤ 48)
    (k : ∀ hl lc hs sm pc pp pk pv, ln_ps pc pp pk pv (ln_up M id (M id ++ ln_sq (ln_ss (ln_aa (P id)) (ln_rn f_levelNow) (M (ln_fx (P id))) (ln_rn f_levelNow)) m 0 16)) → post (f_handCount, f_setCount, f_levelNow, f_chainLength, f_pairKeyNow, f_pairValueNow, f_orderCount, a_handKey, a_handValue, a_kindOf, a_fromX, a_numberA, a_numberB, a_sourceCount, a_sourceKey, a_sourceValue, pc, pp, pk, pv, a_there, a_kept, a_bigness, a_needed, a_users, a_chain, hl, lc, hs, sm, a_orderKey, a_orderValue)) : wpX_makeSums post (f_handCount, f_setCount, f_levelNow, f_chainLength, f_pairKeyNow, f_pairValueNow, f_orderCount, a_handKey, a_handValue, a_kindOf, a_fromX, a_numberA, a_numberB, a_sourceCount, a_sourceKey, a_sourceValue, a_pairCount, a_pairPart, a_pairKey, a_pairValue, a_there, a_kept, a_bigness, a_needed, a_users, a_chain, a_hasLocal, a_local, a_hasSum, a_sums, a_orderKey, a_orderValue) (nI id) (nI m) := by
  have hin : vp_in (nI id) 16 := vp_in_nI (by omega) (by decide)
  have pd := pl id hid
  have wd := w id hid
  have hx := wd.2.1 (by omega)
  have eX : a_fromX (nI id).toNatClampNeg = nI (ln_fx (P id)) := by rw [nI_clamp (by omega)]; exact pd.2.1 (by omega)
  have eA : a_numberA (nI id).toNatClampNeg = ln_aa (P id) := by rw [nI_clamp (by omega)]; exact pd.2.2.1
  unfold wpX_makeSums
  dsimp only
  refine ⟨hin, nm_r eX ⟨hin, nm_r eA ⟨17, ?_⟩⟩⟩
  exact ln_xsm18 (by omega) (by omega) hm (by omega) hp hl0 k 16 0 _ rfl (fun j hj => absurd hj (Nat.not_lt_zero j))
end
end
section
section
variable {f_handCount f_setCount f_levelNow f_chainLength f_pairKeyNow f_pairValueNow f_orderCount : Int32} {a_handKey a_handValue a_kindOf a_fromX a_numberA a_numberB a_sourceCount a_sourceKey a_sourceValue a_pairCount a_pairPart a_pairKey a_pairValue a_there a_kept a_bigness a_needed a_users a_chain a_hasLocal a_local a_hasSum a_sums a_orderKey a_orderValue : Nat → Int32}
def ln_ck (P : Nat → ln_E) : List Nat → ln_K → Option ln_K
  | [], q => some q
  | b :: rs, q => (ln_ps1 (P b) q).bind (ln_ck P rs)
def ln_ch (P : Nat → ln_E) (rs : List Nat) (t : ln_T) : Option ln_T := (ln_ck P rs t.2).map (fun q => (t.1, q))
theorem ln_ch_0 (P : Nat → ln_E) (t : ln_T) : ln_ch P [] t = some t := rfl
theorem ln_ch_c (P : Nat → ln_E) (b : Nat) (rs : List Nat) (t : ln_T) : (ln_pass (P b) t).bind (ln_ch P rs) = ln_ch P (b :: rs) t := by
  unfold ln_pass ln_ch
  show ((ln_ps1 (P b) t.2).map (fun q => (t.1, q))).bind _ = ((ln_ps1 (P b) t.2).bind (ln_ck P rs)).map _
  cases ln_ps1 (P b) t.2 with
  | none => rfl
  | some q => rfl
theorem ln_ch_p {P : Nat → ln_E} {rs : List Nat} {t s : ln_T} (h : ln_ch P rs t = some s) : s.1 = t.1 := by
  unfold ln_ch at h
  cases z : ln_ck P rs t.2 with
  | none => rw [z] at h; exact ln_nc h
  | some q => rw [z] at h; cases h; rfl
theorem ln_ck_k {P : Nat → ln_E} : ∀ (rs : List Nat) {q r : ln_K}, ln_ck P rs q = some r → q.1 < 16 → r.1 < 16
  | [], q, r, h, hq => by cases h; exact hq
  | b :: rs, q, r, h, hq => by
    have h' : (ln_ps1 (P b) q).bind (ln_ck P rs) = some r := h
    cases z : ln_ps1 (P b) q with
    | none => rw [z] at h'; exact ln_nc h'
    | some p => rw [z] at h'; exact ln_ck_k rs h' (ln_ps1_k z hq)
/-- the content of a step, by the content of its source -/
theorem ln_ct_step {n : Nat} {P : Nat → ln_E} {C : Nat → Option (List ln_T)} (w : ln_wf n P) (ct : ln_ct n P C) {b : Nat} (hb : b < n) (hs : ln_stp (ln_ka (P b))) {L : List ln_T} (hL : C (ln_fx (P b)) = some L) : C b = some (L.filterMap (ln_pass (P b))) := by
  have hx := (w b hb).2.1 (by omega)
  have hl := ln_ct_len ct (by omega : ln_fx (P b) < n) hL
  have er : ∀ A, ln_raw (P b) L A = L.filterMap (ln_pass (P b)) := fun A => by
    unfold ln_raw
    rw [if_neg (by omega), if_neg (by omega), if_neg (by omega), if_neg (by omega)]
  rw [ct b hb, ← er []]
  refine ln_st_i ?_ ?_ ?_
  · unfold ln_s1
    rw [if_neg (by omega)]
    exact hL
  · unfold ln_s2
    rw [if_neg (by omega)]
  · rw [er]
    exact Nat.le_trans (List.length_filterMap_le _ _) hl
/-! the chain as it is stored -/
def ln_sc (ch : Nat → Int32) : List Nat → Prop
  | [] => True
  | b :: rs => ch rs.length = nI b ∧ ln_sc ch rs
theorem ln_sc_u {ch : Nat → Int32} {i : Nat} {v : Int32} : ∀ (rs : List Nat), rs.length ≤ i → ln_sc ch rs → ln_sc (upd ch i v) rs
  | [], _, _ => trivial
  | b :: rs, hi, h => by
    rw [List.length_cons] at hi
    exact ⟨by rw [pk_un (by omega)]; exact h.1, ln_sc_u rs (by omega) h.2⟩
theorem ln_xpass {post : Int32 → SX → Prop} {n : Nat} {P : Nat → ln_E} {b : Nat} {q : ln_K} (hn16 : n ≤ 16) (pl : ln_pl n P a_kindOf a_fromX a_numberA a_numberB a_sourceCount a_sourceKey a_sourceValue) (w : ln_wf n P) (hb : b < n) (hs : ln_stp (ln_ka (P b))) (hq : q.1 < 16) (e1 : f_pairKeyNow = nI q.1) (e2 : f_pairValueNow = q.2)
    (k1 : ∀ r, ln_ps1 (P b) q = some r → post 1 (f_handCount, f_setCount, f_levelNow, f_chainLength, nI r.1, r.2, f_orderCount, a_handKey, a_handValue, a_kindOf, a_fromX, a_numberA, a_numberB, a_sourceCount, a_sourceKey, a_sourceValue, a_pairCount, a_pairPart, a_pairKey, a_pairValue, a_there, a_kept, a_bigness, a_needed, a_users, a_chain, a_hasLocal, a_local, a_hasSum, a_sums, a_orderKey, a_orderValue)) (k0 : ln_ps1 (P b) q = none → post 0 (f_handCount, f_setCount, f_levelNow, f_chainLength, f_pairKeyNow, f_pairValueNow, f_orderCount, a_handKey, a_handValue, a_kindOf, a_fromX, a_numberA, a_numberB, a_sourceCount, a_sourceKey, a_sourceValue, a_pairCount, a_pairPart, a_pairKey, a_pairValue, a_there, a_kept, a_bigness, a_needed, a_users, a_chain, a_hasLocal, a_local, a_hasSum, a_sums, a_orderKey, a_orderValue)) : wpX_passStep post (f_handCount, f_setCount, f_levelNow, f_chainLength, f_pairKeyNow, f_pairValueNow, f_orderCount, a_handKey, a_handValue, a_kindOf, a_fromX, a_numberA, a_numberB, a_sourceCount, a_sourceKey, a_sourceValue, a_pairCount, a_pairPart, a_pairKey, a_pairValue, a_there, a_kept, a_bigness, a_needed, a_users, a_chain, a_hasLocal, a_local, a_hasSum, a_sums, a_orderKey, a_orderValue) (nI b) := by
  have hin : vp_in (nI b) 16 := vp_in_nI (by omega) (by decide)
  have pd := pl b hb
  have hka := (w b hb).1
  have eI : (nI b).toNatClampNeg = b := nI_clamp (by omega)
  subst e1 e2
  unfold wpX_passStep
  dsimp only
  rw [eI, pd.1, pd.2.2.1, pd.2.2.2.1]
  refine ⟨hin, nm_e ⟨hin, nm_e ?_⟩⟩
  refine pk_eq (ln_ka (P b)) 2 (fun h2 => ?_) (fun h2 => pk_eq (ln_ka (P b)) 1 (fun h1 => ?_) (fun h1 => pk_eq (ln_ka (P b)) 3 (fun h3 => ?_) (fun h3 => ?_)))
  · refine br_c (fun h => ?_) (fun h => ?_)
    · exact k0 (by unfold ln_ps1; rw [if_pos h2, if_pos h])
    · exact k1 q (by unfold ln_ps1; rw [if_pos h2, if_neg h])
  · exact ⟨hin, nm_e (k1 (q.1, q.2 * ln_aa (P b) + ln_bb (P b)) (by unfold ln_ps1; rw [if_neg h2, if_pos h1]))⟩
  · refine ⟨hin, nm_r (ln_and15 _).2 ?_⟩
    exact k1 (((nI q.1 * ln_aa (P b) + ln_bb (P b)) &&& 15).toNatClampNeg, q.2) (by unfold ln_ps1; rw [if_neg h2, if_neg h1, if_pos h3])
  · refine nm_r (ln_and15 _).2 ?_
    exact k1 ((q.2 &&& 15).toNatClampNeg, nI q.1) (by unfold ln_ps1; rw [if_neg h2, if_neg h1, if_neg h3])
theorem ln_xst148 {post : Int32 → SX → Prop} {J81 : ln_J8} {n : Nat} {P : Nat → ln_E} {x1 x2 x3 x5 : Int32} (hn16 : n ≤ 16) (pl : ln_pl n P a_kindOf a_fromX a_numberA a_numberB a_sourceCount a_sourceKey a_sourceValue) (w : ln_wf n P) :
    ∀ (rs : List Nat) (q : ln_K) (kn vn : Int32), kn = nI q.1 → vn = q.2 → q.1 < 16 → rs.length ≤ 16 → (∀ b, b ∈ rs → b < n ∧ ln_stp (ln_ka (P b))) → ln_sc a_chain rs →
    (∀ r, ln_ck P rs q = some r → wX_makeSteps_177 post J81 x1 x2 x3 x5 1 f_handCount f_setCount f_levelNow f_chainLength (nI r.1) r.2 f_orderCount a_handKey a_handValue a_kindOf a_fromX a_numberA a_numberB a_sourceCount a_sourceKey a_sourceValue a_pairCount a_pairPart a_pairKey a_pairValue a_there a_kept a_bigness a_needed a_users a_chain a_hasLocal a_local a_hasSum a_sums a_orderKey a_orderValue) →
    (ln_ck P rs q = none → ∀ kn vn, wX_makeSteps_177 post J81 x1 x2 x3 x5 0 f_handCount f_setCount f_levelNow f_chainLength kn vn f_orderCount a_handKey a_handValue a_kindOf a_fromX a_numberA a_numberB a_sourceCount a_sourceKey a_sourceValue a_pairCount a_pairPart a_pairKey a_pairValue a_there a_kept a_bigness a_needed a_users a_chain a_hasLocal a_local a_hasSum a_sums a_orderKey a_orderValue) →
    wX_makeSteps_148 post J81 x1 x2 x3 x5 (rs.length + 1) 1 (nI rs.length + (-1)) f_handCount f_setCount f_levelNow f_chainLength kn vn f_orderCount a_handKey a_handValue a_kindOf a_fromX a_numberA a_numberB a_sourceCount a_sourceKey a_sourceValue a_pairCount a_pairPart a_pairKey a_pairValue a_there a_kept a_bigness a_needed a_users a_chain a_hasLocal a_local a_hasSum a_sums a_orderKey a_orderValue := by
  intro rs
  induction rs with
  | nil =>
    intro q kn vn e1 e2 hq _ _ _ k1 k0
    subst e1 e2
    exact br_t ln_m1lt (k1 q rfl)
  | cons b rs ih =>
    intro q kn vn e1 e2 hq hl hm hc k1 k0
    rw [List.length_cons] at hl
    have hi : vp_in (nI rs.length) 16 := vp_in_nI (by omega) (by decide)
    have eI : (nI rs.length).toNatClampNeg = rs.length := nI_clamp (by omega)
    obtain ⟨hb, hs⟩ := hm b List.mem_cons_self
    have hm' : ∀ b, b ∈ rs → b < n ∧ ln_stp (ln_ka (P b)) := fun c hc => hm c (List.mem_cons_of_mem _ hc)
    have ck : ln_ck P (b :: rs) q = (ln_ps1 (P b) q).bind (ln_ck P rs) := rfl
    rw [ck] at k1 k0
    show wX_makeSteps_148 post J81 x1 x2 x3 x5 (rs.length + 1 + 1) 1 (nI (rs.length + 1) + (-1)) f_handCount f_setCount f_levelNow f_chainLength kn vn f_orderCount a_handKey a_handValue a_kindOf a_fromX a_numberA a_numberB a_sourceCount a_sourceKey a_sourceValue a_pairCount a_pairPart a_pairKey a_pairValue a_there a_kept a_bigness a_needed a_users a_chain a_hasLocal a_local a_hasSum a_sums a_orderKey a_orderValue
    rw [pk_m1]
    unfold wX_makeSteps_148
    rw [eI, hc.1]
    refine br_f (nI_pos (by omega)) (br_f ln_10 ⟨hi, ?_⟩)
    refine ln_xpass hn16 pl w hb hs hq e1 e2 (fun r hr => nm_e ?_) (fun hr => nm_e ?_)
    · rw [hr] at k1 k0
      exact ih r _ _ rfl rfl (ln_ps1_k hr hq) (by omega) hm' hc.2 k1 k0
    · rw [hr] at k0
      have := k0 rfl kn vn
      unfold wX_makeSteps_148
      exact br_c (fun _ => this) (fun _ => br_t rfl this)
def ln_tq (P : Nat → ln_E) (rs : List Nat) (m : Nat) (L : List ln_T) : List ln_T := (L.filter (ln_in m)).filterMap (ln_ch P rs)
theorem ln_xst81 {post : Int32 → SX → Prop} {n : Nat} {P : Nat → ln_E} {M : Nat → List ln_T} {id x m : Nat} {rs : List Nat} (hn16 : n ≤ 16) (pl : ln_pl n P a_kindOf a_fromX a_numberA a_numberB a_sourceCount a_sourceKey a_sourceValue) (w : ln_wf n P) (hid : id < 16) (hx : x < 16) (hne : x ≠ id) (hm : m < 16) (hrs : rs.length ≤ 16) (hrm : ∀ b, b ∈ rs → b < n ∧ ln_stp (ln_ka (P b))) (hcl : f_chainLength = nI rs.length) (hsc : ln_sc a_chain rs) :
    ∀ (rest pre W : List ln_T) (kn vn : Int32) (pc pp pk pv : Nat → Int32), M x = pre ++ rest → ln_ps pc pp pk pv (ln_up M id W) → W.length + (ln_tq P rs m rest).length ≤ 48 →
    (∀ kn vn pc pp pk pv, ln_ps pc pp pk pv (ln_up M id (W ++ ln_tq P rs m rest)) → post 1 (f_handCount, f_setCount, f_levelNow, f_chainLength, kn, vn, f_orderCount, a_handKey, a_handValue, a_kindOf, a_fromX, a_numberA, a_numberB, a_sourceCount, a_sourceKey, a_sourceValue, pc, pp, pk, pv, a_there, a_kept, a_bigness, a_needed, a_users, a_chain, a_hasLocal, a_local, a_hasSum, a_sums, a_orderKey, a_orderValue)) →
    wX_makeSteps_81 post (nI id) (nI m) (nI x) (rest.length + 1) (nI (48 * x + pre.length)) f_handCount f_setCount f_levelNow f_chainLength kn vn f_orderCount a_handKey a_handValue a_kindOf a_fromX a_numberA a_numberB a_sourceCount a_sourceKey a_sourceValue pc pp pk pv a_there a_kept a_bigness a_needed a_users a_chain a_hasLocal a_local a_hasSum a_sums a_orderKey a_orderValue := by
  have hin : vp_in (nI x) 16 := vp_in_nI hx (by decide)
  intro rest
  induction rest with
  | nil =>
    intro pre W kn vn pc pp pk pv e hp hl0 k
    obtain ⟨ec, hl⟩ := ln_rdc hp hx hne
    have ec' : pc (nI x).toNatClampNeg = nI (M x).length := by rw [nI_clamp (by omega)]; exact ec
    rw [e, List.append_nil] at ec' hl
    unfold wX_makeSteps_81
    rw [ec', ln_48]
    refine ⟨hin, br_t (nI_le (Nat.le_refl _) (by omega)) (k _ _ _ _ _ _ ?_)⟩
    show ln_ps pc pp pk pv (ln_up M id (W ++ []))
    rw [List.append_nil]
    exact hp
  | cons t rest ih =>
    intro pre W kn vn pc pp pk pv e hp hl0 k
    obtain ⟨ec, hl⟩ := ln_rdc hp hx hne
    obtain ⟨e1, e2, e3, h4, h16, h48⟩ := ln_rd1 hp hx hne e
    have hlen : (M x).length = pre.length + (rest.length + 1) := by rw [e, List.length_append]; rfl
    have ec' : pc (nI x).toNatClampNeg = nI (M x).length := by rw [nI_clamp (by omega)]; exact ec
    have hi7 : vp_in (nI (48 * x + pre.length)) 768 := vp_in_nI (by omega) (by decide)
    have eI : (nI (48 * x + pre.length)).toNatClampNeg = 48 * x + pre.length := nI_clamp (by omega)
    have e' := ln_pre e
    have ih' := ih (pre ++ [t])
    rw [ln_pl1, ← Nat.add_assoc] at ih'
    unfold wX_makeSteps_81
    rw [ec', ln_48, eI, e1, e2, e3]
    refine ⟨hin, br_f (nI_ge (by omega) (by omega)) ⟨hi7, ?_⟩⟩
    refine ln_xisPart hm h4 (fun hb => ?_) (fun hb => ?_)
    · have fl : (t :: rest).filter (ln_in m) = t :: rest.filter (ln_in m) := List.filter_cons_of_pos hb
      refine br_f ln_10 ⟨hi7, nm_e ⟨hi7, nm_e (nm_r (e' := nI rs.length + (-1)) (by rw [hcl]; exact Int32.sub_eq_add_neg _ _) ⟨rs.length + 1, ?_⟩)⟩⟩
      refine ln_xst148 hn16 pl w rs t.2 _ _ rfl rfl h16 hrs hrm hsc (fun r hr => ?_) (fun hr kn' vn' => ?_)
      · have z : ln_tq P rs m (t :: rest) = (t.1, r) :: ln_tq P rs m rest := by
          unfold ln_tq
          rw [fl, List.filterMap_cons_some (b := (t.1, r)) (by unfold ln_ch; rw [hr]; rfl)]
        rw [z] at hl0 k
        rw [List.length_cons] at hl0
        unfold wX_makeSteps_177
        rw [eI, e1]
        refine br_f ln_10 ⟨hi7, ?_⟩
        refine ln_xadd hp hid h4 (ln_ck_k rs hr h16) (fun hw pc' pp' pk' pv' hp' => br_f ln_10 (nm_r (nI_1 _) ?_)) (fun hw => absurd hl0 (by omega))
        refine ih' _ _ _ _ _ _ _ e' hp' (by rw [ln_pl1]; omega) ?_
        rw [List.append_assoc]
        exact k
      · have z : ln_tq P rs m (t :: rest) = ln_tq P rs m rest := by
          unfold ln_tq
          rw [fl, List.filterMap_cons_none (by unfold ln_ch; rw [hr]; rfl)]
        rw [z] at hl0 k
        unfold wX_makeSteps_177
        exact br_t rfl (nm_r (nI_1 _) (ih' _ _ _ _ _ _ _ e' hp hl0 k))
    · have z : ln_tq P rs m (t :: rest) = ln_tq P rs m rest := by
        unfold ln_tq
        rw [List.filter_cons_of_neg (by show ¬ m.testBit _ = true; rw [hb]; exact Bool.noConfusion)]
      rw [z] at hl0 k
      exact br_t rfl (nm_r (nI_1 _) (ih' _ _ _ _ _ _ _ e' hp hl0 k))
theorem ln_xst10 {post : Int32 → SX → Prop} {n : Nat} {P : Nat → ln_E} {C : Nat → Option (List ln_T)} {M : Nat → List ln_T} {Th : Nat → Nat} {Rd : Nat → Prop} {id m : Nat} (hn16 : n ≤ 16) (pl : ln_pl n P a_kindOf a_fromX a_numberA a_numberB a_sourceCount a_sourceKey a_sourceValue) (w : ln_wf n P) (ct : ln_ct n P C) (hid : id < n) (hm : m < 16) (hp : ln_ps a_pairCount a_pairPart a_pairKey a_pairValue M) (hT : ln_ms a_there Th)
    (hR : ∀ b, b < id → Rd b → ln_sb m (Th b) ∨ (ln_stp (ln_ka (P b)) ∧ Rd (ln_fx (P b))))
    (k : ∀ b rs, b < id → ln_sb m (Th b) → (∀ L, C b = some L → C id = some (L.filterMap (ln_ch P rs))) → (M id).length + (ln_tq P rs m (M b)).length ≤ 48 ∧ ∀ cl kn vn ch pc pp pk pv, ln_ps pc pp pk pv (ln_up M id (M id ++ ln_tq P rs m (M b))) → post 1 (f_handCount, f_setCount, f_levelNow, cl, kn, vn, f_orderCount, a_handKey, a_handValue, a_kindOf, a_fromX, a_numberA, a_numberB, a_sourceCount, a_sourceKey, a_sourceValue, pc, pp, pk, pv, a_there, a_kept, a_bigness, a_needed, a_users, ch, a_hasLocal, a_local, a_hasSum, a_sums, a_orderKey, a_orderValue)) :
    ∀ (f b : Nat) (rs : List Nat) (ch : Nat → Int32), b < f → b ≤ id → rs.length + b ≤ id → ln_stp (ln_ka (P b)) → Rd (ln_fx (P b)) → (∀ c, c ∈ rs → c < n ∧ ln_stp (ln_ka (P c))) → ln_sc ch rs → (∀ L, C b = some L → C id = some (L.filterMap (ln_ch P rs))) →
    wX_makeSteps_10 post (nI id) (nI m) f_handCount f_setCount f_levelNow f_pairKeyNow f_pairValueNow f_orderCount (f + 1) (nI b) 1 (nI rs.length) a_handKey a_handValue a_kindOf a_fromX a_numberA a_numberB a_sourceCount a_sourceKey a_sourceValue a_pairCount a_pairPart a_pairKey a_pairValue a_there a_kept a_bigness a_needed a_users ch a_hasLocal a_local a_hasSum a_sums a_orderKey a_orderValue := by
  intro f
  induction f with
  | zero => intro b rs ch hbf; exact absurd hbf (Nat.not_lt_zero b)
  | succ f ih =>
    intro b rs ch hbf hbi hrl hst hrd hrm hsc hC
    have hx := (w b (by omega)).2.1 (by omega)
    have hin : vp_in (nI b) 16 := vp_in_nI (by omega) (by decide)
    have hil : vp_in (nI rs.length) 16 := vp_in_nI (by omega) (by decide)
    have hix : vp_in (nI (ln_fx (P b))) 16 := vp_in_nI (by omega) (by decide)
    have eX : a_fromX (nI b).toNatClampNeg = nI (ln_fx (P b)) := by rw [nI_clamp (by omega)]; exact (pl b (by omega)).2.1 (by omega)
    have eK : a_kindOf (nI (ln_fx (P b))).toNatClampNeg = nI (ln_ka (P (ln_fx (P b)))) := by rw [nI_clamp (by omega)]; exact (pl _ (by omega)).1
    have hka := (w (ln_fx (P b)) (by omega)).1
    have hrm' : ∀ c, c ∈ b :: rs → c < n ∧ ln_stp (ln_ka (P c)) := fun c hc => by
      rcases List.mem_cons.mp hc with rfl | hc
      · exact ⟨by omega, hst⟩
      · exact hrm c hc
    have hsc' : ln_sc (upd ch rs.length (nI b)) (b :: rs) := ⟨pk_us, ln_sc_u rs (Nat.le_refl _) hsc⟩
    have hC' : ∀ L, C (ln_fx (P b)) = some L → C id = some (L.filterMap (ln_ch P (b :: rs))) := fun L hL => by
      have h1 := hC _ (ln_ct_step w ct (by omega) hst hL)
      rw [h1, List.filterMap_filterMap]
      congr 2
      funext t
      exact ln_ch_c P b rs t
    have fin : ln_sb m (Th (ln_fx (P b))) → wX_makeSteps_10 post (nI id) (nI m) f_handCount f_setCount f_levelNow f_pairKeyNow f_pairValueNow f_orderCount (f + 1) (nI (ln_fx (P b))) 0 (nI (b :: rs).length) a_handKey a_handValue a_kindOf a_fromX a_numberA a_numberB a_sourceCount a_sourceKey a_sourceValue a_pairCount a_pairPart a_pairKey a_pairValue a_there a_kept a_bigness a_needed a_users (upd ch rs.length (nI b)) a_hasLocal a_local a_hasSum a_sums a_orderKey a_orderValue := fun hr => by
      obtain ⟨hl, kk⟩ := k (ln_fx (P b)) (b :: rs) (by omega) hr hC'
      unfold wX_makeSteps_10
      refine br_t rfl (nm_r (ln_48m _) ⟨(M (ln_fx (P b))).length + 1, ?_⟩)
      exact ln_xst81 hn16 pl w (by omega) (by omega) (by omega) hm (by rw [List.length_cons]; omega) hrm' rfl hsc' (M (ln_fx (P b))) [] (M id) _ _ _ _ _ _ rfl (by rw [ln_up_i]; exact hp) hl (fun kn vn pc pp pk pv hq => kk _ kn vn _ pc pp pk pv hq)
    unfold wX_makeSteps_10
    refine br_f ln_10 ⟨hil, nm_r (e' := upd ch rs.length (nI b)) (by rw [nI_clamp (by omega), ln_nb8 (by omega)]) (nm_r (nI_1 _) ⟨hin, nm_r eX ⟨hix, ?_⟩⟩)⟩
    rw [eK]
    refine ln_xisStep (by omega) (fun hs' => ?_) (fun hs' => ?_)
    · refine br_f ln_10 ?_
      refine ln_xisReady hm (by omega) hT (fun hr => br_f ln_10 (fin hr)) (fun hr => br_t rfl ?_)
      rcases hR (ln_fx (P b)) (by omega) hrd with h | ⟨_, h⟩
      · exact absurd h hr
      · exact ih (ln_fx (P b)) (b :: rs) _ (by omega) (by omega) (by rw [List.length_cons]; omega) hs' h hrm' hsc' hC'
    · refine br_t rfl (fin ?_)
      rcases hR (ln_fx (P b)) (by omega) hrd with h | ⟨h, _⟩
      · exact h
      · exact absurd h hs'
theorem ln_xsteps {post : Int32 → SX → Prop} {n : Nat} {P : Nat → ln_E} {C : Nat → Option (List ln_T)} {M : Nat → List ln_T} {Th : Nat → Nat} {Rd : Nat → Prop} {id m : Nat} (hn16 : n ≤ 16) (pl : ln_pl n P a_kindOf a_fromX a_numberA a_numberB a_sourceCount a_sourceKey a_sourceValue) (w : ln_wf n P) (ct : ln_ct n P C) (hid : id < n) (hst : ln_stp (ln_ka (P id))) (hm : m < 16) (hp : ln_ps a_pairCount a_pairPart a_pairKey a_pairValue M) (hT : ln_ms a_there Th)
    (hR : ∀ b, b < id → Rd b → ln_sb m (Th b) ∨ (ln_stp (ln_ka (P b)) ∧ Rd (ln_fx (P b)))) (hrd : Rd (ln_fx (P id)))
    (k : ∀ b rs, b < id → ln_sb m (Th b) → (∀ L, C b = some L → C id = some (L.filterMap (ln_ch P rs))) → (M id).length + (ln_tq P rs m (M b)).length ≤ 48 ∧ ∀ cl kn vn ch pc pp pk pv, ln_ps pc pp pk pv (ln_up M id (M id ++ ln_tq P rs m (M b))) → post 1 (f_handCount, f_setCount, f_levelNow, cl, kn, vn, f_orderCount, a_handKey, a_handValue, a_kindOf, a_fromX, a_numberA, a_numberB, a_sourceCount, a_sourceKey, a_sourceValue, pc, pp, pk, pv, a_there, a_kept, a_bigness, a_needed, a_users, ch, a_hasLocal, a_local, a_hasSum, a_sums, a_orderKey, a_orderValue)) : wpX_makeSteps post (f_handCount, f_setCount, f_levelNow, f_chainLength, f_pairKeyNow, f_pairValueNow, f_orderCount, a_handKey, a_handValue, a_kindOf, a_fromX, a_numberA, a_numberB, a_sourceCount, a_sourceKey, a_sourceValue, a_pairCount, a_pairPart, a_pairKey, a_pairValue, a_there, a_kept, a_bigness, a_needed, a_users, a_chain, a_hasLocal, a_local, a_hasSum, a_sums, a_orderKey, a_orderValue) (nI id) (nI m) := by
  unfold wpX_makeSteps
  refine ⟨id + 2, ?_⟩
  exact ln_xst10 hn16 pl w ct hid hm hp hT hR k (id + 1) id [] _ (by omega) (Nat.le_refl _) (by show 0 + id ≤ id; omega) hst hrd (fun c hc => absurd hc List.not_mem_nil) trivial (fun L hL => by
    rw [hL]
    congr 1
    exact (List.filterMap_some).symm)
end
end
section
section
/-! what X adds for the parts m, against the content -/
theorem ln_q_src {X Mx : List ln_T} {s m : Nat} (hX : ln_rg X) (h : Mx.Perm (X.filter (ln_in s))) (hs : ln_sb m s) : (Mx.filter (ln_in m)).Perm (X.filter (ln_in m)) := by
  have := h.filter (ln_in m)
  rw [ln_fil_sub hs hX] at this
  exact this
theorem ln_fm1 : ∀ (L : List ln_T), L.flatMap (fun t => List.replicate 1 t) = L
  | [] => rfl
  | t :: L => by rw [List.flatMap_cons, ln_fm1 L]; rfl
theorem ln_q_cq {X Mx : List ln_T} {s m c : Nat} (hX : ln_rg X) (h : Mx.Perm (X.filter (ln_in s))) (hs : ln_sb m s) : (ln_cq m c Mx).Perm ((X.flatMap (fun t => List.replicate c t)).filter (ln_in m)) := by
  unfold ln_cq
  rw [ln_flatMap_f (q := ln_in m) X (fun t _ b hb => by rw [List.eq_of_mem_replicate hb])]
  exact (ln_q_src hX h hs).flatMap_right _
theorem ln_q_copies {e : ln_E} {X A Mx Ma : List ln_T} {s r m : Nat} (hk : ln_ka e = 4 ∨ ln_ka e = 5) (hX : ln_rg X) (h : Mx.Perm (X.filter (ln_in s))) (hs : ln_sb m s) (hA : ln_ka e = 5 → ln_rg A ∧ Ma.Perm (A.filter (ln_in r)) ∧ ln_sb m r) : (ln_kq e m Mx Ma).Perm ((ln_raw e X A).filter (ln_in m)) := by
  unfold ln_kq ln_raw
  by_cases h4 : ln_ka e = 4
  · rw [if_pos h4, if_neg (by omega), if_pos h4]
    exact ln_q_cq hX h hs
  · have h5 : ln_ka e = 5 := by omega
    obtain ⟨a, b, c⟩ := hA h5
    rw [if_neg h4, if_neg (by omega), if_neg h4, if_pos h5, List.filter_append]
    have h1 := ln_q_cq (c := 1) hX h hs
    have h2 := ln_q_cq (c := 1) a b c
    rw [ln_fm1] at h1 h2
    exact h1.append h2
theorem ln_raw_w {e : ln_E} {X A : List ln_T} (hk : ln_wid (ln_ka e)) : ln_raw e X A = (ln_wd e (X.map Prod.snd) (A.map Prod.snd)).map (fun q => (ln_pt e q, q)) := by
  unfold ln_raw
  rw [if_neg (by omega), if_neg (by omega), if_neg (by omega), if_pos hk]
/-- it suffices to know what is added as the operation on the lists as they lie -/
theorem ln_q_wide {e : ln_E} {X A Mx Ma Q : List ln_T} {m : Nat} (hk : ln_wid (ln_ka e)) (h : Mx.Perm X) (hA : ln_two (ln_ka e) → Ma.Perm A) (hQ : Q.Perm (((ln_wd e (Mx.map Prod.snd) (Ma.map Prod.snd)).map (fun q => (ln_pt e q, q))).filter (ln_in m))) : Q.Perm ((ln_raw e X A).filter (ln_in m)) := by
  rw [ln_raw_w hk]
  refine hQ.trans (List.Perm.filter _ (List.Perm.map _ ?_))
  by_cases h2 : ln_two (ln_ka e)
  · exact ln_wd_p (h.map _) ((hA h2).map _)
  · have e1 : ∀ K B B', ln_wd e K B = ln_wd e K B' := fun K B B' => by
      have n7 : ¬ ln_ka e = 7 := by omega
      have n9 : ¬ ln_ka e = 9 := by omega
      unfold ln_wd
      simp only [if_neg n7, if_neg n9]
    rw [e1 _ (Ma.map Prod.snd) (A.map Prod.snd)]
    exact ln_wd_p (h.map _) (List.Perm.refl _)
/-! sums -/
theorem ln_cb_n (h : Int32) (o : Option Int32) : ln_cb h none o = o := by
  cases o <;> rfl
theorem ln_lo_rd (h : Int32) (k R p : Nat) (L : List ln_T) : ln_lo h k R p L none = ln_rd h k ((L.filter (ln_sel R p)).map Prod.snd) := rfl
theorem ln_sel4 {L : List ln_T} (hL : ln_rg L) {p : Nat} (hp : p < 4) : L.filter (ln_sel 4 p) = L.filter (ln_in (1 <<< p)) := by
  refine List.filter_congr fun t ht => ?_
  show ((4 : Nat) == 1 || t.1 == p) = (1 <<< p : Nat).testBit t.1
  rw [ln_one hp (hL t ht).1]
  have : ((4 : Nat) == 1) = false := rfl
  rw [this, Bool.false_or, Bool.eq_iff_iff, beq_iff_eq, decide_eq_true_iff]
  exact eq_comm
theorem ln_ss_1 (h : Int32) (L : List ln_T) (k : Nat) : ln_ss h 1 L 1 k = ln_rd h k (L.map Prod.snd) := by
  show ln_cb h none (ln_lo h k 1 0 L none) = _
  rw [ln_cb_n, ln_lo_rd]
  have : L.filter (ln_sel 1 0) = L := List.filter_eq_self.mpr fun _ _ => rfl
  rw [this]
theorem ln_ss_4 (h : Int32) {L : List ln_T} (hL : ln_rg L) (k : Nat) : ln_ss h 4 L 4 k = ln_rd h k (L.map Prod.snd) := by
  show ln_cb h (ln_cb h (ln_cb h (ln_cb h none (ln_lo h k 4 0 L none)) (ln_lo h k 4 1 L none)) (ln_lo h k 4 2 L none)) (ln_lo h k 4 3 L none) = _
  rw [ln_cb_n, ln_lo_rd, ln_lo_rd, ln_lo_rd, ln_lo_rd, ← ln_cb_a, ← ln_cb_a, ← ln_cb_a, ← List.map_append, ← List.map_append, ← List.map_append]
  refine ln_rd_p (List.Perm.map _ ?_)
  rw [ln_sel4 hL (by decide), ln_sel4 hL (by decide), ln_sel4 hL (by decide), ln_sel4 hL (by decide)]
  have h1 := ln_fil_or (L := L) (s := 1 <<< 0) (m := 1 <<< 1) (by decide) hL
  have h2 := ln_fil_or (L := L) (s := 1 <<< 0 ||| 1 <<< 1) (m := 1 <<< 2) (by decide) hL
  have h3 := ln_fil_or (L := L) (s := 1 <<< 0 ||| 1 <<< 1 ||| 1 <<< 2) (m := 1 <<< 3) (by decide) hL
  have h4 : L.filter (ln_in (1 <<< 0 ||| 1 <<< 1 ||| 1 <<< 2 ||| 1 <<< 3)) = L := ln_fil_15 hL
  rw [h4] at h3
  exact (((h1.append_right _).trans h2).append_right _).trans h3
theorem ln_sq_e {s : Nat → Option Int32} {m : Nat} : ∀ (r i : Nat), ln_sq s m i r = (((List.range' i r).filterMap (fun k => (s k).map (fun v => (k, v)))).map (fun q => (q.1 % 4, q))).filter (ln_in m)
  | 0, _ => rfl
  | r + 1, i => by
    show ln_sq1 s m i ++ ln_sq s m (i + 1) r = _
    rw [ln_sq_e r (i + 1), List.range'_succ]
    cases e : s i with
    | none =>
      rw [List.filterMap_cons_none (by rw [e]; rfl)]
      have z : ln_sq1 s m i = [] := by
        unfold ln_sq1
        rw [e]
        split <;> rfl
      rw [z, List.nil_append]
    | some v =>
      rw [List.filterMap_cons_some (b := (i, v)) (by rw [e]; rfl), List.map_cons]
      cases hb : m.testBit (i % 4) with
      | true =>
        rw [List.filter_cons_of_pos (by exact hb)]
        have z : ln_sq1 s m i = [(i % 4, i, v)] := by
          unfold ln_sq1
          rw [e, if_pos hb]
          rfl
        rw [z]
        rfl
      | false =>
        rw [List.filter_cons_of_neg (by show ¬ m.testBit _ = true; rw [hb]; exact Bool.noConfusion)]
        have z : ln_sq1 s m i = [] := by
          unfold ln_sq1
          rw [if_neg (by rw [hb]; exact Bool.noConfusion)]
        rw [z, List.nil_append]
theorem ln_q_sums {e : ln_E} {lv : Int32} {Mx Ma : List ln_T} {m : Nat} (hk : ln_ka e = 6) (hM : ln_rg Mx) :
    (ln_sq (ln_ss (ln_aa e) (ln_rn lv) Mx (ln_rn lv)) m 0 16).Perm (((ln_wd e (Mx.map Prod.snd) (Ma.map Prod.snd)).map (fun q => (ln_pt e q, q))).filter (ln_in m)) := by
  have e1 : (fun q : ln_K => (ln_pt e q, q)) = (fun q : ln_K => (q.1 % 4, q)) := by
    funext q
    unfold ln_pt
    rw [if_neg (by omega)]
  have e2 : ln_wd e (Mx.map Prod.snd) (Ma.map Prod.snd) = (List.range' 0 16).filterMap (fun k => (ln_ss (ln_aa e) (ln_rn lv) Mx (ln_rn lv) k).map (fun v => (k, v))) := by
    unfold ln_wd ln_sm
    rw [if_pos hk, List.range_eq_range']
    congr 1
    funext k
    congr 1
    unfold ln_rn
    split
    · exact (ln_ss_4 _ hM k).symm
    · exact (ln_ss_1 _ Mx k).symm
  rw [e1, e2, ln_sq_e]
/-! join -/
theorem ln_jq_e {m : Nat} {B : List ln_T} : ∀ (L : List ln_T), ln_jq m B L = ((ln_jn (L.map Prod.snd) (B.map Prod.snd)).map (fun q => (q.1 % 4, q))).filter (ln_in m)
  | [] => rfl
  | t :: L => by
    show (if m.testBit (t.2.1 % 4) = true then ln_j1 t B else []) ++ ln_jq m B L = ((ln_jn (t.2 :: L.map Prod.snd) (B.map Prod.snd)).map (fun q => (q.1 % 4, q))).filter (ln_in m)
    have e0 : ln_jn (t.2 :: L.map Prod.snd) (B.map Prod.snd) = ln_jn1 (B.map Prod.snd) t.2 ++ ln_jn (L.map Prod.snd) (B.map Prod.snd) := List.flatMap_cons
    rw [e0, List.map_append, List.filter_append, ← ln_jq_e L]
    congr 1
    have e1 : (ln_jn1 (B.map Prod.snd) t.2).map (fun q : ln_K => (q.1 % 4, q)) = ln_j1 t B := by
      unfold ln_jn1 ln_j1
      rw [List.filter_map, List.map_map, List.map_map]
      rfl
    rw [e1]
    have e2 : ∀ b, b ∈ ln_j1 t B → ln_in m b = m.testBit (t.2.1 % 4) := fun b hb => by
      unfold ln_j1 at hb
      obtain ⟨s, _, h⟩ := List.mem_map.mp hb
      rw [← h]
      rfl
    split
    · rename_i h
      exact (List.filter_eq_self.mpr fun b hb => by rw [e2 b hb, h]).symm
    · rename_i h
      exact (List.filter_eq_nil_iff.mpr fun b hb => by rw [e2 b hb]; exact h).symm
theorem ln_q_join {e : ln_E} {Mx Ma : List ln_T} {m : Nat} (hk : ln_ka e = 7) :
    (ln_jq m Ma Mx).Perm (((ln_wd e (Mx.map Prod.snd) (Ma.map Prod.snd)).map (fun q => (ln_pt e q, q))).filter (ln_in m)) := by
  have e1 : (fun q : ln_K => (ln_pt e q, q)) = (fun q : ln_K => (q.1 % 4, q)) := by
    funext q
    unfold ln_pt
    rw [if_neg (by omega)]
  have e2 : ln_wd e (Mx.map Prod.snd) (Ma.map Prod.snd) = ln_jn (Mx.map Prod.snd) (Ma.map Prod.snd) := by
    unfold ln_wd
    rw [if_neg (by omega), if_pos hk]
  rw [e1, e2, ln_jq_e]
/-! without -/
theorem ln_fd9 {t : ln_T} : ∀ (O : List ln_T), ln_fd true t O = (O.map Prod.snd).any (fun s => s.1 == t.2.1)
  | [] => rfl
  | s :: O => by
    have h := ln_fd9 (t := t) O
    unfold ln_fd at h ⊢
    rw [List.any_cons, List.map_cons, List.any_cons, h, Bool.true_or, Bool.and_true]
theorem ln_fq9_e {m : Nat} {A : List ln_T} : ∀ (L W : List ln_T), ln_fq true m A W L = ((ln_wo (L.map Prod.snd) (A.map Prod.snd)).map (fun q => (q.1 % 4, q))).filter (ln_in m)
  | [], _ => rfl
  | t :: L, W => by
    have ih := ln_fq9_e (m := m) (A := A) L
    show (if m.testBit (t.2.1 % 4) = true ∧ ln_fd true t A = false then (t.2.1 % 4, t.2) :: ln_fq true m A (W ++ [(t.2.1 % 4, t.2)]) L else ln_fq true m A W L) = ((ln_wo (t.2 :: L.map Prod.snd) (A.map Prod.snd)).map (fun q => (q.1 % 4, q))).filter (ln_in m)
    rw [ih, ih, ln_fd9]
    unfold ln_wo
    cases ha : (A.map Prod.snd).any (fun s => s.1 == t.2.1) with
    | true =>
      rw [if_neg (fun z => Bool.noConfusion z.2), List.filter_cons_of_neg (by rw [ha]; exact Bool.noConfusion)]
    | false =>
      rw [List.filter_cons_of_pos (by rw [ha]; rfl), List.map_cons]
      cases hb : m.testBit (t.2.1 % 4) with
      | true => rw [if_pos ⟨rfl, rfl⟩, List.filter_cons_of_pos (by exact hb)]
      | false => rw [if_neg (fun z => Bool.noConfusion z.1), List.filter_cons_of_neg (by show ¬ m.testBit _ = true; rw [hb]; exact Bool.noConfusion)]
theorem ln_q_without {e : ln_E} {Mx Ma W : List ln_T} {m : Nat} (hk : ln_ka e = 9) :
    (ln_fq (ln_ka e == 9) m Ma W Mx).Perm (((ln_wd e (Mx.map Prod.snd) (Ma.map Prod.snd)).map (fun q => (ln_pt e q, q))).filter (ln_in m)) := by
  have e1 : (fun q : ln_K => (ln_pt e q, q)) = (fun q : ln_K => (q.1 % 4, q)) := by
    funext q
    unfold ln_pt
    rw [if_neg (by omega)]
  have e2 : ln_wd e (Mx.map Prod.snd) (Ma.map Prod.snd) = ln_wo (Mx.map Prod.snd) (Ma.map Prod.snd) := by
    unfold ln_wd
    rw [if_neg (by omega), if_neg (by omega), if_neg (by omega), if_pos hk]
  have e3 : (ln_ka e == 9) = true := by rw [hk]; rfl
  rw [e1, e2, e3, ln_fq9_e]
end
end
section
section
/-! distinct -/
theorem ln_fd8 {t : ln_T} {O : List ln_T} : ln_fd false t O = true ↔ t.2 ∈ O.map Prod.snd := by
  unfold ln_fd
  rw [List.any_eq_true, List.mem_map]
  constructor
  · rintro ⟨s, hs, h⟩
    rw [Bool.and_eq_true, Bool.false_or, beq_iff_eq, beq_iff_eq] at h
    exact ⟨s, hs, Prod.ext h.1 h.2⟩
  · rintro ⟨s, hs, h⟩
    refine ⟨s, hs, ?_⟩
    rw [Bool.and_eq_true, Bool.false_or, beq_iff_eq, beq_iff_eq, h]
    exact ⟨rfl, rfl⟩
theorem ln_fq8_s (m : Nat) (A W : List ln_T) (t : ln_T) (r : List ln_T) : ln_fq false m A W (t :: r) = if m.testBit (t.2.1 % 4) = true ∧ ln_fd false t W = false then (t.2.1 % 4, t.2) :: ln_fq false m A (W ++ [(t.2.1 % 4, t.2)]) r else ln_fq false m A W r := rfl
theorem ln_fq8_m {m : Nat} {A : List ln_T} {t : ln_T} : ∀ (L W : List ln_T), t ∈ ln_fq false m A W L ↔ t.1 = t.2.1 % 4 ∧ m.testBit t.1 = true ∧ t.2 ∈ L.map Prod.snd ∧ t.2 ∉ W.map Prod.snd
  | [], W => ⟨fun h => absurd h List.not_mem_nil, fun h => absurd h.2.2.1 List.not_mem_nil⟩
  | s :: r, W => by
    rw [ln_fq8_s, List.map_cons, List.mem_cons]
    split
    · rename_i h
      have h2 : s.2 ∉ W.map Prod.snd := fun z => by rw [ln_fd8.mpr z] at h; exact Bool.noConfusion h.2
      rw [List.mem_cons, ln_fq8_m r, List.map_append, List.mem_append]
      constructor
      · rintro (rfl | ⟨a, b, c, d⟩)
        · exact ⟨rfl, h.1, Or.inl rfl, h2⟩
        · exact ⟨a, b, Or.inr c, fun z => d (Or.inl z)⟩
      · rintro ⟨a, b, c, d⟩
        by_cases e : t.2 = s.2
        · exact Or.inl (Prod.ext (by rw [a, e]) e)
        · refine Or.inr ⟨a, b, c.resolve_left e, fun z => z.elim d fun y => e ?_⟩
          exact List.mem_singleton.mp y
    · rename_i h
      rw [ln_fq8_m r]
      constructor
      · rintro ⟨a, b, c, d⟩
        exact ⟨a, b, Or.inr c, d⟩
      · rintro ⟨a, b, c, d⟩
        refine ⟨a, b, c.resolve_left fun e => h ⟨?_, ?_⟩, d⟩
        · rw [← e, ← a]; exact b
        · cases z : ln_fd false s W with
          | false => rfl
          | true => rw [e] at d; exact absurd (ln_fd8.mp z) d
theorem ln_fq8_n {m : Nat} {A : List ln_T} : ∀ (L W : List ln_T), (ln_fq false m A W L).Nodup
  | [], _ => List.nodup_nil
  | s :: r, W => by
    rw [ln_fq8_s]
    split
    · refine List.nodup_cons.mpr ⟨fun z => ?_, ln_fq8_n r _⟩
      have := ((ln_fq8_m r _).mp z).2.2.2
      rw [List.map_append, List.mem_append] at this
      exact this (Or.inr (List.mem_singleton.mpr rfl))
    · exact ln_fq8_n r W
theorem ln_q_distinct {e : ln_E} {Mx Ma W : List ln_T} {m : Nat} (hk : ln_ka e = 8) (hW : ∀ s, s ∈ W → m.testBit (s.2.1 % 4) = false) :
    (ln_fq (ln_ka e == 9) m Ma W Mx).Perm (((ln_wd e (Mx.map Prod.snd) (Ma.map Prod.snd)).map (fun q => (ln_pt e q, q))).filter (ln_in m)) := by
  have e1 : (fun q : ln_K => (ln_pt e q, q)) = (fun q : ln_K => (q.1 % 4, q)) := by
    funext q
    unfold ln_pt
    rw [if_neg (by omega)]
  have e2 : ln_wd e (Mx.map Prod.snd) (Ma.map Prod.snd) = ln_dk (Mx.map Prod.snd) := by
    unfold ln_wd
    rw [if_neg (by omega), if_neg (by omega), if_pos hk]
  have e3 : (ln_ka e == 9) = false := by rw [hk]; rfl
  rw [e1, e2, e3]
  refine (List.perm_ext_iff_of_nodup (ln_fq8_n Mx W) ?_).mpr fun t => ?_
  · refine List.Pairwise.filter _ (List.Pairwise.map _ ?_ (ln_dk_n _))
    intro a b h z
    exact h (congrArg Prod.snd z)
  · rw [ln_fq8_m, List.mem_filter]
    constructor
    · rintro ⟨a, b, c, _⟩
      exact ⟨List.mem_map.mpr ⟨t.2, (ln_dk_m _).mpr c, Prod.ext a.symm rfl⟩, b⟩
    · rintro ⟨hqq, hb⟩
      obtain ⟨q, hq, rfl⟩ := List.mem_map.mp hqq
      refine ⟨rfl, hb, (ln_dk_m _).mp hq, fun z => ?_⟩
      obtain ⟨s, hs, h⟩ := List.mem_map.mp z
      have := hW s hs
      rw [h] at this
      have hb' : m.testBit (q.1 % 4) = true := hb
      rw [this] at hb'
      exact Bool.noConfusion hb'
/-! last -/
theorem ln_gt_irr (q : ln_K) : ln_gt q q = false := by
  unfold ln_gt
  rw [decide_eq_false_iff_not]
  rintro (h | ⟨_, h⟩)
  · exact Int32.lt_irrefl h
  · exact Nat.lt_irrefl _ h
theorem ln_cn_app (q : ln_K) (i : Nat) : ∀ (A B : List ln_T) (k : Nat), ln_cn q i k (A ++ B) = ln_cn q i k A + ln_cn q i (k + A.length) B
  | [], B, k => by
    show ln_cn q i k B = 0 + ln_cn q i (k + 0) B
    rw [Nat.zero_add, Nat.add_zero]
  | s :: A, B, k => by
    show (if ln_gt s.2 q = true ∨ (s.2 = q ∧ i < k) then 1 else 0) + ln_cn q i (k + 1) (A ++ B) = (if ln_gt s.2 q = true ∨ (s.2 = q ∧ i < k) then 1 else 0) + ln_cn q i (k + 1) A + ln_cn q i (k + (A.length + 1)) B
    rw [ln_cn_app q i A B (k + 1), show k + 1 + A.length = k + (A.length + 1) by omega, Nat.add_assoc]
theorem ln_cn_lo (q : ln_K) (i : Nat) : ∀ (A : List ln_T) (k : Nat), k + A.length ≤ i + 1 → ln_cn q i k A = (A.map Prod.snd).countP (fun s => ln_gt s q)
  | [], _, _ => rfl
  | s :: A, k, h => by
    rw [List.length_cons] at h
    show (if ln_gt s.2 q = true ∨ (s.2 = q ∧ i < k) then 1 else 0) + ln_cn q i (k + 1) A = _
    rw [ln_cn_lo q i A (k + 1) (by omega), List.map_cons, List.countP_cons, Nat.add_comm]
    congr 1
    by_cases g : ln_gt s.2 q = true
    · rw [if_pos (Or.inl g), if_pos g]
    · rw [if_neg (by rintro (z | ⟨_, z⟩); exact g z; omega), if_neg g]
theorem ln_cn_hi (q : ln_K) (i : Nat) : ∀ (A : List ln_T) (k : Nat), i < k → ln_cn q i k A = (A.map Prod.snd).countP (fun s => ln_gt s q) + (A.map Prod.snd).count q
  | [], _, _ => rfl
  | s :: A, k, h => by
    show (if ln_gt s.2 q = true ∨ (s.2 = q ∧ i < k) then 1 else 0) + ln_cn q i (k + 1) A = _
    rw [ln_cn_hi q i A (k + 1) (by omega), List.map_cons, List.countP_cons, List.count_cons]
    by_cases g : ln_gt s.2 q = true
    · have ne : s.2 ≠ q := fun z => by rw [z, ln_gt_irr] at g; exact Bool.noConfusion g
      rw [if_pos (Or.inl g), if_pos g, if_neg (by rw [beq_iff_eq]; exact ne)]
      omega
    · by_cases z : s.2 = q
      · rw [if_pos (Or.inr ⟨z, h⟩), if_neg g, if_pos (by rw [beq_iff_eq]; exact z)]
        omega
      · rw [if_neg (by rintro (y | ⟨y, _⟩); exact g y; exact z y), if_neg g, if_neg (by rw [beq_iff_eq]; exact z)]
        omega
theorem ln_cn_e {G pre r : List ln_T} {t : ln_T} (e : G = pre ++ t :: r) : ln_cn t.2 pre.length 0 G = (G.map Prod.snd).countP (fun s => ln_gt s t.2) + (r.map Prod.snd).count t.2 := by
  have e' := ln_pre e
  have e2 : G.map Prod.snd = (pre ++ [t]).map Prod.snd ++ r.map Prod.snd := by rw [e', List.map_append]
  rw [e2, List.countP_append, e', ln_cn_app, ln_cn_lo _ _ _ _ (by rw [ln_pl1]; omega), ln_cn_hi _ _ _ _ (by rw [ln_pl1]; omega)]
  omega
theorem ln_lq_e {c : Nat} {G : List ln_T} : ∀ (r pre : List ln_T), G = pre ++ r → ln_lq c G pre.length r = (ln_sl c (G.map Prod.snd) (r.map Prod.snd)).map (fun q => (0, q))
  | [], _, _ => rfl
  | t :: r, pre, e => by
    have ih := ln_lq_e (c := c) r (pre ++ [t]) (ln_pre e)
    rw [ln_pl1] at ih
    show (if ln_cn t.2 pre.length 0 G < c then (0, t.2) :: ln_lq c G (pre.length + 1) r else ln_lq c G (pre.length + 1) r) = _
    rw [ih, ln_cn_e e, List.map_cons, ln_sl_e]
    split
    · rw [List.map_cons]
    · rfl
theorem ln_q_last {e : ln_E} {Mx Ma : List ln_T} {m : Nat} (hk : ln_ka e = 10) (hb : m.testBit 0 = true) :
    (ln_lq (ln_an e) Mx 0 Mx).Perm (((ln_wd e (Mx.map Prod.snd) (Ma.map Prod.snd)).map (fun q => (ln_pt e q, q))).filter (ln_in m)) := by
  have e1 : (fun q : ln_K => (ln_pt e q, q)) = (fun q : ln_K => (0, q)) := by
    funext q
    unfold ln_pt
    rw [if_pos hk]
  have e2 : ln_wd e (Mx.map Prod.snd) (Ma.map Prod.snd) = ln_la (ln_an e) (Mx.map Prod.snd) := by
    unfold ln_wd
    rw [if_neg (by omega), if_neg (by omega), if_neg (by omega), if_neg (by omega)]
  have e3 := ln_lq_e (c := ln_an e) (G := Mx) Mx [] rfl
  have e4 : ((ln_la (ln_an e) (Mx.map Prod.snd)).map (fun q : ln_K => ((0 : Nat), q))).filter (ln_in m) = (ln_la (ln_an e) (Mx.map Prod.snd)).map (fun q : ln_K => ((0 : Nat), q)) := by
    refine List.filter_eq_self.mpr fun t ht => ?_
    obtain ⟨q, _, rfl⟩ := List.mem_map.mp ht
    exact hb
  rw [e1, e2, e4]
  exact List.Perm.of_eq e3
theorem ln_q_last0 {e : ln_E} {X A : List ln_T} {m : Nat} (hk : ln_ka e = 10) (hb : m.testBit 0 = false) : (ln_raw e X A).filter (ln_in m) = [] := by
  rw [ln_raw_w (by omega)]
  refine List.filter_eq_nil_iff.mpr fun t ht => ?_
  obtain ⟨q, _, rfl⟩ := List.mem_map.mp ht
  have : ln_pt e q = 0 := if_pos hk
  show ¬ m.testBit (ln_pt e q) = true
  rw [this, hb]
  exact Bool.noConfusion
/-! steps -/
theorem ln_q_steps {P : Nat → ln_E} {rs : List Nat} {X Mx : List ln_T} {s m : Nat} (hX : ln_rg X) (h : Mx.Perm (X.filter (ln_in s))) (hs : ln_sb m s) : (ln_tq P rs m Mx).Perm ((X.filterMap (ln_ch P rs)).filter (ln_in m)) := by
  unfold ln_tq
  rw [ln_filterMap_f (q := ln_in m) X (fun t _ b hb => by unfold ln_in; rw [ln_ch_p hb])]
  exact (ln_q_src hX h hs).filterMap _
/-! sizes -/
theorem ln_sm_len (h : Int32) (L : List ln_K) : (ln_sm h L).length ≤ 16 := by
  unfold ln_sm
  refine Nat.le_trans (List.length_filterMap_le _ _) ?_
  rw [List.length_range]
  exact Nat.le_refl _
/-- kinds that are never big by themselves -/
theorem ln_raw_le {d : Nat} {e : ln_E} {X A : List ln_T} (w : ln_we d e) (hk : ln_ka e ≠ 4 ∧ ln_ka e ≠ 5 ∧ ln_ka e ≠ 7) (hX : X.length ≤ 48) : (ln_raw e X A).length ≤ 48 := by
  unfold ln_raw
  split
  · rw [ln_rw_len]
    exact Nat.le_trans w.2.2.2.2.2.1 (by decide)
  · rw [if_neg hk.1, if_neg hk.2.1]
    split
    · rw [List.length_map]
      have hm : (X.map Prod.snd).length ≤ 48 := by rw [List.length_map]; exact hX
      unfold ln_wd
      split
      · exact Nat.le_trans (ln_sm_len _ _) (by decide)
      · rw [if_neg hk.2.2]
        split
        · exact Nat.le_trans (ln_dk_len _) hm
        · split
          · exact Nat.le_trans (List.length_filter_le _ _) hm
          · exact Nat.le_trans (ln_sl_s _).length_le hm
    · exact Nat.le_trans (List.length_filterMap_le _ _) hX
/-- what making the parts m of set d comes to -/
theorem ln_mk {C : Nat → Option (List ln_T)} {Th : Nat → Nat} {M : Nat → List ln_T} {d m : Nat} {R Q : List ln_T} (hc : C d = if R.length ≤ 48 then some R else none) (hR : ln_rg R) (hQ : Q.Perm (R.filter (ln_in m))) (hg : ln_gd C Th M d) (hd : ∀ p, p < 4 → m.testBit p = true → (Th d).testBit p = false) (hm : m < 16) (hf : C d ≠ none ∨ ln_sb 15 (m ||| Th d)) :
    ((M d).length + Q.length ≤ 48 → ∃ L, C d = some L ∧ (M d ++ Q).Perm (L.filter (ln_in (Th d ||| m)))) ∧ (48 < (M d).length + Q.length → C d = none) := by
  by_cases hl : R.length ≤ 48
  · rw [if_pos hl] at hc
    have h1 := ln_gd_perm hg hc
    have h2 := (h1.append hQ).trans (ln_fil_or hd hR)
    refine ⟨fun _ => ⟨R, hc, h2⟩, fun h => ?_⟩
    have h3 := h2.length_eq
    rw [List.length_append] at h3
    have h4 := List.length_filter_le (ln_in (Th d ||| m)) R
    omega
  · rw [if_neg hl] at hc
    refine ⟨fun h => ?_, fun _ => hc⟩
    rcases hg with ⟨a, b⟩ | ⟨L, e, _⟩
    · rcases hf with hf | hf
      · exact absurd hc hf
      · rw [a, Nat.or_zero] at hf
        have : m = 15 := ln_sb15 rfl hm hf
        rw [this, ln_fil_15 hR] at hQ
        have := hQ.length_eq
        omega
    · rw [hc] at e
      exact ln_nc e
theorem ln_mk_le {C : Nat → Option (List ln_T)} {Th : Nat → Nat} {M : Nat → List ln_T} {d m : Nat} {R Q : List ln_T} (hc : C d = some R) (hl : R.length ≤ 48) (hR : ln_rg R) (hQ : Q.Perm (R.filter (ln_in m))) (hg : ln_gd C Th M d) (hd : ∀ p, p < 4 → m.testBit p = true → (Th d).testBit p = false) :
    (M d).length + Q.length ≤ 48 ∧ (M d ++ Q).Perm (R.filter (ln_in (Th d ||| m))) := by
  have h1 := ln_gd_perm hg hc
  have h2 := (h1.append hQ).trans (ln_fil_or hd hR)
  refine ⟨?_, h2⟩
  have h3 := h2.length_eq
  rw [List.length_append] at h3
  have h4 := List.length_filter_le (ln_in (Th d ||| m)) R
  omega
end
end
section
section
variable {f_handCount f_setCount f_levelNow f_chainLength f_pairKeyNow f_pairValueNow f_orderCount : Int32} {a_handKey a_handValue a_kindOf a_fromX a_numberA a_numberB a_sourceCount a_sourceKey a_sourceValue a_pairCount a_pairPart a_pairKey a_pairValue a_there a_kept a_bigness a_needed a_users a_chain a_hasLocal a_local a_hasSum a_sums a_orderKey a_orderValue : Nat → Int32}
theorem ln_st_if {e : ln_E} {C : Nat → Option (List ln_T)} {X A : List ln_T} (h1 : ln_s1 e C = some X) (h2 : ln_s2 e C = some A) : ln_st e C = if (ln_raw e X A).length ≤ 48 then some (ln_raw e X A) else none := by
  unfold ln_st
  rw [h1, h2]
  rfl
/-- the sources of a set that is no step, as they are there -/
theorem ln_srcs {n : Nat} {P : Nat → ln_E} {C : Nat → Option (List ln_T)} {Th N : Nat → Nat} {M : Nat → List ln_T} {id : Nat} (w : ln_wf n P) (ct : ln_ct n P C) (hid : id < n) (hg : ∀ j, j < n → ln_gd C Th M j) (hN : N id < 16) (hz : N id ≠ 0) (hk : ln_ka (P id) ≠ 0) (hsrc : ∀ s, ln_us (P id) s → ln_sb (ln_pa P N id) (Th s)) :
    ∃ X A, ln_s1 (P id) C = some X ∧ ln_s2 (P id) C = some A ∧ ln_rg X ∧ ln_rg A ∧ X.length ≤ 48 ∧ (M (ln_fx (P id))).Perm (X.filter (ln_in (Th (ln_fx (P id))))) ∧ (ln_two (ln_ka (P id)) → (M (ln_an (P id))).Perm (A.filter (ln_in (Th (ln_an (P id)))))) := by
  have wd := w id hid
  have hp : ln_pa P N id < 16 ∧ ln_pa P N id ≠ 0 := by
    unfold ln_pa
    split
    · exact ⟨by decide, by decide⟩
    · exact ⟨hN, hz⟩
  have hx := wd.2.1 hk
  have hzx : Th (ln_fx (P id)) ≠ 0 := ln_sb_nz hp.1 hp.2 (hsrc _ (Or.inl rfl))
  obtain ⟨X, eX, pX⟩ := ln_gd_some (hg _ (by omega)) hzx
  have rX := ln_ct_rg w ct _ (by omega) X eX
  have lX := ln_ct_len ct (by omega) eX
  have e1 : ln_s1 (P id) C = some X := by unfold ln_s1; rw [if_neg hk]; exact eX
  by_cases h2 : ln_two (ln_ka (P id))
  · have hy := (wd.2.2.1 h2).1
    have hzy : Th (ln_an (P id)) ≠ 0 := ln_sb_nz hp.1 hp.2 (hsrc _ (Or.inr ⟨h2, rfl⟩))
    obtain ⟨A, eA, pA⟩ := ln_gd_some (hg _ (by omega)) hzy
    exact ⟨X, A, e1, by unfold ln_s2; rw [if_pos h2]; exact eA, rX, ln_ct_rg w ct _ (by omega) A eA, lX, pX, fun _ => pA⟩
  · exact ⟨X, [], e1, by unfold ln_s2; rw [if_neg h2], rX, ln_rg_n, lX, pX, fun z => absurd z h2⟩
theorem ln_x127_1 {post : Int32 → SX → Prop} {Th : Nat → Nat} {id m : Nat} (hid : id < 16) (hm : m < 16) (hT : ln_ms a_there Th) (k : ∀ th, ln_ms th (ln_up Th id (Th id ||| m)) → post 1 (f_handCount, f_setCount, f_levelNow, f_chainLength, f_pairKeyNow, f_pairValueNow, f_orderCount, a_handKey, a_handValue, a_kindOf, a_fromX, a_numberA, a_numberB, a_sourceCount, a_sourceKey, a_sourceValue, a_pairCount, a_pairPart, a_pairKey, a_pairValue, th, a_kept, upd a_bigness id 1, a_needed, a_users, a_chain, a_hasLocal, a_local, a_hasSum, a_sums, a_orderKey, a_orderValue)) : wX_makeParts_127 post (nI id) (nI m) 1 f_handCount f_setCount f_levelNow f_chainLength f_pairKeyNow f_pairValueNow f_orderCount a_handKey a_handValue a_kindOf a_fromX a_numberA a_numberB a_sourceCount a_sourceKey a_sourceValue a_pairCount a_pairPart a_pairKey a_pairValue a_there a_kept a_bigness a_needed a_users a_chain a_hasLocal a_local a_hasSum a_sums a_orderKey a_orderValue := by
  have hin : vp_in (nI id) 16 := vp_in_nI hid (by decide)
  have eI : (nI id).toNatClampNeg = id := nI_clamp (by omega)
  have ho := ln_or_lt (hT id hid).2 hm
  unfold wX_makeParts_127
  rw [eI, (hT id hid).1, ln_or (hT id hid).2 hm, ln_nb8 (by omega), ln_vy1]
  refine ⟨hin, hin, nm_e (br_f ln_10 ⟨hin, nm_e ?_⟩)⟩
  unfold wX_makeParts_150
  rw [eI]
  exact br_f ln_10 ⟨hin, br_t pk_us (k _ (ln_ms_u hT ho))⟩
theorem ln_x127_0 {post : Int32 → SX → Prop} {Th : Nat → Nat} {id m : Nat} (hid : id < 16) (hm : m < 16) (hT : ln_ms a_there Th) (k : ∀ th, ln_ms th (ln_up Th id (Th id ||| m)) → post 0 (f_handCount, f_setCount, f_levelNow, f_chainLength, f_pairKeyNow, f_pairValueNow, f_orderCount, a_handKey, a_handValue, a_kindOf, a_fromX, a_numberA, a_numberB, a_sourceCount, a_sourceKey, a_sourceValue, a_pairCount, a_pairPart, a_pairKey, a_pairValue, th, a_kept, a_bigness, a_needed, a_users, a_chain, a_hasLocal, a_local, a_hasSum, a_sums, a_orderKey, a_orderValue)) : wX_makeParts_127 post (nI id) (nI m) 0 f_handCount f_setCount f_levelNow f_chainLength f_pairKeyNow f_pairValueNow f_orderCount a_handKey a_handValue a_kindOf a_fromX a_numberA a_numberB a_sourceCount a_sourceKey a_sourceValue a_pairCount a_pairPart a_pairKey a_pairValue a_there a_kept a_bigness a_needed a_users a_chain a_hasLocal a_local a_hasSum a_sums a_orderKey a_orderValue := by
  have hin : vp_in (nI id) 16 := vp_in_nI hid (by decide)
  have eI : (nI id).toNatClampNeg = id := nI_clamp (by omega)
  have ho := ln_or_lt (hT id hid).2 hm
  unfold wX_makeParts_127
  rw [eI, (hT id hid).1, ln_or (hT id hid).2 hm, ln_nb8 (by omega)]
  refine ⟨hin, hin, nm_e (br_t rfl ?_)⟩
  unfold wX_makeParts_150
  exact br_t rfl (k _ (ln_ms_u hT ho))
theorem ln_gd_new {C : Nat → Option (List ln_T)} {Th : Nat → Nat} {M : Nat → List ln_T} {id m : Nat} {W : List ln_T} (h : ∃ L, C id = some L ∧ W.Perm (L.filter (ln_in (Th id ||| m)))) : ln_gd C (ln_up Th id (Th id ||| m)) (ln_up M id W) id := by
  unfold ln_gd
  rw [ln_up_s, ln_up_s]
  exact Or.inr h
theorem ln_xmake {post : Int32 → SX → Prop} {n : Nat} {P : Nat → ln_E} {C : Nat → Option (List ln_T)} {M : Nat → List ln_T} {Th N : Nat → Nat} {Rd : Nat → Prop} {id : Nat} (hn16 : n ≤ 16) (pl : ln_pl n P a_kindOf a_fromX a_numberA a_numberB a_sourceCount a_sourceKey a_sourceValue) (w : ln_wf n P) (ct : ln_ct n P C) (hid : id < n) (hp : ln_ps a_pairCount a_pairPart a_pairKey a_pairValue M) (hT : ln_ms a_there Th) (hN : ln_ms a_needed N) (hz : N id ≠ 0)
    (hg : ∀ j, j < n → ln_gd C Th M j) (hd : ∀ p, p < 4 → (N id).testBit p = true → (Th id).testBit p = false) (hf : C id ≠ none ∨ ln_sb 15 (N id ||| Th id))
    (hsrc : ln_ka (P id) ≠ 0 → ¬ ln_stp (ln_ka (P id)) → ∀ s, ln_us (P id) s → ln_sb (ln_pa P N id) (Th s))
    (hrd : ln_stp (ln_ka (P id)) → Rd (ln_fx (P id)) ∧ ∀ b, b < id → Rd b → ln_sb (N id) (Th b) ∨ (ln_stp (ln_ka (P b)) ∧ Rd (ln_fx (P b))))
    (k1 : ∀ cl kn vn ch hl lc hs sm pc pp pk pv th W, ln_ps pc pp pk pv (ln_up M id W) → ln_ms th (ln_up Th id (Th id ||| N id)) → ln_gd C (ln_up Th id (Th id ||| N id)) (ln_up M id W) id → post 1 (f_handCount, f_setCount, f_levelNow, cl, kn, vn, f_orderCount, a_handKey, a_handValue, a_kindOf, a_fromX, a_numberA, a_numberB, a_sourceCount, a_sourceKey, a_sourceValue, pc, pp, pk, pv, th, a_kept, upd a_bigness id 1, a_needed, a_users, ch, hl, lc, hs, sm, a_orderKey, a_orderValue))
    (k0 : C id = none → ∀ cl kn vn ch hl lc hs sm pc pp pk pv th W, ln_ps pc pp pk pv (ln_up M id W) → ln_ms th (ln_up Th id (Th id ||| N id)) → post 0 (f_handCount, f_setCount, f_levelNow, cl, kn, vn, f_orderCount, a_handKey, a_handValue, a_kindOf, a_fromX, a_numberA, a_numberB, a_sourceCount, a_sourceKey, a_sourceValue, pc, pp, pk, pv, th, a_kept, a_bigness, a_needed, a_users, ch, hl, lc, hs, sm, a_orderKey, a_orderValue)) : wpX_makeParts post (f_handCount, f_setCount, f_levelNow, f_chainLength, f_pairKeyNow, f_pairValueNow, f_orderCount, a_handKey, a_handValue, a_kindOf, a_fromX, a_numberA, a_numberB, a_sourceCount, a_sourceKey, a_sourceValue, a_pairCount, a_pairPart, a_pairKey, a_pairValue, a_there, a_kept, a_bigness, a_needed, a_users, a_chain, a_hasLocal, a_local, a_hasSum, a_sums, a_orderKey, a_orderValue) (nI id) := by
  have hin : vp_in (nI id) 16 := vp_in_nI (by omega) (by decide)
  have hid16 : id < 16 := by omega
  have wd := w id hid
  have hka := wd.1
  have hm := (hN id hid16).2
  have eK : a_kindOf (nI id).toNatClampNeg = nI (ln_ka (P id)) := by rw [nI_clamp (by omega)]; exact (pl id hid).1
  have eN : a_needed (nI id).toNatClampNeg = nI (N id) := by rw [nI_clamp (by omega)]; exact (hN id hid16).1
  have hgi := hg id hid
  unfold wpX_makeParts
  dsimp only
  refine ⟨hin, nm_r eK ⟨hin, nm_r eN (pk_eq (ln_ka (P id)) 0 (fun h0 => ?_) (fun h0 => ?_))⟩⟩
  · have e1 : ln_s1 (P id) C = some [] := if_pos h0
    have e2 : ln_s2 (P id) C = some [] := if_neg (by omega)
    have er : ln_raw (P id) [] [] = ln_rw 0 (ln_sr (P id)) := if_pos h0
    have hl := ln_raw_le (X := []) (A := []) wd (by omega) (by decide)
    have hR := ln_raw_rg (X := []) (A := []) wd ln_rg_n ln_rg_n
    have hc : C id = some (ln_raw (P id) [] []) := by rw [ct id hid]; exact ln_st_i e1 e2 hl
    rw [er] at hl hR hc
    obtain ⟨q1, q2⟩ := ln_mk_le hc hl hR (List.Perm.refl _) hgi hd
    refine ln_xrows (M := M) hn16 pl w hid h0 hm hp q1 fun pc pp pk pv hp' => ?_
    exact ln_x127_1 hid16 hm hT fun th hT' => k1 _ _ _ _ _ _ _ _ pc pp pk pv th _ hp' hT' (ln_gd_new ⟨_, hc, q2⟩)
  · refine ln_xisStep (by omega) (fun hst => br_f ln_10 ?_) (fun hst => br_t rfl ?_)
    · obtain ⟨hr1, hr2⟩ := hrd hst
      refine ln_xsteps (M := M) (Th := Th) (Rd := Rd) hn16 pl w ct hid hst hm hp hT hr2 hr1 fun b rs hb hrdy hC => ?_
      obtain ⟨X, eX, pX⟩ := ln_gd_some (hg b (by omega)) (ln_sb_nz hm hz hrdy)
      have hc := hC X eX
      have rX := ln_ct_rg w ct b (by omega) X eX
      have hl := ln_ct_len ct hid hc
      have hR := ln_ct_rg w ct id hid _ hc
      obtain ⟨q1, q2⟩ := ln_mk_le hc hl hR (ln_q_steps (P := P) (rs := rs) rX pX hrdy) hgi hd
      refine ⟨q1, fun cl kn vn ch pc pp pk pv hp' => ?_⟩
      exact ln_x127_1 hid16 hm hT fun th hT' => k1 _ _ _ _ _ _ _ _ pc pp pk pv th _ hp' hT' (ln_gd_new ⟨_, hc, q2⟩)
    · have hs' := hsrc h0 hst
      obtain ⟨X, A, e1, e2, rX, rA, lX, pX, pA⟩ := ln_srcs w ct hid hg hm hz h0 hs'
      have hR := ln_raw_rg wd rX rA
      have hc := (ct id hid).trans (ln_st_if e1 e2)
      have hcp : ln_ka (P id) = 4 ∨ ln_ka (P id) = 5 → wX_makeParts_59 post (nI id) (nI (ln_ka (P id))) (nI (N id)) f_handCount f_setCount f_levelNow f_chainLength f_pairKeyNow f_pairValueNow f_orderCount a_handKey a_handValue a_kindOf a_fromX a_numberA a_numberB a_sourceCount a_sourceKey a_sourceValue a_pairCount a_pairPart a_pairKey a_pairValue a_there a_kept a_bigness a_needed a_users a_chain a_hasLocal a_local a_hasSum a_sums a_orderKey a_orderValue := fun hk => by
        have epa : ln_pa P N id = N id := if_neg (by omega)
        rw [epa] at hs'
        have hQ := ln_q_copies (e := P id) (m := N id) hk rX pX (hs' _ (Or.inl rfl)) (fun h5 => ⟨rA, pA (Or.inl h5), hs' _ (Or.inr ⟨Or.inl h5, rfl⟩)⟩)
        obtain ⟨q1, q0⟩ := ln_mk hc hR hQ hgi hd hm hf
        unfold wX_makeParts_59
        refine ln_xcopies (M := M) hn16 pl w hid hk hm hp (fun hl pc pp pk pv hp' => ?_) (fun hl pc pp pk pv W hp' => ?_)
        · exact ln_x127_1 hid16 hm hT fun th hT' => k1 _ _ _ _ _ _ _ _ pc pp pk pv th _ hp' hT' (ln_gd_new (q1 hl))
        · exact ln_x127_0 hid16 hm hT fun th hT' => k0 (q0 hl) _ _ _ _ _ _ _ _ pc pp pk pv th _ hp' hT'
      have h15 : ln_wid (ln_ka (P id)) → (M (ln_fx (P id))).Perm X ∧ (ln_two (ln_ka (P id)) → (M (ln_an (P id))).Perm A) := fun hk => by
        have epa : ln_pa P N id = 15 := if_pos hk
        rw [epa] at hs'
        have hx := wd.2.1 h0
        have t1 := ln_sb15 rfl (hT _ (by omega)).2 (hs' _ (Or.inl rfl))
        refine ⟨by rw [t1, ln_fil_15 rX] at pX; exact pX, fun h2 => ?_⟩
        have hy := (wd.2.2.1 h2).1
        have t2 := ln_sb15 rfl (hT _ (by omega)).2 (hs' _ (Or.inr ⟨h2, rfl⟩))
        have := pA h2
        rw [t2, ln_fil_15 rA] at this
        exact this
      refine pk_eq (ln_ka (P id)) 4 (fun h4 => hcp (Or.inl h4)) fun h4 => pk_eq (ln_ka (P id)) 5 (fun h5 => hcp (Or.inr h5)) fun h5 => pk_eq (ln_ka (P id)) 6 (fun h6 => ?_) fun h6 => pk_eq (ln_ka (P id)) 7 (fun h7 => ?_) fun h7 => pk_eq (ln_ka (P id)) 10 (fun h10 => ?_) fun h10 => ?_
      · obtain ⟨pX', _⟩ := h15 (by omega)
        have hl := ln_raw_le (A := A) wd (by omega) lX
        rw [if_pos hl] at hc
        have rM := ln_rg_p pX' rX
        have hQ := ln_q_wide (m := N id) (A := A) (by omega) pX' (fun h2 => absurd h2 (by omega)) (ln_q_sums (Ma := []) (lv := f_levelNow) h6 rM)
        obtain ⟨q1, q2⟩ := ln_mk_le hc hl hR hQ hgi hd
        refine ln_xsums (M := M) hn16 pl w hid h6 hm hp q1 fun hl lc hs sm pc pp pk pv hp' => ?_
        exact ln_x127_1 hid16 hm hT fun th hT' => k1 _ _ _ _ _ _ _ _ pc pp pk pv th _ hp' hT' (ln_gd_new ⟨_, hc, q2⟩)
      · obtain ⟨pX', pA'⟩ := h15 (by omega)
        have hQ := ln_q_wide (m := N id) (by omega) pX' pA' (ln_q_join h7)
        obtain ⟨q1, q0⟩ := ln_mk hc hR hQ hgi hd hm hf
        refine ln_xjoin (M := M) hn16 pl w hid h7 hm hp (fun hl pc pp pk pv hp' => ?_) (fun hl pc pp pk pv W hp' => ?_)
        · exact ln_x127_1 hid16 hm hT fun th hT' => k1 _ _ _ _ _ _ _ _ pc pp pk pv th _ hp' hT' (ln_gd_new (q1 hl))
        · exact ln_x127_0 hid16 hm hT fun th hT' => k0 (q0 hl) _ _ _ _ _ _ _ _ pc pp pk pv th _ hp' hT'
      · obtain ⟨pX', _⟩ := h15 (by omega)
        have hl := ln_raw_le (A := A) wd (by omega) lX
        rw [if_pos hl] at hc
        refine ln_xlast (M := M) hn16 pl w hid h10 hm hp (fun hb => ?_) (fun hb => ?_)
        · have hQ := ln_q_wide (m := N id) (A := A) (by omega) pX' (fun h2 => absurd h2 (by omega)) (ln_q_last (Ma := []) h10 hb)
          obtain ⟨q1, q2⟩ := ln_mk_le hc hl hR hQ hgi hd
          have hM0 := ln_gd_perm hgi hc
          rw [ln_q_last0 h10 (hd 0 (by decide) hb)] at hM0
          refine ⟨by rw [hM0.eq_nil]; rfl, fun pc pp pk pv hp' => ?_⟩
          exact ln_x127_1 hid16 hm hT fun th hT' => k1 _ _ _ _ _ _ _ _ pc pp pk pv th _ hp' hT' (ln_gd_new ⟨_, hc, q2⟩)
        · obtain ⟨q1, q2⟩ := ln_mk_le (Q := []) hc hl hR (by rw [ln_q_last0 h10 hb]) hgi hd
          rw [List.append_nil] at q2
          exact ln_x127_1 hid16 hm hT fun th hT' => k1 _ _ _ _ _ _ _ _ _ _ _ _ th (M id) (by rw [ln_up_i]; exact hp) hT' (ln_gd_new ⟨_, hc, q2⟩)
      · have h89 : ln_ka (P id) = 8 ∨ ln_ka (P id) = 9 := by omega
        obtain ⟨pX', pA'⟩ := h15 (by omega)
        have hQ : (ln_fq (ln_ka (P id) == 9) (N id) (M (ln_an (P id))) (M id) (M (ln_fx (P id)))).Perm ((ln_raw (P id) X A).filter (ln_in (N id))) := by
          rcases h89 with h8 | h9
          · have hl := ln_raw_le (A := A) wd (by omega) lX
            rw [if_pos hl] at hc
            have hM0 := ln_gd_perm hgi hc
            refine ln_q_wide (Ma := M (ln_an (P id))) (by omega) pX' (fun h2 => absurd h2 (by omega)) (ln_q_distinct h8 fun s hs => ?_)
            have hs' := List.mem_filter.mp (hM0.mem_iff.mp hs)
            have hsr := hs'.1
            rw [ln_raw_w (by omega)] at hsr
            obtain ⟨q, _, rfl⟩ := List.mem_map.mp hsr
            have ept : ln_pt (P id) q = q.1 % 4 := if_neg (by omega)
            have hb : (Th id).testBit (ln_pt (P id) q) = true := hs'.2
            rw [ept] at hb
            cases z : (N id).testBit (q.1 % 4) with
            | false => rfl
            | true =>
              have := hd (q.1 % 4) (Nat.mod_lt _ (by decide)) z
              rw [this] at hb
              exact Bool.noConfusion hb
          · exact ln_q_wide (by omega) pX' pA' (ln_q_without h9)
        obtain ⟨q1, q0⟩ := ln_mk hc hR hQ hgi hd hm hf
        refine ln_xfiltered (M := M) hn16 pl w hid h89 hm hp (fun hl pc pp pk pv hp' => ?_) (fun hl pc pp pk pv W hp' => ?_)
        · exact ln_x127_1 hid16 hm hT fun th hT' => k1 _ _ _ _ _ _ _ _ pc pp pk pv th _ hp' hT' (ln_gd_new (q1 hl))
        · exact ln_x127_0 hid16 hm hT fun th hT' => k0 (q0 hl) _ _ _ _ _ _ _ _ pc pp pk pv th _ hp' hT'
end
end
section
section
variable {f_handCount f_setCount f_levelNow f_chainLength f_pairKeyNow f_pairValueNow f_orderCount : Int32} {a_handKey a_handValue a_kindOf a_fromX a_numberA a_numberB a_sourceCount a_sourceKey a_sourceValue a_pairCount a_pairPart a_pairKey a_pairValue a_there a_kept a_bigness a_needed a_users a_chain a_hasLocal a_local a_hasSum a_sums a_orderKey a_orderValue : Nat → Int32}
def ln_bg (n : Nat) (C : Nat → Option (List ln_T)) (bg : Nat → Int32) : Prop := ∀ j, j < n → bg j = 2 → C j = none
def ln_dy (n : Nat) (C : Nat → Option (List ln_T)) (pc pp pk pv th bg : Nat → Int32) (M : Nat → List ln_T) (Th : Nat → Nat) : Prop :=
  ln_ps pc pp pk pv M ∧ ln_ms th Th ∧ (∀ j, j < n → ln_gd C Th M j) ∧ ln_bg n C bg
theorem ln_gd_o {C : Nat → Option (List ln_T)} {Th Th' : Nat → Nat} {M M' : Nat → List ln_T} {j : Nat} (h : ln_gd C Th M j) (e1 : Th' j = Th j) (e2 : M' j = M j) : ln_gd C Th' M' j := by
  unfold ln_gd
  rw [e1, e2]
  exact h
theorem ln_bg_1 {n : Nat} {C : Nat → Option (List ln_T)} {bg : Nat → Int32} (h : ln_bg n C bg) (i : Nat) : ln_bg n C (upd bg i 1) := by
  intro j hj e
  by_cases z : j = i
  · subst z
    rw [pk_us] at e
    exact absurd e (by decide)
  · rw [pk_un z] at e
    exact h j hj e
theorem ln_bg_2 {n : Nat} {C : Nat → Option (List ln_T)} {bg : Nat → Int32} (h : ln_bg n C bg) {i : Nat} (hi : C i = none) : ln_bg n C (upd bg i 2) := by
  intro j hj e
  by_cases z : j = i
  · subst z; exact hi
  · rw [pk_un z] at e
    exact h j hj e
/-- the forward pass, the sets below i done -/
def ln_wv (n : Nat) (P : Nat → ln_E) (C : Nat → Option (List ln_T)) (Th N U : Nat → Nat) (d i : Nat) (Tc : Nat → Nat) (M : Nat → List ln_T) : Prop :=
  (∀ j, j < n → ln_gd C Tc M j) ∧ (∀ j, i ≤ j → Tc j = Th j) ∧ (∀ j, j < i → N j = 0 → Tc j = Th j) ∧ (∀ j, j < i → N j ≠ 0 → Tc j = Th j ||| N j ∨ (ln_po P Th N U d j ∧ Tc j = Th j))
theorem ln_wv_rdy {n : Nat} {P : Nat → ln_E} {C : Nat → Option (List ln_T)} {Th N U : Nat → Nat} {d i : Nat} {Tc : Nat → Nat} {M : Nat → List ln_T} (h : ln_wv n P C Th N U d i Tc M) {s m : Nat} (hs : s < i) (hm : ln_sb m (N s ||| Th s)) : ln_sb m (Tc s) ∨ (N s ≠ 0 ∧ ln_po P Th N U d s) := by
  by_cases z : N s = 0
  · rw [z, Nat.zero_or] at hm
    rw [h.2.2.1 s hs z]
    exact Or.inl hm
  · rcases h.2.2.2 s hs z with e | ⟨e, _⟩
    · rw [e, Nat.or_comm]
      exact Or.inl hm
    · exact Or.inr ⟨z, e⟩
theorem ln_wv_src {n : Nat} {P : Nat → ln_E} {C : Nat → Option (List ln_T)} {Th N U : Nat → Nat} {d i : Nat} {Tc : Nat → Nat} {M : Nat → List ln_T} (w : ln_wf n P) (hd : d < n) (hi : i ≤ d) (h : ln_wv n P C Th N U d i Tc M) (v : ln_nv P C Th d 0 N U) (hz : N i ≠ 0) (hk : ln_ka (P i) ≠ 0) (hst : ¬ ln_stp (ln_ka (P i))) {s : Nat} (hs : ln_us (P i) s) : ln_sb (ln_pa P N i) (Tc s) := by
  have hsi := ln_us_lt (w i (by omega)) hk hs
  have h3 := (v.2.2.1 i (Nat.zero_le _) hi ⟨hz, hk⟩ s hs).1
  rcases ln_wv_rdy h hsi h3 with e | ⟨_, _, _, hU, _, u, hu, ha, hus, hus'⟩
  · exact e
  · by_cases e : u = i
    · subst e; exact absurd hus' hst
    · have := v.2.2.2.2.2.1 u i (Nat.zero_le _) hu (Nat.zero_le _) hi e ha ⟨hz, hk⟩ s hus hs
      omega
theorem ln_wv_rd {n : Nat} {P : Nat → ln_E} {C : Nat → Option (List ln_T)} {Th N U : Nat → Nat} {d i m : Nat} {Tc : Nat → Nat} {M : Nat → List ln_T} (hi : i ≤ d) (h : ln_wv n P C Th N U d i Tc M) (v : ln_nv P C Th d 0 N U) : ∀ b, b < i → ln_sb m (N b ||| Th b) → ln_sb m (Tc b) ∨ (ln_stp (ln_ka (P b)) ∧ ln_sb m (N (ln_fx (P b)) ||| Th (ln_fx (P b)))) := by
  intro b hb hm
  rcases ln_wv_rdy h hb hm with e | ⟨hz, hst, ht, _⟩
  · exact Or.inl e
  · refine Or.inr ⟨hst, ?_⟩
    rw [ht, Nat.or_zero] at hm
    have h3 := (v.2.2.1 b (Nat.zero_le _) (by omega) ⟨hz, by omega⟩ _ (Or.inl rfl)).1
    have e : ln_pa P N b = N b := if_neg (by omega)
    rw [e] at h3
    exact ln_sb_t hm h3
theorem ln_xwo19 {post : Int32 → SX → Prop} {n : Nat} {P : Nat → ln_E} {C : Nat → Option (List ln_T)} {Th N U : Nat → Nat} {d : Nat} (hn : f_setCount = nI n) (hn16 : n ≤ 16) (pl : ln_pl n P a_kindOf a_fromX a_numberA a_numberB a_sourceCount a_sourceKey a_sourceValue) (w : ln_wf n P) (ct : ln_ct n P C) (hd : d < n) (hN : ln_ms a_needed N) (hU : ln_uc a_users U 34) (v : ln_nv P C Th d 0 N U)
    (k1 : ∀ cl kn vn ch hl lc hs sm pc pp pk pv th bg M Tc L, ln_dy n C pc pp pk pv th bg M Tc → C d = some L → (M d).Perm L → post 1 (f_handCount, f_setCount, f_levelNow, cl, kn, vn, f_orderCount, a_handKey, a_handValue, a_kindOf, a_fromX, a_numberA, a_numberB, a_sourceCount, a_sourceKey, a_sourceValue, pc, pp, pk, pv, th, a_kept, bg, a_needed, a_users, ch, hl, lc, hs, sm, a_orderKey, a_orderValue))
    (k0 : C d = none → ∀ cl kn vn ch hl lc hs sm pc pp pk pv th bg M Tc, ln_dy n C pc pp pk pv th bg M Tc → post 0 (f_handCount, f_setCount, f_levelNow, cl, kn, vn, f_orderCount, a_handKey, a_handValue, a_kindOf, a_fromX, a_numberA, a_numberB, a_sourceCount, a_sourceKey, a_sourceValue, pc, pp, pk, pv, th, a_kept, bg, a_needed, a_users, ch, hl, lc, hs, sm, a_orderKey, a_orderValue)) :
    ∀ (r i : Nat) (cl kn vn : Int32) (ch hl lc hs sm pc pp pk pv th bg : Nat → Int32) (M : Nat → List ln_T) (Tc : Nat → Nat), i + r = d + 1 → ln_dy n C pc pp pk pv th bg M Tc → ln_wv n P C Th N U d i Tc M → wX_workOut_19 post (nI d) (r + 1) (nI i) f_handCount f_setCount f_levelNow cl kn vn f_orderCount a_handKey a_handValue a_kindOf a_fromX a_numberA a_numberB a_sourceCount a_sourceKey a_sourceValue pc pp pk pv th a_kept bg a_needed a_users ch hl lc hs sm a_orderKey a_orderValue := by
  intro r
  induction r with
  | zero =>
    intro i cl kn vn ch hl lc hs sm pc pp pk pv th bg M Tc hi hy hv
    have hTd := hy.2.1 d (by omega)
    have hb : Tc d = 15 := by
      refine ln_sb15 rfl hTd.2 ?_
      have hnd : ln_sb 15 (N d ||| Th d) := fun p hp _ => by
        by_cases z : N d = 0
        · have e := hv.2.2.1 d (by omega) z
          rw [← e]
          rw [v.1] at z
          have hb := ln_df_b (a := 15) (b := Th d) (by decide) (by rw [← e]; exact hTd.2) hp
          rw [z, ln_b0, ln_b15 p hp, Bool.true_and] at hb
          rw [Nat.testBit_or, e]
          cases y : (Th d).testBit p with
          | true => exact Bool.or_true _
          | false => rw [y] at hb; exact Bool.noConfusion hb
        · rcases hv.2.2.2 d (by omega) z with e | ⟨e, _⟩
          · have hTh : Th d < 16 := by
              refine Nat.lt_of_le_of_lt (Nat.left_le_or (n := Th d) (m := N d)) ?_
              rw [← e]; exact hTd.2
            rw [Nat.testBit_or, v.1, ln_df_b (by decide) hTh hp, ln_b15 p hp]
            cases (Th d).testBit p <;> rfl
          · exact absurd rfl e.2.2.2.1
      rcases ln_wv_rdy hv (s := d) (by omega) hnd with e | ⟨_, e⟩
      · exact e
      · exact absurd rfl e.2.2.2.1
    obtain ⟨L, hL, hp⟩ := ln_gd_some (hy.2.2.1 d hd) (by rw [hb]; decide)
    rw [hb, ln_fil_15 (ln_ct_rg w ct d hd L hL)] at hp
    exact br_t (nI_lt (by omega) (by omega)) (k1 cl kn vn ch hl lc hs sm pc pp pk pv th bg M Tc L hy hL hp)
  | succ r ih =>
    intro i cl kn vn ch hl lc hs sm pc pp pk pv th bg M Tc hi hy hv
    have hid : i ≤ d := by omega
    have hin : vp_in (nI i) 16 := vp_in_nI (by omega) (by decide)
    have hdn : vp_in (nI d) 16 := vp_in_nI (by omega) (by decide)
    have eN : a_needed (nI i).toNatClampNeg = nI (N i) := by rw [nI_clamp (by omega)]; exact (hN i (by omega)).1
    have hN16 := (hN i (by omega)).2
    obtain ⟨hp, hT, hg, hb⟩ := hy
    have eTi : Tc i = Th i := hv.2.1 i (Nat.le_refl _)
    unfold wX_workOut_19
    rw [eN]
    refine br_f (nI_nlt (by omega) (by omega)) ⟨hin, pk_eq (N i) 0 (fun hz => ?_) (fun hz => ?_)⟩
    · refine nm_r (nI_1 _) (ih (i + 1) cl kn vn ch hl lc hs sm pc pp pk pv th bg M Tc (by omega) ⟨hp, hT, hg, hb⟩ ⟨hg, fun j hj => hv.2.1 j (by omega), fun j hj hjz => ?_, fun j hj hjz => ?_⟩)
      · by_cases e : j = i
        · subst e; exact eTi
        · exact hv.2.2.1 j (by omega) hjz
      · by_cases e : j = i
        · subst e; exact absurd hz hjz
        · exact hv.2.2.2 j (by omega) hjz
    · have hTm : ∀ j, j < 16 → (Tc j) < 16 := fun j hj => (hT j hj).2
      refine ln_xpo (Th := Tc) (N := N) (U := U) hn16 pl w hd hid hN hT hU (br_t rfl ?_) (fun po => br_f ln_10 ?_)
      · refine ln_xmake (M := M) (Th := Tc) (N := N) (Rd := fun b => ln_sb (N i) (N b ||| Th b)) hn16 pl w ct (by omega) hp hT hN hz hg (by rw [eTi]; exact v.2.2.2.1 i) (by rw [eTi]; exact v.2.2.2.2.1 i hid hz) (fun hk hst s hs => ln_wv_src w hd hid hv v hz hk hst hs) (fun hst => ⟨?_, ln_wv_rd hid hv v⟩) ?_ ?_
        · have h3 := (v.2.2.1 i (Nat.zero_le _) hid ⟨hz, by omega⟩ _ (Or.inl rfl)).1
          have e : ln_pa P N i = N i := if_neg (by omega)
          rw [e] at h3
          exact h3
        · intro cl kn vn ch hl lc hs sm pc pp pk pv th W hp' hT' hg'
          have hgn : ∀ j, j < n → ln_gd C (ln_up Tc i (Tc i ||| N i)) (ln_up M i W) j := fun j hj => by
            by_cases e : j = i
            · subst e; exact hg'
            · exact ln_gd_o (hg j hj) (ln_up_n e) (ln_up_n e)
          refine br_f ln_10 (nm_r (nI_1 _) (ih (i + 1) cl kn vn ch hl lc hs sm pc pp pk pv th _ _ _ (by omega) ⟨hp', hT', hgn, ln_bg_1 hb i⟩ ⟨hgn, fun j hj => ?_, fun j hj hjz => ?_, fun j hj hjz => ?_⟩))
          · rw [ln_up_n (by omega)]; exact hv.2.1 j (by omega)
          · by_cases e : j = i
            · subst e; exact absurd hjz hz
            · rw [ln_up_n e]; exact hv.2.2.1 j (by omega) hjz
          · by_cases e : j = i
            · subst e; rw [ln_up_s, eTi]; exact Or.inl rfl
            · rw [ln_up_n e]; exact hv.2.2.2 j (by omega) hjz
        · intro hCi cl kn vn ch hl lc hs sm pc pp pk pv th W hp' hT'
          have hCd : C d = none := by
            cases z : C d with
            | none => rfl
            | some L => exact absurd hCi (v.2.2.2.2.2.2 i hid hz (by rw [z]; exact Option.some_ne_none _))
          refine br_t rfl ⟨hin, nm_r (e' := upd bg i 2) (by rw [nI_clamp (by omega), ln_vy2]) ⟨hdn, nm_r (e' := upd (upd bg i 2) d 2) (by rw [nI_clamp (by omega), ln_vy2]) ?_⟩⟩
          refine ln_xtidy hn hn16 hp' hT' fun pc' th' M' T' hp'' hT'' htd => ?_
          refine ln_xforget hp'' hT'' (by omega) fun pc'' th'' hp3 hT3 => ?_
          refine k0 hCd _ _ _ _ _ _ _ _ _ _ _ _ _ _ _ _ ⟨hp3, hT3, fun j hj => ?_, ln_bg_2 (ln_bg_2 hb hCi) hCd⟩
          by_cases e : j = i
          · subst e
            exact Or.inl ⟨ln_up_s, ln_up_s⟩
          · refine ln_gd_o (ln_gd_td (ln_gd_o (hg j hj) (ln_up_n e) (ln_up_n e)) htd) (ln_up_n e) (ln_up_n e)
      · have po' : ln_po P Th N U d i := ⟨po.1, by rw [← eTi]; exact po.2.1, po.2.2⟩
        refine nm_r (nI_1 _) (ih (i + 1) cl kn vn ch hl lc hs sm pc pp pk pv th bg M Tc (by omega) ⟨hp, hT, hg, hb⟩ ⟨hg, fun j hj => hv.2.1 j (by omega), fun j hj hjz => ?_, fun j hj hjz => ?_⟩)
        · by_cases e : j = i
          · subst e; exact eTi
          · exact hv.2.2.1 j (by omega) hjz
        · by_cases e : j = i
          · subst e; exact Or.inr ⟨po', eTi⟩
          · exact hv.2.2.2 j (by omega) hjz
theorem ln_xwork {post : Int32 → SX → Prop} {n : Nat} {P : Nat → ln_E} {C : Nat → Option (List ln_T)} {M : Nat → List ln_T} {Th : Nat → Nat} {d : Nat} (hn : f_setCount = nI n) (hn16 : n ≤ 16) (pl : ln_pl n P a_kindOf a_fromX a_numberA a_numberB a_sourceCount a_sourceKey a_sourceValue) (w : ln_wf n P) (ct : ln_ct n P C) (hd : d < n) (hy : ln_dy n C a_pairCount a_pairPart a_pairKey a_pairValue a_there a_bigness M Th)
    (k1 : ∀ cl kn vn ch hl lc hs sm pc pp pk pv th bg nd us M Tc L, ln_dy n C pc pp pk pv th bg M Tc → C d = some L → (M d).Perm L → post 1 (f_handCount, f_setCount, f_levelNow, cl, kn, vn, f_orderCount, a_handKey, a_handValue, a_kindOf, a_fromX, a_numberA, a_numberB, a_sourceCount, a_sourceKey, a_sourceValue, pc, pp, pk, pv, th, a_kept, bg, nd, us, ch, hl, lc, hs, sm, a_orderKey, a_orderValue))
    (k0 : C d = none → ∀ cl kn vn ch hl lc hs sm pc pp pk pv th bg nd us M Tc, ln_dy n C pc pp pk pv th bg M Tc → post 0 (f_handCount, f_setCount, f_levelNow, cl, kn, vn, f_orderCount, a_handKey, a_handValue, a_kindOf, a_fromX, a_numberA, a_numberB, a_sourceCount, a_sourceKey, a_sourceValue, pc, pp, pk, pv, th, a_kept, bg, nd, us, ch, hl, lc, hs, sm, a_orderKey, a_orderValue)) : wpX_workOut post (f_handCount, f_setCount, f_levelNow, f_chainLength, f_pairKeyNow, f_pairValueNow, f_orderCount, a_handKey, a_handValue, a_kindOf, a_fromX, a_numberA, a_numberB, a_sourceCount, a_sourceKey, a_sourceValue, a_pairCount, a_pairPart, a_pairKey, a_pairValue, a_there, a_kept, a_bigness, a_needed, a_users, a_chain, a_hasLocal, a_local, a_hasSum, a_sums, a_orderKey, a_orderValue) (nI d) := by
  have hin : vp_in (nI d) 16 := vp_in_nI (by omega) (by decide)
  have eI : (nI d).toNatClampNeg = d := nI_clamp (by omega)
  unfold wpX_workOut
  dsimp only
  rw [eI]
  refine ⟨hin, br_c (fun hb => k0 (hy.2.2.2 d hd hb) _ _ _ _ _ _ _ _ _ _ _ _ _ _ _ _ _ _ hy) (fun hb => ?_)⟩
  refine ln_xfindNeeded hn16 pl w ct hd hy.2.1 hy.2.2.1 fun nd us N U hN hU v => ⟨d + 2, ?_⟩
  exact ln_xwo19 hn hn16 pl w ct hd hN hU v (fun cl kn vn ch hl lc hs sm pc pp pk pv th bg M Tc L a b c => k1 cl kn vn ch hl lc hs sm pc pp pk pv th bg nd us M Tc L a b c) (fun hc cl kn vn ch hl lc hs sm pc pp pk pv th bg M Tc a => k0 hc cl kn vn ch hl lc hs sm pc pp pk pv th bg nd us M Tc a) (d + 1) 0 _ _ _ _ _ _ _ _ _ _ _ _ _ _ M Th (by omega) hy ⟨hy.2.2.1, fun j _ => rfl, fun j hj => absurd hj (Nat.not_lt_zero j), fun j hj => absurd hj (Nat.not_lt_zero j)⟩
end
end
section
section
/-! a sorted list in two arrays; insertion from the right -/
def ln_sg (K V : Nat → Int32) (b : Nat) (L : List ln_K) : Prop := ∀ i q, L[i]? = some q → K (b + i) = nI q.1 ∧ V (b + i) = q.2
def ln_hl (K0 V0 : Nat → Int32) (b : Nat) (L : List ln_K) (q : ln_K) (j : Nat) (K V : Nat → Int32) : Prop :=
  j ≤ L.length ∧ (∀ i p, i < j → L[i]? = some p → K (b + i) = nI p.1 ∧ V (b + i) = p.2) ∧
  (∀ i p, j ≤ i → L[i]? = some p → K (b + i + 1) = nI p.1 ∧ V (b + i + 1) = p.2 ∧ ¬ ln_le p q) ∧
  (∀ x, x < b ∨ b + L.length < x → K x = K0 x ∧ V x = V0 x)
theorem ln_hl_0 {K V : Nat → Int32} {b : Nat} {L : List ln_K} {q : ln_K} (h : ln_sg K V b L) : ln_hl K V b L q L.length K V :=
  ⟨Nat.le_refl _, fun i p _ hp => h i p hp, fun i p hi hp => absurd (ln_lt_of hp) (by omega), fun _ _ => ⟨rfl, rfl⟩⟩
theorem ln_hl_s {K0 V0 K V : Nat → Int32} {b j : Nat} {L : List ln_K} {q p : ln_K} (h : ln_hl K0 V0 b L q (j + 1) K V) (hp : L[j]? = some p) (hn : ¬ ln_le p q) : ln_hl K0 V0 b L q j (upd K (b + (j + 1)) (K (b + j))) (upd V (b + (j + 1)) (V (b + j))) := by
  obtain ⟨a, c, d, f⟩ := h
  refine ⟨by omega, fun i r hi hr => ?_, fun i r hi hr => ?_, fun x hx => ?_⟩
  · rw [pk_un (by omega), pk_un (by omega)]
    exact c i r (by omega) hr
  · by_cases e : i = j
    · subst e
      rw [hp] at hr
      cases hr
      have e1 : b + i + 1 = b + (i + 1) := by omega
      rw [e1, pk_us, pk_us]
      have := c i p (Nat.lt_succ_self _) hp
      exact ⟨this.1, this.2, hn⟩
    · rw [pk_un (by omega), pk_un (by omega)]
      exact d i r (by omega) hr
  · rw [pk_un (by omega), pk_un (by omega)]
    exact f x hx
theorem ln_hl_f {K0 V0 K V : Nat → Int32} {b j : Nat} {L : List ln_K} {q : ln_K} (h : ln_hl K0 V0 b L q j K V) (hs : L.Pairwise ln_le) (hj : j = 0 ∨ ∃ i p, j = i + 1 ∧ L[i]? = some p ∧ ln_le p q) :
    ∃ S : List ln_K, S.Perm (L ++ [q]) ∧ S.Pairwise ln_le ∧ ln_sg (upd K (b + j) (nI q.1)) (upd V (b + j) q.2) b S ∧ (∀ x, x < b ∨ b + L.length < x → upd K (b + j) (nI q.1) x = K0 x ∧ upd V (b + j) q.2 x = V0 x) := by
  obtain ⟨a, c, d, f⟩ := h
  refine ⟨L.take j ++ q :: L.drop j, ?_, ?_, ?_, fun x hx => ?_⟩
  · refine List.perm_middle.trans (List.Perm.trans ?_ (List.perm_append_singleton q L).symm)
    rw [List.take_append_drop]
  · have hp := hs
    rw [← List.take_append_drop j L, List.pairwise_append] at hp
    rw [List.pairwise_append, List.pairwise_cons]
    have hq : ∀ p, p ∈ L.drop j → ln_le q p := fun p hp => by
      obtain ⟨i, hi⟩ := List.mem_iff_getElem?.mp hp
      rw [List.getElem?_drop] at hi
      exact ln_le_n (d (j + i) p (by omega) hi).2.2
    refine ⟨hp.1, ⟨hq, hp.2.1⟩, fun r hr p hp' => ?_⟩
    rcases List.mem_cons.mp hp' with rfl | hp'
    · rcases hj with rfl | ⟨i, t, rfl, ht, hl⟩
      · rw [List.take_zero] at hr
        exact absurd hr List.not_mem_nil
      · have e : L.take (i + 1) = L.take i ++ [t] := by rw [List.take_add_one, ht]; rfl
        rw [e] at hr hp
        rcases List.mem_append.mp hr with hr | hr
        · exact ln_le_t ((List.pairwise_append.mp hp.1).2.2 r hr t (List.mem_singleton.mpr rfl)) hl
        · rw [List.mem_singleton.mp hr]; exact hl
    · exact hp.2.2 r hr p hp'
  · intro i r hr
    have htl : (L.take j).length = j := by rw [List.length_take]; omega
    by_cases h1 : i < j
    · rw [List.getElem?_append_left (by omega), List.getElem?_take_of_lt h1] at hr
      rw [pk_un (by omega), pk_un (by omega)]
      exact c i r h1 hr
    · rw [List.getElem?_append_right (by omega), htl] at hr
      by_cases h2 : i = j
      · subst h2
        rw [Nat.sub_self] at hr
        cases hr
        rw [pk_us, pk_us]
        exact ⟨rfl, rfl⟩
      · obtain ⟨k, rfl⟩ : ∃ k, i = j + k + 1 := ⟨i - j - 1, by omega⟩
        have e1 : j + k + 1 - j = k + 1 := by omega
        rw [e1, List.getElem?_cons_succ, List.getElem?_drop] at hr
        have := d (j + k) r (by omega) hr
        have e2 : b + (j + k + 1) = b + (j + k) + 1 := by omega
        rw [e2, pk_un (by omega), pk_un (by omega)]
        exact ⟨this.1, this.2.1⟩
  · rw [pk_un (by omega), pk_un (by omega)]
    exact f x hx
/-! sums of values -/
def ln_tot (L : List ln_K) : Int32 := L.foldl (fun s q => s + q.2) 0
def ln_lk (x : Int32) (L : List ln_K) : Int32 := L.foldl (fun s q => if nI q.1 = x then s + q.2 else s) 0
theorem ln_tot_p {L L' : List ln_K} (h : L.Perm L') : ln_tot L = ln_tot L' :=
  h.foldl_eq' (fun x _ y _ z => by rw [Int32.add_assoc, Int32.add_assoc, Int32.add_comm x.2]) 0
theorem ln_lk_p {x : Int32} {L L' : List ln_K} (h : L.Perm L') : ln_lk x L = ln_lk x L' :=
  h.foldl_eq' (fun a _ b _ z => by
    split <;> split
    · rw [Int32.add_assoc, Int32.add_assoc, Int32.add_comm a.2]
    · rfl
    · rfl
    · rfl) 0
/-! the k-th of a sorted list -/
def ln_ks (S : List ln_K) (x c : Int32) (f : ln_K → Int32) : Int32 := if x < 0 then c else ((S[x.toNatClampNeg]?).map f).getD c
end
end
section
section
variable {f_handCount f_setCount f_levelNow f_chainLength f_pairKeyNow f_pairValueNow f_orderCount : Int32} {a_handKey a_handValue a_kindOf a_fromX a_numberA a_numberB a_sourceCount a_sourceKey a_sourceValue a_pairCount a_pairPart a_pairKey a_pairValue a_there a_kept a_bigness a_needed a_users a_chain a_hasLocal a_local a_hasSum a_sums a_orderKey a_orderValue : Nat → Int32}
abbrev ln_J2 : Type := Int32 → Int32 → (Nat → Int32) → (Nat → Int32) → (Nat → Int32) → (Nat → Int32) → (Nat → Int32) → (Nat → Int32) → (Nat → Int32) → (Nat → Int32) → (Nat → Int32) → (Nat → Int32) → (Nat → Int32) → (Nat → Int32) → (Nat → Int32) → (Nat → Int32) → (Nat → Int32) → (Nat → Int32) → (Nat → Int32) → (Nat → Int32) → (Nat → Int32) → (Nat → Int32) → (Nat → Int32) → (Nat → Int32) → (Nat → Int32) → (Nat → Int32) → (Nat → Int32) → Prop
theorem ln_xbefore {post : Int32 → Prop} {j : Nat} {p q : ln_K} (hj : j < 48) (h1 : p.1 < 16) (h2 : q.1 < 16) (e1 : a_orderKey j = nI p.1) (e2 : a_orderValue j = p.2) (k1 : ¬ ln_le p q → post 1) (k0 : ln_le p q → post 0) : wpX_isBefore post (f_handCount, f_setCount, f_levelNow, f_chainLength, f_pairKeyNow, f_pairValueNow, f_orderCount, a_handKey, a_handValue, a_kindOf, a_fromX, a_numberA, a_numberB, a_sourceCount, a_sourceKey, a_sourceValue, a_pairCount, a_pairPart, a_pairKey, a_pairValue, a_there, a_kept, a_bigness, a_needed, a_users, a_chain, a_hasLocal, a_local, a_hasSum, a_sums, a_orderKey, a_orderValue) (nI q.1) q.2 (nI j) := by
  have hin : vp_in (nI j) 48 := vp_in_nI hj (by decide)
  have eI : (nI j).toNatClampNeg = j := nI_clamp (by omega)
  unfold wpX_isBefore
  dsimp only
  rw [eI, e1, e2]
  refine ⟨hin, pk_eq q.1 p.1 (fun e => ⟨hin, br_c (fun h => k0 (Or.inr ⟨e.symm, h⟩)) (fun h => k1 ?_)⟩) (fun e => ⟨hin, pk_le p.1 q.1 (fun h => k0 (Or.inl (by omega))) (fun h => k1 ?_)⟩)⟩
  · rintro (z | ⟨_, z⟩)
    · omega
    · exact h z
  · rintro (z | ⟨z, _⟩) <;> omega
theorem ln_xso30 {post : SX → Prop} {J10 : ln_J2} {M : Nat → List ln_T} {x : Nat} {L : List ln_K} {x1 : Int32} {pre rest : List ln_T} {t : ln_T} {K0 V0 : Nat → Int32} (hx : x < 16) (e : M x = pre ++ t :: rest) (hp : ln_ps a_pairCount a_pairPart a_pairKey a_pairValue M) (hL : L.length < 48) (hk : ∀ q, q ∈ L → q.1 < 16) (hs : L.Pairwise ln_le) (hoc : f_orderCount = nI L.length)
    (k : ∀ ok ov S, S.Perm (L ++ [t.2]) → S.Pairwise ln_le → ln_sg ok ov 0 S → J10 (nI (48 * x + pre.length + 1)) (nI (L.length + 1)) a_handKey a_handValue a_kindOf a_fromX a_numberA a_numberB a_sourceCount a_sourceKey a_sourceValue a_pairCount a_pairPart a_pairKey a_pairValue a_there a_kept a_bigness a_needed a_users a_chain a_hasLocal a_local a_hasSum a_sums ok ov) :
    ∀ (j : Nat) (ok ov : Nat → Int32), ln_hl K0 V0 0 L t.2 j ok ov → wX_sortPairs_30 post J10 x1 (nI (48 * x + pre.length)) f_handCount f_setCount f_levelNow f_chainLength f_pairKeyNow f_pairValueNow f_orderCount (j + 1) (nI j) a_handKey a_handValue a_kindOf a_fromX a_numberA a_numberB a_sourceCount a_sourceKey a_sourceValue a_pairCount a_pairPart a_pairKey a_pairValue a_there a_kept a_bigness a_needed a_users a_chain a_hasLocal a_local a_hasSum a_sums ok ov := by
  obtain ⟨_, e2, e3, h4, h16, h48⟩ := ln_rd0 hp hx e
  have hi7 : vp_in (nI (48 * x + pre.length)) 768 := vp_in_nI (by omega) (by decide)
  have eI : (nI (48 * x + pre.length)).toNatClampNeg = 48 * x + pre.length := nI_clamp (by omega)
  have fin : ∀ (j : Nat) (ok ov : Nat → Int32), ln_hl K0 V0 0 L t.2 j ok ov → (j = 0 ∨ ∃ i p, j = i + 1 ∧ L[i]? = some p ∧ ln_le p t.2) → wX_sortPairs_90 post J10 x1 (nI (48 * x + pre.length)) (nI j) f_handCount f_setCount f_levelNow f_chainLength f_pairKeyNow f_pairValueNow f_orderCount a_handKey a_handValue a_kindOf a_fromX a_numberA a_numberB a_sourceCount a_sourceKey a_sourceValue a_pairCount a_pairPart a_pairKey a_pairValue a_there a_kept a_bigness a_needed a_users a_chain a_hasLocal a_local a_hasSum a_sums ok ov := fun j ok ov hh hj => by
    obtain ⟨S, s1, s2, s3, _⟩ := ln_hl_f hh hs hj
    have hj48 : j < 48 := by have := hh.1; omega
    have hin : vp_in (nI j) 48 := vp_in_nI hj48 (by decide)
    have eJ : (nI j).toNatClampNeg = j := nI_clamp (by omega)
    rw [Nat.zero_add] at s3
    subst hoc
    unfold wX_sortPairs_90
    rw [eI, eJ, e2, e3, ln_nb (by omega)]
    exact ⟨hi7, hin, nm_e ⟨hi7, hin, nm_e (nm_r (nI_1 _) (nm_r (nI_1 _) (k _ _ S s1 s2 s3)))⟩⟩
  intro j
  induction j with
  | zero =>
    intro ok ov hh
    exact br_t (nI_le (a := 0) (Nat.le_refl 0) (by decide)) (fin 0 ok ov hh (Or.inl rfl))
  | succ j ih =>
    intro ok ov hh
    have hj48 : j + 1 < 48 := by have := hh.1; omega
    have hin : vp_in (nI j) 48 := vp_in_nI (by omega) (by decide)
    have hin1 : vp_in (nI (j + 1)) 48 := vp_in_nI hj48 (by decide)
    have eJ : (nI j).toNatClampNeg = j := nI_clamp (by omega)
    have eJ1 : (nI (j + 1)).toNatClampNeg = j + 1 := nI_clamp (by omega)
    obtain ⟨p, hpj⟩ := ln_some_of (L := L) (i := j) (by have := hh.1; omega)
    have hr := hh.2.1 j p (Nat.lt_succ_self _) hpj
    rw [Nat.zero_add] at hr
    have hp16 := hk p (ln_mem_of hpj)
    have hsh := ih (upd ok (j + 1) (ok j)) (upd ov (j + 1) (ov j))
    unfold wX_sortPairs_30
    rw [nI_pred, eI, eJ, eJ1, e2, e3]
    refine br_f (nI_ge (a := 0) (by omega) (by omega)) ⟨hi7, hi7, ?_⟩
    refine ln_xbefore (p := p) (by omega) hp16 h16 hr.1 hr.2 (fun hn => ?_) (fun hl => br_t rfl (fin (j + 1) ok ov hh (Or.inr ⟨j, p, rfl, hpj, hl⟩)))
    have hh' := ln_hl_s hh hpj hn
    rw [Nat.zero_add, Nat.zero_add] at hh'
    refine br_f ln_10 ⟨hin, hin1, nm_r (e' := upd ok (j + 1) (ok j)) (by rw [hr.1, ln_nb (by omega)]) ⟨hin, hin1, nm_e (nm_r (pk_m1 j) (hsh hh'))⟩⟩
theorem ln_xso10 {post : SX → Prop} {M : Nat → List ln_T} {x : Nat} (hx : x < 16) (hp : ln_ps a_pairCount a_pairPart a_pairKey a_pairValue M)
    (k : ∀ ok ov S, S.Perm ((M x).map Prod.snd) → S.Pairwise ln_le → ln_sg ok ov 0 S → post (f_handCount, f_setCount, f_levelNow, f_chainLength, f_pairKeyNow, f_pairValueNow, nI S.length, a_handKey, a_handValue, a_kindOf, a_fromX, a_numberA, a_numberB, a_sourceCount, a_sourceKey, a_sourceValue, a_pairCount, a_pairPart, a_pairKey, a_pairValue, a_there, a_kept, a_bigness, a_needed, a_users, a_chain, a_hasLocal, a_local, a_hasSum, a_sums, ok, ov)) :
    ∀ (rest pre : List ln_T) (ok ov : Nat → Int32) (L : List ln_K), M x = pre ++ rest → L.Perm (pre.map Prod.snd) → L.Pairwise ln_le → ln_sg ok ov 0 L → wX_sortPairs_10 post (nI x) f_handCount f_setCount f_levelNow f_chainLength f_pairKeyNow f_pairValueNow (rest.length + 1) (nI (48 * x + pre.length)) (nI L.length) a_handKey a_handValue a_kindOf a_fromX a_numberA a_numberB a_sourceCount a_sourceKey a_sourceValue a_pairCount a_pairPart a_pairKey a_pairValue a_there a_kept a_bigness a_needed a_users a_chain a_hasLocal a_local a_hasSum a_sums ok ov := by
  have hin : vp_in (nI x) 16 := vp_in_nI hx (by decide)
  have ec := (hp x hx).1
  have hlx := (hp x hx).2.1
  have hrg := (hp x hx).2.2.1
  have ec' : a_pairCount (nI x).toNatClampNeg = nI (M x).length := by rw [nI_clamp (by omega)]; exact ec
  intro rest
  induction rest with
  | nil =>
    intro pre ok ov L e hL hs hg
    rw [e, List.append_nil] at k
    rw [e, List.append_nil] at ec' hlx
    unfold wX_sortPairs_10
    rw [ec', ln_48]
    exact ⟨hin, br_t (nI_le (Nat.le_refl _) (by omega)) (k ok ov L hL hs hg)⟩
  | cons t rest ih =>
    intro pre ok ov L e hL hs hg
    have hlen : (M x).length = pre.length + (rest.length + 1) := by rw [e, List.length_append]; rfl
    have hLl : L.length = pre.length := by rw [hL.length_eq, List.length_map]
    have hk : ∀ q, q ∈ L → q.1 < 16 := fun q hq => by
      obtain ⟨s, hs, rfl⟩ := List.mem_map.mp (hL.mem_iff.mp hq)
      exact (hrg s (by rw [e]; exact List.mem_append_left _ hs)).2
    have e' := ln_pre e
    have ih' := ih (pre ++ [t])
    rw [ln_pl1, ← Nat.add_assoc] at ih'
    unfold wX_sortPairs_10
    rw [ec', ln_48]
    refine ⟨hin, br_f (nI_ge (by omega) (by omega)) ⟨L.length + 1, ?_⟩⟩
    refine ln_xso30 (K0 := ok) (V0 := ov) hx e hp (by omega) hk hs rfl (fun ok' ov' S s1 s2 s3 => ?_) L.length ok ov (ln_hl_0 hg)
    have hS : S.length = L.length + 1 := by rw [s1.length_eq, ln_pl1]
    rw [← hS]
    refine ih' ok' ov' S e' (s1.trans ?_) s2 s3
    rw [List.map_append]
    exact hL.append_right _
theorem ln_xsort {post : SX → Prop} {M : Nat → List ln_T} {x : Nat} (hx : x < 16) (hp : ln_ps a_pairCount a_pairPart a_pairKey a_pairValue M)
    (k : ∀ ok ov S, S.Perm ((M x).map Prod.snd) → S.Pairwise ln_le → ln_sg ok ov 0 S → post (f_handCount, f_setCount, f_levelNow, f_chainLength, f_pairKeyNow, f_pairValueNow, nI S.length, a_handKey, a_handValue, a_kindOf, a_fromX, a_numberA, a_numberB, a_sourceCount, a_sourceKey, a_sourceValue, a_pairCount, a_pairPart, a_pairKey, a_pairValue, a_there, a_kept, a_bigness, a_needed, a_users, a_chain, a_hasLocal, a_local, a_hasSum, a_sums, ok, ov)) : wpX_sortPairs post (f_handCount, f_setCount, f_levelNow, f_chainLength, f_pairKeyNow, f_pairValueNow, f_orderCount, a_handKey, a_handValue, a_kindOf, a_fromX, a_numberA, a_numberB, a_sourceCount, a_sourceKey, a_sourceValue, a_pairCount, a_pairPart, a_pairKey, a_pairValue, a_there, a_kept, a_bigness, a_needed, a_users, a_chain, a_hasLocal, a_local, a_hasSum, a_sums, a_orderKey, a_orderValue) (nI x) := by
  unfold wpX_sortPairs
  exact nm_r (ln_48m x) ⟨_, ln_xso10 hx hp k (M x) [] _ _ [] rfl (List.Perm.refl _) List.Pairwise.nil (fun i q h => absurd (ln_mem_of h) List.not_mem_nil)⟩
end
end
section
section
variable {f_handCount f_setCount f_levelNow f_chainLength f_pairKeyNow f_pairValueNow f_orderCount : Int32} {a_handKey a_handValue a_kindOf a_fromX a_numberA a_numberB a_sourceCount a_sourceKey a_sourceValue a_pairCount a_pairPart a_pairKey a_pairValue a_there a_kept a_bigness a_needed a_users a_chain a_hasLocal a_local a_hasSum a_sums a_orderKey a_orderValue : Nat → Int32}
theorem ln_dy_td {n : Nat} {C : Nat → Option (List ln_T)} {pc pp pk pv th bg pc' th' : Nat → Int32} {M M' : Nat → List ln_T} {Th Th' : Nat → Nat} (h : ln_dy n C pc pp pk pv th bg M Th) (hp : ln_ps pc' pp pk pv M') (hT : ln_ms th' Th') (t : ln_td Th M Th' M') : ln_dy n C pc' pp pk pv th' bg M' Th' :=
  ⟨hp, hT, fun j hj => ln_gd_td (h.2.2.1 j hj) t, h.2.2.2⟩
theorem ln_xcount {post : Int32 → SX → Prop} {n : Nat} {P : Nat → ln_E} {C : Nat → Option (List ln_T)} {M : Nat → List ln_T} {Th : Nat → Nat} {d : Nat} (hn : f_setCount = nI n) (hn16 : n ≤ 16) (pl : ln_pl n P a_kindOf a_fromX a_numberA a_numberB a_sourceCount a_sourceKey a_sourceValue) (w : ln_wf n P) (ct : ln_ct n P C) (hd : d < n) (hy : ln_dy n C a_pairCount a_pairPart a_pairKey a_pairValue a_there a_bigness M Th)
    (k1 : ∀ cl kn vn ch hl lc hs sm pc pp pk pv th bg nd us M Tc L, ln_dy n C pc pp pk pv th bg M Tc → C d = some L → post (nI L.length) (f_handCount, f_setCount, f_levelNow, cl, kn, vn, f_orderCount, a_handKey, a_handValue, a_kindOf, a_fromX, a_numberA, a_numberB, a_sourceCount, a_sourceKey, a_sourceValue, pc, pp, pk, pv, th, a_kept, bg, nd, us, ch, hl, lc, hs, sm, a_orderKey, a_orderValue))
    (k0 : C d = none → ∀ cl kn vn ch hl lc hs sm pc pp pk pv th bg nd us M Tc, ln_dy n C pc pp pk pv th bg M Tc → post (-3) (f_handCount, f_setCount, f_levelNow, cl, kn, vn, f_orderCount, a_handKey, a_handValue, a_kindOf, a_fromX, a_numberA, a_numberB, a_sourceCount, a_sourceKey, a_sourceValue, pc, pp, pk, pv, th, a_kept, bg, nd, us, ch, hl, lc, hs, sm, a_orderKey, a_orderValue)) : wpX_count post (f_handCount, f_setCount, f_levelNow, f_chainLength, f_pairKeyNow, f_pairValueNow, f_orderCount, a_handKey, a_handValue, a_kindOf, a_fromX, a_numberA, a_numberB, a_sourceCount, a_sourceKey, a_sourceValue, a_pairCount, a_pairPart, a_pairKey, a_pairValue, a_there, a_kept, a_bigness, a_needed, a_users, a_chain, a_hasLocal, a_local, a_hasSum, a_sums, a_orderKey, a_orderValue) (nI d) := by
  have hin : vp_in (nI d) 16 := vp_in_nI (by omega) (by decide)
  have eI : (nI d).toNatClampNeg = d := nI_clamp (by omega)
  unfold wpX_count
  refine ln_xisSet1 hn hn16 hd (br_f ln_10 ?_)
  refine ln_xwork hn hn16 pl w ct hd hy (fun cl kn vn ch hl lc hs sm pc pp pk pv th bg nd us M Tc L hy' hL hM => ?_) (fun hc cl kn vn ch hl lc hs sm pc pp pk pv th bg nd us M Tc hy' => br_t rfl (k0 hc cl kn vn ch hl lc hs sm pc pp pk pv th bg nd us M Tc hy'))
  have ec : pc (nI d).toNatClampNeg = nI L.length := by rw [eI, (hy'.1 d (by omega)).1, hM.length_eq]
  refine br_f ln_10 ⟨hin, nm_r ec ?_⟩
  refine ln_xtidy hn hn16 hy'.1 hy'.2.1 fun pc' th' M' T' hp'' hT'' htd => ?_
  exact k1 cl kn vn ch hl lc hs sm pc' pp pk pv th' bg nd us M' T' L (ln_dy_td hy' hp'' hT'' htd) hL
theorem ln_xto25 {post : Int32 → SX → Prop} {M : Nat → List ln_T} {x : Nat} (hx : x < 16) (hp : ln_ps a_pairCount a_pairPart a_pairKey a_pairValue M) {s0 : Int32} (k : wpX_tidy (fun u => post s0 u) (f_handCount, f_setCount, f_levelNow, f_chainLength, f_pairKeyNow, f_pairValueNow, f_orderCount, a_handKey, a_handValue, a_kindOf, a_fromX, a_numberA, a_numberB, a_sourceCount, a_sourceKey, a_sourceValue, a_pairCount, a_pairPart, a_pairKey, a_pairValue, a_there, a_kept, a_bigness, a_needed, a_users, a_chain, a_hasLocal, a_local, a_hasSum, a_sums, a_orderKey, a_orderValue)) :
    ∀ (rest pre : List ln_T) (s : Int32), M x = pre ++ rest → (rest.map Prod.snd).foldl (fun s q => s + q.2) s = s0 → wX_total_25 post (nI x) f_handCount f_setCount f_levelNow f_chainLength f_pairKeyNow f_pairValueNow f_orderCount a_handKey a_handValue a_kindOf a_fromX a_numberA a_numberB a_sourceCount a_sourceKey a_sourceValue a_pairCount a_pairPart a_pairKey a_pairValue a_there a_kept a_bigness a_needed a_users a_chain a_hasLocal a_local a_hasSum a_sums a_orderKey a_orderValue (rest.length + 1) s (nI (48 * x + pre.length)) := by
  have hin : vp_in (nI x) 16 := vp_in_nI hx (by decide)
  have ec := (hp x hx).1
  have hlx := (hp x hx).2.1
  have ec' : a_pairCount (nI x).toNatClampNeg = nI (M x).length := by rw [nI_clamp (by omega)]; exact ec
  intro rest
  induction rest with
  | nil =>
    intro pre s e hs
    rw [e, List.append_nil] at ec' hlx
    have hs' : s = s0 := hs
    subst hs'
    unfold wX_total_25
    rw [ec', ln_48]
    exact ⟨hin, br_t (nI_le (Nat.le_refl _) (by omega)) k⟩
  | cons t rest ih =>
    intro pre s e hs
    obtain ⟨e1, e2, e3, h4, h16, h48⟩ := ln_rd0 hp hx e
    have hlen : (M x).length = pre.length + (rest.length + 1) := by rw [e, List.length_append]; rfl
    have hi7 : vp_in (nI (48 * x + pre.length)) 768 := vp_in_nI (by omega) (by decide)
    have eI : (nI (48 * x + pre.length)).toNatClampNeg = 48 * x + pre.length := nI_clamp (by omega)
    have ih' := ih (pre ++ [t])
    rw [ln_pl1, ← Nat.add_assoc] at ih'
    unfold wX_total_25
    rw [ec', ln_48, eI, e3]
    exact ⟨hin, br_f (nI_ge (by omega) (by omega)) ⟨hi7, nm_e (nm_r (nI_1 _) (ih' _ (ln_pre e) hs))⟩⟩
theorem ln_xlk26 {post : Int32 → SX → Prop} {M : Nat → List ln_T} {x : Nat} {y : Int32} (hx : x < 16) (hp : ln_ps a_pairCount a_pairPart a_pairKey a_pairValue M) {s0 : Int32} (k : wpX_tidy (fun u => post s0 u) (f_handCount, f_setCount, f_levelNow, f_chainLength, f_pairKeyNow, f_pairValueNow, f_orderCount, a_handKey, a_handValue, a_kindOf, a_fromX, a_numberA, a_numberB, a_sourceCount, a_sourceKey, a_sourceValue, a_pairCount, a_pairPart, a_pairKey, a_pairValue, a_there, a_kept, a_bigness, a_needed, a_users, a_chain, a_hasLocal, a_local, a_hasSum, a_sums, a_orderKey, a_orderValue)) :
    ∀ (rest pre : List ln_T) (s : Int32), M x = pre ++ rest → (rest.map Prod.snd).foldl (fun s q => if nI q.1 = y then s + q.2 else s) s = s0 → wX_lookup_26 post (nI x) y f_handCount f_setCount f_levelNow f_chainLength f_pairKeyNow f_pairValueNow f_orderCount a_handKey a_handValue a_kindOf a_fromX a_numberA a_numberB a_sourceCount a_sourceKey a_sourceValue a_pairCount a_pairPart a_pairKey a_pairValue a_there a_kept a_bigness a_needed a_users a_chain a_hasLocal a_local a_hasSum a_sums a_orderKey a_orderValue (rest.length + 1) s (nI (48 * x + pre.length)) := by
  have hin : vp_in (nI x) 16 := vp_in_nI hx (by decide)
  have ec := (hp x hx).1
  have hlx := (hp x hx).2.1
  have ec' : a_pairCount (nI x).toNatClampNeg = nI (M x).length := by rw [nI_clamp (by omega)]; exact ec
  intro rest
  induction rest with
  | nil =>
    intro pre s e hs
    rw [e, List.append_nil] at ec' hlx
    have hs' : s = s0 := hs
    subst hs'
    unfold wX_lookup_26
    rw [ec', ln_48]
    exact ⟨hin, br_t (nI_le (Nat.le_refl _) (by omega)) k⟩
  | cons t rest ih =>
    intro pre s e hs
    obtain ⟨e1, e2, e3, h4, h16, h48⟩ := ln_rd0 hp hx e
    have hlen : (M x).length = pre.length + (rest.length + 1) := by rw [e, List.length_append]; rfl
    have hi7 : vp_in (nI (48 * x + pre.length)) 768 := vp_in_nI (by omega) (by decide)
    have eI : (nI (48 * x + pre.length)).toNatClampNeg = 48 * x + pre.length := nI_clamp (by omega)
    have ih' := ih (pre ++ [t])
    rw [ln_pl1, ← Nat.add_assoc] at ih'
    have hs' : (rest.map Prod.snd).foldl (fun s q => if nI q.1 = y then s + q.2 else s) (if nI t.2.1 = y then s + t.2.2 else s) = s0 := hs
    unfold wX_lookup_26
    rw [ec', ln_48, eI, e2, e3]
    refine ⟨hin, br_f (nI_ge (by omega) (by omega)) ⟨hi7, br_c (fun h => ?_) (fun h => ?_)⟩⟩
    · rw [if_pos h] at hs'
      exact ⟨hi7, nm_e (nm_r (nI_1 _) (ih' _ (ln_pre e) hs'))⟩
    · rw [if_neg h] at hs'
      exact nm_r (nI_1 _) (ih' _ (ln_pre e) hs')
theorem ln_xtotal {post : Int32 → SX → Prop} {n : Nat} {P : Nat → ln_E} {C : Nat → Option (List ln_T)} {M : Nat → List ln_T} {Th : Nat → Nat} {d : Nat} (hn : f_setCount = nI n) (hn16 : n ≤ 16) (pl : ln_pl n P a_kindOf a_fromX a_numberA a_numberB a_sourceCount a_sourceKey a_sourceValue) (w : ln_wf n P) (ct : ln_ct n P C) (hd : d < n) (hy : ln_dy n C a_pairCount a_pairPart a_pairKey a_pairValue a_there a_bigness M Th)
    (k1 : ∀ cl kn vn ch hl lc hs sm pc pp pk pv th bg nd us M Tc L, ln_dy n C pc pp pk pv th bg M Tc → C d = some L → post (ln_tot (L.map Prod.snd)) (f_handCount, f_setCount, f_levelNow, cl, kn, vn, f_orderCount, a_handKey, a_handValue, a_kindOf, a_fromX, a_numberA, a_numberB, a_sourceCount, a_sourceKey, a_sourceValue, pc, pp, pk, pv, th, a_kept, bg, nd, us, ch, hl, lc, hs, sm, a_orderKey, a_orderValue))
    (k0 : C d = none → ∀ cl kn vn ch hl lc hs sm pc pp pk pv th bg nd us M Tc, ln_dy n C pc pp pk pv th bg M Tc → post 0 (f_handCount, f_setCount, f_levelNow, cl, kn, vn, f_orderCount, a_handKey, a_handValue, a_kindOf, a_fromX, a_numberA, a_numberB, a_sourceCount, a_sourceKey, a_sourceValue, pc, pp, pk, pv, th, a_kept, bg, nd, us, ch, hl, lc, hs, sm, a_orderKey, a_orderValue)) : wpX_total post (f_handCount, f_setCount, f_levelNow, f_chainLength, f_pairKeyNow, f_pairValueNow, f_orderCount, a_handKey, a_handValue, a_kindOf, a_fromX, a_numberA, a_numberB, a_sourceCount, a_sourceKey, a_sourceValue, a_pairCount, a_pairPart, a_pairKey, a_pairValue, a_there, a_kept, a_bigness, a_needed, a_users, a_chain, a_hasLocal, a_local, a_hasSum, a_sums, a_orderKey, a_orderValue) (nI d) := by
  unfold wpX_total
  refine ln_xisSet1 hn hn16 hd (br_f ln_10 ?_)
  refine ln_xwork hn hn16 pl w ct hd hy (fun cl kn vn ch hl lc hs sm pc pp pk pv th bg nd us M Tc L hy' hL hM => ?_) (fun hc cl kn vn ch hl lc hs sm pc pp pk pv th bg nd us M Tc hy' => br_t rfl (k0 hc cl kn vn ch hl lc hs sm pc pp pk pv th bg nd us M Tc hy'))
  refine br_f ln_10 (nm_r (ln_48m d) ⟨(M d).length + 1, ?_⟩)
  refine ln_xto25 (s0 := ln_tot (L.map Prod.snd)) (by omega) hy'.1 ?_ (M d) [] 0 rfl (ln_tot_p (hM.map _))
  refine ln_xtidy hn hn16 hy'.1 hy'.2.1 fun pc' th' M' T' hp'' hT'' htd => ?_
  exact k1 cl kn vn ch hl lc hs sm pc' pp pk pv th' bg nd us M' T' L (ln_dy_td hy' hp'' hT'' htd) hL
theorem ln_xlookup {post : Int32 → SX → Prop} {n : Nat} {P : Nat → ln_E} {C : Nat → Option (List ln_T)} {M : Nat → List ln_T} {Th : Nat → Nat} {d : Nat} {y : Int32} (hn : f_setCount = nI n) (hn16 : n ≤ 16) (pl : ln_pl n P a_kindOf a_fromX a_numberA a_numberB a_sourceCount a_sourceKey a_sourceValue) (w : ln_wf n P) (ct : ln_ct n P C) (hd : d < n) (hy : ln_dy n C a_pairCount a_pairPart a_pairKey a_pairValue a_there a_bigness M Th)
    (k1 : ∀ cl kn vn ch hl lc hs sm pc pp pk pv th bg nd us M Tc L, ln_dy n C pc pp pk pv th bg M Tc → C d = some L → post (ln_lk y (L.map Prod.snd)) (f_handCount, f_setCount, f_levelNow, cl, kn, vn, f_orderCount, a_handKey, a_handValue, a_kindOf, a_fromX, a_numberA, a_numberB, a_sourceCount, a_sourceKey, a_sourceValue, pc, pp, pk, pv, th, a_kept, bg, nd, us, ch, hl, lc, hs, sm, a_orderKey, a_orderValue))
    (k0 : C d = none → ∀ cl kn vn ch hl lc hs sm pc pp pk pv th bg nd us M Tc, ln_dy n C pc pp pk pv th bg M Tc → post 0 (f_handCount, f_setCount, f_levelNow, cl, kn, vn, f_orderCount, a_handKey, a_handValue, a_kindOf, a_fromX, a_numberA, a_numberB, a_sourceCount, a_sourceKey, a_sourceValue, pc, pp, pk, pv, th, a_kept, bg, nd, us, ch, hl, lc, hs, sm, a_orderKey, a_orderValue)) : wpX_lookup post (f_handCount, f_setCount, f_levelNow, f_chainLength, f_pairKeyNow, f_pairValueNow, f_orderCount, a_handKey, a_handValue, a_kindOf, a_fromX, a_numberA, a_numberB, a_sourceCount, a_sourceKey, a_sourceValue, a_pairCount, a_pairPart, a_pairKey, a_pairValue, a_there, a_kept, a_bigness, a_needed, a_users, a_chain, a_hasLocal, a_local, a_hasSum, a_sums, a_orderKey, a_orderValue) (nI d) y := by
  unfold wpX_lookup
  refine ln_xisSet1 hn hn16 hd (br_f ln_10 ?_)
  refine ln_xwork hn hn16 pl w ct hd hy (fun cl kn vn ch hl lc hs sm pc pp pk pv th bg nd us M Tc L hy' hL hM => ?_) (fun hc cl kn vn ch hl lc hs sm pc pp pk pv th bg nd us M Tc hy' => br_t rfl (k0 hc cl kn vn ch hl lc hs sm pc pp pk pv th bg nd us M Tc hy'))
  refine br_f ln_10 (nm_r (ln_48m d) ⟨(M d).length + 1, ?_⟩)
  refine ln_xlk26 (s0 := ln_lk y (L.map Prod.snd)) (by omega) hy'.1 ?_ (M d) [] 0 rfl (ln_lk_p (hM.map _))
  refine ln_xtidy hn hn16 hy'.1 hy'.2.1 fun pc' th' M' T' hp'' hT'' htd => ?_
  exact k1 cl kn vn ch hl lc hs sm pc' pp pk pv th' bg nd us M' T' L (ln_dy_td hy' hp'' hT'' htd) hL
/-! the k-th -/
theorem ln_ks_n {S : List ln_K} {x c : Int32} {f : ln_K → Int32} (h : x < 0) : ln_ks S x c f = c := if_pos h
theorem ln_ks_o {S : List ln_K} {j : Nat} {c : Int32} {f : ln_K → Int32} (hj : j < 2 ^ 31) (h : S.length ≤ j) : ln_ks S (nI j) c f = c := by
  unfold ln_ks
  rw [if_neg (nI_pos hj), nI_clamp hj, List.getElem?_eq_none h]
  rfl
theorem ln_ks_s {S : List ln_K} {j : Nat} {q : ln_K} {c : Int32} {f : ln_K → Int32} (hj : j < 2 ^ 31) (h : S[j]? = some q) : ln_ks S (nI j) c f = f q := by
  unfold ln_ks
  rw [if_neg (nI_pos hj), nI_clamp hj, h]
  rfl
theorem ln_xkeyOf {post : Int32 → SX → Prop} {n : Nat} {P : Nat → ln_E} {C : Nat → Option (List ln_T)} {M : Nat → List ln_T} {Th : Nat → Nat} {d : Nat} {y : Int32} (hn : f_setCount = nI n) (hn16 : n ≤ 16) (pl : ln_pl n P a_kindOf a_fromX a_numberA a_numberB a_sourceCount a_sourceKey a_sourceValue) (w : ln_wf n P) (ct : ln_ct n P C) (hd : d < n) (hy : ln_dy n C a_pairCount a_pairPart a_pairKey a_pairValue a_there a_bigness M Th)
    (k1 : ∀ cl kn vn ch hl lc hs sm pc pp pk pv th bg nd us oc ok ov M Tc L S, ln_dy n C pc pp pk pv th bg M Tc → C d = some L → S.Perm (L.map Prod.snd) → S.Pairwise ln_le → post (ln_ks S y (-1) (fun q => nI q.1)) (f_handCount, f_setCount, f_levelNow, cl, kn, vn, oc, a_handKey, a_handValue, a_kindOf, a_fromX, a_numberA, a_numberB, a_sourceCount, a_sourceKey, a_sourceValue, pc, pp, pk, pv, th, a_kept, bg, nd, us, ch, hl, lc, hs, sm, ok, ov))
    (k0 : C d = none → ∀ cl kn vn ch hl lc hs sm pc pp pk pv th bg nd us M Tc, ln_dy n C pc pp pk pv th bg M Tc → post (-3) (f_handCount, f_setCount, f_levelNow, cl, kn, vn, f_orderCount, a_handKey, a_handValue, a_kindOf, a_fromX, a_numberA, a_numberB, a_sourceCount, a_sourceKey, a_sourceValue, pc, pp, pk, pv, th, a_kept, bg, nd, us, ch, hl, lc, hs, sm, a_orderKey, a_orderValue)) : wpX_keyOf post (f_handCount, f_setCount, f_levelNow, f_chainLength, f_pairKeyNow, f_pairValueNow, f_orderCount, a_handKey, a_handValue, a_kindOf, a_fromX, a_numberA, a_numberB, a_sourceCount, a_sourceKey, a_sourceValue, a_pairCount, a_pairPart, a_pairKey, a_pairValue, a_there, a_kept, a_bigness, a_needed, a_users, a_chain, a_hasLocal, a_local, a_hasSum, a_sums, a_orderKey, a_orderValue) (nI d) y := by
  unfold wpX_keyOf
  refine ln_xisSet1 hn hn16 hd (br_f ln_10 ?_)
  refine ln_xwork hn hn16 pl w ct hd hy (fun cl kn vn ch hl lc hs sm pc pp pk pv th bg nd us M Tc L hy' hL hM => ?_) (fun hc cl kn vn ch hl lc hs sm pc pp pk pv th bg nd us M Tc hy' => br_t rfl (k0 hc cl kn vn ch hl lc hs sm pc pp pk pv th bg nd us M Tc hy'))
  refine br_f ln_10 ?_
  refine ln_xsort (by omega) hy'.1 fun ok ov S s1 s2 s3 => ?_
  have s1' := s1.trans (hM.map Prod.snd)
  have hSl : S.length ≤ 48 := by
    rw [s1.length_eq, List.length_map]
    exact (hy'.1 d (by omega)).2.1
  refine ln_xtidy hn hn16 hy'.1 hy'.2.1 fun pc' th' M' T' hp'' hT'' htd => ?_
  have kk : post (ln_ks S y (-1) (fun q => nI q.1)) (f_handCount, f_setCount, f_levelNow, cl, kn, vn, nI S.length, a_handKey, a_handValue, a_kindOf, a_fromX, a_numberA, a_numberB, a_sourceCount, a_sourceKey, a_sourceValue, pc', pp, pk, pv, th', a_kept, bg, nd, us, ch, hl, lc, hs, sm, ok, ov) := k1 cl kn vn ch hl lc hs sm pc' pp pk pv th' bg nd us (nI S.length) ok ov M' T' L S (ln_dy_td hy' hp'' hT'' htd) hL s1' s2
  refine br_c (fun h => ?_) (fun h => ?_)
  · rw [ln_ks_n h] at kk; exact kk
  · obtain ⟨j, hj, rfl⟩ := nI_of h
    refine pk_lt j S.length (fun hl => ⟨vp_in_nI (by omega) (by decide), ?_⟩) (fun hl => ?_)
    · obtain ⟨q, hq⟩ := ln_some_of hl
      have := (s3 j q hq).1
      rw [Nat.zero_add] at this
      rw [nI_clamp hj, this]
      rw [ln_ks_s hj hq] at kk
      exact kk
    · rw [ln_ks_o hj hl] at kk
      exact kk
theorem ln_xvalueOf {post : Int32 → SX → Prop} {n : Nat} {P : Nat → ln_E} {C : Nat → Option (List ln_T)} {M : Nat → List ln_T} {Th : Nat → Nat} {d : Nat} {y : Int32} (hn : f_setCount = nI n) (hn16 : n ≤ 16) (pl : ln_pl n P a_kindOf a_fromX a_numberA a_numberB a_sourceCount a_sourceKey a_sourceValue) (w : ln_wf n P) (ct : ln_ct n P C) (hd : d < n) (hy : ln_dy n C a_pairCount a_pairPart a_pairKey a_pairValue a_there a_bigness M Th)
    (k1 : ∀ cl kn vn ch hl lc hs sm pc pp pk pv th bg nd us oc ok ov M Tc L S, ln_dy n C pc pp pk pv th bg M Tc → C d = some L → S.Perm (L.map Prod.snd) → S.Pairwise ln_le → post (ln_ks S y 0 (fun q => q.2)) (f_handCount, f_setCount, f_levelNow, cl, kn, vn, oc, a_handKey, a_handValue, a_kindOf, a_fromX, a_numberA, a_numberB, a_sourceCount, a_sourceKey, a_sourceValue, pc, pp, pk, pv, th, a_kept, bg, nd, us, ch, hl, lc, hs, sm, ok, ov))
    (k0 : C d = none → ∀ cl kn vn ch hl lc hs sm pc pp pk pv th bg nd us M Tc, ln_dy n C pc pp pk pv th bg M Tc → post 0 (f_handCount, f_setCount, f_levelNow, cl, kn, vn, f_orderCount, a_handKey, a_handValue, a_kindOf, a_fromX, a_numberA, a_numberB, a_sourceCount, a_sourceKey, a_sourceValue, pc, pp, pk, pv, th, a_kept, bg, nd, us, ch, hl, lc, hs, sm, a_orderKey, a_orderValue)) : wpX_valueOf post (f_handCount, f_setCount, f_levelNow, f_chainLength, f_pairKeyNow, f_pairValueNow, f_orderCount, a_handKey, a_handValue, a_kindOf, a_fromX, a_numberA, a_numberB, a_sourceCount, a_sourceKey, a_sourceValue, a_pairCount, a_pairPart, a_pairKey, a_pairValue, a_there, a_kept, a_bigness, a_needed, a_users, a_chain, a_hasLocal, a_local, a_hasSum, a_sums, a_orderKey, a_orderValue) (nI d) y := by
  unfold wpX_valueOf
  refine ln_xisSet1 hn hn16 hd (br_f ln_10 ?_)
  refine ln_xwork hn hn16 pl w ct hd hy (fun cl kn vn ch hl lc hs sm pc pp pk pv th bg nd us M Tc L hy' hL hM => ?_) (fun hc cl kn vn ch hl lc hs sm pc pp pk pv th bg nd us M Tc hy' => br_t rfl (k0 hc cl kn vn ch hl lc hs sm pc pp pk pv th bg nd us M Tc hy'))
  refine br_f ln_10 ?_
  refine ln_xsort (by omega) hy'.1 fun ok ov S s1 s2 s3 => ?_
  have s1' := s1.trans (hM.map Prod.snd)
  have hSl : S.length ≤ 48 := by
    rw [s1.length_eq, List.length_map]
    exact (hy'.1 d (by omega)).2.1
  refine ln_xtidy hn hn16 hy'.1 hy'.2.1 fun pc' th' M' T' hp'' hT'' htd => ?_
  have kk : post (ln_ks S y 0 (fun q => q.2)) (f_handCount, f_setCount, f_levelNow, cl, kn, vn, nI S.length, a_handKey, a_handValue, a_kindOf, a_fromX, a_numberA, a_numberB, a_sourceCount, a_sourceKey, a_sourceValue, pc', pp, pk, pv, th', a_kept, bg, nd, us, ch, hl, lc, hs, sm, ok, ov) := k1 cl kn vn ch hl lc hs sm pc' pp pk pv th' bg nd us (nI S.length) ok ov M' T' L S (ln_dy_td hy' hp'' hT'' htd) hL s1' s2
  refine br_c (fun h => ?_) (fun h => ?_)
  · rw [ln_ks_n h] at kk; exact kk
  · obtain ⟨j, hj, rfl⟩ := nI_of h
    refine pk_lt j S.length (fun hl => ⟨vp_in_nI (by omega) (by decide), ?_⟩) (fun hl => ?_)
    · obtain ⟨q, hq⟩ := ln_some_of hl
      have := (s3 j q hq).2
      rw [Nat.zero_add] at this
      rw [nI_clamp hj, this]
      rw [ln_ks_s hj hq] at kk
      exact kk
    · rw [ln_ks_o hj hl] at kk
      exact kk
end
end
section
section
variable {f_handCount f_setCount f_levelNow f_chainLength f_pairKeyNow f_pairValueNow f_orderCount : Int32} {a_handKey a_handValue a_kindOf a_fromX a_numberA a_numberB a_sourceCount a_sourceKey a_sourceValue a_pairCount a_pairPart a_pairKey a_pairValue a_there a_kept a_bigness a_needed a_users a_chain a_hasLocal a_local a_hasSum a_sums a_orderKey a_orderValue : Nat → Int32}
/-- while set d is packed together: W is done, rest lies where it lay -/
def ln_lp (pp pk pv : Nat → Int32) (M : Nat → List ln_T) (d : Nat) (W pre rest : List ln_T) : Prop :=
  (∀ j, j < 16 → j ≠ d → ln_s3 pp pk pv j (M j)) ∧ ln_s3 pp pk pv d W ∧ (∀ i t, rest[i]? = some t → pp (48 * d + (pre.length + i)) = nI t.1 ∧ pk (48 * d + (pre.length + i)) = nI t.2.1 ∧ pv (48 * d + (pre.length + i)) = t.2.2)
theorem ln_lp_move {pp pk pv : Nat → Int32} {M : Nat → List ln_T} {d : Nat} {W pre rest : List ln_T} {t : ln_T} (hl : ∀ j, j < 16 → (M j).length ≤ 48) (hd : d < 16) (hw : W.length ≤ pre.length) (hpr : pre.length + rest.length < 48) (h : ln_lp pp pk pv M d W pre (t :: rest)) :
    ln_lp (upd pp (48 * d + W.length) (nI t.1)) (upd pk (48 * d + W.length) (nI t.2.1)) (upd pv (48 * d + W.length) t.2.2) M d (W ++ [t]) (pre ++ [t]) rest := by
  obtain ⟨a, b, c⟩ := h
  refine ⟨fun j hj hjd i s hs => ?_, fun i s hs => ?_, fun i s hs => ?_⟩
  · have := ln_lt_of hs
    have := hl j hj
    rw [pk_un (by omega), pk_un (by omega), pk_un (by omega)]
    exact a j hj hjd i s hs
  · rcases ln_get_app hs with ⟨hi, hs⟩ | ⟨rfl, rfl⟩
    · rw [pk_un (by omega), pk_un (by omega), pk_un (by omega)]
      exact b i s hs
    · rw [pk_us, pk_us, pk_us]
      exact ⟨rfl, rfl, rfl⟩
  · rw [ln_pl1, pk_un (by omega), pk_un (by omega), pk_un (by omega)]
    have := c (i + 1) s (by rw [List.getElem?_cons_succ]; exact hs)
    have e : pre.length + 1 + i = pre.length + (i + 1) := by omega
    rw [e]
    exact this
theorem ln_lp_skip {pp pk pv : Nat → Int32} {M : Nat → List ln_T} {d : Nat} {W pre rest : List ln_T} {t : ln_T} (h : ln_lp pp pk pv M d W pre (t :: rest)) : ln_lp pp pk pv M d W (pre ++ [t]) rest := by
  obtain ⟨a, b, c⟩ := h
  refine ⟨a, b, fun i s hs => ?_⟩
  have := c (i + 1) s (by rw [List.getElem?_cons_succ]; exact hs)
  have e : pre.length + 1 + i = pre.length + (i + 1) := by omega
  rw [ln_pl1, e]
  exact this
def ln_ne (p : Nat) (t : ln_T) : Bool := !(t.1 == p)
theorem ln_xlp34 {post : SX → Prop} {M : Nat → List ln_T} {d p : Nat} (hd : d < 16) (hp4 : p < 4) (hM : ∀ j, j < 16 → a_pairCount j = nI (M j).length ∧ (M j).length ≤ 48 ∧ ln_rg (M j))
    (k : ∀ pc pp pk pv, ln_ps pc pp pk pv (ln_up M d ((M d).filter (ln_ne p))) → post (f_handCount, f_setCount, f_levelNow, f_chainLength, f_pairKeyNow, f_pairValueNow, f_orderCount, a_handKey, a_handValue, a_kindOf, a_fromX, a_numberA, a_numberB, a_sourceCount, a_sourceKey, a_sourceValue, pc, pp, pk, pv, a_there, a_kept, a_bigness, a_needed, a_users, a_chain, a_hasLocal, a_local, a_hasSum, a_sums, a_orderKey, a_orderValue)) :
    ∀ (rest pre W : List ln_T) (pp pk pv : Nat → Int32), M d = pre ++ rest → W.length ≤ pre.length → (M d).filter (ln_ne p) = W ++ rest.filter (ln_ne p) → ln_lp pp pk pv M d W pre rest → wX_losePart_34 post (nI d) (nI p) (rest.length + 1) (nI W.length) (nI pre.length) f_handCount f_setCount f_levelNow f_chainLength f_pairKeyNow f_pairValueNow f_orderCount a_handKey a_handValue a_kindOf a_fromX a_numberA a_numberB a_sourceCount a_sourceKey a_sourceValue a_pairCount pp pk pv a_there a_kept a_bigness a_needed a_users a_chain a_hasLocal a_local a_hasSum a_sums a_orderKey a_orderValue := by
  have hin : vp_in (nI d) 16 := vp_in_nI hd (by decide)
  have hlx := (hM d hd).2.1
  have hrg := (hM d hd).2.2
  have ec' : a_pairCount (nI d).toNatClampNeg = nI (M d).length := by rw [nI_clamp (by omega)]; exact (hM d hd).1
  have eD : (nI d).toNatClampNeg = d := nI_clamp (by omega)
  intro rest
  induction rest with
  | nil =>
    intro pre W pp pk pv e hw hf h
    have hl : (M d).length = pre.length := by rw [e, List.append_nil]
    rw [List.filter_nil, List.append_nil] at hf
    rw [hf] at k
    unfold wX_losePart_34
    rw [ec', hl]
    refine ⟨hin, br_t (nI_le (Nat.le_refl _) (by omega)) ⟨hin, nm_r (e' := upd a_pairCount d (nI W.length)) (by rw [eD, ln_nb8 (by omega)]) (k _ pp pk pv ?_)⟩⟩
    intro j hj
    by_cases z : j = d
    · subst z
      rw [ln_up_s, pk_us]
      refine ⟨rfl, by omega, ?_, h.2.1⟩
      rw [← hf]
      exact ln_rg_f hrg _
    · rw [ln_up_n z, pk_un z]
      exact ⟨(hM j hj).1, (hM j hj).2.1, (hM j hj).2.2, h.1 j hj z⟩
  | cons t rest ih =>
    intro pre W pp pk pv e hw hf h
    have hlen : (M d).length = pre.length + (rest.length + 1) := by rw [e, List.length_append]; rfl
    have ht := hrg t (by rw [e]; simp)
    have hr := h.2.2 0 t rfl
    rw [Nat.add_zero] at hr
    have hi7 : vp_in (nI (48 * d + pre.length)) 768 := vp_in_nI (by omega) (by decide)
    have hj7 : vp_in (nI (48 * d + W.length)) 768 := vp_in_nI (by omega) (by decide)
    have eI : (nI (48 * d + pre.length)).toNatClampNeg = 48 * d + pre.length := nI_clamp (by omega)
    have eJ : (nI (48 * d + W.length)).toNatClampNeg = 48 * d + W.length := nI_clamp (by omega)
    have ih' := ih (pre ++ [t])
    rw [ln_pl1] at ih'
    unfold wX_losePart_34
    rw [ec']
    refine ⟨hin, br_f (nI_ge (by omega) (by omega)) (nm_r (ln_48 _ _) ⟨hi7, ?_⟩)⟩
    rw [eI, hr.1]
    refine pk_eq t.1 p (fun hp => ?_) (fun hp => ?_)
    · have z : (t :: rest).filter (ln_ne p) = rest.filter (ln_ne p) := List.filter_cons_of_neg (by unfold ln_ne; rw [hp, beq_self_eq_true]; exact Bool.noConfusion)
      rw [z] at hf
      exact nm_r (nI_1 _) (ih' W pp pk pv (ln_pre e) (by omega) hf (ln_lp_skip h))
    · have z : (t :: rest).filter (ln_ne p) = t :: rest.filter (ln_ne p) := List.filter_cons_of_pos (by unfold ln_ne; rw [beq_false_of_ne hp]; rfl)
      rw [z] at hf
      unfold wpX_movePair
      dsimp only
      rw [ln_48, eI, eJ, hr.1, hr.2.1, hr.2.2, ln_nb (by omega), ln_nb (by omega)]
      have ih2 := ih' (W ++ [t])
      rw [ln_pl1] at ih2
      refine ⟨hi7, hj7, nm_e ⟨hi7, hj7, nm_e ⟨hi7, hj7, nm_e (nm_r (nI_1 _) (nm_r (nI_1 _) ?_))⟩⟩⟩
      exact ih2 _ _ _ (ln_pre e) (by omega) (by rw [hf, List.append_assoc]; rfl) (ln_lp_move (fun j hj => (hM j hj).2.1) hd hw (by omega) h)
theorem ln_ne_f {L : List ln_T} {s p : Nat} (hs : s < 16) (hp : p < 4) (hL : ln_rg L) : (L.filter (ln_in s)).filter (ln_ne p) = L.filter (ln_in (ln_df s (1 <<< p))) := by
  rw [List.filter_filter]
  refine List.filter_congr fun t ht => ?_
  have h4 := (hL t ht).1
  show (!(t.1 == p) && s.testBit t.1) = (ln_df s (1 <<< p)).testBit t.1
  rw [ln_df_b hs (ln_one_lt hp) h4, ln_one hp h4, Bool.and_comm]
  congr 2
  rw [Bool.eq_iff_iff, beq_iff_eq, decide_eq_true_iff]
  exact eq_comm
theorem ln_xlosePart {post : SX → Prop} {n : Nat} {C : Nat → Option (List ln_T)} {M : Nat → List ln_T} {Th : Nat → Nat} {d p : Nat} (hn16 : n ≤ 16) (hrg : ∀ j, j < n → ∀ L, C j = some L → ln_rg L) (hd : d < n) (hp4 : p < 4) (hy : ln_dy n C a_pairCount a_pairPart a_pairKey a_pairValue a_there a_bigness M Th)
    (k : ∀ pc pp pk pv th M Th, ln_dy n C pc pp pk pv th a_bigness M Th → post (f_handCount, f_setCount, f_levelNow, f_chainLength, f_pairKeyNow, f_pairValueNow, f_orderCount, a_handKey, a_handValue, a_kindOf, a_fromX, a_numberA, a_numberB, a_sourceCount, a_sourceKey, a_sourceValue, pc, pp, pk, pv, th, a_kept, a_bigness, a_needed, a_users, a_chain, a_hasLocal, a_local, a_hasSum, a_sums, a_orderKey, a_orderValue)) : wpX_losePart post (f_handCount, f_setCount, f_levelNow, f_chainLength, f_pairKeyNow, f_pairValueNow, f_orderCount, a_handKey, a_handValue, a_kindOf, a_fromX, a_numberA, a_numberB, a_sourceCount, a_sourceKey, a_sourceValue, a_pairCount, a_pairPart, a_pairKey, a_pairValue, a_there, a_kept, a_bigness, a_needed, a_users, a_chain, a_hasLocal, a_local, a_hasSum, a_sums, a_orderKey, a_orderValue) (nI d) (nI p) := by
  obtain ⟨hp, hT, hg, hb⟩ := hy
  have hin : vp_in (nI d) 16 := vp_in_nI (by omega) (by decide)
  have eI : (nI d).toNatClampNeg = d := nI_clamp (by omega)
  have hTd := hT d (by omega)
  have hdf := ln_df_lt hTd.2 (ln_one_lt hp4)
  unfold wpX_losePart
  dsimp only
  rw [eI, hTd.1, ln_bit hTd.2 hp4, ln_clr hTd.2 hp4, ln_nb8 (by omega)]
  cases hbit : (Th d).testBit p with
  | false => exact ⟨hin, br_t rfl (k _ _ _ _ _ M Th ⟨hp, hT, hg, hb⟩)⟩
  | true =>
    refine ⟨hin, br_f ln_10 ⟨hin, hin, nm_e ⟨(M d).length + 1, ?_⟩⟩⟩
    refine ln_xlp34 (M := M) (by omega) hp4 (fun j hj => ⟨(hp j hj).1, (hp j hj).2.1, (hp j hj).2.2.1⟩) (fun pc pp pk pv hp' => ?_) (M d) [] [] _ _ _ rfl (Nat.le_refl _) rfl ⟨fun j hj _ => (hp j hj).2.2.2, fun i t h => absurd (ln_mem_of h) List.not_mem_nil, fun i t h => ?_⟩
    · refine k _ _ _ _ _ _ _ ⟨hp', ln_ms_u hT hdf, fun j hj => ?_, hb⟩
      by_cases z : j = d
      · subst z
        have hz : Th j ≠ 0 := fun z => by rw [z, ln_b0] at hbit; exact Bool.noConfusion hbit
        obtain ⟨L, hL, hpm⟩ := ln_gd_some (hg j hj) hz
        refine Or.inr ⟨L, hL, ?_⟩
        rw [ln_up_s, ln_up_s, ← ln_ne_f hTd.2 hp4 (hrg j hj L hL)]
        exact hpm.filter _
      · exact ln_gd_o (hg j hj) (ln_up_n z) (ln_up_n z)
    · rw [List.length_nil, Nat.zero_add]
      exact (hp d (by omega)).2.2.2 i t h
theorem ln_xlo13 {post : Int32 → SX → Prop} {n : Nat} {C : Nat → Option (List ln_T)} {x : Int32} (hn : f_setCount = nI n) (hn16 : n ≤ 16) (hrg : ∀ j, j < n → ∀ L, C j = some L → ln_rg L)
    (k : ∀ pc pp pk pv th M Th, ln_dy n C pc pp pk pv th a_bigness M Th → post 1 (f_handCount, f_setCount, f_levelNow, f_chainLength, f_pairKeyNow, f_pairValueNow, f_orderCount, a_handKey, a_handValue, a_kindOf, a_fromX, a_numberA, a_numberB, a_sourceCount, a_sourceKey, a_sourceValue, pc, pp, pk, pv, th, a_kept, a_bigness, a_needed, a_users, a_chain, a_hasLocal, a_local, a_hasSum, a_sums, a_orderKey, a_orderValue)) :
    ∀ (r i : Nat) (pc pp pk pv th : Nat → Int32) (M : Nat → List ln_T) (Th : Nat → Nat), i + r = n → ln_dy n C pc pp pk pv th a_bigness M Th → wX_lose_13 post x (r + 1) (nI i) f_handCount f_setCount f_levelNow f_chainLength f_pairKeyNow f_pairValueNow f_orderCount a_handKey a_handValue a_kindOf a_fromX a_numberA a_numberB a_sourceCount a_sourceKey a_sourceValue pc pp pk pv th a_kept a_bigness a_needed a_users a_chain a_hasLocal a_local a_hasSum a_sums a_orderKey a_orderValue := by
  subst hn
  intro r
  induction r with
  | zero =>
    intro i pc pp pk pv th M Th hi hy
    exact br_t (nI_le (by omega) (by omega)) (k _ _ _ _ _ M Th hy)
  | succ r ih =>
    intro i pc pp pk pv th M Th hi hy
    obtain ⟨p, hp4, ep⟩ := ln_and3E (x - nI i)
    refine br_f (nI_ge (by omega) (by omega)) (nm_r ep ?_)
    refine ln_xlosePart hn16 hrg (by omega) hp4 hy fun pc pp pk pv th M Th hy' => nm_r (nI_1 _) ?_
    exact ih (i + 1) pc pp pk pv th M Th (by omega) hy'
end
end
section
section
variable {f_hand f_n : Int32} {a_handKey a_handValue a_kind a_px a_pa a_pb a_given a_givenKey a_givenValue a_size a_big a_key a_value : Nat → Int32}
variable {sz0 bi0 ky0 vy0 : Nat → Int32}
def ln_y1 (sz bi ky vy : Nat → Int32) (j : Nat) (L : List ln_K) : Prop :=
  bi j = 0 ∧ sz j = nI L.length ∧ L.length ≤ 48 ∧ (∀ q, q ∈ L → q.1 < 16) ∧ L.Pairwise ln_le ∧ ln_sg ky vy (48 * j) L
def ln_fr (d : Nat) (sz0 bi0 ky0 vy0 sz bi ky vy : Nat → Int32) : Prop := (∀ j, j < d → sz j = sz0 j ∧ bi j = bi0 j) ∧ (∀ x, x < 48 * d → ky x = ky0 x ∧ vy x = vy0 x)
/-- set d as the reference works it out: the pairs Q put so far -/
def ln_yw (sz0 bi0 ky0 vy0 : Nat → Int32) (d : Nat) (Q : List ln_K) (sz bi ky vy : Nat → Int32) : Prop :=
  ln_fr d sz0 bi0 ky0 vy0 sz bi ky vy ∧ (∀ q, q ∈ Q → q.1 < 16) ∧ ((Q.length ≤ 48 ∧ ∃ L, L.Perm Q ∧ ln_y1 sz bi ky vy d L) ∨ (48 < Q.length ∧ bi d = 1))
theorem ln_y1_fr {d x : Nat} {sz bi ky vy : Nat → Int32} {L : List ln_K} (f : ln_fr d sz0 bi0 ky0 vy0 sz bi ky vy) (hx : x < d) (h : ln_y1 sz0 bi0 ky0 vy0 x L) : ln_y1 sz bi ky vy x L := by
  obtain ⟨a, b, c, e, g, s⟩ := h
  refine ⟨by rw [(f.1 x hx).2]; exact a, by rw [(f.1 x hx).1]; exact b, c, e, g, fun i q hq => ?_⟩
  have hi := ln_lt_of hq
  have := f.2 (48 * x + i) (by omega)
  rw [this.1, this.2]
  exact s i q hq
theorem ln_yrd {sz bi ky vy : Nat → Int32} {x : Nat} {L pre r : List ln_K} {q : ln_K} (h : ln_y1 sz bi ky vy x L) (e : L = pre ++ q :: r) : ky (48 * x + pre.length) = nI q.1 ∧ vy (48 * x + pre.length) = q.2 ∧ q.1 < 16 ∧ pre.length + r.length < 48 := by
  obtain ⟨_, _, c, k, _, s⟩ := h
  have h1 := s pre.length q (by rw [e]; exact ln_at pre q r)
  have h2 := k q (by rw [e]; simp)
  rw [e, List.length_append, List.length_cons] at c
  exact ⟨h1.1, h1.2, h2, by omega⟩
theorem ln_yin1 {post : Int32 → Prop} {x a b : Nat} (hx : x < 2 ^ 31) (hb : b < 2 ^ 31) (h1 : a ≤ x) (h2 : x ≤ b) (k : post 1) : wpY_in post (f_hand, f_n, a_handKey, a_handValue, a_kind, a_px, a_pa, a_pb, a_given, a_givenKey, a_givenValue, a_size, a_big, a_key, a_value) (nI x) (nI a) (nI b) := by
  unfold wpY_in
  exact br_f (nI_nlt h1 hx) (br_f (nI_nlt h2 hb) k)
theorem ln_yin0 {post : Int32 → Prop} {x a b : Int32} (h : x < a ∨ b < x) (k : post 0) : wpY_in post (f_hand, f_n, a_handKey, a_handValue, a_kind, a_px, a_pa, a_pb, a_given, a_givenKey, a_givenValue, a_size, a_big, a_key, a_value) x a b := by
  unfold wpY_in
  by_cases h1 : x < a
  · exact br_t h1 k
  · exact br_f h1 (br_t (h.resolve_left h1) k)
theorem ln_yisSet1 {post : Int32 → Prop} {n d : Nat} (hn : f_n = nI n) (hn16 : n ≤ 16) (hd : d < n) (k : post 1) : wpY_isSet post (f_hand, f_n, a_handKey, a_handValue, a_kind, a_px, a_pa, a_pb, a_given, a_givenKey, a_givenValue, a_size, a_big, a_key, a_value) (nI d) := by
  unfold wpY_isSet
  subst hn
  exact br_f (nI_pos (by omega)) (br_f (nI_ge hd (by omega)) k)
theorem ln_yisSet0 {post : Int32 → Prop} {x : Int32} {n : Nat} (hn : f_n = nI n) (hd : x < 0 ∨ nI n ≤ x) (k : post 0) : wpY_isSet post (f_hand, f_n, a_handKey, a_handValue, a_kind, a_px, a_pa, a_pb, a_given, a_givenKey, a_givenValue, a_size, a_big, a_key, a_value) x := by
  unfold wpY_isSet
  subst hn
  by_cases h : x < 0
  · exact br_t h k
  · exact br_f h (br_t (hd.resolve_left h) k)
theorem ln_yput45 {post : SY → Prop} {d : Nat} {q : ln_K} {L : List ln_K} {K0 V0 : Nat → Int32} (hd : d < 16) (hq : q.1 < 16) (hL : L.length < 48) (hk : ∀ p, p ∈ L → p.1 < 16) (hs : L.Pairwise ln_le) (hsz : a_size d = nI L.length)
    (k : ∀ ky vy S, S.Perm (L ++ [q]) → S.Pairwise ln_le → ln_sg ky vy (48 * d) S → (∀ x, x < 48 * d ∨ 48 * d + L.length < x → ky x = K0 x ∧ vy x = V0 x) → post (f_hand, f_n, a_handKey, a_handValue, a_kind, a_px, a_pa, a_pb, a_given, a_givenKey, a_givenValue, upd a_size d (nI (L.length + 1)), a_big, ky, vy)) :
    ∀ (r s j : Nat) (ky vy : Nat → Int32), s + r = 48 → ln_hl K0 V0 (48 * d) L q j ky vy → ((j = 0 ∨ ∃ i p, j = i + 1 ∧ L[i]? = some p ∧ ln_le p q) ∨ j + s = L.length) → wY_put_45 post (nI d) (nI q.1) q.2 f_hand f_n (r + 1) (nI (48 * d + j)) (nI s) a_handKey a_handValue a_kind a_px a_pa a_pb a_given a_givenKey a_givenValue a_size a_big ky vy := by
  have hin : vp_in (nI d) 16 := vp_in_nI hd (by decide)
  have eD : (nI d).toNatClampNeg = d := nI_clamp (by omega)
  intro r
  induction r with
  | zero =>
    intro s j ky vy hsr hh hj
    have hjl := hh.1
    have hfin := hj.resolve_right (by omega)
    obtain ⟨S, s1, s2, s3, s4⟩ := ln_hl_f hh hs hfin
    have hi7 : vp_in (nI (48 * d + j)) 768 := vp_in_nI (by omega) (by decide)
    have eI : (nI (48 * d + j)).toNatClampNeg = 48 * d + j := nI_clamp (by omega)
    unfold wY_put_45
    rw [eI, eD, hsz, nI_1]
    exact br_t (nI_le (a := 48) (by omega) (by omega)) ⟨hi7, nm_e ⟨hi7, nm_e ⟨hin, hin, nm_e (k _ _ S s1 s2 s3 s4)⟩⟩⟩
  | succ r ih =>
    intro s j ky vy hsr hh hj
    have hjl := hh.1
    have hi7 : vp_in (nI (48 * d + j)) 768 := vp_in_nI (by omega) (by decide)
    have eI : (nI (48 * d + j)).toNatClampNeg = 48 * d + j := nI_clamp (by omega)
    have stay : (j = 0 ∨ ∃ i p, j = i + 1 ∧ L[i]? = some p ∧ ln_le p q) → wY_put_45 post (nI d) (nI q.1) q.2 f_hand f_n (r + 1) (nI (48 * d + j)) (nI (s + 1)) a_handKey a_handValue a_kind a_px a_pa a_pb a_given a_givenKey a_givenValue a_size a_big ky vy := fun hf => ih (s + 1) j ky vy (by omega) hh (Or.inl hf)
    unfold wY_put_45
    rw [ln_48m]
    refine br_f (nI_ge (b := 48) (by omega) (by decide)) (pk_le (48 * d + j) (48 * d) (fun h0 => nm_r (nI_1 _) (stay (Or.inl (by omega)))) (fun h0 => ?_))
    obtain ⟨i, rfl⟩ : ∃ i, j = i + 1 := ⟨j - 1, by omega⟩
    obtain ⟨p, hp⟩ := ln_some_of (L := L) (i := i) (by omega)
    have hr := hh.2.1 i p (Nat.lt_succ_self _) hp
    have hp16 := hk p (ln_mem_of hp)
    have em : nI (48 * d + (i + 1)) - 1 = nI (48 * d + i) := nI_pred (48 * d + i)
    have hm7 : vp_in (nI (48 * d + i)) 768 := vp_in_nI (by omega) (by decide)
    have eM : (nI (48 * d + i)).toNatClampNeg = 48 * d + i := nI_clamp (by omega)
    have sh : ¬ ln_le p q → wY_put_100 post (wY_put_45 post (nI d) (nI q.1) q.2 f_hand f_n (r + 1)) (nI d) (nI q.1) q.2 (nI (48 * d + (i + 1))) (nI s) f_hand f_n a_handKey a_handValue a_kind a_px a_pa a_pb a_given a_givenKey a_givenValue a_size a_big ky vy := fun hn => by
      have hh' := ln_hl_s hh hp hn
      have hj' : i + (s + 1) = L.length := by
        rcases hj with (z | ⟨i', p', z, hp', hl⟩) | z
        · omega
        · obtain rfl : i = i' := by omega
          rw [hp] at hp'
          cases hp'
          exact absurd hl hn
        · omega
      unfold wY_put_100
      rw [em, eM, eI]
      refine ⟨hm7, hi7, nm_e ⟨hm7, hi7, nm_e (nm_r (e' := nI (48 * d + i)) (pk_m1 (48 * d + i)) (nm_r (nI_1 _) ?_))⟩⟩
      exact ih (s + 1) i _ _ (by omega) hh' (Or.inr hj')
    rw [em, eM, hr.1, hr.2]
    refine ⟨hm7, pk_lt q.1 p.1 (fun h => sh ?_) (fun h => ⟨hm7, pk_eq p.1 q.1 (fun he => ⟨hm7, br_c (fun hv => nm_r (nI_1 _) (stay (Or.inr ⟨i, p, rfl, hp, Or.inr ⟨he, hv⟩⟩))) (fun hv => sh ?_)⟩) (fun he => nm_r (nI_1 _) (stay (Or.inr ⟨i, p, rfl, hp, Or.inl (by omega)⟩)))⟩)⟩
    · rintro (z | ⟨z, _⟩) <;> omega
    · rintro (z | ⟨_, z⟩)
      · omega
      · exact hv z
theorem ln_yput {post : SY → Prop} {d k : Nat} {v : Int32} {Q : List ln_K} (hd : d < 16) (hk : k < 16) (h : ln_yw sz0 bi0 ky0 vy0 d Q a_size a_big a_key a_value) (K : ∀ sz bi ky vy, ln_yw sz0 bi0 ky0 vy0 d (Q ++ [(k, v)]) sz bi ky vy → post (f_hand, f_n, a_handKey, a_handValue, a_kind, a_px, a_pa, a_pb, a_given, a_givenKey, a_givenValue, sz, bi, ky, vy)) : wpY_put post (f_hand, f_n, a_handKey, a_handValue, a_kind, a_px, a_pa, a_pb, a_given, a_givenKey, a_givenValue, a_size, a_big, a_key, a_value) (nI d) (nI k) v := by
  have hin : vp_in (nI d) 16 := vp_in_nI hd (by decide)
  have eD : (nI d).toNatClampNeg = d := nI_clamp (by omega)
  obtain ⟨f, hQ, h⟩ := h
  have hQ' : ∀ q, q ∈ Q ++ [(k, v)] → q.1 < 16 := fun q hq => by
    rcases List.mem_append.mp hq with hq | hq
    · exact hQ q hq
    · rw [List.mem_singleton.mp hq]; exact hk
  unfold wpY_put
  dsimp only
  rw [eD]
  rcases h with ⟨hl, L, pL, hb, hs, hl48, hk16, hsort, hsg⟩ | ⟨hl, hb⟩
  · have hLQ := pL.length_eq
    refine ⟨hin, br_t hb ⟨hin, ?_⟩⟩
    rw [hs]
    refine pk_eq L.length 48 (fun h48 => ⟨hin, nm_r (e' := upd a_big d 1) (by rw [ln_vb1]) (K _ _ _ _ ⟨⟨fun j hj => ⟨(f.1 j hj).1, by rw [pk_un (by omega)]; exact (f.1 j hj).2⟩, f.2⟩, hQ', Or.inr ⟨by rw [ln_pl1]; omega, pk_us⟩⟩)⟩) (fun h48 => ⟨hin, nm_r (ln_48 _ _) ⟨49, ?_⟩⟩)
    refine ln_yput45 (q := (k, v)) (L := L) (K0 := a_key) (V0 := a_value) hd hk (by omega) hk16 hsort hs (fun ky vy S s1 s2 s3 s4 => ?_) 48 0 L.length _ _ rfl (ln_hl_0 hsg) (Or.inr (by omega))
    refine K _ _ _ _ ⟨⟨fun j hj => ⟨by rw [pk_un (by omega)]; exact (f.1 j hj).1, (f.1 j hj).2⟩, fun x hx => ?_⟩, hQ', Or.inl ⟨by rw [ln_pl1]; omega, S, s1.trans (pL.append_right _), hb, ?_, ?_, ?_, s2, s3⟩⟩
    · have := s4 x (Or.inl hx)
      rw [this.1, this.2]
      exact f.2 x hx
    · rw [pk_us, s1.length_eq, ln_pl1]
    · rw [s1.length_eq, ln_pl1]; omega
    · intro q hq
      rcases List.mem_append.mp (s1.mem_iff.mp hq) with hq | hq
      · exact hk16 q hq
      · rw [List.mem_singleton.mp hq]; exact hk
  · have hb' : ¬ a_big d = 0 := by rw [hb]; exact ln_10
    exact ⟨hin, br_f hb' (K _ _ _ _ ⟨f, hQ', Or.inr ⟨by rw [ln_pl1]; omega, hb⟩⟩)⟩
theorem ln_yputAll5 {post : SY → Prop} {d x : Nat} {L : List ln_K} (hd : d < 16) (hx : x < d) (h0 : ln_y1 sz0 bi0 ky0 vy0 x L) :
    ∀ (rest pre Q : List ln_K) (sz bi ky vy : Nat → Int32), L = pre ++ rest → ln_yw sz0 bi0 ky0 vy0 d Q sz bi ky vy → (∀ sz bi ky vy, ln_yw sz0 bi0 ky0 vy0 d (Q ++ rest) sz bi ky vy → post (f_hand, f_n, a_handKey, a_handValue, a_kind, a_px, a_pa, a_pb, a_given, a_givenKey, a_givenValue, sz, bi, ky, vy)) → wY_putAll_5 post (nI d) (nI x) (rest.length + 1) (nI (48 * x + pre.length)) f_hand f_n a_handKey a_handValue a_kind a_px a_pa a_pb a_given a_givenKey a_givenValue sz bi ky vy := by
  have hin : vp_in (nI x) 16 := vp_in_nI (by omega) (by decide)
  have eX : (nI x).toNatClampNeg = x := nI_clamp (by omega)
  intro rest
  induction rest with
  | nil =>
    intro pre Q sz bi ky vy e hw k
    have h1 := ln_y1_fr hw.1 hx h0
    have hs := h1.2.1
    have hl := h1.2.2.1
    rw [e, List.append_nil] at hs hl
    rw [List.append_nil] at k
    unfold wY_putAll_5
    rw [eX, hs, ln_48]
    exact ⟨hin, br_t (nI_le (Nat.le_refl _) (by omega)) (k _ _ _ _ hw)⟩
  | cons q rest ih =>
    intro pre Q sz bi ky vy e hw k
    have h1 := ln_y1_fr hw.1 hx h0
    obtain ⟨e1, e2, h16, h48⟩ := ln_yrd h1 e
    have hlen : L.length = pre.length + (rest.length + 1) := by rw [e, List.length_append]; rfl
    have hi7 : vp_in (nI (48 * x + pre.length)) 768 := vp_in_nI (by omega) (by decide)
    have eI : (nI (48 * x + pre.length)).toNatClampNeg = 48 * x + pre.length := nI_clamp (by omega)
    have ih' := ih (pre ++ [q])
    rw [ln_pl1, ← Nat.add_assoc] at ih'
    unfold wY_putAll_5
    rw [eX, h1.2.1, ln_48, eI, e1, e2]
    refine ⟨hin, br_f (nI_ge (by omega) (by omega)) ⟨hi7, hi7, ?_⟩⟩
    refine ln_yput (Q := Q) hd h16 hw fun sz bi ky vy hw' => nm_r (nI_1 _) (ih' (Q ++ [q]) sz bi ky vy (ln_pre e) hw' ?_)
    rw [List.append_assoc]
    exact k
theorem ln_yputAll {post : SY → Prop} {d x : Nat} {L Q : List ln_K} (hd : d < 16) (hx : x < d) (h0 : ln_y1 sz0 bi0 ky0 vy0 x L) (hw : ln_yw sz0 bi0 ky0 vy0 d Q a_size a_big a_key a_value) (k : ∀ sz bi ky vy, ln_yw sz0 bi0 ky0 vy0 d (Q ++ L) sz bi ky vy → post (f_hand, f_n, a_handKey, a_handValue, a_kind, a_px, a_pa, a_pb, a_given, a_givenKey, a_givenValue, sz, bi, ky, vy)) : wpY_putAll post (f_hand, f_n, a_handKey, a_handValue, a_kind, a_px, a_pa, a_pb, a_given, a_givenKey, a_givenValue, a_size, a_big, a_key, a_value) (nI d) (nI x) := by
  unfold wpY_putAll
  exact nm_r (ln_48m x) ⟨_, ln_yputAll5 hd hx h0 L [] Q _ _ _ _ rfl hw k⟩
end
end
section
section
variable {f_hand f_n : Int32} {a_handKey a_handValue a_kind a_px a_pa a_pb a_given a_givenKey a_givenValue a_size a_big a_key a_value : Nat → Int32}
variable {sz0 bi0 ky0 vy0 : Nat → Int32}
theorem ln_ys159 {post : SY → Prop} {x1 x2 x6 x7 : Int32} (h : ¬ x2 = 11) (k : post (f_hand, f_n, a_handKey, a_handValue, a_kind, a_px, a_pa, a_pb, a_given, a_givenKey, a_givenValue, a_size, a_big, a_key, a_value)) : wY_each_159 post x1 x2 x6 x7 f_hand f_n a_handKey a_handValue a_kind a_px a_pa a_pb a_given a_givenKey a_givenValue a_size a_big a_key a_value := by
  unfold wY_each_159
  exact br_f h k
theorem ln_ys133 {post : SY → Prop} {x1 x2 x4 x6 x7 : Int32} (h : ¬ x2 = 9) (k : wY_each_159 post x1 x2 x6 x7 f_hand f_n a_handKey a_handValue a_kind a_px a_pa a_pb a_given a_givenKey a_givenValue a_size a_big a_key a_value) : wY_each_133 post x1 x2 x4 x6 x7 f_hand f_n a_handKey a_handValue a_kind a_px a_pa a_pb a_given a_givenKey a_givenValue a_size a_big a_key a_value := by
  unfold wY_each_133
  exact br_f h k
theorem ln_ys110 {post : SY → Prop} {x1 x2 x3 x4 x6 x7 : Int32} (h : ¬ x2 = 8) (k : wY_each_133 post x1 x2 x4 x6 x7 f_hand f_n a_handKey a_handValue a_kind a_px a_pa a_pb a_given a_givenKey a_givenValue a_size a_big a_key a_value) : wY_each_110 post x1 x2 x3 x4 x6 x7 f_hand f_n a_handKey a_handValue a_kind a_px a_pa a_pb a_given a_givenKey a_givenValue a_size a_big a_key a_value := by
  unfold wY_each_110
  exact br_f h k
theorem ln_ys80 {post : SY → Prop} {x1 x2 x3 x4 x6 x7 : Int32} (h : ¬ x2 = 4) (k : wY_each_110 post x1 x2 x3 x4 x6 x7 f_hand f_n a_handKey a_handValue a_kind a_px a_pa a_pb a_given a_givenKey a_givenValue a_size a_big a_key a_value) : wY_each_80 post x1 x2 x3 x4 x6 x7 f_hand f_n a_handKey a_handValue a_kind a_px a_pa a_pb a_given a_givenKey a_givenValue a_size a_big a_key a_value := by
  unfold wY_each_80
  exact br_f h k
theorem ln_ys57 {post : SY → Prop} {x1 x2 x3 x4 x5 x6 x7 : Int32} (h : ¬ x2 = 3) (k : wY_each_80 post x1 x2 x3 x4 x6 x7 f_hand f_n a_handKey a_handValue a_kind a_px a_pa a_pb a_given a_givenKey a_givenValue a_size a_big a_key a_value) : wY_each_57 post x1 x2 x3 x4 x5 x6 x7 f_hand f_n a_handKey a_handValue a_kind a_px a_pa a_pb a_given a_givenKey a_givenValue a_size a_big a_key a_value := by
  unfold wY_each_57
  exact br_f h k
theorem ln_ys36 {post : SY → Prop} {x1 x2 x3 x4 x5 x6 x7 : Int32} (h : ¬ x2 = 2) (k : wY_each_57 post x1 x2 x3 x4 x5 x6 x7 f_hand f_n a_handKey a_handValue a_kind a_px a_pa a_pb a_given a_givenKey a_givenValue a_size a_big a_key a_value) : wY_each_36 post x1 x2 x3 x4 x5 x6 x7 f_hand f_n a_handKey a_handValue a_kind a_px a_pa a_pb a_given a_givenKey a_givenValue a_size a_big a_key a_value := by
  unfold wY_each_36
  exact br_f h k
/-- what each puts for one pair -/
theorem ln_yeach_s {post : SY → Prop} {e : ln_E} {d x : Nat} {L pre r Q : List ln_K} {q : ln_K} (hd : d < 16) (hx : x < d) (hst : ln_stp (ln_ka e)) (h0 : ln_y1 sz0 bi0 ky0 vy0 x L) (eL : L = pre ++ q :: r) (hw : ln_yw sz0 bi0 ky0 vy0 d Q a_size a_big a_key a_value)
    (k : ∀ sz bi ky vy, ln_yw sz0 bi0 ky0 vy0 d (Q ++ (ln_ps1 e q).toList) sz bi ky vy → post (f_hand, f_n, a_handKey, a_handValue, a_kind, a_px, a_pa, a_pb, a_given, a_givenKey, a_givenValue, sz, bi, ky, vy)) : wpY_each post (f_hand, f_n, a_handKey, a_handValue, a_kind, a_px, a_pa, a_pb, a_given, a_givenKey, a_givenValue, a_size, a_big, a_key, a_value) (nI d) (nI (ln_ka e)) (nI (48 * x + pre.length)) (ln_aa e) (ln_bb e) := by
  obtain ⟨e1, e2, h16, h48⟩ := ln_yrd (ln_y1_fr hw.1 hx h0) eL
  have hi7 : vp_in (nI (48 * x + pre.length)) 768 := vp_in_nI (by omega) (by decide)
  have eI : (nI (48 * x + pre.length)).toNatClampNeg = 48 * x + pre.length := nI_clamp (by omega)
  unfold wpY_each
  dsimp only
  rw [eI, e1, e2]
  refine ⟨hi7, nm_e ⟨hi7, nm_e ?_⟩⟩
  unfold ln_ps1 at k
  rcases hst with h | h | h | h
  · rw [if_neg (by omega), if_pos h] at k
    rw [h]
    refine br_t rfl ?_
    refine ln_yput hd h16 hw fun sz bi ky vy hw' => ?_
    exact ln_ys36 (by decide) (ln_ys57 (by decide) (ln_ys80 (by decide) (ln_ys110 (by decide) (ln_ys133 (by decide) (ln_ys159 (by decide) (k sz bi ky vy hw'))))))
  · rw [if_pos h] at k
    rw [h]
    refine br_f (by decide) ?_
    unfold wY_each_36
    refine br_t rfl (br_c (fun hv => ?_) (fun hv => ?_))
    · rw [if_pos hv] at k
      have kk := k _ _ _ _ (by show ln_yw _ _ _ _ _ (Q ++ []) _ _ _ _; rw [List.append_nil]; exact hw)
      exact ln_ys57 (by decide) (ln_ys80 (by decide) (ln_ys110 (by decide) (ln_ys133 (by decide) (ln_ys159 (by decide) kk))))
    · rw [if_neg hv] at k
      refine ln_yput hd h16 hw fun sz bi ky vy hw' => ?_
      exact ln_ys57 (by decide) (ln_ys80 (by decide) (ln_ys110 (by decide) (ln_ys133 (by decide) (ln_ys159 (by decide) (k sz bi ky vy hw')))))
  · rw [if_neg (by omega), if_neg (by omega), if_pos h] at k
    rw [h]
    refine br_f (by decide) (ln_ys36 (by decide) ?_)
    unfold wY_each_57
    refine br_t rfl ?_
    have ha := ln_and15 (nI q.1 * ln_aa e + ln_bb e)
    rw [ha.2]
    refine ln_yput hd ha.1 hw fun sz bi ky vy hw' => ?_
    exact ln_ys80 (by decide) (ln_ys110 (by decide) (ln_ys133 (by decide) (ln_ys159 (by decide) (k sz bi ky vy hw'))))
  · rw [if_neg (by omega), if_neg (by omega), if_neg (by omega)] at k
    rw [h]
    refine br_f (by decide) (ln_ys36 (by decide) (ln_ys57 (by decide) (ln_ys80 (by decide) (ln_ys110 (by decide) (ln_ys133 (by decide) ?_)))))
    unfold wY_each_159
    refine br_t rfl ?_
    have ha := ln_and15 q.2
    rw [ha.2]
    exact ln_yput hd ha.1 hw fun sz bi ky vy hw' => k sz bi ky vy hw'
theorem ln_yeach88 {post : SY → Prop} {d c : Nat} {q : ln_K} {x2 x3 : Int32} (hd : d < 16) (hc : c < 16) (h16 : q.1 < 16) (n8 : ¬ x2 = 8) (n9 : ¬ x2 = 9) (n11 : ¬ x2 = 11) :
    ∀ (r : Nat) (Q : List ln_K) (sz bi ky vy : Nat → Int32), r ≤ c → ln_yw sz0 bi0 ky0 vy0 d Q sz bi ky vy → (∀ sz bi ky vy, ln_yw sz0 bi0 ky0 vy0 d (Q ++ List.replicate r q) sz bi ky vy → post (f_hand, f_n, a_handKey, a_handValue, a_kind, a_px, a_pa, a_pb, a_given, a_givenKey, a_givenValue, sz, bi, ky, vy)) → wY_each_88 post (nI d) x2 x3 (nI c) (nI q.1) q.2 (r + 1) (nI (c - r)) f_hand f_n a_handKey a_handValue a_kind a_px a_pa a_pb a_given a_givenKey a_givenValue sz bi ky vy := by
  intro r
  induction r with
  | zero =>
    intro Q sz bi ky vy hr hw k
    rw [List.replicate_zero, List.append_nil] at k
    exact br_t (nI_le (by omega) (by omega)) (ln_ys110 n8 (ln_ys133 n9 (ln_ys159 n11 (k _ _ _ _ hw))))
  | succ r ih =>
    intro Q sz bi ky vy hr hw k
    unfold wY_each_88
    refine br_f (nI_ge (by omega) (by omega)) ?_
    refine ln_yput hd h16 hw fun sz bi ky vy hw' => nm_r (e' := nI (c - r)) ?_ (ih (Q ++ [q]) sz bi ky vy (by omega) hw' ?_)
    · rw [nI_1]; exact congrArg nI (by omega)
    · rw [List.append_assoc]
      exact k
theorem ln_yeach_4 {post : SY → Prop} {e : ln_E} {d x : Nat} {L pre r Q : List ln_K} {q : ln_K} (hd : d < 16) (hx : x < d) (h : ln_ka e = 4) (ha : ln_an e ≤ 3 ∧ ln_aa e = nI (ln_an e)) (h0 : ln_y1 sz0 bi0 ky0 vy0 x L) (eL : L = pre ++ q :: r) (hw : ln_yw sz0 bi0 ky0 vy0 d Q a_size a_big a_key a_value)
    (k : ∀ sz bi ky vy, ln_yw sz0 bi0 ky0 vy0 d (Q ++ List.replicate (ln_an e) q) sz bi ky vy → post (f_hand, f_n, a_handKey, a_handValue, a_kind, a_px, a_pa, a_pb, a_given, a_givenKey, a_givenValue, sz, bi, ky, vy)) : wpY_each post (f_hand, f_n, a_handKey, a_handValue, a_kind, a_px, a_pa, a_pb, a_given, a_givenKey, a_givenValue, a_size, a_big, a_key, a_value) (nI d) (nI (ln_ka e)) (nI (48 * x + pre.length)) (ln_aa e) (ln_bb e) := by
  obtain ⟨e1, e2, h16, h48⟩ := ln_yrd (ln_y1_fr hw.1 hx h0) eL
  have hi7 : vp_in (nI (48 * x + pre.length)) 768 := vp_in_nI (by omega) (by decide)
  have eI : (nI (48 * x + pre.length)).toNatClampNeg = 48 * x + pre.length := nI_clamp (by omega)
  unfold wpY_each
  dsimp only
  rw [eI, e1, e2, h, ha.2]
  refine ⟨hi7, nm_e ⟨hi7, nm_e (br_f (by decide) (ln_ys36 (by decide) (ln_ys57 (by decide) ?_)))⟩⟩
  unfold wY_each_80
  refine br_t rfl ⟨ln_an e + 1, ?_⟩
  have z : (0 : Int32) = nI (ln_an e - ln_an e) := by rw [Nat.sub_self]; rfl
  rw [z]
  exact ln_yeach88 hd (by omega) h16 (by decide) (by decide) (by decide) (ln_an e) Q _ _ _ _ (Nat.le_refl _) hw k
/-! distinct: the first of equal pairs -/
def ln_fs : Option ln_K → List ln_K → List ln_K
  | _, [] => []
  | o, q :: r => if o = some q then ln_fs (some q) r else q :: ln_fs (some q) r
theorem ln_yfirst {post : Int32 → Prop} {x : Nat} {L pre r : List ln_K} {q : ln_K} (hx : x < 16) (h1 : ln_y1 a_size a_big a_key a_value x L) (eL : L = pre ++ q :: r) (k1 : pre.getLast? ≠ some q → post 1) (k0 : pre.getLast? = some q → post 0) : wpY_isFirst post (f_hand, f_n, a_handKey, a_handValue, a_kind, a_px, a_pa, a_pb, a_given, a_givenKey, a_givenValue, a_size, a_big, a_key, a_value) (nI (48 * x + pre.length)) := by
  obtain ⟨e1, e2, h16, h48⟩ := ln_yrd h1 eL
  have hi7 : vp_in (nI (48 * x + pre.length)) 768 := vp_in_nI (by omega) (by decide)
  have eI : (nI (48 * x + pre.length)).toNatClampNeg = 48 * x + pre.length := nI_clamp (by omega)
  have er : nI (48 * x + pre.length) - nI (48 * x + pre.length) / 48 * 48 = nI pre.length := by
    have := pk_rem (a := 48 * x + pre.length) (d := 48) (by omega) (by decide) (by decide)
    have e : (48 * x + pre.length) % 48 = pre.length := by omega
    rw [e] at this
    exact this
  unfold wpY_isFirst
  dsimp only
  rw [er, eI]
  refine ⟨by decide, pk_eq pre.length 0 (fun hz => ?_) (fun hz => ?_)⟩
  · refine k1 ?_
    rw [List.eq_nil_of_length_eq_zero hz]
    exact fun z => ln_nc z
  · rcases List.eq_nil_or_concat pre with hp | ⟨pre', p, hp⟩
    · rw [hp] at hz
      exact absurd rfl hz
    · have el : pre.getLast? = some p := by rw [hp, List.concat_eq_append, List.getLast?_append]; rfl
      have hl : pre.length = pre'.length + 1 := by rw [hp, List.concat_eq_append, ln_pl1]
      have eL' : L = pre' ++ p :: (q :: r) := by rw [eL, hp, List.concat_eq_append, List.append_assoc]; rfl
      obtain ⟨f1, f2, g16, g48⟩ := ln_yrd h1 eL'
      have em : nI (48 * x + pre.length) - 1 = nI (48 * x + pre'.length) := by rw [hl]; exact nI_pred (48 * x + pre'.length)
      have hm7 : vp_in (nI (48 * x + pre'.length)) 768 := vp_in_nI (by omega) (by decide)
      have eM : (nI (48 * x + pre'.length)).toNatClampNeg = 48 * x + pre'.length := nI_clamp (by omega)
      rw [em, eM, e1, e2, f1, f2]
      rw [el] at k1 k0
      refine ⟨hm7, hi7, pk_eq p.1 q.1 (fun hk => ⟨hm7, hi7, br_c (fun hv => k0 (congrArg some (Prod.ext hk hv))) (fun hv => k1 fun z => hv (congrArg Prod.snd (Option.some.inj z)))⟩) (fun hk => k1 fun z => hk (congrArg Prod.fst (Option.some.inj z)))⟩
theorem ln_yeach_8 {post : SY → Prop} {e : ln_E} {d x : Nat} {L pre r Q : List ln_K} {q : ln_K} (hd : d < 16) (hx : x < d) (h : ln_ka e = 8) (h0 : ln_y1 sz0 bi0 ky0 vy0 x L) (eL : L = pre ++ q :: r) (hw : ln_yw sz0 bi0 ky0 vy0 d Q a_size a_big a_key a_value)
    (k : ∀ sz bi ky vy, ln_yw sz0 bi0 ky0 vy0 d (Q ++ if pre.getLast? = some q then [] else [q]) sz bi ky vy → post (f_hand, f_n, a_handKey, a_handValue, a_kind, a_px, a_pa, a_pb, a_given, a_givenKey, a_givenValue, sz, bi, ky, vy)) : wpY_each post (f_hand, f_n, a_handKey, a_handValue, a_kind, a_px, a_pa, a_pb, a_given, a_givenKey, a_givenValue, a_size, a_big, a_key, a_value) (nI d) (nI (ln_ka e)) (nI (48 * x + pre.length)) (ln_aa e) (ln_bb e) := by
  have h1 := ln_y1_fr hw.1 hx h0
  obtain ⟨e1, e2, h16, h48⟩ := ln_yrd h1 eL
  have hi7 : vp_in (nI (48 * x + pre.length)) 768 := vp_in_nI (by omega) (by decide)
  have eI : (nI (48 * x + pre.length)).toNatClampNeg = 48 * x + pre.length := nI_clamp (by omega)
  unfold wpY_each
  dsimp only
  rw [eI, e1, e2, h]
  refine ⟨hi7, nm_e ⟨hi7, nm_e (br_f (by decide) (ln_ys36 (by decide) (ln_ys57 (by decide) (ln_ys80 (by decide) ?_))))⟩⟩
  unfold wY_each_110
  refine br_t rfl ?_
  refine ln_yfirst (by omega) h1 eL (fun hf => br_f ln_10 ?_) (fun hf => br_t rfl ?_)
  · rw [if_neg hf] at k
    refine ln_yput hd h16 hw fun sz bi ky vy hw' => ?_
    exact ln_ys133 (by decide) (ln_ys159 (by decide) (k sz bi ky vy hw'))
  · rw [if_pos hf, List.append_nil] at k
    exact ln_ys133 (by decide) (ln_ys159 (by decide) (k _ _ _ _ hw))
/-! without -/
theorem ln_ycount8 {post : Int32 → Prop} {y k : Nat} {L : List ln_K} (hy : y < 16) (hk : k < 16) (h1 : ln_y1 a_size a_big a_key a_value y L) {c0 : Nat} (K : post (nI c0)) :
    ∀ (rest pre : List ln_K) (c : Nat), L = pre ++ rest → c + rest.countP (fun s => s.1 == k) = c0 → wY_countKey_8 post (nI y) (nI k) f_hand f_n a_handKey a_handValue a_kind a_px a_pa a_pb a_given a_givenKey a_givenValue a_size a_big a_key a_value (rest.length + 1) (nI c) (nI (48 * y + pre.length)) := by
  have hin : vp_in (nI y) 16 := vp_in_nI hy (by decide)
  have eX : (nI y).toNatClampNeg = y := nI_clamp (by omega)
  have hs := h1.2.1
  have hl := h1.2.2.1
  intro rest
  induction rest with
  | nil =>
    intro pre c e hc
    rw [e, List.append_nil] at hs hl
    have hc' : c = c0 := hc
    subst hc'
    unfold wY_countKey_8
    rw [eX, hs, ln_48]
    exact ⟨hin, br_t (nI_le (Nat.le_refl _) (by omega)) K⟩
  | cons q rest ih =>
    intro pre c e hc
    obtain ⟨e1, e2, h16, h48⟩ := ln_yrd h1 e
    have hlen : L.length = pre.length + (rest.length + 1) := by rw [e, List.length_append]; rfl
    have hi7 : vp_in (nI (48 * y + pre.length)) 768 := vp_in_nI (by omega) (by decide)
    have eI : (nI (48 * y + pre.length)).toNatClampNeg = 48 * y + pre.length := nI_clamp (by omega)
    have ih' := ih (pre ++ [q])
    rw [ln_pl1, ← Nat.add_assoc] at ih'
    unfold wY_countKey_8
    rw [eX, hs, ln_48, eI, e1]
    refine ⟨hin, br_f (nI_ge (by omega) (by omega)) ⟨hi7, pk_eq q.1 k (fun he => ?_) (fun he => ?_)⟩⟩
    · rw [List.countP_cons_of_pos (by rw [he]; exact beq_self_eq_true k)] at hc
      exact nm_r (nI_1 _) (nm_r (nI_1 _) (ih' (c + 1) (ln_pre e) (by omega)))
    · rw [List.countP_cons_of_neg (by rw [beq_false_of_ne he]; exact Bool.noConfusion)] at hc
      exact nm_r (nI_1 _) (ih' c (ln_pre e) hc)
theorem ln_yeach_9 {post : SY → Prop} {e : ln_E} {d x : Nat} {L Ly pre r Q : List ln_K} {q : ln_K} (hd : d < 16) (hx : x < d) (h : ln_ka e = 9) (ha : ln_an e < d ∧ ln_aa e = nI (ln_an e)) (h0 : ln_y1 sz0 bi0 ky0 vy0 x L) (hy0 : ln_y1 sz0 bi0 ky0 vy0 (ln_an e) Ly) (eL : L = pre ++ q :: r) (hw : ln_yw sz0 bi0 ky0 vy0 d Q a_size a_big a_key a_value)
    (k : ∀ sz bi ky vy, ln_yw sz0 bi0 ky0 vy0 d (Q ++ ln_wo [q] Ly) sz bi ky vy → post (f_hand, f_n, a_handKey, a_handValue, a_kind, a_px, a_pa, a_pb, a_given, a_givenKey, a_givenValue, sz, bi, ky, vy)) : wpY_each post (f_hand, f_n, a_handKey, a_handValue, a_kind, a_px, a_pa, a_pb, a_given, a_givenKey, a_givenValue, a_size, a_big, a_key, a_value) (nI d) (nI (ln_ka e)) (nI (48 * x + pre.length)) (ln_aa e) (ln_bb e) := by
  have h1 := ln_y1_fr hw.1 hx h0
  have h2 := ln_y1_fr hw.1 ha.1 hy0
  obtain ⟨e1, e2, h16, h48⟩ := ln_yrd h1 eL
  have hi7 : vp_in (nI (48 * x + pre.length)) 768 := vp_in_nI (by omega) (by decide)
  have eI : (nI (48 * x + pre.length)).toNatClampNeg = 48 * x + pre.length := nI_clamp (by omega)
  have hcl : Ly.countP (fun s => s.1 == q.1) ≤ 48 := Nat.le_trans List.countP_le_length h2.2.2.1
  unfold wpY_each
  dsimp only
  rw [eI, e1, e2, h, ha.2]
  refine ⟨hi7, nm_e ⟨hi7, nm_e (br_f (by decide) (ln_ys36 (by decide) (ln_ys57 (by decide) (ln_ys80 (by decide) (ln_ys110 (by decide) ?_)))))⟩⟩
  unfold wY_each_133
  refine br_t rfl ?_
  unfold wpY_countKey
  refine nm_r (ln_48m _) ⟨Ly.length + 1, ?_⟩
  refine ln_ycount8 (c0 := Ly.countP (fun s => s.1 == q.1)) (by omega) h16 h2 (pk_eq _ 0 (fun hz => ?_) (fun hz => ?_)) Ly [] 0 rfl (Nat.zero_add _)
  · have wo : ln_wo [q] Ly = [q] := by
      unfold ln_wo
      refine List.filter_eq_self.mpr fun p hp => ?_
      rw [List.mem_singleton.mp hp, Bool.not_eq_true', List.any_eq_false]
      exact List.countP_eq_zero.mp hz
    rw [wo] at k
    refine ln_yput hd h16 hw fun sz bi ky vy hw' => ?_
    exact ln_ys159 (by decide) (k sz bi ky vy hw')
  · have wo : ln_wo [q] Ly = [] := by
      unfold ln_wo
      refine List.filter_eq_nil_iff.mpr fun p hp => ?_
      rw [List.mem_singleton.mp hp, Bool.not_eq_true', List.any_eq_false]
      exact fun z => hz (List.countP_eq_zero.mpr z)
    rw [wo, List.append_nil] at k
    exact ln_ys159 (by decide) (k _ _ _ _ hw)
end
end
section
section
variable {f_hand f_n : Int32} {a_handKey a_handValue a_kind a_px a_pa a_pb a_given a_givenKey a_givenValue a_size a_big a_key a_value : Nat → Int32}
variable {sz0 bi0 ky0 vy0 : Nat → Int32}
abbrev ln_Y3 : Type := Int32 → Int32 → Int32 → (Nat → Int32) → (Nat → Int32) → (Nat → Int32) → (Nat → Int32) → (Nat → Int32) → (Nat → Int32) → (Nat → Int32) → (Nat → Int32) → (Nat → Int32) → (Nat → Int32) → (Nat → Int32) → (Nat → Int32) → (Nat → Int32) → Prop
/-! group -/
def ln_fm (o : Option Int32) (f : Nat) (m : Int32) : Prop := (o = none ∧ f = 0 ∧ m = 0) ∨ (o = some m ∧ 0 < f)
theorem ln_ad1 (s v : Int32) : ln_ad (nI 1) s v = if s ≤ v then s else v := if_pos rfl
theorem ln_ad2 (s v : Int32) : ln_ad (nI 2) s v = if v ≤ s then s else v := (if_neg (by decide)).trans (if_pos rfl)
theorem ln_ygr22 {post : SY → Prop} {J3 : ln_Y3} {d x k h : Nat} {L Q : List ln_K} {O : Option Int32} (hd : d < 16) (hx : x < d) (hk : k < 16) (hh : h ≤ 3) (h0 : ln_y1 sz0 bi0 ky0 vy0 x L) (hw : ln_yw sz0 bi0 ky0 vy0 d Q a_size a_big a_key a_value)
    (K : ∀ sz bi ky vy, ln_yw sz0 bi0 ky0 vy0 d (Q ++ (O.map (fun s => (k, s))).toList) sz bi ky vy → J3 (nI (k + 1)) f_hand f_n a_handKey a_handValue a_kind a_px a_pa a_pb a_given a_givenKey a_givenValue sz bi ky vy) :
    ∀ (rest pre : List ln_K) (f : Nat) (m : Int32) (o : Option Int32), L = pre ++ rest → ln_fm o f m → f ≤ pre.length → rest.foldl (ln_rf (nI h) k) o = O → wY_group_22 post J3 (nI d) (nI x) (nI h) (nI k) f_hand f_n a_handKey a_handValue a_kind a_px a_pa a_pb a_given a_givenKey a_givenValue a_size a_big a_key a_value (rest.length + 1) (nI f) m (nI (48 * x + pre.length)) := by
  have h1 := ln_y1_fr hw.1 hx h0
  have hin : vp_in (nI x) 16 := vp_in_nI (by omega) (by decide)
  have eX : (nI x).toNatClampNeg = x := nI_clamp (by omega)
  have hs := h1.2.1
  have hl := h1.2.2.1
  intro rest
  induction rest with
  | nil =>
    intro pre f m o e hf hfp hO
    rw [e, List.append_nil] at hs hl
    have hO' : o = O := hO
    subst hO'
    unfold wY_group_22
    rw [eX, hs, ln_48]
    refine ⟨hin, br_t (nI_le (Nat.le_refl _) (by omega)) ?_⟩
    rcases hf with ⟨rfl, rfl, _⟩ | ⟨rfl, hf⟩
    · have kk := K _ _ _ _ (by show ln_yw _ _ _ _ _ (Q ++ []) _ _ _ _; rw [List.append_nil]; exact hw)
      exact br_t (nI_le (b := 0) (Nat.le_refl 0) (by decide)) (nm_r (nI_1 _) kk)
    · refine br_f (nI_ge (a := 0) hf (by omega)) ?_
      exact ln_yput hd hk hw fun sz bi ky vy hw' => nm_r (nI_1 _) (K sz bi ky vy hw')
  | cons q rest ih =>
    intro pre f m o e hf hfp hO
    obtain ⟨e1, e2, h16, h48⟩ := ln_yrd h1 e
    have hlen : L.length = pre.length + (rest.length + 1) := by rw [e, List.length_append]; rfl
    have hi7 : vp_in (nI (48 * x + pre.length)) 768 := vp_in_nI (by omega) (by decide)
    have eI : (nI (48 * x + pre.length)).toNatClampNeg = 48 * x + pre.length := nI_clamp (by omega)
    have ih' := ih (pre ++ [q])
    rw [ln_pl1, ← Nat.add_assoc] at ih'
    have hO' : rest.foldl (ln_rf (nI h) k) (ln_rf (nI h) k o q) = O := hO
    have e' := ln_pre e
    unfold wY_group_22
    rw [eX, hs, ln_48, eI, e1, e2]
    refine ⟨hin, br_f (nI_ge (by omega) (by omega)) ⟨hi7, pk_eq q.1 k (fun hq => ⟨hi7, nm_e ?_⟩) (fun hq => ?_)⟩⟩
    · have er : ln_rf (nI h) k o q = ln_oa (nI h) o (ln_vl (nI h) q.2) := if_pos hq
      rw [er] at hO'
      have go : ∀ m', ln_oa (nI h) o (ln_vl (nI h) q.2) = some m' → wY_group_22 post J3 (nI d) (nI x) (nI h) (nI k) f_hand f_n a_handKey a_handValue a_kind a_px a_pa a_pb a_given a_givenKey a_givenValue a_size a_big a_key a_value (rest.length + 1) (nI (f + 1)) m' (nI (48 * x + pre.length + 1)) := fun m' hm => ih' (f + 1) m' _ e' (Or.inr ⟨hm, Nat.succ_pos f⟩) (by omega) hO'
      refine pk_eq h 0 (fun hz => ?_) (fun hz => pk_eq h 3 (fun h3 => ?_) (fun h3 => ?_))
      · subst hz
        refine nm_e (nm_r (nI_1 _) (nm_r (nI_1 _) (go _ ?_)))
        rcases hf with ⟨rfl, _, rfl⟩ | ⟨rfl, _⟩
        · show some (ln_vl (nI 0) q.2) = some (0 + q.2)
          rw [Int32.zero_add]
          rfl
        · rfl
      · subst h3
        refine nm_e (nm_r (nI_1 _) (nm_r (nI_1 _) (go _ ?_)))
        rcases hf with ⟨rfl, _, rfl⟩ | ⟨rfl, _⟩
        · rfl
        · rfl
      · have ev : ln_vl (nI h) q.2 = q.2 := if_neg (by rw [show (3 : Int32) = nI 3 from rfl, nI_eq (by omega) (by decide)]; exact h3)
        rw [ev] at go
        refine pk_eq f 0 (fun hf0 => ?_) (fun hf0 => ?_)
        · refine nm_r (nI_1 _) (nm_r (nI_1 _) (go _ ?_))
          rcases hf with ⟨rfl, _, _⟩ | ⟨_, z⟩
          · rfl
          · omega
        · have eo : o = some m := by
            rcases hf with ⟨_, z, _⟩ | ⟨z, _⟩
            · exact absurd z hf0
            · exact z
          subst eo
          refine pk_eq h 1 (fun hh1 => ?_) (fun hh1 => ?_)
          · subst hh1
            refine br_c (fun hv => ?_) (fun hv => ?_)
            · refine nm_r (nI_1 _) (nm_r (nI_1 _) (go q.2 ?_))
              show some (ln_ad (nI 1) m q.2) = some q.2
              rw [ln_ad1, if_neg (fun z => ln_i32_nlt z hv)]
            · unfold wY_group_101
              refine br_f (by decide) (nm_r (nI_1 _) (nm_r (nI_1 _) (go m ?_)))
              show some (ln_ad (nI 1) m q.2) = some m
              have hv' : m ≤ q.2 := by
                rw [Int32.le_iff_toInt_le]
                rw [Int32.lt_iff_toInt_lt] at hv
                omega
              rw [ln_ad1, if_pos hv']
          · have hh2 : h = 2 := by omega
            subst hh2
            unfold wY_group_101
            refine br_t rfl (br_c (fun hv => ?_) (fun hv => ?_))
            · refine nm_r (nI_1 _) (nm_r (nI_1 _) (go m ?_))
              show some (ln_ad (nI 2) m q.2) = some m
              rw [ln_ad2, if_pos hv]
            · refine nm_r (nI_1 _) (nm_r (nI_1 _) (go q.2 ?_))
              show some (ln_ad (nI 2) m q.2) = some q.2
              rw [ln_ad2, if_neg hv]
    · have er : ln_rf (nI h) k o q = o := if_neg hq
      rw [er] at hO'
      exact nm_r (nI_1 _) (ih' f m o e' hf (by omega) hO')
theorem ln_ygr3 {post : SY → Prop} {d x h : Nat} {L : List ln_K} (hd : d < 16) (hx : x < d) (hh : h ≤ 3) (h0 : ln_y1 sz0 bi0 ky0 vy0 x L) :
    ∀ (r k : Nat) (Q : List ln_K) (sz bi ky vy : Nat → Int32), k + r = 16 → ln_yw sz0 bi0 ky0 vy0 d Q sz bi ky vy → (∀ sz bi ky vy, ln_yw sz0 bi0 ky0 vy0 d (Q ++ (List.range' k r).filterMap (fun k => (ln_rd (nI h) k L).map (fun s => (k, s)))) sz bi ky vy → post (f_hand, f_n, a_handKey, a_handValue, a_kind, a_px, a_pa, a_pb, a_given, a_givenKey, a_givenValue, sz, bi, ky, vy)) → wY_group_3 post (nI d) (nI x) (nI h) (r + 1) (nI k) f_hand f_n a_handKey a_handValue a_kind a_px a_pa a_pb a_given a_givenKey a_givenValue sz bi ky vy := by
  intro r
  induction r with
  | zero =>
    intro k Q sz bi ky vy hk hw K
    rw [List.range'_zero, List.filterMap_nil, List.append_nil] at K
    exact br_t (nI_le (a := 16) (by omega) (by omega)) (K _ _ _ _ hw)
  | succ r ih =>
    intro k Q sz bi ky vy hk hw K
    refine br_f (nI_ge (b := 16) (by omega) (by decide)) (nm_r (ln_48m x) ⟨L.length + 1, ?_⟩)
    refine ln_ygr22 (O := ln_rd (nI h) k L) hd hx (by omega) hh h0 hw (fun sz bi ky vy hw' => ?_) L [] 0 0 none rfl (Or.inl ⟨rfl, rfl, rfl⟩) (Nat.le_refl _) rfl
    refine ih (k + 1) _ sz bi ky vy (by omega) hw' ?_
    rw [List.range'_succ] at K
    cases e : ln_rd (nI h) k L with
    | none =>
      rw [List.filterMap_cons_none (by rw [e]; rfl)] at K
      show ∀ sz bi ky vy, ln_yw sz0 bi0 ky0 vy0 d (Q ++ [] ++ _) sz bi ky vy → _
      rw [List.append_nil]
      exact K
    | some s =>
      rw [List.filterMap_cons_some (b := (k, s)) (by rw [e]; rfl)] at K
      show ∀ sz bi ky vy, ln_yw sz0 bi0 ky0 vy0 d (Q ++ [(k, s)] ++ _) sz bi ky vy → _
      rw [List.append_assoc]
      exact K
theorem ln_ygroup {post : SY → Prop} {d x h : Nat} {L Q : List ln_K} (hd : d < 16) (hx : x < d) (hh : h ≤ 3) (h0 : ln_y1 sz0 bi0 ky0 vy0 x L) (hw : ln_yw sz0 bi0 ky0 vy0 d Q a_size a_big a_key a_value) (K : ∀ sz bi ky vy, ln_yw sz0 bi0 ky0 vy0 d (Q ++ ln_sm (nI h) L) sz bi ky vy → post (f_hand, f_n, a_handKey, a_handValue, a_kind, a_px, a_pa, a_pb, a_given, a_givenKey, a_givenValue, sz, bi, ky, vy)) : wpY_group post (f_hand, f_n, a_handKey, a_handValue, a_kind, a_px, a_pa, a_pb, a_given, a_givenKey, a_givenValue, a_size, a_big, a_key, a_value) (nI d) (nI x) (nI h) := by
  unfold wpY_group
  unfold ln_sm at K
  rw [List.range_eq_range'] at K
  exact ⟨17, ln_ygr3 hd hx hh h0 16 0 Q _ _ _ _ rfl hw K⟩
/-! match -/
theorem ln_yma28 {post : SY → Prop} {J6 : ln_Y3} {d x y : Nat} {L Ly pre rest : List ln_K} {q : ln_K} (hd : d < 16) (hx : x < d) (hy : y < d) (h0 : ln_y1 sz0 bi0 ky0 vy0 x L) (hy0 : ln_y1 sz0 bi0 ky0 vy0 y Ly) (e : L = pre ++ q :: rest) :
    ∀ (r2 pre2 Q : List ln_K) (sz bi ky vy : Nat → Int32), Ly = pre2 ++ r2 → ln_yw sz0 bi0 ky0 vy0 d Q sz bi ky vy → (∀ sz bi ky vy, ln_yw sz0 bi0 ky0 vy0 d (Q ++ ln_jn1 r2 q) sz bi ky vy → J6 (nI (48 * x + pre.length + 1)) f_hand f_n a_handKey a_handValue a_kind a_px a_pa a_pb a_given a_givenKey a_givenValue sz bi ky vy) → wY_match_28 post J6 (nI d) (nI x) (nI y) (nI (48 * x + pre.length)) (r2.length + 1) (nI (48 * y + pre2.length)) f_hand f_n a_handKey a_handValue a_kind a_px a_pa a_pb a_given a_givenKey a_givenValue sz bi ky vy := by
  have hin : vp_in (nI y) 16 := vp_in_nI (by omega) (by decide)
  have eY : (nI y).toNatClampNeg = y := nI_clamp (by omega)
  intro r2
  induction r2 with
  | nil =>
    intro pre2 Q sz bi ky vy e2 hw k
    have h2 := ln_y1_fr hw.1 hy hy0
    have hs := h2.2.1
    have hl := h2.2.2.1
    rw [e2, List.append_nil] at hs hl
    have kk := k _ _ _ _ (by show ln_yw _ _ _ _ _ (Q ++ []) _ _ _ _; rw [List.append_nil]; exact hw)
    unfold wY_match_28
    rw [eY, hs, ln_48]
    exact ⟨hin, br_t (nI_le (Nat.le_refl _) (by omega)) (nm_r (nI_1 _) kk)⟩
  | cons s r2 ih =>
    intro pre2 Q sz bi ky vy e2 hw k
    have h1 := ln_y1_fr hw.1 hx h0
    have h2 := ln_y1_fr hw.1 hy hy0
    obtain ⟨e1, e3, h16, h48⟩ := ln_yrd h1 e
    obtain ⟨f1, f3, g16, g48⟩ := ln_yrd h2 e2
    have hlen : Ly.length = pre2.length + (r2.length + 1) := by rw [e2, List.length_append]; rfl
    have hi7 : vp_in (nI (48 * x + pre.length)) 768 := vp_in_nI (by omega) (by decide)
    have hj7 : vp_in (nI (48 * y + pre2.length)) 768 := vp_in_nI (by omega) (by decide)
    have eI : (nI (48 * x + pre.length)).toNatClampNeg = 48 * x + pre.length := nI_clamp (by omega)
    have eJ : (nI (48 * y + pre2.length)).toNatClampNeg = 48 * y + pre2.length := nI_clamp (by omega)
    have ih' := ih (pre2 ++ [s])
    rw [ln_pl1, ← Nat.add_assoc] at ih'
    unfold wY_match_28
    rw [eY, h2.2.1, ln_48, eI, eJ, e1, e3, f1, f3]
    refine ⟨hin, br_f (nI_ge (by omega) (by omega)) ⟨hi7, hj7, pk_eq q.1 s.1 (fun he => ⟨hi7, hi7, hj7, ?_⟩) (fun he => ?_)⟩⟩
    · have z : ln_jn1 (s :: r2) q = (q.1, q.2 + s.2) :: ln_jn1 r2 q := by
        unfold ln_jn1
        rw [List.filter_cons_of_pos (by rw [he]; exact beq_self_eq_true _), List.map_cons]
      rw [z] at k
      refine ln_yput hd h16 hw fun sz bi ky vy hw' => nm_r (nI_1 _) (ih' _ sz bi ky vy (ln_pre e2) hw' ?_)
      rw [List.append_assoc]
      exact k
    · have z : ln_jn1 (s :: r2) q = ln_jn1 r2 q := by
        unfold ln_jn1
        rw [List.filter_cons_of_neg (by intro z; exact he (eq_of_beq z).symm)]
      rw [z] at k
      exact nm_r (nI_1 _) (ih' _ sz bi ky vy (ln_pre e2) hw k)
theorem ln_yma6 {post : SY → Prop} {d x y : Nat} {L Ly : List ln_K} (hd : d < 16) (hx : x < d) (hy : y < d) (h0 : ln_y1 sz0 bi0 ky0 vy0 x L) (hy0 : ln_y1 sz0 bi0 ky0 vy0 y Ly) :
    ∀ (rest pre Q : List ln_K) (sz bi ky vy : Nat → Int32), L = pre ++ rest → ln_yw sz0 bi0 ky0 vy0 d Q sz bi ky vy → (∀ sz bi ky vy, ln_yw sz0 bi0 ky0 vy0 d (Q ++ ln_jn rest Ly) sz bi ky vy → post (f_hand, f_n, a_handKey, a_handValue, a_kind, a_px, a_pa, a_pb, a_given, a_givenKey, a_givenValue, sz, bi, ky, vy)) → wY_match_6 post (nI d) (nI x) (nI y) (rest.length + 1) (nI (48 * x + pre.length)) f_hand f_n a_handKey a_handValue a_kind a_px a_pa a_pb a_given a_givenKey a_givenValue sz bi ky vy := by
  have hin : vp_in (nI x) 16 := vp_in_nI (by omega) (by decide)
  have eX : (nI x).toNatClampNeg = x := nI_clamp (by omega)
  intro rest
  induction rest with
  | nil =>
    intro pre Q sz bi ky vy e hw k
    have h1 := ln_y1_fr hw.1 hx h0
    have hs := h1.2.1
    have hl := h1.2.2.1
    rw [e, List.append_nil] at hs hl
    have kk := k _ _ _ _ (by show ln_yw _ _ _ _ _ (Q ++ []) _ _ _ _; rw [List.append_nil]; exact hw)
    unfold wY_match_6
    rw [eX, hs, ln_48]
    exact ⟨hin, br_t (nI_le (Nat.le_refl _) (by omega)) kk⟩
  | cons q rest ih =>
    intro pre Q sz bi ky vy e hw k
    have h1 := ln_y1_fr hw.1 hx h0
    obtain ⟨e1, e2, h16, h48⟩ := ln_yrd h1 e
    have hlen : L.length = pre.length + (rest.length + 1) := by rw [e, List.length_append]; rfl
    have ih' := ih (pre ++ [q])
    rw [ln_pl1, ← Nat.add_assoc] at ih'
    have z : ln_jn (q :: rest) Ly = ln_jn1 Ly q ++ ln_jn rest Ly := List.flatMap_cons
    rw [z] at k
    unfold wY_match_6
    rw [eX, h1.2.1, ln_48]
    refine ⟨hin, br_f (nI_ge (by omega) (by omega)) (nm_r (ln_48m y) ⟨Ly.length + 1, ?_⟩)⟩
    refine ln_yma28 hd hx hy h0 hy0 e Ly [] Q sz bi ky vy rfl hw fun sz bi ky vy hw' => ih' _ sz bi ky vy (ln_pre e) hw' ?_
    rw [List.append_assoc]
    exact k
theorem ln_ymatch {post : SY → Prop} {d x y : Nat} {L Ly Q : List ln_K} (hd : d < 16) (hx : x < d) (hy : y < d) (h0 : ln_y1 sz0 bi0 ky0 vy0 x L) (hy0 : ln_y1 sz0 bi0 ky0 vy0 y Ly) (hw : ln_yw sz0 bi0 ky0 vy0 d Q a_size a_big a_key a_value) (k : ∀ sz bi ky vy, ln_yw sz0 bi0 ky0 vy0 d (Q ++ ln_jn L Ly) sz bi ky vy → post (f_hand, f_n, a_handKey, a_handValue, a_kind, a_px, a_pa, a_pb, a_given, a_givenKey, a_givenValue, sz, bi, ky, vy)) : wpY_match post (f_hand, f_n, a_handKey, a_handValue, a_kind, a_px, a_pa, a_pb, a_given, a_givenKey, a_givenValue, a_size, a_big, a_key, a_value) (nI d) (nI x) (nI y) := by
  unfold wpY_match
  exact nm_r (ln_48m x) ⟨_, ln_yma6 hd hx hy h0 hy0 L [] Q _ _ _ _ rfl hw k⟩
/-! latest -/
def ln_z (q : ln_K) : ln_T := (0, q)
theorem ln_zm (L : List ln_K) : (L.map ln_z).map Prod.snd = L := by
  rw [List.map_map]
  exact List.map_id L
theorem ln_ybe8 {post : Int32 → Prop} {x : Nat} {L pre rest : List ln_K} {q : ln_K} (hx : x < 16) (h1 : ln_y1 a_size a_big a_key a_value x L) (e : L = pre ++ q :: rest) {c0 : Nat} (K : post (nI c0)) :
    ∀ (r2 pre2 : List ln_K) (c : Nat), L = pre2 ++ r2 → c + ln_cn q pre.length pre2.length (r2.map ln_z) = c0 → wY_behind_8 post (nI x) (nI (48 * x + pre.length)) f_hand f_n a_handKey a_handValue a_kind a_px a_pa a_pb a_given a_givenKey a_givenValue a_size a_big a_key a_value (r2.length + 1) (nI c) (nI (48 * x + pre2.length)) := by
  have hin : vp_in (nI x) 16 := vp_in_nI hx (by decide)
  have eX : (nI x).toNatClampNeg = x := nI_clamp (by omega)
  have hs := h1.2.1
  have hl := h1.2.2.1
  obtain ⟨e1, e2, h16, h48⟩ := ln_yrd h1 e
  have hi7 : vp_in (nI (48 * x + pre.length)) 768 := vp_in_nI (by omega) (by decide)
  have eI : (nI (48 * x + pre.length)).toNatClampNeg = 48 * x + pre.length := nI_clamp (by omega)
  intro r2
  induction r2 with
  | nil =>
    intro pre2 c eo hc
    rw [eo, List.append_nil] at hs hl
    have hc' : c = c0 := hc
    subst hc'
    unfold wY_behind_8
    rw [eX, hs, ln_48]
    exact ⟨hin, br_t (nI_le (Nat.le_refl _) (by omega)) K⟩
  | cons s r2 ih =>
    intro pre2 c eo hc
    obtain ⟨f1, f2, g16, g48⟩ := ln_yrd h1 eo
    have hlen : L.length = pre2.length + (r2.length + 1) := by rw [eo, List.length_append]; rfl
    have hj7 : vp_in (nI (48 * x + pre2.length)) 768 := vp_in_nI (by omega) (by decide)
    have eJ : (nI (48 * x + pre2.length)).toNatClampNeg = 48 * x + pre2.length := nI_clamp (by omega)
    have ih' := ih (pre2 ++ [s])
    rw [ln_pl1, ← Nat.add_assoc] at ih'
    have cn : ln_cn q pre.length pre2.length ((s :: r2).map ln_z) = (if ln_gt s q = true ∨ (s = q ∧ pre.length < pre2.length) then 1 else 0) + ln_cn q pre.length (pre2.length + 1) (r2.map ln_z) := rfl
    rw [cn] at hc
    have gt : ln_gt s q = true ↔ (q.2 < s.2 ∨ (s.2 = q.2 ∧ q.1 < s.1)) := decide_eq_true_iff
    have yes : ln_gt s q = true ∨ (s = q ∧ pre.length < pre2.length) → wY_behind_94 post (wY_behind_8 post (nI x) (nI (48 * x + pre.length)) f_hand f_n a_handKey a_handValue a_kind a_px a_pa a_pb a_given a_givenKey a_givenValue a_size a_big a_key a_value (r2.length + 1)) (nI x) (nI (48 * x + pre.length)) (nI c) (nI (48 * x + pre2.length)) f_hand f_n a_handKey a_handValue a_kind a_px a_pa a_pb a_given a_givenKey a_givenValue a_size a_big a_key a_value := fun h => by
      rw [if_pos h] at hc
      unfold wY_behind_94 wY_behind_99
      exact br_f ln_10 (nm_r (nI_1 _) (nm_r (nI_1 _) (ih' (c + 1) (ln_pre eo) (by omega))))
    have no : ¬ (ln_gt s q = true ∨ (s = q ∧ pre.length < pre2.length)) → wY_behind_98 post (wY_behind_8 post (nI x) (nI (48 * x + pre.length)) f_hand f_n a_handKey a_handValue a_kind a_px a_pa a_pb a_given a_givenKey a_givenValue a_size a_big a_key a_value (r2.length + 1)) (nI x) (nI (48 * x + pre.length)) (nI c) (nI (48 * x + pre2.length)) f_hand f_n a_handKey a_handValue a_kind a_px a_pa a_pb a_given a_givenKey a_givenValue a_size a_big a_key a_value := fun h => by
      rw [if_neg h] at hc
      unfold wY_behind_98 wY_behind_99
      exact br_t rfl (nm_r (nI_1 _) (ih' c (ln_pre eo) (by omega)))
    unfold wY_behind_8
    rw [eX, hs, ln_48, eI, eJ, e1, e2, f1, f2]
    refine ⟨hin, br_f (nI_ge (by omega) (by omega)) ⟨hj7, hi7, br_c (fun hv => yes (Or.inl (gt.mpr (Or.inl hv)))) (fun hv => ⟨hj7, hi7, br_c (fun hv2 => ⟨hj7, hi7, pk_lt q.1 s.1 (fun hk => yes (Or.inl (gt.mpr (Or.inr ⟨hv2, hk⟩)))) (fun hk => ⟨hj7, hi7, pk_eq s.1 q.1 (fun hk2 => pk_le (48 * x + pre2.length) (48 * x + pre.length) (fun hp => no ?_) (fun hp => yes (Or.inr ⟨Prod.ext hk2 hv2, by omega⟩))) (fun hk2 => no ?_)⟩)⟩) (fun hv2 => no ?_)⟩)⟩⟩
    · rintro (z | ⟨_, z⟩)
      · rcases gt.mp z with z | ⟨_, z⟩
        · exact hv z
        · omega
      · omega
    · rintro (z | ⟨z, _⟩)
      · rcases gt.mp z with z | ⟨_, z⟩
        · exact hv z
        · omega
      · exact hk2 (congrArg Prod.fst z)
    · rintro (z | ⟨z, _⟩)
      · rcases gt.mp z with z | ⟨z, _⟩
        · exact hv z
        · exact hv2 z
      · exact hv2 (congrArg Prod.snd z)
theorem ln_yla6 {post : SY → Prop} {d x c : Nat} {L : List ln_K} (hd : d < 16) (hx : x < d) (hc : c ≤ 8) (h0 : ln_y1 sz0 bi0 ky0 vy0 x L) :
    ∀ (rest pre Q : List ln_K) (sz bi ky vy : Nat → Int32), L = pre ++ rest → ln_yw sz0 bi0 ky0 vy0 d Q sz bi ky vy → (∀ sz bi ky vy, ln_yw sz0 bi0 ky0 vy0 d (Q ++ (ln_lq c (L.map ln_z) pre.length (rest.map ln_z)).map Prod.snd) sz bi ky vy → post (f_hand, f_n, a_handKey, a_handValue, a_kind, a_px, a_pa, a_pb, a_given, a_givenKey, a_givenValue, sz, bi, ky, vy)) → wY_latest_6 post (nI d) (nI x) (nI c) (rest.length + 1) (nI (48 * x + pre.length)) f_hand f_n a_handKey a_handValue a_kind a_px a_pa a_pb a_given a_givenKey a_givenValue sz bi ky vy := by
  have hin : vp_in (nI x) 16 := vp_in_nI (by omega) (by decide)
  have eX : (nI x).toNatClampNeg = x := nI_clamp (by omega)
  intro rest
  induction rest with
  | nil =>
    intro pre Q sz bi ky vy e hw k
    have h1 := ln_y1_fr hw.1 hx h0
    have hs := h1.2.1
    have hl := h1.2.2.1
    rw [e, List.append_nil] at hs hl
    have kk := k _ _ _ _ (by show ln_yw _ _ _ _ _ (Q ++ []) _ _ _ _; rw [List.append_nil]; exact hw)
    unfold wY_latest_6
    rw [eX, hs, ln_48]
    exact ⟨hin, br_t (nI_le (Nat.le_refl _) (by omega)) kk⟩
  | cons q rest ih =>
    intro pre Q sz bi ky vy e hw k
    have h1 := ln_y1_fr hw.1 hx h0
    obtain ⟨e1, e2, h16, h48⟩ := ln_yrd h1 e
    have hlen : L.length = pre.length + (rest.length + 1) := by rw [e, List.length_append]; rfl
    have hi7 : vp_in (nI (48 * x + pre.length)) 768 := vp_in_nI (by omega) (by decide)
    have eI : (nI (48 * x + pre.length)).toNatClampNeg = 48 * x + pre.length := nI_clamp (by omega)
    have ih' := ih (pre ++ [q])
    rw [ln_pl1, ← Nat.add_assoc] at ih'
    have hcn := ln_cn_le q pre.length (L.map ln_z) 0
    rw [List.length_map] at hcn
    have hl48 := h1.2.2.1
    have lq : ln_lq c (L.map ln_z) pre.length ((q :: rest).map ln_z) = if ln_cn q pre.length 0 (L.map ln_z) < c then (0, q) :: ln_lq c (L.map ln_z) (pre.length + 1) (rest.map ln_z) else ln_lq c (L.map ln_z) (pre.length + 1) (rest.map ln_z) := rfl
    rw [lq] at k
    unfold wY_latest_6
    rw [eX, h1.2.1, ln_48, eI, e1, e2]
    refine ⟨hin, br_f (nI_ge (by omega) (by omega)) ?_⟩
    unfold wpY_behind
    refine nm_r (ln_48m x) ⟨L.length + 1, ?_⟩
    refine ln_ybe8 (c0 := ln_cn q pre.length 0 (L.map ln_z)) (by omega) h1 e (pk_le c _ (fun hb => ?_) (fun hb => ⟨hi7, hi7, ?_⟩)) L [] 0 rfl (Nat.zero_add _)
    · rw [if_neg (Nat.not_lt.mpr hb)] at k
      exact nm_r (nI_1 _) (ih' _ sz bi ky vy (ln_pre e) hw k)
    · rw [if_pos hb] at k
      refine ln_yput hd h16 hw fun sz bi ky vy hw' => nm_r (nI_1 _) (ih' _ sz bi ky vy (ln_pre e) hw' ?_)
      rw [List.append_assoc]
      exact k
theorem ln_ylatest {post : SY → Prop} {d x c : Nat} {L Q : List ln_K} (hd : d < 16) (hx : x < d) (hc : c ≤ 8) (h0 : ln_y1 sz0 bi0 ky0 vy0 x L) (hw : ln_yw sz0 bi0 ky0 vy0 d Q a_size a_big a_key a_value) (k : ∀ sz bi ky vy, ln_yw sz0 bi0 ky0 vy0 d (Q ++ ln_la c L) sz bi ky vy → post (f_hand, f_n, a_handKey, a_handValue, a_kind, a_px, a_pa, a_pb, a_given, a_givenKey, a_givenValue, sz, bi, ky, vy)) : wpY_latest post (f_hand, f_n, a_handKey, a_handValue, a_kind, a_px, a_pa, a_pb, a_given, a_givenKey, a_givenValue, a_size, a_big, a_key, a_value) (nI d) (nI x) (nI c) := by
  unfold wpY_latest
  have e := ln_lq_e (c := c) (G := L.map ln_z) (L.map ln_z) [] rfl
  rw [ln_zm] at e
  have e2 : (ln_lq c (L.map ln_z) 0 (L.map ln_z)).map Prod.snd = ln_la c L := by
    have e' : ln_lq c (L.map ln_z) 0 (L.map ln_z) = (ln_sl c L L).map ln_z := e
    rw [e', ln_zm]
    rfl
  rw [← e2] at k
  exact nm_r (ln_48m x) ⟨_, ln_yla6 hd hx hc h0 L [] Q _ _ _ _ rfl hw k⟩
end
end
section
section
variable {f_hand f_n : Int32} {a_handKey a_handValue a_kind a_px a_pa a_pb a_given a_givenKey a_givenValue a_size a_big a_key a_value : Nat → Int32}
/-! the reference's sets below d, worked out -/
def ln_ya (C : Nat → Option (List ln_T)) (d : Nat) (sz bi ky vy : Nat → Int32) : Prop :=
  ∀ j, j < d → (C j = none → bi j = 1) ∧ ∀ R, C j = some R → ∃ L, L.Perm (R.map Prod.snd) ∧ ln_y1 sz bi ky vy j L
theorem ln_fr_r (d : Nat) (sz bi ky vy : Nat → Int32) : ln_fr d sz bi ky vy sz bi ky vy := ⟨fun _ _ => ⟨rfl, rfl⟩, fun _ _ => ⟨rfl, rfl⟩⟩
theorem ln_ya_fr {C : Nat → Option (List ln_T)} {d : Nat} {sz bi ky vy sz' bi' ky' vy' : Nat → Int32} (h : ln_ya C d sz bi ky vy) (f : ln_fr d sz bi ky vy sz' bi' ky' vy') : ln_ya C d sz' bi' ky' vy' := by
  intro j hj
  refine ⟨fun hc => by rw [(f.1 j hj).2]; exact (h j hj).1 hc, fun R hR => ?_⟩
  obtain ⟨L, p, q⟩ := (h j hj).2 R hR
  exact ⟨L, p, ln_y1_fr f hj q⟩
theorem ln_ya_s {C : Nat → Option (List ln_T)} {d : Nat} {sz bi ky vy : Nat → Int32} (h : ln_ya C d sz bi ky vy) (hd : (C d = none → bi d = 1) ∧ ∀ R, C d = some R → ∃ L, L.Perm (R.map Prod.snd) ∧ ln_y1 sz bi ky vy d L) : ln_ya C (d + 1) sz bi ky vy := by
  intro j hj
  by_cases e : j = d
  · subst e; exact hd
  · exact h j (by omega)
theorem ln_ya_fin {C : Nat → Option (List ln_T)} {d : Nat} {sz0 bi0 ky0 vy0 sz bi ky vy : Nat → Int32} {Q : List ln_K} {R : List ln_T} (h : ln_ya C d sz0 bi0 ky0 vy0) (hw : ln_yw sz0 bi0 ky0 vy0 d Q sz bi ky vy) (hQ : Q.Perm (R.map Prod.snd)) (hc : C d = if R.length ≤ 48 then some R else none) : ln_ya C (d + 1) sz bi ky vy := by
  obtain ⟨f, _, g⟩ := hw
  have hl := hQ.length_eq
  rw [List.length_map] at hl
  refine ln_ya_s (ln_ya_fr h f) ⟨fun z => ?_, fun R' hR => ?_⟩
  · rcases g with ⟨g, _⟩ | ⟨_, g⟩
    · rw [if_pos (by omega)] at hc
      rw [z] at hc
      exact ln_nc hc
    · exact g
  · rcases g with ⟨g, L, p, y⟩ | ⟨g, _⟩
    · rw [if_pos (by omega)] at hc
      rw [hR] at hc
      cases hc
      exact ⟨L, p.trans hQ, y⟩
    · rw [if_neg (by omega)] at hc
      rw [hR] at hc
      exact ln_cn0 hc
/-! the loop over each -/
def ln_gl (G : List ln_K → ln_K → List ln_K) : List ln_K → List ln_K → List ln_K
  | _, [] => []
  | pre, q :: r => G pre q ++ ln_gl G (pre ++ [q]) r
theorem ln_yw234 {sz0 bi0 ky0 vy0 : Nat → Int32} {post : SY → Prop} {d x : Nat} {L : List ln_K} {e : ln_E} {G : List ln_K → ln_K → List ln_K} (hd : d < 16) (hx : x < d) (h0 : ln_y1 sz0 bi0 ky0 vy0 x L) (eB : a_pb d = ln_bb e)
    (hE : ∀ (pre r Q : List ln_K) (q : ln_K) (sz bi ky vy : Nat → Int32) (post' : SY → Prop), L = pre ++ q :: r → ln_yw sz0 bi0 ky0 vy0 d Q sz bi ky vy → (∀ sz bi ky vy, ln_yw sz0 bi0 ky0 vy0 d (Q ++ G pre q) sz bi ky vy → post' (f_hand, f_n, a_handKey, a_handValue, a_kind, a_px, a_pa, a_pb, a_given, a_givenKey, a_givenValue, sz, bi, ky, vy)) → wpY_each post' (f_hand, f_n, a_handKey, a_handValue, a_kind, a_px, a_pa, a_pb, a_given, a_givenKey, a_givenValue, sz, bi, ky, vy) (nI d) (nI (ln_ka e)) (nI (48 * x + pre.length)) (ln_aa e) (ln_bb e)) :
    ∀ (rest pre Q : List ln_K) (sz bi ky vy : Nat → Int32), L = pre ++ rest → ln_yw sz0 bi0 ky0 vy0 d Q sz bi ky vy → (∀ sz bi ky vy, ln_yw sz0 bi0 ky0 vy0 d (Q ++ ln_gl G pre rest) sz bi ky vy → post (f_hand, f_n, a_handKey, a_handValue, a_kind, a_px, a_pa, a_pb, a_given, a_givenKey, a_givenValue, sz, bi, ky, vy)) → wY_workOut_234 post (nI d) (nI (ln_ka e)) (nI x) (ln_aa e) (rest.length + 1) (nI (48 * x + pre.length)) f_hand f_n a_handKey a_handValue a_kind a_px a_pa a_pb a_given a_givenKey a_givenValue sz bi ky vy := by
  have hin : vp_in (nI x) 16 := vp_in_nI (by omega) (by decide)
  have hdn : vp_in (nI d) 16 := vp_in_nI hd (by decide)
  have eX : (nI x).toNatClampNeg = x := nI_clamp (by omega)
  have eD : (nI d).toNatClampNeg = d := nI_clamp (by omega)
  intro rest
  induction rest with
  | nil =>
    intro pre Q sz bi ky vy e hw k
    have h1 := ln_y1_fr hw.1 hx h0
    have hs := h1.2.1
    have hl := h1.2.2.1
    rw [e, List.append_nil] at hs hl
    have kk := k _ _ _ _ (by show ln_yw _ _ _ _ _ (Q ++ []) _ _ _ _; rw [List.append_nil]; exact hw)
    unfold wY_workOut_234
    rw [eX, hs, ln_48]
    exact ⟨hin, br_t (nI_le (Nat.le_refl _) (by omega)) kk⟩
  | cons q rest ih =>
    intro pre Q sz bi ky vy e hw k
    have h1 := ln_y1_fr hw.1 hx h0
    obtain ⟨e1, e2, h16, h48⟩ := ln_yrd h1 e
    have hlen : L.length = pre.length + (rest.length + 1) := by rw [e, List.length_append]; rfl
    have ih' := ih (pre ++ [q])
    rw [ln_pl1, ← Nat.add_assoc] at ih'
    unfold wY_workOut_234
    rw [eX, h1.2.1, ln_48, eD, eB]
    refine ⟨hin, br_f (nI_ge (by omega) (by omega)) ⟨hdn, ?_⟩⟩
    refine hE pre rest Q q sz bi ky vy _ e hw fun sz bi ky vy hw' => nm_r (nI_1 _) (ih' _ sz bi ky vy (ln_pre e) hw' ?_)
    rw [List.append_assoc]
    exact k
theorem ln_yw112 {sz0 bi0 ky0 vy0 : Nat → Int32} {post : SY → Prop} {n d : Nat} {P : Nat → ln_E} (hn16 : n ≤ 16) (pl : ln_pl n P a_kind a_px a_pa a_pb a_given a_givenKey a_givenValue) (w : ln_wf n P) (hd : d < n) (hk : ln_ka (P d) = 0) :
    ∀ (rest pre Q : List ln_K) (sz bi ky vy : Nat → Int32), ln_sr (P d) = pre ++ rest → ln_yw sz0 bi0 ky0 vy0 d Q sz bi ky vy → (∀ sz bi ky vy, ln_yw sz0 bi0 ky0 vy0 d (Q ++ rest) sz bi ky vy → post (f_hand, f_n, a_handKey, a_handValue, a_kind, a_px, a_pa, a_pb, a_given, a_givenKey, a_givenValue, sz, bi, ky, vy)) → wY_workOut_112 post (nI d) (rest.length + 1) (nI (24 * d + pre.length)) f_hand f_n a_handKey a_handValue a_kind a_px a_pa a_pb a_given a_givenKey a_givenValue sz bi ky vy := by
  have hdn : vp_in (nI d) 16 := vp_in_nI (by omega) (by decide)
  have pd := (pl d hd).2.2.2.2 hk
  have wd := (w d hd).2.2.2.2.2
  have eC : a_given (nI d).toNatClampNeg = nI (ln_sr (P d)).length := by rw [nI_clamp (by omega)]; exact pd.1
  intro rest
  induction rest with
  | nil =>
    intro pre Q sz bi ky vy e hw k
    have hl := wd.1
    rw [e, List.append_nil] at hl
    rw [List.append_nil] at k
    unfold wY_workOut_112
    rw [eC, e, List.append_nil, ln_24]
    exact ⟨hdn, br_t (nI_le (Nat.le_refl _) (by omega)) (k _ _ _ _ hw)⟩
  | cons q rest ih =>
    intro pre Q sz bi ky vy e hw k
    have hll := wd.1
    have hq := pd.2 pre.length q (by rw [e]; exact ln_at pre q rest)
    have hq16 := wd.2 q (by rw [e]; simp)
    have hlen : (ln_sr (P d)).length = pre.length + (rest.length + 1) := by rw [e, List.length_append]; rfl
    have ih' := ih (pre ++ [q])
    rw [ln_pl1, ← Nat.add_assoc] at ih'
    have hi3 : vp_in (nI (24 * d + pre.length)) 384 := vp_in_nI (by omega) (by decide)
    have eI : (nI (24 * d + pre.length)).toNatClampNeg = 24 * d + pre.length := nI_clamp (by omega)
    unfold wY_workOut_112
    rw [eC, ln_24, eI, hq.1, hq.2]
    refine ⟨hdn, br_f (nI_ge (by omega) (by omega)) ⟨hi3, hi3, ?_⟩⟩
    refine ln_yput (by omega) hq16 hw fun sz bi ky vy hw' => nm_r (nI_1 _) (ih' (Q ++ [q]) sz bi ky vy (ln_pre e) hw' ?_)
    rw [List.append_assoc]
    exact k
/-! what the loops put -/
theorem ln_gl_s {f : ln_K → Option ln_K} : ∀ (L pre : List ln_K), ln_gl (fun _ q => (f q).toList) pre L = L.filterMap f
  | [], _ => rfl
  | q :: L, pre => by
    show (f q).toList ++ ln_gl _ (pre ++ [q]) L = _
    rw [ln_gl_s L]
    cases e : f q with
    | none => rw [List.filterMap_cons_none e]; rfl
    | some r => rw [List.filterMap_cons_some e]; rfl
theorem ln_gl_m {f : ln_K → List ln_K} : ∀ (L pre : List ln_K), ln_gl (fun _ q => f q) pre L = L.flatMap f
  | [], _ => rfl
  | q :: L, pre => by
    show f q ++ ln_gl _ (pre ++ [q]) L = _
    rw [ln_gl_m L, List.flatMap_cons]
theorem ln_gl_8 : ∀ (L pre : List ln_K), ln_gl (fun pre q => if pre.getLast? = some q then [] else [q]) pre L = ln_fs pre.getLast? L
  | [], _ => rfl
  | q :: L, pre => by
    show (if pre.getLast? = some q then [] else [q]) ++ ln_gl _ (pre ++ [q]) L = if pre.getLast? = some q then ln_fs (some q) L else q :: ln_fs (some q) L
    have e : (pre ++ [q]).getLast? = some q := by rw [List.getLast?_append]; rfl
    rw [ln_gl_8 L, e]
    split <;> rfl
theorem ln_wo_c (q : ln_K) (L B : List ln_K) : ln_wo (q :: L) B = ln_wo [q] B ++ ln_wo L B := by
  unfold ln_wo
  exact List.filter_append [q] L
theorem ln_gl_9 {B : List ln_K} : ∀ (L pre : List ln_K), ln_gl (fun _ q => ln_wo [q] B) pre L = ln_wo L B
  | [], _ => rfl
  | q :: L, pre => by
    show ln_wo [q] B ++ ln_gl _ (pre ++ [q]) L = _
    rw [ln_gl_9 L, ln_wo_c q L]
theorem ln_fs_u : ∀ (L : List ln_K) (p : ln_K), (p :: L).Pairwise ln_le → (ln_fs (some p) L).Nodup ∧ ∀ z, z ∈ ln_fs (some p) L ↔ z ∈ L ∧ z ≠ p
  | [], _, _ => ⟨List.nodup_nil, fun z => ⟨fun h => absurd h List.not_mem_nil, fun h => absurd h.1 List.not_mem_nil⟩⟩
  | q :: r, p, h => by
    have hp := List.pairwise_cons.mp h
    obtain ⟨i1, i2⟩ := ln_fs_u r q hp.2
    have hq := (List.pairwise_cons.mp hp.2).1
    show (if some p = some q then ln_fs (some q) r else q :: ln_fs (some q) r).Nodup ∧ ∀ z, z ∈ (if some p = some q then ln_fs (some q) r else q :: ln_fs (some q) r) ↔ z ∈ q :: r ∧ z ≠ p
    by_cases e : p = q
    · subst e
      rw [if_pos rfl]
      refine ⟨i1, fun z => (i2 z).trans ⟨fun y => ⟨List.mem_cons_of_mem _ y.1, y.2⟩, fun y => ⟨?_, y.2⟩⟩⟩
      exact (List.mem_cons.mp y.1).resolve_left y.2
    · rw [if_neg (fun z => e (Option.some.inj z))]
      refine ⟨List.nodup_cons.mpr ⟨fun z => ((i2 q).mp z).2 rfl, i1⟩, fun z => ?_⟩
      rw [List.mem_cons, List.mem_cons, i2 z]
      constructor
      · rintro (rfl | ⟨h1, h2⟩)
        · exact ⟨Or.inl rfl, fun y => e y.symm⟩
        · refine ⟨Or.inr h1, fun y => ?_⟩
          subst y
          exact e (ln_le_as (hp.1 q List.mem_cons_self) (hq z h1))
      · rintro ⟨h1, h2⟩
        by_cases y : z = q
        · exact Or.inl y
        · exact Or.inr ⟨h1.resolve_left y, y⟩
theorem ln_fs_p (L : List ln_K) (h : L.Pairwise ln_le) : (ln_fs none L).Perm (ln_dk L) := by
  cases L with
  | nil => exact List.Perm.refl _
  | cons q r =>
    obtain ⟨i1, i2⟩ := ln_fs_u r q h
    have e : ln_fs none (q :: r) = q :: ln_fs (some q) r := if_neg (fun z => ln_nc z)
    rw [e]
    refine ln_dk_u (List.nodup_cons.mpr ⟨fun z => ((i2 q).mp z).2 rfl, i1⟩) fun z => ?_
    rw [List.mem_cons, List.mem_cons, i2 z]
    constructor
    · rintro (y | y)
      · exact Or.inl y
      · exact Or.inr y.1
    · rintro y
      by_cases x : z = q
      · exact Or.inl x
      · exact Or.inr ⟨y.resolve_left x, x⟩
theorem ln_rs_w {e : ln_E} {X A : List ln_T} (hk : ln_wid (ln_ka e)) : (ln_raw e X A).map Prod.snd = ln_wd e (X.map Prod.snd) (A.map Prod.snd) := by
  rw [ln_raw_w hk, List.map_map]
  exact List.map_id _
theorem ln_rs_s {e : ln_E} {X A : List ln_T} (hk : ln_stp (ln_ka e)) : (ln_raw e X A).map Prod.snd = (X.map Prod.snd).filterMap (ln_ps1 e) := by
  have er : ln_raw e X A = X.filterMap (ln_pass e) := by
    unfold ln_raw
    rw [if_neg (by omega), if_neg (by omega), if_neg (by omega), if_neg (by omega)]
  rw [er, List.map_filterMap, List.filterMap_map]
  congr 1
  funext t
  show (ln_pass e t).map Prod.snd = ln_ps1 e t.2
  unfold ln_pass
  cases ln_ps1 e t.2 <;> rfl
theorem ln_rs_4 {e : ln_E} {X A : List ln_T} (hk : ln_ka e = 4) : (ln_raw e X A).map Prod.snd = (X.map Prod.snd).flatMap (fun q => List.replicate (ln_an e) q) := by
  have er : ln_raw e X A = X.flatMap (fun t => List.replicate (ln_an e) t) := by
    unfold ln_raw
    rw [if_neg (by omega), if_pos hk]
  rw [er, List.map_flatMap, List.flatMap_map]
  congr 1
  funext t
  exact List.map_replicate
theorem ln_rs_5 {e : ln_E} {X A : List ln_T} (hk : ln_ka e = 5) : (ln_raw e X A).map Prod.snd = X.map Prod.snd ++ A.map Prod.snd := by
  have er : ln_raw e X A = X ++ A := by
    unfold ln_raw
    rw [if_neg (by omega), if_neg (by omega), if_pos hk]
  rw [er, List.map_append]
theorem ln_rs_0 {e : ln_E} {X A : List ln_T} (hk : ln_ka e = 0) : (ln_raw e X A).map Prod.snd = ln_sr e := by
  have er : ln_raw e X A = ln_rw 0 (ln_sr e) := if_pos hk
  rw [er, ln_rw_map]
end
end
section
section
variable {f_hand f_n : Int32} {a_handKey a_handValue a_kind a_px a_pa a_pb a_given a_givenKey a_givenValue a_size a_big a_key a_value : Nat → Int32}
theorem ln_y91 {post : SY → Prop} {n d : Nat} {P : Nat → ln_E} {C : Nat → Option (List ln_T)} {X A : List ln_T} {x3 : Int32} (hn16 : n ≤ 16) (pl : ln_pl n P a_kind a_px a_pa a_pb a_given a_givenKey a_givenValue) (w : ln_wf n P) (ct : ln_ct n P C) (hd : d < n) (ha : ln_ya C d a_size a_big a_key a_value) (hs : a_size d = 0) (h3 : ln_ka (P d) ≠ 0 → x3 = nI (ln_fx (P d))) (h1 : ln_s1 (P d) C = some X) (h2 : ln_s2 (P d) C = some A)
    (k : ∀ sz bi ky vy, ln_ya C (d + 1) sz bi ky vy → post (f_hand, f_n, a_handKey, a_handValue, a_kind, a_px, a_pa, a_pb, a_given, a_givenKey, a_givenValue, sz, bi, ky, vy)) : wY_workOut_91 post (nI d) (nI (ln_ka (P d))) x3 (ln_aa (P d)) 0 (nI d) f_hand f_n a_handKey a_handValue a_kind a_px a_pa a_pb a_given a_givenKey a_givenValue a_size a_big a_key a_value := by
  have hdn : vp_in (nI d) 16 := vp_in_nI (by omega) (by decide)
  have eD : (nI d).toNatClampNeg = d := nI_clamp (by omega)
  have hd16 : d < 16 := by omega
  have wd := w d hd
  have hka := wd.1
  have hc := (ct d hd).trans (ln_st_if h1 h2)
  have hfr : ln_fr d a_size a_big a_key a_value a_size (upd a_big d 0) a_key a_value := ⟨fun j hj => ⟨rfl, pk_un (by omega)⟩, fun _ _ => ⟨rfl, rfl⟩⟩
  have hb := ln_ya_fr ha hfr
  have hw : ln_yw a_size (upd a_big d 0) a_key a_value d [] a_size (upd a_big d 0) a_key a_value :=
    ⟨ln_fr_r _ _ _ _ _, fun q hq => absurd hq List.not_mem_nil, Or.inl ⟨by decide, [], List.Perm.refl _, pk_us, hs, by decide, fun q hq => absurd hq List.not_mem_nil, List.Pairwise.nil, fun i q hq => absurd (ln_mem_of hq) List.not_mem_nil⟩⟩
  have fin : ∀ (Q : List ln_K), Q.Perm ((ln_raw (P d) X A).map Prod.snd) → ∀ sz bi ky vy, ln_yw a_size (upd a_big d 0) a_key a_value d Q sz bi ky vy → post (f_hand, f_n, a_handKey, a_handValue, a_kind, a_px, a_pa, a_pb, a_given, a_givenKey, a_givenValue, sz, bi, ky, vy) := fun Q hQ sz bi ky vy hw' => k sz bi ky vy (ln_ya_fin hb hw' hQ hc)
  unfold wY_workOut_91
  rw [eD, ln_vb0]
  refine ⟨hdn, nm_e ⟨hdn, br_t pk_us (pk_eq (ln_ka (P d)) 0 (fun h0 => ?_) (fun h0 => ?_))⟩⟩
  · refine nm_r (ln_24m d) ⟨(ln_sr (P d)).length + 1, ?_⟩
    exact ln_yw112 hn16 pl w hd h0 (ln_sr (P d)) [] [] _ _ _ _ rfl hw (fin _ (by rw [ln_rs_0 h0]; exact List.Perm.refl _))
  · have hx := wd.2.1 h0
    have eX : C (ln_fx (P d)) = some X := by
      unfold ln_s1 at h1
      rw [if_neg h0] at h1
      exact h1
    obtain ⟨Lx, pX, yX⟩ := (hb _ hx).2 X eX
    rw [h3 h0]
    have two : ln_two (ln_ka (P d)) → ln_an (P d) < d ∧ ln_aa (P d) = nI (ln_an (P d)) ∧ ∃ Ly, Ly.Perm (A.map Prod.snd) ∧ ln_y1 a_size (upd a_big d 0) a_key a_value (ln_an (P d)) Ly := fun h => by
      have hy := wd.2.2.1 h
      have eA : C (ln_an (P d)) = some A := by
        unfold ln_s2 at h2
        rw [if_pos h] at h2
        exact h2
      exact ⟨hy.1, hy.2, (hb _ hy.1).2 A eA⟩
    refine pk_eq (ln_ka (P d)) 5 (fun h5 => ?_) (fun h5 => pk_eq (ln_ka (P d)) 6 (fun h6 => ?_) (fun h6 => pk_eq (ln_ka (P d)) 7 (fun h7 => ?_) (fun h7 => pk_eq (ln_ka (P d)) 10 (fun h10 => ?_) (fun h10 => nm_r (ln_48m _) ⟨Lx.length + 1, ?_⟩))))
    · obtain ⟨hy, ea, Ly, pY, yY⟩ := two (Or.inl h5)
      refine ln_yputAll hd16 hx yX hw fun sz bi ky vy hw' => ?_
      dsimp only
      rw [ea]
      refine ln_yputAll hd16 hy yY hw' fun sz bi ky vy hw'' => ?_
      exact fin _ (by rw [ln_rs_5 h5]; exact pX.append pY) sz bi ky vy hw''
    · have h := wd.2.2.2.1 (Or.inr h6)
      have kk := fin (ln_sm (nI (ln_an (P d))) Lx) (by
        rw [ln_rs_w (by omega)]
        have e : ln_wd (P d) (X.map Prod.snd) (A.map Prod.snd) = ln_sm (ln_aa (P d)) (X.map Prod.snd) := if_pos h6
        rw [e, h.2, ln_sm_p pX])
      rw [h.2]
      exact ln_ygroup hd16 hx h.1 yX hw kk
    · obtain ⟨hy, ea, Ly, pY, yY⟩ := two (Or.inr (Or.inl h7))
      have kk := fin (ln_jn Lx Ly) (by
        rw [ln_rs_w (by omega)]
        have e : ln_wd (P d) (X.map Prod.snd) (A.map Prod.snd) = ln_jn (X.map Prod.snd) (A.map Prod.snd) := (if_neg h6).trans (if_pos h7)
        rw [e]
        exact ln_jn_p pX pY)
      rw [ea]
      exact ln_ymatch hd16 hx hy yX yY hw kk
    · have h := wd.2.2.2.2.1 h10
      have kk := fin (ln_la (ln_an (P d)) Lx) (by
        rw [ln_rs_w (by omega)]
        have e : ln_wd (P d) (X.map Prod.snd) (A.map Prod.snd) = ln_la (ln_an (P d)) (X.map Prod.snd) := (if_neg h6).trans ((if_neg h7).trans ((if_neg (by omega)).trans (if_neg (by omega))))
        rw [e]
        exact ln_la_p pX)
      rw [h.2]
      exact ln_ylatest hd16 hx h.1 yX hw kk
    · have eB : a_pb d = ln_bb (P d) := (pl d hd).2.2.2.1
      by_cases hst : ln_stp (ln_ka (P d))
      · refine ln_yw234 (G := fun _ q => (ln_ps1 (P d) q).toList) hd16 hx yX eB (fun pre r Q q sz bi ky vy post' e hw' kk => ln_yeach_s hd16 hx hst yX e hw' kk) Lx [] [] _ _ _ _ rfl hw (fin _ ?_)
        rw [ln_gl_s, ln_rs_s hst]
        exact pX.filterMap _
      · by_cases h4 : ln_ka (P d) = 4
        · refine ln_yw234 (G := fun _ q => List.replicate (ln_an (P d)) q) hd16 hx yX eB (fun pre r Q q sz bi ky vy post' e hw' kk => ln_yeach_4 hd16 hx h4 (wd.2.2.2.1 (Or.inl h4)) yX e hw' kk) Lx [] [] _ _ _ _ rfl hw (fin _ ?_)
          rw [ln_gl_m, ln_rs_4 h4]
          exact pX.flatMap_right _
        · by_cases h8 : ln_ka (P d) = 8
          · refine ln_yw234 (G := fun pre q => if pre.getLast? = some q then [] else [q]) hd16 hx yX eB (fun pre r Q q sz bi ky vy post' e hw' kk => ln_yeach_8 hd16 hx h8 yX e hw' kk) Lx [] [] _ _ _ _ rfl hw (fin _ ?_)
            rw [ln_gl_8, ln_rs_w (by omega)]
            have e : ln_wd (P d) (X.map Prod.snd) (A.map Prod.snd) = ln_dk (X.map Prod.snd) := (if_neg h6).trans ((if_neg h7).trans (if_pos h8))
            rw [e]
            exact (ln_fs_p Lx yX.2.2.2.2.1).trans (ln_dk_p pX)
          · have h9 : ln_ka (P d) = 9 := by omega
            obtain ⟨hy, ea, Ly, pY, yY⟩ := two (Or.inr (Or.inr h9))
            refine ln_yw234 (G := fun _ q => ln_wo [q] Ly) hd16 hx yX eB (fun pre r Q q sz bi ky vy post' e hw' kk => ln_yeach_9 hd16 hx h9 ⟨hy, ea⟩ yX yY e hw' kk) Lx [] [] _ _ _ _ rfl hw (fin _ ?_)
            rw [ln_gl_9, ln_rs_w (by omega)]
            have e : ln_wd (P d) (X.map Prod.snd) (A.map Prod.snd) = ln_wo (X.map Prod.snd) (A.map Prod.snd) := (if_neg h6).trans ((if_neg h7).trans ((if_neg h8).trans (if_pos h9)))
            rw [e]
            exact ln_wo_p pX pY
theorem ln_y86 {post : SY → Prop} {d : Nat} {C : Nat → Option (List ln_T)} {x2 x3 x4 : Int32} (hd : d < 16) (ha : ln_ya C d a_size a_big a_key a_value) (hc : C d = none) (k : ∀ sz bi ky vy, ln_ya C (d + 1) sz bi ky vy → post (f_hand, f_n, a_handKey, a_handValue, a_kind, a_px, a_pa, a_pb, a_given, a_givenKey, a_givenValue, sz, bi, ky, vy)) : wY_workOut_86 post (nI d) x2 x3 x4 (nI d) f_hand f_n a_handKey a_handValue a_kind a_px a_pa a_pb a_given a_givenKey a_givenValue a_size a_big a_key a_value := by
  have hdn : vp_in (nI d) 16 := vp_in_nI hd (by decide)
  have eD : (nI d).toNatClampNeg = d := nI_clamp (by omega)
  have hfr : ln_fr d a_size a_big a_key a_value a_size (upd a_big d 1) a_key a_value := ⟨fun j hj => ⟨rfl, pk_un (by omega)⟩, fun _ _ => ⟨rfl, rfl⟩⟩
  unfold wY_workOut_86 wY_workOut_91
  rw [eD, ln_vb1]
  refine ⟨hdn, nm_e ⟨hdn, br_f (by rw [pk_us]; exact ln_10) (k _ _ _ _ (ln_ya_s (ln_ya_fr ha hfr) ⟨fun _ => pk_us, fun R hR => ?_⟩))⟩⟩
  rw [hc] at hR
  exact ln_nc hR
theorem ln_ywork {post : SY → Prop} {n d : Nat} {P : Nat → ln_E} {C : Nat → Option (List ln_T)} (hn16 : n ≤ 16) (pl : ln_pl n P a_kind a_px a_pa a_pb a_given a_givenKey a_givenValue) (w : ln_wf n P) (ct : ln_ct n P C) (hd : d < n) (ha : ln_ya C d a_size a_big a_key a_value) (k : ∀ sz bi ky vy, ln_ya C (d + 1) sz bi ky vy → post (f_hand, f_n, a_handKey, a_handValue, a_kind, a_px, a_pa, a_pb, a_given, a_givenKey, a_givenValue, sz, bi, ky, vy)) : wpY_workOut post (f_hand, f_n, a_handKey, a_handValue, a_kind, a_px, a_pa, a_pb, a_given, a_givenKey, a_givenValue, a_size, a_big, a_key, a_value) (nI d) := by
  have hdn : vp_in (nI d) 16 := vp_in_nI (by omega) (by decide)
  have eD : (nI d).toNatClampNeg = d := nI_clamp (by omega)
  have hd16 : d < 16 := by omega
  have wd := w d hd
  have pd := pl d hd
  have hka := wd.1
  have hfr : ln_fr d a_size a_big a_key a_value (upd a_size d 0) a_big a_key a_value := ⟨fun j hj => ⟨pk_un (by omega), rfl⟩, fun _ _ => ⟨rfl, rfl⟩⟩
  have ha' := ln_ya_fr ha hfr
  have eP : ln_ka (P d) ≠ 0 → a_px d = nI (ln_fx (P d)) := pd.2.1
  have run : ∀ X A, ln_s1 (P d) C = some X → ln_s2 (P d) C = some A → wY_workOut_90 post (nI d) (nI (ln_ka (P d))) (a_px d) (ln_aa (P d)) (nI d) f_hand f_n a_handKey a_handValue a_kind a_px a_pa a_pb a_given a_givenKey a_givenValue (upd a_size d 0) a_big a_key a_value := fun X A h1 h2 => by
    unfold wY_workOut_90
    exact ln_y91 hn16 pl w ct hd ha' pk_us eP h1 h2 k
  have big : C d = none → wY_workOut_86 post (nI d) (nI (ln_ka (P d))) (a_px d) (ln_aa (P d)) (nI d) f_hand f_n a_handKey a_handValue a_kind a_px a_pa a_pb a_given a_givenKey a_givenValue (upd a_size d 0) a_big a_key a_value := fun hc => ln_y86 hd16 ha' hc k
  have g71 : ∀ X, ln_s1 (P d) C = some X → ∀ z, (z = 0 ∧ ¬ ln_two (ln_ka (P d))) ∨ (z = 1 ∧ ln_two (ln_ka (P d))) → wY_workOut_71 post (nI d) (nI (ln_ka (P d))) (a_px d) (ln_aa (P d)) z (nI d) f_hand f_n a_handKey a_handValue a_kind a_px a_pa a_pb a_given a_givenKey a_givenValue (upd a_size d 0) a_big a_key a_value := fun X h1 z hz => by
    unfold wY_workOut_71
    rcases hz with ⟨rfl, h2⟩ | ⟨rfl, h2⟩
    · exact br_t rfl (run X [] h1 (if_neg h2))
    · have hy := wd.2.2.1 h2
      have hyn : vp_in (nI (ln_an (P d))) 16 := vp_in_nI (by omega) (by decide)
      have es2 : ln_s2 (P d) C = C (ln_an (P d)) := if_pos h2
      refine br_f ln_10 ⟨by rw [hy.2]; exact hyn, ?_⟩
      have eY : (ln_aa (P d)).toNatClampNeg = ln_an (P d) := rfl
      rw [eY]
      cases hA : C (ln_an (P d)) with
      | none =>
        refine br_f (by rw [(ha _ hy.1).1 hA]; exact ln_10) (big ?_)
        rw [ct d hd]
        unfold ln_st
        rw [h1, es2, hA]
        rfl
      | some A =>
        obtain ⟨L, _, y⟩ := (ha _ hy.1).2 A hA
        exact br_t y.1 (run X A h1 (es2.trans hA))
  have g44 : ∀ z, (z = 0 ∧ ¬ ln_two (ln_ka (P d))) ∨ (z = 1 ∧ ln_two (ln_ka (P d))) → wY_workOut_44 post (nI d) (nI (ln_ka (P d))) (a_px d) (ln_aa (P d)) z f_hand f_n a_handKey a_handValue a_kind a_px a_pa a_pb a_given a_givenKey a_givenValue a_size a_big a_key a_value := fun z hz => by
    unfold wY_workOut_44
    rw [eD]
    refine ⟨hdn, nm_e (pk_le (ln_ka (P d)) 0 (fun h0 => ?_) (fun h0 => ?_))⟩
    · exact g71 [] (if_pos (by omega)) z hz
    · have hk : ln_ka (P d) ≠ 0 := by omega
      have hx := wd.2.1 hk
      have hxn : vp_in (nI (ln_fx (P d))) 16 := vp_in_nI (by omega) (by decide)
      have es1 : ln_s1 (P d) C = C (ln_fx (P d)) := if_neg hk
      have eX : (a_px d).toNatClampNeg = ln_fx (P d) := by rw [eP hk]; exact nI_clamp (by omega)
      refine ⟨by rw [eP hk]; exact hxn, ?_⟩
      rw [eX]
      cases hX : C (ln_fx (P d)) with
      | none =>
        refine br_f (by rw [(ha _ hx).1 hX]; exact ln_10) (big ?_)
        rw [ct d hd]
        unfold ln_st
        rw [es1, hX]
        rfl
      | some X =>
        obtain ⟨L, _, y⟩ := (ha _ hx).2 X hX
        exact br_t y.1 (g71 X (es1.trans hX) z hz)
  unfold wpY_workOut
  dsimp only
  rw [eD, pd.1, pd.2.2.1]
  refine ⟨hdn, nm_e ⟨hdn, nm_e ⟨hdn, nm_e ?_⟩⟩⟩
  have g39 : ln_two (ln_ka (P d)) → wY_workOut_39 post (nI d) (nI (ln_ka (P d))) (a_px d) (ln_aa (P d)) f_hand f_n a_handKey a_handValue a_kind a_px a_pa a_pb a_given a_givenKey a_givenValue a_size a_big a_key a_value := fun h => g44 1 (Or.inr ⟨rfl, h⟩)
  exact pk_eq (ln_ka (P d)) 5 (fun h => g39 (Or.inl h)) fun h5 => pk_eq (ln_ka (P d)) 7 (fun h => g39 (Or.inr (Or.inl h))) fun h7 => pk_eq (ln_ka (P d)) 9 (fun h => g39 (Or.inr (Or.inr h))) fun h9 => g44 0 (Or.inl ⟨rfl, by omega⟩)
theorem ln_yask12 {post : Int32 → SY → Prop} {n d : Nat} {P : Nat → ln_E} {C : Nat → Option (List ln_T)} (hn16 : n ≤ 16) (pl : ln_pl n P a_kind a_px a_pa a_pb a_given a_givenKey a_givenValue) (w : ln_wf n P) (ct : ln_ct n P C) (hd : d < n)
    (k1 : ∀ sz bi ky vy R L, C d = some R → L.Perm (R.map Prod.snd) → ln_y1 sz bi ky vy d L → post 1 (f_hand, f_n, a_handKey, a_handValue, a_kind, a_px, a_pa, a_pb, a_given, a_givenKey, a_givenValue, sz, bi, ky, vy)) (k0 : C d = none → ∀ sz bi ky vy, post 0 (f_hand, f_n, a_handKey, a_handValue, a_kind, a_px, a_pa, a_pb, a_given, a_givenKey, a_givenValue, sz, bi, ky, vy)) :
    ∀ (r i : Nat) (sz bi ky vy : Nat → Int32), i + r = d + 1 → ln_ya C i sz bi ky vy → wY_ask_12 post (nI d) (r + 1) (nI i) f_hand f_n a_handKey a_handValue a_kind a_px a_pa a_pb a_given a_givenKey a_givenValue sz bi ky vy := by
  have hdn : vp_in (nI d) 16 := vp_in_nI (by omega) (by decide)
  have eD : (nI d).toNatClampNeg = d := nI_clamp (by omega)
  intro r
  induction r with
  | zero =>
    intro i sz bi ky vy hi ha
    have hdi := ha d (by omega)
    unfold wY_ask_12
    rw [eD]
    refine br_t (nI_lt (by omega) (by omega)) ⟨hdn, ?_⟩
    cases hC : C d with
    | none => exact br_f (by rw [hdi.1 hC]; exact ln_10) (k0 hC sz bi ky vy)
    | some R =>
      obtain ⟨L, p, y⟩ := hdi.2 R hC
      exact br_t y.1 (k1 sz bi ky vy R L hC p y)
  | succ r ih =>
    intro i sz bi ky vy hi ha
    unfold wY_ask_12
    refine br_f (nI_nlt (by omega) (by omega)) ?_
    exact ln_ywork hn16 pl w ct (by omega) ha fun sz bi ky vy ha' => nm_r (nI_1 _) (ih (i + 1) sz bi ky vy (by omega) ha')
theorem ln_yask {post : Int32 → SY → Prop} {n d : Nat} {P : Nat → ln_E} {C : Nat → Option (List ln_T)} (hn : f_n = nI n) (hn16 : n ≤ 16) (pl : ln_pl n P a_kind a_px a_pa a_pb a_given a_givenKey a_givenValue) (w : ln_wf n P) (ct : ln_ct n P C) (hd : d < n)
    (k1 : ∀ sz bi ky vy R L, C d = some R → L.Perm (R.map Prod.snd) → ln_y1 sz bi ky vy d L → post 1 (f_hand, f_n, a_handKey, a_handValue, a_kind, a_px, a_pa, a_pb, a_given, a_givenKey, a_givenValue, sz, bi, ky, vy)) (k0 : C d = none → ∀ sz bi ky vy, post 0 (f_hand, f_n, a_handKey, a_handValue, a_kind, a_px, a_pa, a_pb, a_given, a_givenKey, a_givenValue, sz, bi, ky, vy)) : wpY_ask post (f_hand, f_n, a_handKey, a_handValue, a_kind, a_px, a_pa, a_pb, a_given, a_givenKey, a_givenValue, a_size, a_big, a_key, a_value) (nI d) := by
  unfold wpY_ask
  refine ln_yisSet1 hn hn16 hd (br_f ln_10 ⟨d + 2, ?_⟩)
  exact ln_yask12 hn16 pl w ct hd k1 k0 (d + 1) 0 _ _ _ _ (by omega) (fun j hj => absurd hj (Nat.not_lt_zero j))
theorem ln_yask0 {post : Int32 → SY → Prop} {n : Nat} {x : Int32} (hn : f_n = nI n) (hd : x < 0 ∨ nI n ≤ x) (k : post 0 (f_hand, f_n, a_handKey, a_handValue, a_kind, a_px, a_pa, a_pb, a_given, a_givenKey, a_givenValue, a_size, a_big, a_key, a_value)) : wpY_ask post (f_hand, f_n, a_handKey, a_handValue, a_kind, a_px, a_pa, a_pb, a_given, a_givenKey, a_givenValue, a_size, a_big, a_key, a_value) x := by
  unfold wpY_ask
  exact ln_yisSet0 hn hd (br_t rfl k)
end
end
section
section
variable {f_hand f_n : Int32} {a_handKey a_handValue a_kind a_px a_pa a_pb a_given a_givenKey a_givenValue a_size a_big a_key a_value : Nat → Int32}
theorem ln_ycount {post : Int32 → SY → Prop} {n d : Nat} {P : Nat → ln_E} {C : Nat → Option (List ln_T)} (hn : f_n = nI n) (hn16 : n ≤ 16) (pl : ln_pl n P a_kind a_px a_pa a_pb a_given a_givenKey a_givenValue) (w : ln_wf n P) (ct : ln_ct n P C) (hd : d < n)
    (k1 : ∀ sz bi ky vy R, C d = some R → post (nI R.length) (f_hand, f_n, a_handKey, a_handValue, a_kind, a_px, a_pa, a_pb, a_given, a_givenKey, a_givenValue, sz, bi, ky, vy)) (k0 : C d = none → ∀ sz bi ky vy, post (-3) (f_hand, f_n, a_handKey, a_handValue, a_kind, a_px, a_pa, a_pb, a_given, a_givenKey, a_givenValue, sz, bi, ky, vy)) : wpY_count post (f_hand, f_n, a_handKey, a_handValue, a_kind, a_px, a_pa, a_pb, a_given, a_givenKey, a_givenValue, a_size, a_big, a_key, a_value) (nI d) := by
  have hdn : vp_in (nI d) 16 := vp_in_nI (by omega) (by decide)
  have eD : (nI d).toNatClampNeg = d := nI_clamp (by omega)
  unfold wpY_count
  refine ln_yisSet1 hn hn16 hd (br_f ln_10 ?_)
  refine ln_yask hn hn16 pl w ct hd (fun sz bi ky vy R L hR hL hy => br_f ln_10 ⟨hdn, ?_⟩) (fun hc sz bi ky vy => br_t rfl (k0 hc sz bi ky vy))
  have e : sz (nI d).toNatClampNeg = nI R.length := by rw [eD, hy.2.1, hL.length_eq, List.length_map]
  rw [e]
  exact k1 sz bi ky vy R hR
theorem ln_yto17 {post : Int32 → SY → Prop} {x : Nat} {L : List ln_K} (hx : x < 16) (h1 : ln_y1 a_size a_big a_key a_value x L) {s0 : Int32} (k : post s0 (f_hand, f_n, a_handKey, a_handValue, a_kind, a_px, a_pa, a_pb, a_given, a_givenKey, a_givenValue, a_size, a_big, a_key, a_value)) :
    ∀ (rest pre : List ln_K) (s : Int32), L = pre ++ rest → rest.foldl (fun s q => s + q.2) s = s0 → wY_total_17 post (nI x) f_hand f_n a_handKey a_handValue a_kind a_px a_pa a_pb a_given a_givenKey a_givenValue a_size a_big a_key a_value (rest.length + 1) s (nI (48 * x + pre.length)) := by
  have hin : vp_in (nI x) 16 := vp_in_nI hx (by decide)
  have eX : (nI x).toNatClampNeg = x := nI_clamp (by omega)
  have hs := h1.2.1
  have hl := h1.2.2.1
  intro rest
  induction rest with
  | nil =>
    intro pre s e h
    rw [e, List.append_nil] at hs hl
    have h' : s = s0 := h
    subst h'
    unfold wY_total_17
    rw [eX, hs, ln_48]
    exact ⟨hin, br_t (nI_le (Nat.le_refl _) (by omega)) k⟩
  | cons q rest ih =>
    intro pre s e h
    obtain ⟨e1, e2, h16, h48⟩ := ln_yrd h1 e
    have hlen : L.length = pre.length + (rest.length + 1) := by rw [e, List.length_append]; rfl
    have hi7 : vp_in (nI (48 * x + pre.length)) 768 := vp_in_nI (by omega) (by decide)
    have eI : (nI (48 * x + pre.length)).toNatClampNeg = 48 * x + pre.length := nI_clamp (by omega)
    have ih' := ih (pre ++ [q])
    rw [ln_pl1, ← Nat.add_assoc] at ih'
    unfold wY_total_17
    rw [eX, hs, ln_48, eI, e2]
    exact ⟨hin, br_f (nI_ge (by omega) (by omega)) ⟨hi7, nm_e (nm_r (nI_1 _) (ih' _ (ln_pre e) h))⟩⟩
theorem ln_ylk18 {post : Int32 → SY → Prop} {x : Nat} {y : Int32} {L : List ln_K} (hx : x < 16) (h1 : ln_y1 a_size a_big a_key a_value x L) {s0 : Int32} (k : post s0 (f_hand, f_n, a_handKey, a_handValue, a_kind, a_px, a_pa, a_pb, a_given, a_givenKey, a_givenValue, a_size, a_big, a_key, a_value)) :
    ∀ (rest pre : List ln_K) (s : Int32), L = pre ++ rest → rest.foldl (fun s q => if nI q.1 = y then s + q.2 else s) s = s0 → wY_lookup_18 post (nI x) y f_hand f_n a_handKey a_handValue a_kind a_px a_pa a_pb a_given a_givenKey a_givenValue a_size a_big a_key a_value (rest.length + 1) s (nI (48 * x + pre.length)) := by
  have hin : vp_in (nI x) 16 := vp_in_nI hx (by decide)
  have eX : (nI x).toNatClampNeg = x := nI_clamp (by omega)
  have hs := h1.2.1
  have hl := h1.2.2.1
  intro rest
  induction rest with
  | nil =>
    intro pre s e h
    rw [e, List.append_nil] at hs hl
    have h' : s = s0 := h
    subst h'
    unfold wY_lookup_18
    rw [eX, hs, ln_48]
    exact ⟨hin, br_t (nI_le (Nat.le_refl _) (by omega)) k⟩
  | cons q rest ih =>
    intro pre s e h
    obtain ⟨e1, e2, h16, h48⟩ := ln_yrd h1 e
    have hlen : L.length = pre.length + (rest.length + 1) := by rw [e, List.length_append]; rfl
    have hi7 : vp_in (nI (48 * x + pre.length)) 768 := vp_in_nI (by omega) (by decide)
    have eI : (nI (48 * x + pre.length)).toNatClampNeg = 48 * x + pre.length := nI_clamp (by omega)
    have ih' := ih (pre ++ [q])
    rw [ln_pl1, ← Nat.add_assoc] at ih'
    have h' : rest.foldl (fun s q => if nI q.1 = y then s + q.2 else s) (if nI q.1 = y then s + q.2 else s) = s0 := h
    unfold wY_lookup_18
    rw [eX, hs, ln_48, eI, e1, e2]
    refine ⟨hin, br_f (nI_ge (by omega) (by omega)) ⟨hi7, br_c (fun hk => ?_) (fun hk => ?_)⟩⟩
    · rw [if_pos hk] at h'
      exact ⟨hi7, nm_e (nm_r (nI_1 _) (ih' _ (ln_pre e) h'))⟩
    · rw [if_neg hk] at h'
      exact nm_r (nI_1 _) (ih' _ (ln_pre e) h')
theorem ln_ytotal {post : Int32 → SY → Prop} {n d : Nat} {P : Nat → ln_E} {C : Nat → Option (List ln_T)} (hn : f_n = nI n) (hn16 : n ≤ 16) (pl : ln_pl n P a_kind a_px a_pa a_pb a_given a_givenKey a_givenValue) (w : ln_wf n P) (ct : ln_ct n P C) (hd : d < n)
    (k1 : ∀ sz bi ky vy R, C d = some R → post (ln_tot (R.map Prod.snd)) (f_hand, f_n, a_handKey, a_handValue, a_kind, a_px, a_pa, a_pb, a_given, a_givenKey, a_givenValue, sz, bi, ky, vy)) (k0 : C d = none → ∀ sz bi ky vy, post 0 (f_hand, f_n, a_handKey, a_handValue, a_kind, a_px, a_pa, a_pb, a_given, a_givenKey, a_givenValue, sz, bi, ky, vy)) : wpY_total post (f_hand, f_n, a_handKey, a_handValue, a_kind, a_px, a_pa, a_pb, a_given, a_givenKey, a_givenValue, a_size, a_big, a_key, a_value) (nI d) := by
  unfold wpY_total
  refine ln_yask hn hn16 pl w ct hd (fun sz bi ky vy R L hR hL hy => br_f ln_10 (nm_r (ln_48m d) ⟨L.length + 1, ?_⟩)) (fun hc sz bi ky vy => br_t rfl (k0 hc sz bi ky vy))
  exact ln_yto17 (s0 := ln_tot (R.map Prod.snd)) (by omega) hy (k1 sz bi ky vy R hR) L [] 0 rfl (ln_tot_p hL)
theorem ln_ylookup {post : Int32 → SY → Prop} {n d : Nat} {P : Nat → ln_E} {C : Nat → Option (List ln_T)} {y : Int32} (hn : f_n = nI n) (hn16 : n ≤ 16) (pl : ln_pl n P a_kind a_px a_pa a_pb a_given a_givenKey a_givenValue) (w : ln_wf n P) (ct : ln_ct n P C) (hd : d < n)
    (k1 : ∀ sz bi ky vy R, C d = some R → post (ln_lk y (R.map Prod.snd)) (f_hand, f_n, a_handKey, a_handValue, a_kind, a_px, a_pa, a_pb, a_given, a_givenKey, a_givenValue, sz, bi, ky, vy)) (k0 : C d = none → ∀ sz bi ky vy, post 0 (f_hand, f_n, a_handKey, a_handValue, a_kind, a_px, a_pa, a_pb, a_given, a_givenKey, a_givenValue, sz, bi, ky, vy)) : wpY_lookup post (f_hand, f_n, a_handKey, a_handValue, a_kind, a_px, a_pa, a_pb, a_given, a_givenKey, a_givenValue, a_size, a_big, a_key, a_value) (nI d) y := by
  unfold wpY_lookup
  refine ln_yask hn hn16 pl w ct hd (fun sz bi ky vy R L hR hL hy => br_f ln_10 (nm_r (ln_48m d) ⟨L.length + 1, ?_⟩)) (fun hc sz bi ky vy => br_t rfl (k0 hc sz bi ky vy))
  exact ln_ylk18 (s0 := ln_lk y (R.map Prod.snd)) (by omega) hy (k1 sz bi ky vy R hR) L [] 0 rfl (ln_lk_p hL)
theorem ln_ykeyOf {post : Int32 → SY → Prop} {n d : Nat} {P : Nat → ln_E} {C : Nat → Option (List ln_T)} {y : Int32} (hn : f_n = nI n) (hn16 : n ≤ 16) (pl : ln_pl n P a_kind a_px a_pa a_pb a_given a_givenKey a_givenValue) (w : ln_wf n P) (ct : ln_ct n P C) (hd : d < n)
    (k1 : ∀ sz bi ky vy R L, C d = some R → L.Perm (R.map Prod.snd) → L.Pairwise ln_le → post (ln_ks L y (-1) (fun q => nI q.1)) (f_hand, f_n, a_handKey, a_handValue, a_kind, a_px, a_pa, a_pb, a_given, a_givenKey, a_givenValue, sz, bi, ky, vy)) (k0 : C d = none → ∀ sz bi ky vy, post (-3) (f_hand, f_n, a_handKey, a_handValue, a_kind, a_px, a_pa, a_pb, a_given, a_givenKey, a_givenValue, sz, bi, ky, vy)) : wpY_keyOf post (f_hand, f_n, a_handKey, a_handValue, a_kind, a_px, a_pa, a_pb, a_given, a_givenKey, a_givenValue, a_size, a_big, a_key, a_value) (nI d) y := by
  have hdn : vp_in (nI d) 16 := vp_in_nI (by omega) (by decide)
  have eD : (nI d).toNatClampNeg = d := nI_clamp (by omega)
  unfold wpY_keyOf
  refine ln_yisSet1 hn hn16 hd (br_f ln_10 ?_)
  refine ln_yask hn hn16 pl w ct hd (fun sz bi ky vy R L hR hL hy => br_f ln_10 ?_) (fun hc sz bi ky vy => br_t rfl (k0 hc sz bi ky vy))
  have kk := k1 sz bi ky vy R L hR hL hy.2.2.2.2.1
  have hl48 := hy.2.2.1
  refine br_c (fun h => ?_) (fun h => ⟨hdn, ?_⟩)
  · rw [ln_ks_n h] at kk; exact kk
  · obtain ⟨j, hj, rfl⟩ := nI_of h
    rw [eD, hy.2.1]
    refine pk_le L.length j (fun hl => ?_) (fun hl => ?_)
    · rw [ln_ks_o hj hl] at kk; exact kk
    · rw [ln_48]
      refine ⟨vp_in_nI (by omega) (by decide), ?_⟩
      obtain ⟨q, hq⟩ := ln_some_of hl
      have := (hy.2.2.2.2.2 j q hq).1
      rw [nI_clamp (by omega), this]
      rw [ln_ks_s hj hq] at kk
      exact kk
theorem ln_yvalueOf {post : Int32 → SY → Prop} {n d : Nat} {P : Nat → ln_E} {C : Nat → Option (List ln_T)} {y : Int32} (hn : f_n = nI n) (hn16 : n ≤ 16) (pl : ln_pl n P a_kind a_px a_pa a_pb a_given a_givenKey a_givenValue) (w : ln_wf n P) (ct : ln_ct n P C) (hd : d < n)
    (k1 : ∀ sz bi ky vy R L, C d = some R → L.Perm (R.map Prod.snd) → L.Pairwise ln_le → post (ln_ks L y 0 (fun q => q.2)) (f_hand, f_n, a_handKey, a_handValue, a_kind, a_px, a_pa, a_pb, a_given, a_givenKey, a_givenValue, sz, bi, ky, vy)) (k0 : C d = none → ∀ sz bi ky vy, post 0 (f_hand, f_n, a_handKey, a_handValue, a_kind, a_px, a_pa, a_pb, a_given, a_givenKey, a_givenValue, sz, bi, ky, vy)) : wpY_valueOf post (f_hand, f_n, a_handKey, a_handValue, a_kind, a_px, a_pa, a_pb, a_given, a_givenKey, a_givenValue, a_size, a_big, a_key, a_value) (nI d) y := by
  have hdn : vp_in (nI d) 16 := vp_in_nI (by omega) (by decide)
  have eD : (nI d).toNatClampNeg = d := nI_clamp (by omega)
  unfold wpY_valueOf
  refine ln_yask hn hn16 pl w ct hd (fun sz bi ky vy R L hR hL hy => br_f ln_10 ?_) (fun hc sz bi ky vy => br_t rfl (k0 hc sz bi ky vy))
  have kk := k1 sz bi ky vy R L hR hL hy.2.2.2.2.1
  have hl48 := hy.2.2.1
  refine br_c (fun h => ?_) (fun h => ⟨hdn, ?_⟩)
  · rw [ln_ks_n h] at kk; exact kk
  · obtain ⟨j, hj, rfl⟩ := nI_of h
    rw [eD, hy.2.1]
    refine pk_le L.length j (fun hl => ?_) (fun hl => ?_)
    · rw [ln_ks_o hj hl] at kk; exact kk
    · rw [ln_48]
      refine ⟨vp_in_nI (by omega) (by decide), ?_⟩
      obtain ⟨q, hq⟩ := ln_some_of hl
      have := (hy.2.2.2.2.2 j q hq).2
      rw [nI_clamp (by omega), this]
      rw [ln_ks_s hj hq] at kk
      exact kk
end
end
section
section
variable {f_handCount f_setCount f_levelNow f_chainLength f_pairKeyNow f_pairValueNow f_orderCount : Int32} {a_handKey a_handValue a_kindOf a_fromX a_numberA a_numberB a_sourceCount a_sourceKey a_sourceValue a_pairCount a_pairPart a_pairKey a_pairValue a_there a_kept a_bigness a_needed a_users a_chain a_hasLocal a_local a_hasSum a_sums a_orderKey a_orderValue : Nat → Int32}
theorem ln_rng (x : Int32) (lo hi : Nat) (hl : lo ≤ hi) (hh : hi < 1000) : x < nI lo ∨ (¬ x < nI lo ∧ ¬ x ≤ nI hi ∧ nI hi < x) ∨ ∃ j, lo ≤ j ∧ j ≤ hi ∧ x = nI j := by
  have e1 := nI_toInt (n := lo) (by omega)
  have e2 := nI_toInt (n := hi) (by omega)
  by_cases h : x < nI lo
  · exact Or.inl h
  · have h' := h
    rw [Int32.lt_iff_toInt_lt, e1] at h'
    by_cases h2 : x ≤ nI hi
    · rw [Int32.le_iff_toInt_le, e2] at h2
      have z0 : (0 : Int32).toInt = 0 := by decide
      obtain ⟨j, hj, rfl⟩ := nI_of (x := x) (by rw [Int32.lt_iff_toInt_lt, z0]; omega)
      have e3 := nI_toInt hj
      exact Or.inr (Or.inr ⟨j, by omega, by omega, rfl⟩)
    · exact Or.inr (Or.inl ⟨h, h2, ln_i32_lt h2⟩)
/-- whether derive takes it -/
def ln_ok (n k : Nat) (x a : Int32) : Prop :=
  (k ≠ 0 → ∃ j, j < n ∧ x = nI j) ∧ (ln_two k → ∃ j, j < n ∧ a = nI j) ∧ (k = 4 ∨ k = 6 → ∃ j, 0 ≤ j ∧ j ≤ 3 ∧ a = nI j) ∧ (k = 10 → ∃ j, 1 ≤ j ∧ j ≤ 8 ∧ a = nI j)
theorem ln_nset {n : Nat} {x : Int32} (hn : n ≤ 16) (h : x < 0 ∨ nI n ≤ x) : ¬ ∃ j, j < n ∧ x = nI j := by
  rintro ⟨j, hj, rfl⟩
  rcases h with h | h
  · exact nI_pos (by omega) h
  · exact nI_ge hj (by omega) h
theorem ln_nrng {x : Int32} {lo hi : Nat} (hh : hi < 1000) (h : x < nI lo ∨ nI hi < x) : ¬ ∃ j, lo ≤ j ∧ j ≤ hi ∧ x = nI j := by
  rintro ⟨j, h1, h2, rfl⟩
  rcases h with h | h
  · exact nI_nlt h1 (by omega) h
  · exact nI_nlt h2 (by omega) h
theorem ln_xd78 {post : Int32 → SX → Prop} {n k : Nat} {x a b : Int32} (hk : k ≤ 11) (h1 : k ≠ 0 → ∃ j, j < n ∧ x = nI j) (h2 : ln_two k → ∃ j, j < n ∧ a = nI j) (h3 : k = 4 ∨ k = 6 → ∃ j, 0 ≤ j ∧ j ≤ 3 ∧ a = nI j)
    (k1 : ln_ok n k x a → wX_derive_97 post (nI k) x a b f_handCount f_setCount f_levelNow f_chainLength f_pairKeyNow f_pairValueNow f_orderCount a_handKey a_handValue a_kindOf a_fromX a_numberA a_numberB a_sourceCount a_sourceKey a_sourceValue a_pairCount a_pairPart a_pairKey a_pairValue a_there a_kept a_bigness a_needed a_users a_chain a_hasLocal a_local a_hasSum a_sums a_orderKey a_orderValue) (k0 : ¬ ln_ok n k x a → post (-1) (f_handCount, f_setCount, f_levelNow, f_chainLength, f_pairKeyNow, f_pairValueNow, f_orderCount, a_handKey, a_handValue, a_kindOf, a_fromX, a_numberA, a_numberB, a_sourceCount, a_sourceKey, a_sourceValue, a_pairCount, a_pairPart, a_pairKey, a_pairValue, a_there, a_kept, a_bigness, a_needed, a_users, a_chain, a_hasLocal, a_local, a_hasSum, a_sums, a_orderKey, a_orderValue)) : wX_derive_78 post (nI k) x a b f_handCount f_setCount f_levelNow f_chainLength f_pairKeyNow f_pairValueNow f_orderCount a_handKey a_handValue a_kindOf a_fromX a_numberA a_numberB a_sourceCount a_sourceKey a_sourceValue a_pairCount a_pairPart a_pairKey a_pairValue a_there a_kept a_bigness a_needed a_users a_chain a_hasLocal a_local a_hasSum a_sums a_orderKey a_orderValue := by
  unfold wX_derive_78
  refine pk_eq k 10 (fun h => ?_) (fun h => k1 ⟨h1, h2, h3, fun z => absurd z h⟩)
  rcases ln_rng a 1 8 (by decide) (by decide) with z | ⟨z1, z2, z3⟩ | z
  · exact br_t z (k0 fun ok => ln_nrng (by decide) (Or.inl z) (ok.2.2.2 h))
  · exact br_f z1 (br_f z2 (k0 fun ok => ln_nrng (by decide) (Or.inr z3) (ok.2.2.2 h)))
  · have ok : ln_ok n k x a := ⟨h1, h2, h3, fun _ => z⟩
    obtain ⟨j, j1, j2, e⟩ := z
    have c1 : ¬ a < 1 := by rw [e]; exact nI_nlt (b := 1) j1 (by omega)
    have c2 : a ≤ 8 := by rw [e]; exact nI_le (b := 8) j2 (by decide)
    exact br_f c1 (br_t c2 (k1 ok))
theorem ln_xd56 {post : Int32 → SX → Prop} {n k : Nat} {x a b : Int32} (hk : k ≤ 11) (h1 : k ≠ 0 → ∃ j, j < n ∧ x = nI j) (h2 : ln_two k → ∃ j, j < n ∧ a = nI j)
    (k1 : ln_ok n k x a → wX_derive_97 post (nI k) x a b f_handCount f_setCount f_levelNow f_chainLength f_pairKeyNow f_pairValueNow f_orderCount a_handKey a_handValue a_kindOf a_fromX a_numberA a_numberB a_sourceCount a_sourceKey a_sourceValue a_pairCount a_pairPart a_pairKey a_pairValue a_there a_kept a_bigness a_needed a_users a_chain a_hasLocal a_local a_hasSum a_sums a_orderKey a_orderValue) (k0 : ¬ ln_ok n k x a → post (-1) (f_handCount, f_setCount, f_levelNow, f_chainLength, f_pairKeyNow, f_pairValueNow, f_orderCount, a_handKey, a_handValue, a_kindOf, a_fromX, a_numberA, a_numberB, a_sourceCount, a_sourceKey, a_sourceValue, a_pairCount, a_pairPart, a_pairKey, a_pairValue, a_there, a_kept, a_bigness, a_needed, a_users, a_chain, a_hasLocal, a_local, a_hasSum, a_sums, a_orderKey, a_orderValue)) : wX_derive_56 post (nI k) x a b f_handCount f_setCount f_levelNow f_chainLength f_pairKeyNow f_pairValueNow f_orderCount a_handKey a_handValue a_kindOf a_fromX a_numberA a_numberB a_sourceCount a_sourceKey a_sourceValue a_pairCount a_pairPart a_pairKey a_pairValue a_there a_kept a_bigness a_needed a_users a_chain a_hasLocal a_local a_hasSum a_sums a_orderKey a_orderValue := by
  have g : k = 4 ∨ k = 6 → wX_derive_67 post (nI k) x a b f_handCount f_setCount f_levelNow f_chainLength f_pairKeyNow f_pairValueNow f_orderCount a_handKey a_handValue a_kindOf a_fromX a_numberA a_numberB a_sourceCount a_sourceKey a_sourceValue a_pairCount a_pairPart a_pairKey a_pairValue a_there a_kept a_bigness a_needed a_users a_chain a_hasLocal a_local a_hasSum a_sums a_orderKey a_orderValue := fun h => by
    unfold wX_derive_67
    rcases ln_rng a 0 3 (by decide) (by decide) with z | ⟨z1, z2, z3⟩ | z
    · exact br_t z (k0 fun ok => ln_nrng (by decide) (Or.inl z) (ok.2.2.1 h))
    · exact br_f z1 (br_f z2 (k0 fun ok => ln_nrng (by decide) (Or.inr z3) (ok.2.2.1 h)))
    · have h3 := z
      obtain ⟨j, j1, j2, e⟩ := z
      have c1 : ¬ a < 0 := by rw [e]; exact nI_pos (by omega)
      have c2 : a ≤ 3 := by rw [e]; exact nI_le (b := 3) j2 (by decide)
      exact br_f c1 (br_t c2 (ln_xd78 hk h1 h2 (fun _ => h3) k1 k0))
  unfold wX_derive_56
  exact pk_eq k 4 (fun h => g (Or.inl h)) fun h4 => pk_eq k 6 (fun h => g (Or.inr h)) fun h6 => ln_xd78 hk h1 h2 (fun z => by omega) k1 k0
theorem ln_xd38 {post : Int32 → SX → Prop} {n k : Nat} {x a b : Int32} (hn : f_setCount = nI n) (hn16 : n ≤ 16) (hk : k ≤ 11) (h1 : k ≠ 0 → ∃ j, j < n ∧ x = nI j)
    (k1 : ln_ok n k x a → wX_derive_97 post (nI k) x a b f_handCount f_setCount f_levelNow f_chainLength f_pairKeyNow f_pairValueNow f_orderCount a_handKey a_handValue a_kindOf a_fromX a_numberA a_numberB a_sourceCount a_sourceKey a_sourceValue a_pairCount a_pairPart a_pairKey a_pairValue a_there a_kept a_bigness a_needed a_users a_chain a_hasLocal a_local a_hasSum a_sums a_orderKey a_orderValue) (k0 : ¬ ln_ok n k x a → post (-1) (f_handCount, f_setCount, f_levelNow, f_chainLength, f_pairKeyNow, f_pairValueNow, f_orderCount, a_handKey, a_handValue, a_kindOf, a_fromX, a_numberA, a_numberB, a_sourceCount, a_sourceKey, a_sourceValue, a_pairCount, a_pairPart, a_pairKey, a_pairValue, a_there, a_kept, a_bigness, a_needed, a_users, a_chain, a_hasLocal, a_local, a_hasSum, a_sums, a_orderKey, a_orderValue)) : wX_derive_38 post (nI k) x a b f_handCount f_setCount f_levelNow f_chainLength f_pairKeyNow f_pairValueNow f_orderCount a_handKey a_handValue a_kindOf a_fromX a_numberA a_numberB a_sourceCount a_sourceKey a_sourceValue a_pairCount a_pairPart a_pairKey a_pairValue a_there a_kept a_bigness a_needed a_users a_chain a_hasLocal a_local a_hasSum a_sums a_orderKey a_orderValue := by
  unfold wX_derive_38
  refine ln_xhasTwo (by omega) (fun h => br_f ln_10 ?_) (fun h => br_t rfl (ln_xd56 hk h1 (fun z => absurd z h) k1 k0))
  rcases pk_ix a (n := n) (by omega) with z | z | ⟨j, hj, rfl⟩
  · exact ln_xisSet0 hn (Or.inl z) (br_t rfl (k0 fun ok => ln_nset hn16 (Or.inl z) (ok.2.1 h)))
  · exact ln_xisSet0 hn (Or.inr z) (br_t rfl (k0 fun ok => ln_nset hn16 (Or.inr z) (ok.2.1 h)))
  · exact ln_xisSet1 hn hn16 hj (br_f ln_10 (ln_xd56 hk h1 (fun _ => ⟨j, hj, rfl⟩) k1 k0))
theorem ln_xderive {post : Int32 → SX → Prop} {n k : Nat} {x a b : Int32} (hn : f_setCount = nI n) (hn16 : n < 16) (hk : k ≤ 11)
    (k1 : ln_ok n k x a → wX_derive_97 post (nI k) x a b f_handCount f_setCount f_levelNow f_chainLength f_pairKeyNow f_pairValueNow f_orderCount a_handKey a_handValue a_kindOf a_fromX a_numberA a_numberB a_sourceCount a_sourceKey a_sourceValue a_pairCount a_pairPart a_pairKey a_pairValue a_there a_kept a_bigness a_needed a_users a_chain a_hasLocal a_local a_hasSum a_sums a_orderKey a_orderValue) (k0 : ¬ ln_ok n k x a → post (-1) (f_handCount, f_setCount, f_levelNow, f_chainLength, f_pairKeyNow, f_pairValueNow, f_orderCount, a_handKey, a_handValue, a_kindOf, a_fromX, a_numberA, a_numberB, a_sourceCount, a_sourceKey, a_sourceValue, a_pairCount, a_pairPart, a_pairKey, a_pairValue, a_there, a_kept, a_bigness, a_needed, a_users, a_chain, a_hasLocal, a_local, a_hasSum, a_sums, a_orderKey, a_orderValue)) : wpX_derive post (f_handCount, f_setCount, f_levelNow, f_chainLength, f_pairKeyNow, f_pairValueNow, f_orderCount, a_handKey, a_handValue, a_kindOf, a_fromX, a_numberA, a_numberB, a_sourceCount, a_sourceKey, a_sourceValue, a_pairCount, a_pairPart, a_pairKey, a_pairValue, a_there, a_kept, a_bigness, a_needed, a_users, a_chain, a_hasLocal, a_local, a_hasSum, a_sums, a_orderKey, a_orderValue) (nI k) x a b := by
  have c : f_setCount < 16 := by rw [hn]; exact nI_lt (b := 16) hn16 (by decide)
  have c1 : nI k ≤ 11 := nI_le (b := 11) hk (by decide)
  unfold wpX_derive
  refine br_t c (br_f (nI_pos (by omega)) (br_t c1 (pk_eq k 0 (fun h => ?_) (fun h => ?_))))
  · exact ln_xd38 hn (by omega) hk (fun z => absurd h z) k1 k0
  · rcases pk_ix x (n := n) (by omega) with z | z | ⟨j, hj, rfl⟩
    · exact ln_xisSet0 hn (Or.inl z) (br_t rfl (k0 fun ok => ln_nset (by omega) (Or.inl z) (ok.1 h)))
    · exact ln_xisSet0 hn (Or.inr z) (br_t rfl (k0 fun ok => ln_nset (by omega) (Or.inr z) (ok.1 h)))
    · exact ln_xisSet1 hn (by omega) hj (br_f ln_10 (ln_xd38 hn (by omega) hk (fun _ => ⟨j, hj, rfl⟩) k1 k0))
/-! the hand -/
def ln_hd (H : List ln_K) (f : Int32) (hk hv : Nat → Int32) : Prop := f = nI H.length ∧ H.length ≤ 24 ∧ (∀ q, q ∈ H → q.1 < 16) ∧ ln_sg hk hv 0 H
theorem ln_xth13 {post : SX → Prop} {H : List ln_K} {d : Nat} {K0 V0 : Nat → Int32} (hd : d < 16) (hh : ln_hd H f_handCount a_handKey a_handValue)
    (k : ∀ sk sv, ln_sg sk sv (24 * d) H → (∀ x, x < 24 * d → sk x = K0 x ∧ sv x = V0 x) → post (0, f_setCount, f_levelNow, f_chainLength, f_pairKeyNow, f_pairValueNow, f_orderCount, a_handKey, a_handValue, a_kindOf, a_fromX, a_numberA, a_numberB, a_sourceCount, sk, sv, a_pairCount, a_pairPart, a_pairKey, a_pairValue, a_there, a_kept, a_bigness, a_needed, a_users, a_chain, a_hasLocal, a_local, a_hasSum, a_sums, a_orderKey, a_orderValue)) :
    ∀ (r i : Nat) (sk sv : Nat → Int32), i + r = H.length → (∀ j q, j < i → H[j]? = some q → sk (24 * d + j) = nI q.1 ∧ sv (24 * d + j) = q.2) → (∀ x, x < 24 * d → sk x = K0 x ∧ sv x = V0 x) → wX_takeHand_13 post (nI d) f_handCount f_setCount f_levelNow f_chainLength f_pairKeyNow f_pairValueNow f_orderCount (r + 1) (nI i) a_handKey a_handValue a_kindOf a_fromX a_numberA a_numberB a_sourceCount sk sv a_pairCount a_pairPart a_pairKey a_pairValue a_there a_kept a_bigness a_needed a_users a_chain a_hasLocal a_local a_hasSum a_sums a_orderKey a_orderValue := by
  obtain ⟨e, hl, h16, hg⟩ := hh
  subst e
  intro r
  induction r with
  | zero =>
    intro i sk sv hi h1 h2
    exact br_t (nI_le (by omega) (by omega)) (k sk sv (fun j q hq => h1 j q (by have := ln_lt_of hq; omega) hq) h2)
  | succ r ih =>
    intro i sk sv hi h1 h2
    obtain ⟨q, hq⟩ := ln_some_of (L := H) (i := i) (by omega)
    have hr := hg i q hq
    rw [Nat.zero_add] at hr
    have hq16 := h16 q (ln_mem_of hq)
    have hi24 : vp_in (nI i) 24 := vp_in_nI (by omega) (by decide)
    have hi3 : vp_in (24 * nI d + nI i) 384 := by rw [ln_24]; exact vp_in_nI (by omega) (by decide)
    have eI : (nI i).toNatClampNeg = i := nI_clamp (by omega)
    have eJ : (24 * nI d + nI i).toNatClampNeg = 24 * d + i := by rw [ln_24]; exact nI_clamp (by omega)
    unfold wX_takeHand_13
    rw [eI, eJ, hr.1, hr.2, ln_nb (by omega)]
    refine br_f (nI_ge (by omega) (by omega)) ⟨hi24, hi3, nm_e ⟨hi24, hi3, nm_e (nm_r (nI_1 _) (ih (i + 1) _ _ (by omega) (fun j p hj hp => ?_) (fun x hx => ?_)))⟩⟩
    · by_cases z : j = i
      · subst z
        rw [hq] at hp
        cases hp
        rw [pk_us, pk_us]
        exact ⟨rfl, rfl⟩
      · rw [pk_un (by omega), pk_un (by omega)]
        exact h1 j p (by omega) hp
    · rw [pk_un (by omega), pk_un (by omega)]
      exact h2 x hx
theorem ln_xtake {post : SX → Prop} {H : List ln_K} {d : Nat} (hd : d < 16) (hh : ln_hd H f_handCount a_handKey a_handValue)
    (k : ∀ sk sv, ln_sg sk sv (24 * d) H → (∀ x, x < 24 * d → sk x = a_sourceKey x ∧ sv x = a_sourceValue x) → post (0, f_setCount, f_levelNow, f_chainLength, f_pairKeyNow, f_pairValueNow, f_orderCount, a_handKey, a_handValue, a_kindOf, a_fromX, a_numberA, a_numberB, upd a_sourceCount d (nI H.length), sk, sv, a_pairCount, a_pairPart, a_pairKey, a_pairValue, a_there, a_kept, a_bigness, a_needed, a_users, a_chain, a_hasLocal, a_local, a_hasSum, a_sums, a_orderKey, a_orderValue)) : wpX_takeHand post (f_handCount, f_setCount, f_levelNow, f_chainLength, f_pairKeyNow, f_pairValueNow, f_orderCount, a_handKey, a_handValue, a_kindOf, a_fromX, a_numberA, a_numberB, a_sourceCount, a_sourceKey, a_sourceValue, a_pairCount, a_pairPart, a_pairKey, a_pairValue, a_there, a_kept, a_bigness, a_needed, a_users, a_chain, a_hasLocal, a_local, a_hasSum, a_sums, a_orderKey, a_orderValue) (nI d) := by
  have hdn : vp_in (nI d) 16 := vp_in_nI hd (by decide)
  have eD : (nI d).toNatClampNeg = d := nI_clamp (by omega)
  have hl := hh.2.1
  unfold wpX_takeHand
  dsimp only
  refine ⟨hdn, nm_r (e' := upd a_sourceCount d (nI H.length)) (by rw [eD, hh.1, ln_nb8 (by omega)]) ⟨H.length + 1, ?_⟩⟩
  exact ln_xth13 hd hh k H.length 0 _ _ (by omega) (fun j q hj => absurd hj (Nat.not_lt_zero j)) (fun x hx => ⟨rfl, rfl⟩)
/-- the entry that derive writes -/
def ln_ent (k : Nat) (x a b : Int32) (H : List ln_K) : ln_E := (k, x.toNatClampNeg, a, b, if k = 0 then H else [])
theorem ln_ent_we {n k : Nat} {x a b : Int32} {H : List ln_K} (hn : n < 16) (hk : k ≤ 11) (ok : ln_ok n k x a) (hl : H.length ≤ 24) (h16 : ∀ q, q ∈ H → q.1 < 16) : ln_we n (ln_ent k x a b H) := by
  obtain ⟨o1, o2, o3, o4⟩ := ok
  refine ⟨hk, fun h => ?_, fun h => ?_, fun h => ?_, fun h => ?_, ?_, ?_⟩
  · obtain ⟨j, hj, rfl⟩ := o1 h
    show (nI j).toNatClampNeg < n
    rw [nI_clamp (by omega)]; exact hj
  · obtain ⟨j, hj, rfl⟩ := o2 h
    have e : (nI j).toNatClampNeg = j := nI_clamp (by omega)
    show (nI j).toNatClampNeg < n ∧ nI j = nI (nI j).toNatClampNeg
    rw [e]; exact ⟨hj, rfl⟩
  · obtain ⟨j, _, hj, rfl⟩ := o3 h
    have e : (nI j).toNatClampNeg = j := nI_clamp (by omega)
    show (nI j).toNatClampNeg ≤ 3 ∧ nI j = nI (nI j).toNatClampNeg
    rw [e]; exact ⟨hj, rfl⟩
  · obtain ⟨j, _, hj, rfl⟩ := o4 h
    have e : (nI j).toNatClampNeg = j := nI_clamp (by omega)
    show (nI j).toNatClampNeg ≤ 8 ∧ nI j = nI (nI j).toNatClampNeg
    rw [e]; exact ⟨hj, rfl⟩
  · show (if k = 0 then H else []).length ≤ 24
    split
    · exact hl
    · decide
  · intro q hq
    have hq' : q ∈ (if k = 0 then H else []) := hq
    split at hq'
    · exact h16 q hq'
    · exact absurd hq' List.not_mem_nil
theorem ln_pl_new {n : Nat} {P : Nat → ln_E} {K X A B G GK GV K' X' A' B' G' GK' GV' : Nat → Int32} {e : ln_E} (w : ln_wf n P) (pl : ln_pl n P K X A B G GK GV) (h1 : ∀ d, d < n → K' d = K d ∧ X' d = X d ∧ A' d = A d ∧ B' d = B d ∧ G' d = G d) (h2 : ∀ x, x < 24 * n → GK' x = GK x ∧ GV' x = GV x)
    (h3 : K' n = nI (ln_ka e) ∧ (ln_ka e ≠ 0 → X' n = nI (ln_fx e)) ∧ A' n = ln_aa e ∧ B' n = ln_bb e ∧ (ln_ka e = 0 → G' n = nI (ln_sr e).length ∧ ∀ i q, (ln_sr e)[i]? = some q → GK' (24 * n + i) = nI q.1 ∧ GV' (24 * n + i) = q.2)) : ln_pl (n + 1) (ln_up P n e) K' X' A' B' G' GK' GV' := by
  intro d hd
  by_cases z : d = n
  · subst z
    rw [ln_up_s]
    exact h3
  · have hd' : d < n := by omega
    rw [ln_up_n z]
    obtain ⟨a1, a2, a3, a4, a5⟩ := h1 d hd'
    rw [a1, a2, a3, a4, a5]
    obtain ⟨b1, b2, b3, b4, b5⟩ := pl d hd'
    refine ⟨b1, b2, b3, b4, fun hk => ⟨(b5 hk).1, fun i q hq => ?_⟩⟩
    have hi := ln_lt_of hq
    have hl := (w d hd').2.2.2.2.2.1
    have := h2 (24 * d + i) (by omega)
    rw [this.1, this.2]
    exact (b5 hk).2 i q hq
end
end
section
section
variable {f_hand f_n : Int32} {a_handKey a_handValue a_kind a_px a_pa a_pb a_given a_givenKey a_givenValue a_size a_big a_key a_value : Nat → Int32}
theorem ln_yf25 {post : Int32 → Prop} {n k : Nat} {x a : Int32} (hn : f_n = nI n) (hn16 : n < 16) (hk : k ≤ 11) (h1 : k ≠ 0 → ∃ j, j < n ∧ x = nI j) (k1 : ln_ok n k x a → post 1) (k0 : ¬ ln_ok n k x a → post 0) : wY_fits_25 post (nI k) a f_hand f_n a_handKey a_handValue a_kind a_px a_pa a_pb a_given a_givenKey a_givenValue a_size a_big a_key a_value := by
  have g2 : ln_two k → wY_fits_42 post a f_hand f_n a_handKey a_handValue a_kind a_px a_pa a_pb a_given a_givenKey a_givenValue a_size a_big a_key a_value := fun h => by
    unfold wY_fits_42
    rcases pk_ix a (n := n) (by omega) with z | z | ⟨j, hj, rfl⟩
    · exact ln_yisSet0 hn (Or.inl z) ⟨narrow_b0, k0 fun ok => ln_nset (by omega) (Or.inl z) (ok.2.1 h)⟩
    · exact ln_yisSet0 hn (Or.inr z) ⟨narrow_b0, k0 fun ok => ln_nset (by omega) (Or.inr z) (ok.2.1 h)⟩
    · exact ln_yisSet1 hn (by omega) hj ⟨narrow_b1, k1 ⟨h1, fun _ => ⟨j, hj, rfl⟩, fun z => by omega, fun z => by omega⟩⟩
  have g4 : k = 4 ∨ k = 6 → wY_fits_59 post a f_hand f_n a_handKey a_handValue a_kind a_px a_pa a_pb a_given a_givenKey a_givenValue a_size a_big a_key a_value := fun h => by
    unfold wY_fits_59
    rcases ln_rng a 0 3 (by decide) (by decide) with z | ⟨z1, z2, z3⟩ | z
    · exact ln_yin0 (Or.inl z) ⟨narrow_b0, k0 fun ok => ln_nrng (by decide) (Or.inl z) (ok.2.2.1 h)⟩
    · exact ln_yin0 (Or.inr z3) ⟨narrow_b0, k0 fun ok => ln_nrng (by decide) (Or.inr z3) (ok.2.2.1 h)⟩
    · have h3 := z
      obtain ⟨j, j1, j2, rfl⟩ := z
      exact ln_yin1 (a := 0) (b := 3) (by omega) (by decide) j1 j2 ⟨narrow_b1, k1 ⟨h1, fun z => by omega, fun _ => h3, fun z => by omega⟩⟩
  unfold wY_fits_25
  refine pk_eq k 5 (fun h => g2 (by omega)) fun h5 => pk_eq k 7 (fun h => g2 (by omega)) fun h7 => pk_eq k 9 (fun h => g2 (by omega)) fun h9 => pk_eq k 4 (fun h => g4 (by omega)) fun h4 => pk_eq k 6 (fun h => g4 (by omega)) fun h6 => pk_eq k 10 (fun h => ?_) fun h10 => k1 ⟨h1, fun z => by omega, fun z => by omega, fun z => by omega⟩
  rcases ln_rng a 1 8 (by decide) (by decide) with z | ⟨z1, z2, z3⟩ | z
  · exact ln_yin0 (Or.inl z) (br_t rfl (k0 fun ok => ln_nrng (by decide) (Or.inl z) (ok.2.2.2 h)))
  · exact ln_yin0 (Or.inr z3) (br_t rfl (k0 fun ok => ln_nrng (by decide) (Or.inr z3) (ok.2.2.2 h)))
  · have h3 := z
    obtain ⟨j, j1, j2, rfl⟩ := z
    exact ln_yin1 (a := 1) (b := 8) (by omega) (by decide) j1 j2 (br_f ln_10 (k1 ⟨h1, fun z => by omega, fun z => by omega, fun _ => h3⟩))
theorem ln_yfits {post : Int32 → Prop} {n k : Nat} {x a : Int32} (hn : f_n = nI n) (hn16 : n < 16) (hk : k ≤ 11) (k1 : ln_ok n k x a → post 1) (k0 : ¬ ln_ok n k x a → post 0) : wpY_fits post (f_hand, f_n, a_handKey, a_handValue, a_kind, a_px, a_pa, a_pb, a_given, a_givenKey, a_givenValue, a_size, a_big, a_key, a_value) (nI k) x a := by
  unfold wpY_fits
  refine ln_yin1 (a := 0) (b := 11) (by omega) (by decide) (Nat.zero_le k) hk (br_f ln_10 (pk_le k 0 (fun h => ?_) (fun h => ?_)))
  · exact ln_yf25 hn hn16 hk (fun z => by omega) k1 k0
  · have hk0 : k ≠ 0 := by omega
    rcases pk_ix x (n := n) (by omega) with z | z | ⟨j, hj, rfl⟩
    · exact ln_yisSet0 hn (Or.inl z) (br_t rfl (k0 fun ok => ln_nset (by omega) (Or.inl z) (ok.1 hk0)))
    · exact ln_yisSet0 hn (Or.inr z) (br_t rfl (k0 fun ok => ln_nset (by omega) (Or.inr z) (ok.1 hk0)))
    · exact ln_yisSet1 hn (by omega) hj (br_f ln_10 (ln_yf25 hn hn16 hk (fun _ => ⟨j, hj, rfl⟩) k1 k0))
theorem ln_yd82 {post : Int32 → SY → Prop} {H : List ln_K} {d : Nat} {K0 V0 : Nat → Int32} (hd : d < 16) (hh : ln_hd H f_hand a_handKey a_handValue) (hn : f_n = nI d)
    (k : ∀ gk gv, ln_sg gk gv (24 * d) H → (∀ x, x < 24 * d → gk x = K0 x ∧ gv x = V0 x) → post (nI d) (0, nI (d + 1), a_handKey, a_handValue, a_kind, a_px, a_pa, a_pb, upd a_given d (nI H.length), gk, gv, a_size, a_big, a_key, a_value)) :
    ∀ (r i : Nat) (gk gv : Nat → Int32), i + r = H.length → (∀ j q, j < i → H[j]? = some q → gk (24 * d + j) = nI q.1 ∧ gv (24 * d + j) = q.2) → (∀ x, x < 24 * d → gk x = K0 x ∧ gv x = V0 x) → wY_derive_82 post f_hand f_n (r + 1) (nI i) a_handKey a_handValue a_kind a_px a_pa a_pb a_given gk gv a_size a_big a_key a_value := by
  obtain ⟨e, hl, h16, hg⟩ := hh
  subst e hn
  have hdn : vp_in (nI d) 16 := vp_in_nI hd (by decide)
  have eD : (nI d).toNatClampNeg = d := nI_clamp (by omega)
  intro r
  induction r with
  | zero =>
    intro i gk gv hi h1 h2
    have kk := k gk gv (fun j q hq => h1 j q (by have := ln_lt_of hq; omega) hq) h2
    unfold wY_derive_82
    rw [eD]
    refine br_t (nI_le (by omega) (by omega)) ⟨hdn, nm_e ?_⟩
    unfold wY_derive_159
    refine nm_r (nI_1 d) ?_
    rw [nI_pred]
    exact kk
  | succ r ih =>
    intro i gk gv hi h1 h2
    obtain ⟨q, hq⟩ := ln_some_of (L := H) (i := i) (by omega)
    have hr := hg i q hq
    rw [Nat.zero_add] at hr
    have hi24 : vp_in (nI i) 24 := vp_in_nI (by omega) (by decide)
    have hi3 : vp_in (24 * nI d + nI i) 384 := by rw [ln_24]; exact vp_in_nI (by omega) (by decide)
    have eI : (nI i).toNatClampNeg = i := nI_clamp (by omega)
    have eJ : (24 * nI d + nI i).toNatClampNeg = 24 * d + i := by rw [ln_24]; exact nI_clamp (by omega)
    unfold wY_derive_82
    rw [eI, eJ, hr.1, hr.2]
    refine br_f (nI_ge (by omega) (by omega)) ⟨hi24, hi3, nm_e ⟨hi24, hi3, nm_e (nm_r (nI_1 _) (ih (i + 1) _ _ (by omega) (fun j p hj hp => ?_) (fun x hx => ?_)))⟩⟩
    · by_cases z : j = i
      · subst z
        rw [hq] at hp
        cases hp
        rw [pk_us, pk_us]
        exact ⟨rfl, rfl⟩
      · rw [pk_un (by omega), pk_un (by omega)]
        exact h1 j p (by omega) hp
    · rw [pk_un (by omega), pk_un (by omega)]
      exact h2 x hx
/-- derive of the reference, when it fits -/
theorem ln_yder {post : Int32 → SY → Prop} {n k : Nat} {x a b : Int32} {H : List ln_K} {P : Nat → ln_E} (hn : f_n = nI n) (hn16 : n < 16) (hk : k ≤ 11) (w : ln_wf n P) (pl : ln_pl n P a_kind a_px a_pa a_pb a_given a_givenKey a_givenValue) (hh : ln_hd H f_hand a_handKey a_handValue) (ok : ln_ok n k x a)
    (K : ∀ fh kk px pa pb gi gk gv H', ln_pl (n + 1) (ln_up P n (ln_ent k x a b H)) kk px pa pb gi gk gv → ln_hd H' fh a_handKey a_handValue → H' = (if k = 0 then [] else H) → post (nI n) (fh, nI (n + 1), a_handKey, a_handValue, kk, px, pa, pb, gi, gk, gv, a_size, a_big, a_key, a_value)) : wpY_derive post (f_hand, f_n, a_handKey, a_handValue, a_kind, a_px, a_pa, a_pb, a_given, a_givenKey, a_givenValue, a_size, a_big, a_key, a_value) (nI k) x a b := by
  have hdn : vp_in (nI n) 16 := vp_in_nI hn16 (by decide)
  have eD : (nI n).toNatClampNeg = n := nI_clamp (by omega)
  have hne : ¬ f_n = 16 := by rw [hn, show (16 : Int32) = nI 16 from rfl, nI_eq (by omega) (by decide)]; omega
  have ofx : k ≠ 0 → x = nI x.toNatClampNeg := fun h => by
    obtain ⟨j, hj, rfl⟩ := ok.1 h
    rw [nI_clamp (by omega)]
  have old : ∀ (f : Nat → Int32) (v : Int32) (d : Nat), d < n → upd f n v d = f d := fun f v d hd => pk_un (by omega)
  unfold wpY_derive
  refine br_f hne (ln_yfits hn hn16 hk (fun _ => br_f ln_10 ?_) (fun z => absurd ok z))
  subst hn
  rw [eD]
  refine ⟨hdn, nm_e ⟨hdn, nm_e ⟨hdn, nm_e ⟨hdn, nm_e ⟨hdn, nm_e (pk_eq k 0 (fun h0 => ?_) (fun h0 => ?_))⟩⟩⟩⟩⟩
  · refine ⟨H.length + 1, ?_⟩
    have e0 : (if k = 0 then H else []) = H := if_pos h0
    refine ln_yd82 (K0 := a_givenKey) (V0 := a_givenValue) hn16 hh rfl (fun gk gv h1 h2 => ?_) H.length 0 _ _ (by omega) (fun j q hj => absurd hj (Nat.not_lt_zero j)) (fun x hx => ⟨rfl, rfl⟩)
    refine K 0 _ _ _ _ _ gk gv [] (ln_pl_new w pl (fun d hd => ⟨old _ _ d hd, old _ _ d hd, old _ _ d hd, old _ _ d hd, (old _ _ d hd).trans (old _ _ d hd)⟩) h2 ⟨pk_us, fun z => absurd h0 z, pk_us, pk_us, fun _ => ⟨?_, fun i q hq => ?_⟩⟩) ⟨rfl, by decide, fun q hq => absurd hq List.not_mem_nil, fun i q hq => absurd (ln_mem_of hq) List.not_mem_nil⟩ (if_pos h0).symm
    · show upd _ n (nI H.length) n = nI (if k = 0 then H else []).length
      rw [e0, pk_us]
    · have hq' : (if k = 0 then H else [])[i]? = some q := hq
      rw [e0] at hq'
      exact h1 i q hq'
  · unfold wY_derive_159
    refine nm_r (nI_1 n) ?_
    rw [nI_pred]
    exact K f_hand _ _ _ _ _ _ _ H (ln_pl_new w pl (fun d hd => ⟨old _ _ d hd, old _ _ d hd, old _ _ d hd, old _ _ d hd, old _ _ d hd⟩) (fun x hx => ⟨rfl, rfl⟩) ⟨pk_us, fun _ => pk_us.trans (ofx h0), pk_us, pk_us, fun z => absurd z h0⟩) hh (if_neg h0).symm
end
end
section
section
variable {f_handCount f_setCount f_levelNow f_chainLength f_pairKeyNow f_pairValueNow f_orderCount : Int32} {a_handKey a_handValue a_kindOf a_fromX a_numberA a_numberB a_sourceCount a_sourceKey a_sourceValue a_pairCount a_pairPart a_pairKey a_pairValue a_there a_kept a_bigness a_needed a_users a_chain a_hasLocal a_local a_hasSum a_sums a_orderKey a_orderValue : Nat → Int32}
theorem ln_dy_new {n : Nat} {C : Nat → Option (List ln_T)} {c : Option (List ln_T)} {pc pp pk pv th bg pc' th' : Nat → Int32} {M : Nat → List ln_T} {Th : Nat → Nat} (hy : ln_dy n C pc pp pk pv th bg M Th) (hp : ln_ps pc' pp pk pv (ln_up M n [])) (hT : ln_ms th' (ln_up Th n 0)) : ln_dy (n + 1) (ln_up C n c) pc' pp pk pv th' (upd bg n 0) (ln_up M n []) (ln_up Th n 0) := by
  refine ⟨hp, hT, fun j hj => ?_, fun j hj e => ?_⟩
  · by_cases z : j = n
    · subst z
      exact Or.inl ⟨ln_up_s, ln_up_s⟩
    · have h := hy.2.2.1 j (by omega)
      unfold ln_gd at h ⊢
      rw [ln_up_n z, ln_up_n z, ln_up_n z]
      exact h
  · by_cases z : j = n
    · subst z
      rw [pk_us] at e
      exact absurd e (by decide)
    · rw [pk_un z] at e
      rw [ln_up_n z]
      exact hy.2.2.2 j (by omega) e
theorem ln_xd97 {post : Int32 → SX → Prop} {n k : Nat} {x a b : Int32} {H : List ln_K} {P : Nat → ln_E} {C : Nat → Option (List ln_T)} {M : Nat → List ln_T} {Th : Nat → Nat} (hn : f_setCount = nI n) (hn16 : n < 16) (hk : k ≤ 11) (w : ln_wf n P) (pl : ln_pl n P a_kindOf a_fromX a_numberA a_numberB a_sourceCount a_sourceKey a_sourceValue) (hh : ln_hd H f_handCount a_handKey a_handValue) (ok : ln_ok n k x a) (hy : ln_dy n C a_pairCount a_pairPart a_pairKey a_pairValue a_there a_bigness M Th)
    (K : ∀ fh kk px pa pb gi gk gv pc th kp bg M Th H', ln_pl (n + 1) (ln_up P n (ln_ent k x a b H)) kk px pa pb gi gk gv → ln_dy (n + 1) (ln_up C n (ln_st (ln_ent k x a b H) C)) pc a_pairPart a_pairKey a_pairValue th bg M Th → ln_hd H' fh a_handKey a_handValue → H' = (if k = 0 then [] else H) → post (nI n) (fh, nI (n + 1), f_levelNow, f_chainLength, f_pairKeyNow, f_pairValueNow, f_orderCount, a_handKey, a_handValue, kk, px, pa, pb, gi, gk, gv, pc, a_pairPart, a_pairKey, a_pairValue, th, kp, bg, a_needed, a_users, a_chain, a_hasLocal, a_local, a_hasSum, a_sums, a_orderKey, a_orderValue)) : wX_derive_97 post (nI k) x a b f_handCount f_setCount f_levelNow f_chainLength f_pairKeyNow f_pairValueNow f_orderCount a_handKey a_handValue a_kindOf a_fromX a_numberA a_numberB a_sourceCount a_sourceKey a_sourceValue a_pairCount a_pairPart a_pairKey a_pairValue a_there a_kept a_bigness a_needed a_users a_chain a_hasLocal a_local a_hasSum a_sums a_orderKey a_orderValue := by
  have hdn : vp_in (nI n) 16 := vp_in_nI hn16 (by decide)
  have eD : (nI n).toNatClampNeg = n := nI_clamp (by omega)
  have ofx : k ≠ 0 → vp_nar .byte x.toInt8.toInt32 = nI x.toNatClampNeg := fun h => by
    obtain ⟨j, hj, rfl⟩ := ok.1 h
    rw [nI_clamp (by omega), ln_nb8 (by omega)]
  have old : ∀ (f : Nat → Int32) (v : Int32) (d : Nat), d < n → upd f n v d = f d := fun f v d hd => pk_un (by omega)
  subst hn
  unfold wX_derive_97
  rw [eD, ln_nb8 (by omega), ln_vb0, ln_vy0]
  refine nm_r (nI_1 n) ⟨hdn, nm_e ⟨hdn, nm_e ⟨hdn, nm_e ⟨hdn, nm_e ?_⟩⟩⟩⟩
  refine ln_xforget hy.1 hy.2.1 hn16 fun pc th hp hT => ?_
  have hy' := ln_dy_new (c := ln_st (ln_ent k x a b H) C) hy hp hT
  refine ⟨hdn, nm_e ⟨hdn, nm_e (pk_eq k 0 (fun h0 => ?_) (fun h0 => ?_))⟩⟩
  · have e0 : (if k = 0 then H else []) = H := if_pos h0
    refine ln_xtake hn16 hh fun sk sv h1 h2 => ?_
    refine K 0 _ _ _ _ _ sk sv pc th _ _ _ _ [] (ln_pl_new w pl (fun d hd => ⟨old _ _ d hd, old _ _ d hd, old _ _ d hd, old _ _ d hd, old _ _ d hd⟩) h2 ⟨pk_us, fun z => absurd h0 z, pk_us, pk_us, fun _ => ⟨?_, fun i q hq => ?_⟩⟩) hy' ⟨rfl, by decide, fun q hq => absurd hq List.not_mem_nil, fun i q hq => absurd (ln_mem_of hq) List.not_mem_nil⟩ (if_pos h0).symm
    · show upd _ n (nI H.length) n = nI (if k = 0 then H else []).length
      rw [e0, pk_us]
    · have hq' : (if k = 0 then H else [])[i]? = some q := hq
      rw [e0] at hq'
      exact h1 i q hq'
  · exact K f_handCount _ _ _ _ _ _ _ pc th _ _ _ _ H (ln_pl_new w pl (fun d hd => ⟨old _ _ d hd, old _ _ d hd, old _ _ d hd, old _ _ d hd, rfl⟩) (fun x hx => ⟨rfl, rfl⟩) ⟨pk_us, fun _ => pk_us.trans (ofx h0), pk_us, pk_us, fun z => absurd z h0⟩) hy' hh (if_neg h0).symm
end
section
variable {f_handCount f_setCount f_levelNow f_chainLength f_pairKeyNow f_pairValueNow f_orderCount : Int32} {a_handKey a_handValue a_kindOf a_fromX a_numberA a_numberB a_sourceCount a_sourceKey a_sourceValue a_pairCount a_pairPart a_pairKey a_pairValue a_there a_kept a_bigness a_needed a_users a_chain a_hasLocal a_local a_hasSum a_sums a_orderKey a_orderValue : Nat → Int32}
variable {f_hand f_n : Int32} {b_handKey b_handValue a_kind a_px a_pa a_pb a_given a_givenKey a_givenValue a_size a_big a_key a_value : Nat → Int32}
/-- the relation, over the fields that matter -/
def ln_R (f_handCount f_setCount : Int32) (a_handKey a_handValue a_kindOf a_fromX a_numberA a_numberB a_sourceCount a_sourceKey a_sourceValue a_pairCount a_pairPart a_pairKey a_pairValue a_there a_bigness : Nat → Int32) (f_hand f_n : Int32) (b_handKey b_handValue a_kind a_px a_pa a_pb a_given a_givenKey a_givenValue : Nat → Int32) : Prop :=
  ∃ (n : Nat) (P : Nat → ln_E) (C : Nat → Option (List ln_T)) (M : Nat → List ln_T) (Th : Nat → Nat) (H : List ln_K), n ≤ 16 ∧ f_setCount = nI n ∧ f_n = nI n ∧ ln_pl n P a_kindOf a_fromX a_numberA a_numberB a_sourceCount a_sourceKey a_sourceValue ∧ ln_pl n P a_kind a_px a_pa a_pb a_given a_givenKey a_givenValue ∧ ln_wf n P ∧ ln_ct n P C ∧ ln_dy n C a_pairCount a_pairPart a_pairKey a_pairValue a_there a_bigness M Th ∧ ln_hd H f_handCount a_handKey a_handValue ∧ ln_hd H f_hand b_handKey b_handValue
/-- the two objects hold the same plans and the same hand, and the pairs of X are parts of the contents -/
def i_Rel (_ : Nat) (u : SX) (v : SY) : Prop := match u, v with
  | (f_handCount, f_setCount, f_levelNow, f_chainLength, f_pairKeyNow, f_pairValueNow, f_orderCount, a_handKey, a_handValue, a_kindOf, a_fromX, a_numberA, a_numberB, a_sourceCount, a_sourceKey, a_sourceValue, a_pairCount, a_pairPart, a_pairKey, a_pairValue, a_there, a_kept, a_bigness, a_needed, a_users, a_chain, a_hasLocal, a_local, a_hasSum, a_sums, a_orderKey, a_orderValue), (f_hand, f_n, b_handKey, b_handValue, a_kind, a_px, a_pa, a_pb, a_given, a_givenKey, a_givenValue, a_size, a_big, a_key, a_value) => ln_R f_handCount f_setCount a_handKey a_handValue a_kindOf a_fromX a_numberA a_numberB a_sourceCount a_sourceKey a_sourceValue a_pairCount a_pairPart a_pairKey a_pairValue a_there a_bigness f_hand f_n b_handKey b_handValue a_kind a_px a_pa a_pb a_given a_givenKey a_givenValue
theorem ln_mkR {k : Nat} (h : ln_R f_handCount f_setCount a_handKey a_handValue a_kindOf a_fromX a_numberA a_numberB a_sourceCount a_sourceKey a_sourceValue a_pairCount a_pairPart a_pairKey a_pairValue a_there a_bigness f_hand f_n b_handKey b_handValue a_kind a_px a_pa a_pb a_given a_givenKey a_givenValue) : i_Rel k (f_handCount, f_setCount, f_levelNow, f_chainLength, f_pairKeyNow, f_pairValueNow, f_orderCount, a_handKey, a_handValue, a_kindOf, a_fromX, a_numberA, a_numberB, a_sourceCount, a_sourceKey, a_sourceValue, a_pairCount, a_pairPart, a_pairKey, a_pairValue, a_there, a_kept, a_bigness, a_needed, a_users, a_chain, a_hasLocal, a_local, a_hasSum, a_sums, a_orderKey, a_orderValue) (f_hand, f_n, b_handKey, b_handValue, a_kind, a_px, a_pa, a_pb, a_given, a_givenKey, a_givenValue, a_size, a_big, a_key, a_value) := h
theorem ln_el {k : Nat} {u : SX} {v : SY} {Q : SX → SY → Prop} (I : i_Rel k u v)
    (h : ∀ f_handCount f_setCount f_levelNow f_chainLength f_pairKeyNow f_pairValueNow f_orderCount a_handKey a_handValue a_kindOf a_fromX a_numberA a_numberB a_sourceCount a_sourceKey a_sourceValue a_pairCount a_pairPart a_pairKey a_pairValue a_there a_kept a_bigness a_needed a_users a_chain a_hasLocal a_local a_hasSum a_sums a_orderKey a_orderValue f_hand f_n b_handKey b_handValue a_kind a_px a_pa a_pb a_given a_givenKey a_givenValue a_size a_big a_key a_value, ln_R f_handCount f_setCount a_handKey a_handValue a_kindOf a_fromX a_numberA a_numberB a_sourceCount a_sourceKey a_sourceValue a_pairCount a_pairPart a_pairKey a_pairValue a_there a_bigness f_hand f_n b_handKey b_handValue a_kind a_px a_pa a_pb a_given a_givenKey a_givenValue → Q (f_handCount, f_setCount, f_levelNow, f_chainLength, f_pairKeyNow, f_pairValueNow, f_orderCount, a_handKey, a_handValue, a_kindOf, a_fromX, a_numberA, a_numberB, a_sourceCount, a_sourceKey, a_sourceValue, a_pairCount, a_pairPart, a_pairKey, a_pairValue, a_there, a_kept, a_bigness, a_needed, a_users, a_chain, a_hasLocal, a_local, a_hasSum, a_sums, a_orderKey, a_orderValue) (f_hand, f_n, b_handKey, b_handValue, a_kind, a_px, a_pa, a_pb, a_given, a_givenKey, a_givenValue, a_size, a_big, a_key, a_value)) : Q u v :=
  match u, v, I with
  | (f_handCount, f_setCount, f_levelNow, f_chainLength, f_pairKeyNow, f_pairValueNow, f_orderCount, a_handKey, a_handValue, a_kindOf, a_fromX, a_numberA, a_numberB, a_sourceCount, a_sourceKey, a_sourceValue, a_pairCount, a_pairPart, a_pairKey, a_pairValue, a_there, a_kept, a_bigness, a_needed, a_users, a_chain, a_hasLocal, a_local, a_hasSum, a_sums, a_orderKey, a_orderValue), (f_hand, f_n, b_handKey, b_handValue, a_kind, a_px, a_pa, a_pb, a_given, a_givenKey, a_givenValue, a_size, a_big, a_key, a_value), I => h f_handCount f_setCount f_levelNow f_chainLength f_pairKeyNow f_pairValueNow f_orderCount a_handKey a_handValue a_kindOf a_fromX a_numberA a_numberB a_sourceCount a_sourceKey a_sourceValue a_pairCount a_pairPart a_pairKey a_pairValue a_there a_kept a_bigness a_needed a_users a_chain a_hasLocal a_local a_hasSum a_sums a_orderKey a_orderValue f_hand f_n b_handKey b_handValue a_kind a_px a_pa a_pb a_given a_givenKey a_givenValue a_size a_big a_key a_value I
theorem i_up {k : Nat} {u : SX} {v : SY} (h : i_Rel k u v) : i_Rel (k + 5) u v := h
theorem i_vc0 : wpX_init (fun u => wpY_init (fun v => i_Rel 0 u v)) := by
  unfold wpX_init wpY_init
  refine ln_mkR ⟨0, fun _ => (0, 0, 0, 0, []), fun _ => none, fun _ => [], fun _ => 0, [], by decide, rfl, rfl, fun d hd => absurd hd (Nat.not_lt_zero d), fun d hd => absurd hd (Nat.not_lt_zero d), fun d hd => absurd hd (Nat.not_lt_zero d), fun d hd => absurd hd (Nat.not_lt_zero d), ⟨fun d hd => ⟨rfl, Nat.zero_le 48, ln_rg_n, fun i t ht => absurd (ln_mem_of ht) List.not_mem_nil⟩, fun d hd => ⟨rfl, (by decide : 0 < 16)⟩, fun d hd => absurd hd (Nat.not_lt_zero d), fun d hd => absurd hd (Nat.not_lt_zero d)⟩, ⟨rfl, by decide, fun q hq => absurd hq List.not_mem_nil, fun i q hq => absurd (ln_mem_of hq) List.not_mem_nil⟩, ⟨rfl, by decide, fun q hq => absurd hq List.not_mem_nil, fun i q hq => absurd (ln_mem_of hq) List.not_mem_nil⟩⟩
end
end
section
section
variable {f_handCount f_setCount f_levelNow f_chainLength f_pairKeyNow f_pairValueNow f_orderCount : Int32} {a_handKey a_handValue a_kindOf a_fromX a_numberA a_numberB a_sourceCount a_sourceKey a_sourceValue a_pairCount a_pairPart a_pairKey a_pairValue a_there a_kept a_bigness a_needed a_users a_chain a_hasLocal a_local a_hasSum a_sums a_orderKey a_orderValue : Nat → Int32}
theorem ln_xcount0 {post : Int32 → SX → Prop} {n : Nat} {x : Int32} (hn : f_setCount = nI n) (hd : x < 0 ∨ nI n ≤ x) (k : post (-1) (f_handCount, f_setCount, f_levelNow, f_chainLength, f_pairKeyNow, f_pairValueNow, f_orderCount, a_handKey, a_handValue, a_kindOf, a_fromX, a_numberA, a_numberB, a_sourceCount, a_sourceKey, a_sourceValue, a_pairCount, a_pairPart, a_pairKey, a_pairValue, a_there, a_kept, a_bigness, a_needed, a_users, a_chain, a_hasLocal, a_local, a_hasSum, a_sums, a_orderKey, a_orderValue)) : wpX_count post (f_handCount, f_setCount, f_levelNow, f_chainLength, f_pairKeyNow, f_pairValueNow, f_orderCount, a_handKey, a_handValue, a_kindOf, a_fromX, a_numberA, a_numberB, a_sourceCount, a_sourceKey, a_sourceValue, a_pairCount, a_pairPart, a_pairKey, a_pairValue, a_there, a_kept, a_bigness, a_needed, a_users, a_chain, a_hasLocal, a_local, a_hasSum, a_sums, a_orderKey, a_orderValue) x := by
  unfold wpX_count
  exact ln_xisSet0 hn hd (br_t rfl k)
theorem ln_xtotal0 {post : Int32 → SX → Prop} {n : Nat} {x : Int32} (hn : f_setCount = nI n) (hd : x < 0 ∨ nI n ≤ x) (k : post 0 (f_handCount, f_setCount, f_levelNow, f_chainLength, f_pairKeyNow, f_pairValueNow, f_orderCount, a_handKey, a_handValue, a_kindOf, a_fromX, a_numberA, a_numberB, a_sourceCount, a_sourceKey, a_sourceValue, a_pairCount, a_pairPart, a_pairKey, a_pairValue, a_there, a_kept, a_bigness, a_needed, a_users, a_chain, a_hasLocal, a_local, a_hasSum, a_sums, a_orderKey, a_orderValue)) : wpX_total post (f_handCount, f_setCount, f_levelNow, f_chainLength, f_pairKeyNow, f_pairValueNow, f_orderCount, a_handKey, a_handValue, a_kindOf, a_fromX, a_numberA, a_numberB, a_sourceCount, a_sourceKey, a_sourceValue, a_pairCount, a_pairPart, a_pairKey, a_pairValue, a_there, a_kept, a_bigness, a_needed, a_users, a_chain, a_hasLocal, a_local, a_hasSum, a_sums, a_orderKey, a_orderValue) x := by
  unfold wpX_total
  exact ln_xisSet0 hn hd (br_t rfl k)
theorem ln_xlookup0 {post : Int32 → SX → Prop} {n : Nat} {x : Int32} {y : Int32} (hn : f_setCount = nI n) (hd : x < 0 ∨ nI n ≤ x) (k : post 0 (f_handCount, f_setCount, f_levelNow, f_chainLength, f_pairKeyNow, f_pairValueNow, f_orderCount, a_handKey, a_handValue, a_kindOf, a_fromX, a_numberA, a_numberB, a_sourceCount, a_sourceKey, a_sourceValue, a_pairCount, a_pairPart, a_pairKey, a_pairValue, a_there, a_kept, a_bigness, a_needed, a_users, a_chain, a_hasLocal, a_local, a_hasSum, a_sums, a_orderKey, a_orderValue)) : wpX_lookup post (f_handCount, f_setCount, f_levelNow, f_chainLength, f_pairKeyNow, f_pairValueNow, f_orderCount, a_handKey, a_handValue, a_kindOf, a_fromX, a_numberA, a_numberB, a_sourceCount, a_sourceKey, a_sourceValue, a_pairCount, a_pairPart, a_pairKey, a_pairValue, a_there, a_kept, a_bigness, a_needed, a_users, a_chain, a_hasLocal, a_local, a_hasSum, a_sums, a_orderKey, a_orderValue) x y := by
  unfold wpX_lookup
  exact ln_xisSet0 hn hd (br_t rfl k)
theorem ln_xkeyOf0 {post : Int32 → SX → Prop} {n : Nat} {x : Int32} {y : Int32} (hn : f_setCount = nI n) (hd : x < 0 ∨ nI n ≤ x) (k : post (-1) (f_handCount, f_setCount, f_levelNow, f_chainLength, f_pairKeyNow, f_pairValueNow, f_orderCount, a_handKey, a_handValue, a_kindOf, a_fromX, a_numberA, a_numberB, a_sourceCount, a_sourceKey, a_sourceValue, a_pairCount, a_pairPart, a_pairKey, a_pairValue, a_there, a_kept, a_bigness, a_needed, a_users, a_chain, a_hasLocal, a_local, a_hasSum, a_sums, a_orderKey, a_orderValue)) : wpX_keyOf post (f_handCount, f_setCount, f_levelNow, f_chainLength, f_pairKeyNow, f_pairValueNow, f_orderCount, a_handKey, a_handValue, a_kindOf, a_fromX, a_numberA, a_numberB, a_sourceCount, a_sourceKey, a_sourceValue, a_pairCount, a_pairPart, a_pairKey, a_pairValue, a_there, a_kept, a_bigness, a_needed, a_users, a_chain, a_hasLocal, a_local, a_hasSum, a_sums, a_orderKey, a_orderValue) x y := by
  unfold wpX_keyOf
  exact ln_xisSet0 hn hd (br_t rfl k)
theorem ln_xvalueOf0 {post : Int32 → SX → Prop} {n : Nat} {x : Int32} {y : Int32} (hn : f_setCount = nI n) (hd : x < 0 ∨ nI n ≤ x) (k : post 0 (f_handCount, f_setCount, f_levelNow, f_chainLength, f_pairKeyNow, f_pairValueNow, f_orderCount, a_handKey, a_handValue, a_kindOf, a_fromX, a_numberA, a_numberB, a_sourceCount, a_sourceKey, a_sourceValue, a_pairCount, a_pairPart, a_pairKey, a_pairValue, a_there, a_kept, a_bigness, a_needed, a_users, a_chain, a_hasLocal, a_local, a_hasSum, a_sums, a_orderKey, a_orderValue)) : wpX_valueOf post (f_handCount, f_setCount, f_levelNow, f_chainLength, f_pairKeyNow, f_pairValueNow, f_orderCount, a_handKey, a_handValue, a_kindOf, a_fromX, a_numberA, a_numberB, a_sourceCount, a_sourceKey, a_sourceValue, a_pairCount, a_pairPart, a_pairKey, a_pairValue, a_there, a_kept, a_bigness, a_needed, a_users, a_chain, a_hasLocal, a_local, a_hasSum, a_sums, a_orderKey, a_orderValue) x y := by
  unfold wpX_valueOf
  exact ln_xisSet0 hn hd (br_t rfl k)
end
section
variable {f_hand f_n : Int32} {a_handKey a_handValue a_kind a_px a_pa a_pb a_given a_givenKey a_givenValue a_size a_big a_key a_value : Nat → Int32}
theorem ln_ycount0 {post : Int32 → SY → Prop} {n : Nat} {x : Int32} (hn : f_n = nI n) (hd : x < 0 ∨ nI n ≤ x) (k : post (-1) (f_hand, f_n, a_handKey, a_handValue, a_kind, a_px, a_pa, a_pb, a_given, a_givenKey, a_givenValue, a_size, a_big, a_key, a_value)) : wpY_count post (f_hand, f_n, a_handKey, a_handValue, a_kind, a_px, a_pa, a_pb, a_given, a_givenKey, a_givenValue, a_size, a_big, a_key, a_value) x := by
  unfold wpY_count
  exact ln_yisSet0 hn hd (br_t rfl k)
theorem ln_ytotal0 {post : Int32 → SY → Prop} {n : Nat} {x : Int32} (hn : f_n = nI n) (hd : x < 0 ∨ nI n ≤ x) (k : post 0 (f_hand, f_n, a_handKey, a_handValue, a_kind, a_px, a_pa, a_pb, a_given, a_givenKey, a_givenValue, a_size, a_big, a_key, a_value)) : wpY_total post (f_hand, f_n, a_handKey, a_handValue, a_kind, a_px, a_pa, a_pb, a_given, a_givenKey, a_givenValue, a_size, a_big, a_key, a_value) x := by
  unfold wpY_total
  exact ln_yask0 hn hd (br_t rfl k)
theorem ln_ylookup0 {post : Int32 → SY → Prop} {n : Nat} {x : Int32} {y : Int32} (hn : f_n = nI n) (hd : x < 0 ∨ nI n ≤ x) (k : post 0 (f_hand, f_n, a_handKey, a_handValue, a_kind, a_px, a_pa, a_pb, a_given, a_givenKey, a_givenValue, a_size, a_big, a_key, a_value)) : wpY_lookup post (f_hand, f_n, a_handKey, a_handValue, a_kind, a_px, a_pa, a_pb, a_given, a_givenKey, a_givenValue, a_size, a_big, a_key, a_value) x y := by
  unfold wpY_lookup
  exact ln_yask0 hn hd (br_t rfl k)
theorem ln_ykeyOf0 {post : Int32 → SY → Prop} {n : Nat} {x : Int32} {y : Int32} (hn : f_n = nI n) (hd : x < 0 ∨ nI n ≤ x) (k : post (-1) (f_hand, f_n, a_handKey, a_handValue, a_kind, a_px, a_pa, a_pb, a_given, a_givenKey, a_givenValue, a_size, a_big, a_key, a_value)) : wpY_keyOf post (f_hand, f_n, a_handKey, a_handValue, a_kind, a_px, a_pa, a_pb, a_given, a_givenKey, a_givenValue, a_size, a_big, a_key, a_value) x y := by
  unfold wpY_keyOf
  exact ln_yisSet0 hn hd (br_t rfl k)
theorem ln_yvalueOf0 {post : Int32 → SY → Prop} {n : Nat} {x : Int32} {y : Int32} (hn : f_n = nI n) (hd : x < 0 ∨ nI n ≤ x) (k : post 0 (f_hand, f_n, a_handKey, a_handValue, a_kind, a_px, a_pa, a_pb, a_given, a_givenKey, a_givenValue, a_size, a_big, a_key, a_value)) : wpY_valueOf post (f_hand, f_n, a_handKey, a_handValue, a_kind, a_px, a_pa, a_pb, a_given, a_givenKey, a_givenValue, a_size, a_big, a_key, a_value) x y := by
  unfold wpY_valueOf
  exact ln_yask0 hn hd (br_t rfl k)
end
section
theorem i_vc_count {k : Nat} {u : SX} {v : SY} (I : i_Rel k u v) (hk : k + 5 ≤ 2560) (v1 : Int32) : wpX_count (fun r u' => wpY_count (fun r' v' => r' = r ∧ i_Rel (k + 5) u' v') v v1) u v1 := by
  refine ln_el (Q := fun u v => wpX_count (fun r u' => wpY_count (fun r' v' => r' = r ∧ i_Rel (k + 5) u' v') v v1) u v1) I ?_
  intro f_handCount f_setCount f_levelNow f_chainLength f_pairKeyNow f_pairValueNow f_orderCount a_handKey a_handValue a_kindOf a_fromX a_numberA a_numberB a_sourceCount a_sourceKey a_sourceValue a_pairCount a_pairPart a_pairKey a_pairValue a_there a_kept a_bigness a_needed a_users a_chain a_hasLocal a_local a_hasSum a_sums a_orderKey a_orderValue f_hand f_n b_handKey b_handValue a_kind a_px a_pa a_pb a_given a_givenKey a_givenValue a_size a_big a_key a_value
  rintro ⟨n, P, C, M, Th, H, hn16, hn, hn', pl, pl', w, ct, hy, hh, hh'⟩
  rcases pk_ix v1 (n := n) (by omega) with z | z | ⟨d, hd, rfl⟩
  · exact ln_xcount0 hn (Or.inl z) (ln_ycount0 hn' (Or.inl z) ⟨rfl, ln_mkR ⟨n, P, C, M, Th, H, hn16, hn, hn', pl, pl', w, ct, hy, hh, hh'⟩⟩)
  · exact ln_xcount0 hn (Or.inr z) (ln_ycount0 hn' (Or.inr z) ⟨rfl, ln_mkR ⟨n, P, C, M, Th, H, hn16, hn, hn', pl, pl', w, ct, hy, hh, hh'⟩⟩)
  · refine ln_xcount hn hn16 pl w ct hd hy (fun cl kn vn ch hl lc hs sm pc pp pk pv th bg nd us M Tc L hy' hL => ?_) (fun hc cl kn vn ch hl lc hs sm pc pp pk pv th bg nd us M Tc hy' => ?_)
    · refine ln_ycount hn' hn16 pl' w ct hd (fun sz bi ky vy R hR => ⟨?_, ln_mkR ⟨n, P, C, M, Tc, H, hn16, hn, hn', pl, pl', w, ct, hy', hh, hh'⟩⟩) (fun hc => ?_)
      · rw [hL] at hR
        cases hR
        rfl
      · rw [hL] at hc
        exact ln_cn0 hc
    · refine ln_ycount hn' hn16 pl' w ct hd (fun sz bi ky vy R hR => ?_) (fun _ sz bi ky vy => ⟨rfl, ln_mkR ⟨n, P, C, M, Tc, H, hn16, hn, hn', pl, pl', w, ct, hy', hh, hh'⟩⟩)
      rw [hR] at hc
      exact ln_cn0 hc
theorem i_vc_total {k : Nat} {u : SX} {v : SY} (I : i_Rel k u v) (hk : k + 5 ≤ 2560) (v1 : Int32) : wpX_total (fun r u' => wpY_total (fun r' v' => r' = r ∧ i_Rel (k + 5) u' v') v v1) u v1 := by
  refine ln_el (Q := fun u v => wpX_total (fun r u' => wpY_total (fun r' v' => r' = r ∧ i_Rel (k + 5) u' v') v v1) u v1) I ?_
  intro f_handCount f_setCount f_levelNow f_chainLength f_pairKeyNow f_pairValueNow f_orderCount a_handKey a_handValue a_kindOf a_fromX a_numberA a_numberB a_sourceCount a_sourceKey a_sourceValue a_pairCount a_pairPart a_pairKey a_pairValue a_there a_kept a_bigness a_needed a_users a_chain a_hasLocal a_local a_hasSum a_sums a_orderKey a_orderValue f_hand f_n b_handKey b_handValue a_kind a_px a_pa a_pb a_given a_givenKey a_givenValue a_size a_big a_key a_value
  rintro ⟨n, P, C, M, Th, H, hn16, hn, hn', pl, pl', w, ct, hy, hh, hh'⟩
  rcases pk_ix v1 (n := n) (by omega) with z | z | ⟨d, hd, rfl⟩
  · exact ln_xtotal0 hn (Or.inl z) (ln_ytotal0 hn' (Or.inl z) ⟨rfl, ln_mkR ⟨n, P, C, M, Th, H, hn16, hn, hn', pl, pl', w, ct, hy, hh, hh'⟩⟩)
  · exact ln_xtotal0 hn (Or.inr z) (ln_ytotal0 hn' (Or.inr z) ⟨rfl, ln_mkR ⟨n, P, C, M, Th, H, hn16, hn, hn', pl, pl', w, ct, hy, hh, hh'⟩⟩)
  · refine ln_xtotal hn hn16 pl w ct hd hy (fun cl kn vn ch hl lc hs sm pc pp pk pv th bg nd us M Tc L hy' hL => ?_) (fun hc cl kn vn ch hl lc hs sm pc pp pk pv th bg nd us M Tc hy' => ?_)
    · refine ln_ytotal hn' hn16 pl' w ct hd (fun sz bi ky vy R hR => ⟨?_, ln_mkR ⟨n, P, C, M, Tc, H, hn16, hn, hn', pl, pl', w, ct, hy', hh, hh'⟩⟩) (fun hc => ?_)
      · rw [hL] at hR
        cases hR
        rfl
      · rw [hL] at hc
        exact ln_cn0 hc
    · refine ln_ytotal hn' hn16 pl' w ct hd (fun sz bi ky vy R hR => ?_) (fun _ sz bi ky vy => ⟨rfl, ln_mkR ⟨n, P, C, M, Tc, H, hn16, hn, hn', pl, pl', w, ct, hy', hh, hh'⟩⟩)
      rw [hR] at hc
      exact ln_cn0 hc
theorem i_vc_lookup {k : Nat} {u : SX} {v : SY} (I : i_Rel k u v) (hk : k + 5 ≤ 2560) (v1 : Int32) (v2 : Int32) : wpX_lookup (fun r u' => wpY_lookup (fun r' v' => r' = r ∧ i_Rel (k + 5) u' v') v v1 v2) u v1 v2 := by
  refine ln_el (Q := fun u v => wpX_lookup (fun r u' => wpY_lookup (fun r' v' => r' = r ∧ i_Rel (k + 5) u' v') v v1 v2) u v1 v2) I ?_
  intro f_handCount f_setCount f_levelNow f_chainLength f_pairKeyNow f_pairValueNow f_orderCount a_handKey a_handValue a_kindOf a_fromX a_numberA a_numberB a_sourceCount a_sourceKey a_sourceValue a_pairCount a_pairPart a_pairKey a_pairValue a_there a_kept a_bigness a_needed a_users a_chain a_hasLocal a_local a_hasSum a_sums a_orderKey a_orderValue f_hand f_n b_handKey b_handValue a_kind a_px a_pa a_pb a_given a_givenKey a_givenValue a_size a_big a_key a_value
  rintro ⟨n, P, C, M, Th, H, hn16, hn, hn', pl, pl', w, ct, hy, hh, hh'⟩
  rcases pk_ix v1 (n := n) (by omega) with z | z | ⟨d, hd, rfl⟩
  · exact ln_xlookup0 hn (Or.inl z) (ln_ylookup0 hn' (Or.inl z) ⟨rfl, ln_mkR ⟨n, P, C, M, Th, H, hn16, hn, hn', pl, pl', w, ct, hy, hh, hh'⟩⟩)
  · exact ln_xlookup0 hn (Or.inr z) (ln_ylookup0 hn' (Or.inr z) ⟨rfl, ln_mkR ⟨n, P, C, M, Th, H, hn16, hn, hn', pl, pl', w, ct, hy, hh, hh'⟩⟩)
  · refine ln_xlookup hn hn16 pl w ct hd hy (fun cl kn vn ch hl lc hs sm pc pp pk pv th bg nd us M Tc L hy' hL => ?_) (fun hc cl kn vn ch hl lc hs sm pc pp pk pv th bg nd us M Tc hy' => ?_)
    · refine ln_ylookup hn' hn16 pl' w ct hd (fun sz bi ky vy R hR => ⟨?_, ln_mkR ⟨n, P, C, M, Tc, H, hn16, hn, hn', pl, pl', w, ct, hy', hh, hh'⟩⟩) (fun hc => ?_)
      · rw [hL] at hR
        cases hR
        rfl
      · rw [hL] at hc
        exact ln_cn0 hc
    · refine ln_ylookup hn' hn16 pl' w ct hd (fun sz bi ky vy R hR => ?_) (fun _ sz bi ky vy => ⟨rfl, ln_mkR ⟨n, P, C, M, Tc, H, hn16, hn, hn', pl, pl', w, ct, hy', hh, hh'⟩⟩)
      rw [hR] at hc
      exact ln_cn0 hc
theorem i_vc_keyOf {k : Nat} {u : SX} {v : SY} (I : i_Rel k u v) (hk : k + 5 ≤ 2560) (v1 : Int32) (v2 : Int32) : wpX_keyOf (fun r u' => wpY_keyOf (fun r' v' => r' = r ∧ i_Rel (k + 5) u' v') v v1 v2) u v1 v2 := by
  refine ln_el (Q := fun u v => wpX_keyOf (fun r u' => wpY_keyOf (fun r' v' => r' = r ∧ i_Rel (k + 5) u' v') v v1 v2) u v1 v2) I ?_
  intro f_handCount f_setCount f_levelNow f_chainLength f_pairKeyNow f_pairValueNow f_orderCount a_handKey a_handValue a_kindOf a_fromX a_numberA a_numberB a_sourceCount a_sourceKey a_sourceValue a_pairCount a_pairPart a_pairKey a_pairValue a_there a_kept a_bigness a_needed a_users a_chain a_hasLocal a_local a_hasSum a_sums a_orderKey a_orderValue f_hand f_n b_handKey b_handValue a_kind a_px a_pa a_pb a_given a_givenKey a_givenValue a_size a_big a_key a_value
  rintro ⟨n, P, C, M, Th, H, hn16, hn, hn', pl, pl', w, ct, hy, hh, hh'⟩
  rcases pk_ix v1 (n := n) (by omega) with z | z | ⟨d, hd, rfl⟩
  · exact ln_xkeyOf0 hn (Or.inl z) (ln_ykeyOf0 hn' (Or.inl z) ⟨rfl, ln_mkR ⟨n, P, C, M, Th, H, hn16, hn, hn', pl, pl', w, ct, hy, hh, hh'⟩⟩)
  · exact ln_xkeyOf0 hn (Or.inr z) (ln_ykeyOf0 hn' (Or.inr z) ⟨rfl, ln_mkR ⟨n, P, C, M, Th, H, hn16, hn, hn', pl, pl', w, ct, hy, hh, hh'⟩⟩)
  · refine ln_xkeyOf hn hn16 pl w ct hd hy (fun cl kn vn ch hl lc hs sm pc pp pk pv th bg nd us oc ok ov M Tc L S hy' hL s1 s2 => ?_) (fun hc cl kn vn ch hl lc hs sm pc pp pk pv th bg nd us M Tc hy' => ?_)
    · refine ln_ykeyOf hn' hn16 pl' w ct hd (fun sz bi ky vy R L' hR l1 l2 => ⟨?_, ln_mkR ⟨n, P, C, M, Tc, H, hn16, hn, hn', pl, pl', w, ct, hy', hh, hh'⟩⟩) (fun hc => ?_)
      · rw [hL] at hR
        cases hR
        rw [ln_sorted_eq (l1.trans s1.symm) l2 s2]
      · rw [hL] at hc
        exact ln_cn0 hc
    · refine ln_ykeyOf hn' hn16 pl' w ct hd (fun sz bi ky vy R L' hR l1 l2 => ?_) (fun _ sz bi ky vy => ⟨rfl, ln_mkR ⟨n, P, C, M, Tc, H, hn16, hn, hn', pl, pl', w, ct, hy', hh, hh'⟩⟩)
      rw [hR] at hc
      exact ln_cn0 hc
theorem i_vc_valueOf {k : Nat} {u : SX} {v : SY} (I : i_Rel k u v) (hk : k + 5 ≤ 2560) (v1 : Int32) (v2 : Int32) : wpX_valueOf (fun r u' => wpY_valueOf (fun r' v' => r' = r ∧ i_Rel (k + 5) u' v') v v1 v2) u v1 v2 := by
  refine ln_el (Q := fun u v => wpX_valueOf (fun r u' => wpY_valueOf (fun r' v' => r' = r ∧ i_Rel (k + 5) u' v') v v1 v2) u v1 v2) I ?_
  intro f_handCount f_setCount f_levelNow f_chainLength f_pairKeyNow f_pairValueNow f_orderCount a_handKey a_handValue a_kindOf a_fromX a_numberA a_numberB a_sourceCount a_sourceKey a_sourceValue a_pairCount a_pairPart a_pairKey a_pairValue a_there a_kept a_bigness a_needed a_users a_chain a_hasLocal a_local a_hasSum a_sums a_orderKey a_orderValue f_hand f_n b_handKey b_handValue a_kind a_px a_pa a_pb a_given a_givenKey a_givenValue a_size a_big a_key a_value
  rintro ⟨n, P, C, M, Th, H, hn16, hn, hn', pl, pl', w, ct, hy, hh, hh'⟩
  rcases pk_ix v1 (n := n) (by omega) with z | z | ⟨d, hd, rfl⟩
  · exact ln_xvalueOf0 hn (Or.inl z) (ln_yvalueOf0 hn' (Or.inl z) ⟨rfl, ln_mkR ⟨n, P, C, M, Th, H, hn16, hn, hn', pl, pl', w, ct, hy, hh, hh'⟩⟩)
  · exact ln_xvalueOf0 hn (Or.inr z) (ln_yvalueOf0 hn' (Or.inr z) ⟨rfl, ln_mkR ⟨n, P, C, M, Th, H, hn16, hn, hn', pl, pl', w, ct, hy, hh, hh'⟩⟩)
  · refine ln_xvalueOf hn hn16 pl w ct hd hy (fun cl kn vn ch hl lc hs sm pc pp pk pv th bg nd us oc ok ov M Tc L S hy' hL s1 s2 => ?_) (fun hc cl kn vn ch hl lc hs sm pc pp pk pv th bg nd us M Tc hy' => ?_)
    · refine ln_yvalueOf hn' hn16 pl' w ct hd (fun sz bi ky vy R L' hR l1 l2 => ⟨?_, ln_mkR ⟨n, P, C, M, Tc, H, hn16, hn, hn', pl, pl', w, ct, hy', hh, hh'⟩⟩) (fun hc => ?_)
      · rw [hL] at hR
        cases hR
        rw [ln_sorted_eq (l1.trans s1.symm) l2 s2]
      · rw [hL] at hc
        exact ln_cn0 hc
    · refine ln_yvalueOf hn' hn16 pl' w ct hd (fun sz bi ky vy R L' hR l1 l2 => ?_) (fun _ sz bi ky vy => ⟨rfl, ln_mkR ⟨n, P, C, M, Tc, H, hn16, hn, hn', pl, pl', w, ct, hy', hh, hh'⟩⟩)
      rw [hR] at hc
      exact ln_cn0 hc
end
end
section
section
theorem ln_sg_add {K V : Nat → Int32} {H : List ln_K} (q : ln_K) (h : ln_sg K V 0 H) : ln_sg (upd K H.length (nI q.1)) (upd V H.length q.2) 0 (H ++ [q]) := by
  intro i p hp
  rw [Nat.zero_add]
  rcases ln_get_app hp with ⟨hi, hp⟩ | ⟨rfl, rfl⟩
  · rw [pk_un (by omega), pk_un (by omega)]
    have := h i p hp
    rw [Nat.zero_add] at this
    exact this
  · rw [pk_us, pk_us]
    exact ⟨rfl, rfl⟩
theorem ln_hd_add {H : List ln_K} {f : Int32} {hk hv : Nat → Int32} {q : ln_K} (h : ln_hd H f hk hv) (hl : H.length < 24) (hq : q.1 < 16) : ln_hd (H ++ [q]) (nI (H.length + 1)) (upd hk H.length (nI q.1)) (upd hv H.length q.2) := by
  obtain ⟨a, b, c, d⟩ := h
  refine ⟨by rw [ln_pl1], by rw [ln_pl1]; omega, fun p hp => ?_, ln_sg_add q d⟩
  rcases List.mem_append.mp hp with hp | hp
  · exact c p hp
  · rw [List.mem_singleton.mp hp]; exact hq
theorem ln_hd_nil {hk hv : Nat → Int32} : ln_hd [] 0 hk hv := ⟨rfl, by decide, fun q hq => absurd hq List.not_mem_nil, fun i q hq => absurd (ln_mem_of hq) List.not_mem_nil⟩
theorem i_vc_row {k : Nat} {u : SX} {v : SY} (I : i_Rel k u v) (hk : k + 5 ≤ 2560) (v1 : Int32) (v2 : Int32) : wpX_row (fun r u' => wpY_row (fun r' v' => r' = r ∧ i_Rel (k + 5) u' v') v v1 v2) u v1 v2 := by
  refine ln_el (Q := fun u v => wpX_row (fun r u' => wpY_row (fun r' v' => r' = r ∧ i_Rel (k + 5) u' v') v v1 v2) u v1 v2) I ?_
  intro f_handCount f_setCount f_levelNow f_chainLength f_pairKeyNow f_pairValueNow f_orderCount a_handKey a_handValue a_kindOf a_fromX a_numberA a_numberB a_sourceCount a_sourceKey a_sourceValue a_pairCount a_pairPart a_pairKey a_pairValue a_there a_kept a_bigness a_needed a_users a_chain a_hasLocal a_local a_hasSum a_sums a_orderKey a_orderValue f_hand f_n b_handKey b_handValue a_kind a_px a_pa a_pb a_given a_givenKey a_givenValue a_size a_big a_key a_value
  rintro ⟨n, P, C, M, Th, H, hn16, hn, hn', pl, pl', w, ct, hy, hh, hh'⟩
  have e1 := hh.1
  have e2 := hh'.1
  have hl := hh.2.1
  subst e1 e2
  unfold wpX_row wpY_row
  dsimp only
  refine pk_lt H.length 24 (fun h24 => ?_) (fun h24 => ?_)
  · have hne : ¬ nI H.length = 24 := by rw [show (24 : Int32) = nI 24 from rfl, nI_eq (by omega) (by decide)]; omega
    have hin : vp_in (nI H.length) 24 := vp_in_nI h24 (by decide)
    have eI : (nI H.length).toNatClampNeg = H.length := nI_clamp (by omega)
    rcases ln_rng v1 0 15 (by decide) (by decide) with z | ⟨z1, z2, z3⟩ | ⟨j, _, j2, rfl⟩
    · exact br_t z (br_f hne (ln_yin0 (Or.inl z) (br_t rfl ⟨rfl, ln_mkR ⟨n, P, C, M, Th, H, hn16, hn, hn', pl, pl', w, ct, hy, hh, hh'⟩⟩)))
    · exact br_f z1 (br_f z2 (br_f hne (ln_yin0 (Or.inr z3) (br_t rfl ⟨rfl, ln_mkR ⟨n, P, C, M, Th, H, hn16, hn, hn', pl, pl', w, ct, hy, hh, hh'⟩⟩))))
    · have c2 : nI j ≤ 15 := nI_le (b := 15) j2 (by decide)
      rw [eI, ln_nb8 (by omega)]
      refine br_f (nI_pos (by omega)) (br_t c2 ⟨hin, nm_e ⟨hin, nm_e (nm_r (nI_1 _) (br_f hne (ln_yin1 (a := 0) (b := 15) (by omega) (by decide) (Nat.zero_le j) j2 (br_f ln_10 ⟨hin, nm_e ⟨hin, nm_e (nm_r (nI_1 _) ⟨rfl, ?_⟩)⟩⟩))))⟩⟩)
      exact ln_mkR ⟨n, P, C, M, Th, H ++ [(j, v2)], hn16, hn, hn', pl, pl', w, ct, hy, ln_hd_add (q := (j, v2)) hh h24 (by show j < 16; omega), ln_hd_add (q := (j, v2)) hh' h24 (by show j < 16; omega)⟩
  · have he : nI H.length = 24 := by rw [show H.length = 24 by omega]; rfl
    exact br_t he ⟨rfl, ln_mkR ⟨n, P, C, M, Th, H, hn16, hn, hn', pl, pl', w, ct, hy, hh, hh'⟩⟩
theorem i_vc_derive {k : Nat} {u : SX} {v : SY} (I : i_Rel k u v) (hk : k + 5 ≤ 2560) (v1 : Int32) (v2 : Int32) (v3 : Int32) (v4 : Int32) : wpX_derive (fun r u' => wpY_derive (fun r' v' => r' = r ∧ i_Rel (k + 5) u' v') v v1 v2 v3 v4) u v1 v2 v3 v4 := by
  refine ln_el (Q := fun u v => wpX_derive (fun r u' => wpY_derive (fun r' v' => r' = r ∧ i_Rel (k + 5) u' v') v v1 v2 v3 v4) u v1 v2 v3 v4) I ?_
  intro f_handCount f_setCount f_levelNow f_chainLength f_pairKeyNow f_pairValueNow f_orderCount a_handKey a_handValue a_kindOf a_fromX a_numberA a_numberB a_sourceCount a_sourceKey a_sourceValue a_pairCount a_pairPart a_pairKey a_pairValue a_there a_kept a_bigness a_needed a_users a_chain a_hasLocal a_local a_hasSum a_sums a_orderKey a_orderValue f_hand f_n b_handKey b_handValue a_kind a_px a_pa a_pb a_given a_givenKey a_givenValue a_size a_big a_key a_value
  rintro ⟨n, P, C, M, Th, H, hn16, hn, hn', pl, pl', w, ct, hy, hh, hh'⟩
  by_cases h16 : n < 16
  · have c : f_setCount < 16 := by rw [hn]; exact nI_lt (b := 16) h16 (by decide)
    have hne : ¬ f_n = 16 := by rw [hn', show (16 : Int32) = nI 16 from rfl, nI_eq (by omega) (by decide)]; omega
    rcases ln_rng v1 0 11 (by decide) (by decide) with z | ⟨z1, z2, z3⟩ | ⟨j, _, j2, rfl⟩
    · unfold wpX_derive wpY_derive wpY_fits
      exact br_t c (br_t z (br_f hne (ln_yin0 (Or.inl z) (br_t rfl (br_t rfl ⟨rfl, ln_mkR ⟨n, P, C, M, Th, H, hn16, hn, hn', pl, pl', w, ct, hy, hh, hh'⟩⟩)))))
    · unfold wpX_derive wpY_derive wpY_fits
      exact br_t c (br_f z1 (br_f z2 (br_f hne (ln_yin0 (Or.inr z3) (br_t rfl (br_t rfl ⟨rfl, ln_mkR ⟨n, P, C, M, Th, H, hn16, hn, hn', pl, pl', w, ct, hy, hh, hh'⟩⟩))))))
    · refine ln_xderive hn h16 j2 (fun ok => ?_) (fun ok => ?_)
      · refine ln_xd97 (M := M) (Th := Th) (C := C) hn h16 j2 w pl hh ok hy fun fh kk px pa pb gi gk gv pc th kp bg M' Th' H' pln hyn hhn eH => ?_
        refine ln_yder hn' h16 j2 w pl' hh' ok fun fh2 kk2 px2 pa2 pb2 gi2 gk2 gv2 H2 pln2 hhn2 eH2 => ⟨rfl, ?_⟩
        subst eH eH2
        have we := ln_ent_we (b := v4) h16 j2 ok hh.2.1 hh.2.2.1
        exact ln_mkR ⟨n + 1, _, _, M', Th', _, by omega, rfl, rfl, pln, pln2, ln_wf_new w we, ln_ct_new w we ct, hyn, hhn, hhn2⟩
      · unfold wpY_derive
        exact br_f hne (ln_yfits hn' h16 j2 (fun z => absurd z ok) (fun _ => br_t rfl ⟨rfl, ln_mkR ⟨n, P, C, M, Th, H, hn16, hn, hn', pl, pl', w, ct, hy, hh, hh'⟩⟩))
  · have hn6 : n = 16 := by omega
    subst hn6
    have c : ¬ f_setCount < 16 := by rw [hn]; exact nI_nlt (a := 16) (b := 16) (Nat.le_refl _) (by decide)
    have he : f_n = 16 := by rw [hn']; rfl
    unfold wpX_derive wpY_derive
    exact br_f c (br_t he ⟨rfl, ln_mkR ⟨16, P, C, M, Th, H, hn16, hn, hn', pl, pl', w, ct, hy, hh, hh'⟩⟩)
theorem i_vc_keep {k : Nat} {u : SX} {v : SY} (I : i_Rel k u v) (hk : k + 5 ≤ 2560) (v1 : Int32) (v2 : Int32) : wpX_keep (fun r u' => wpY_keep (fun r' => r' = r ∧ i_Rel (k + 5) u' v) v v1 (lw_bz v2)) u v1 (lw_bz v2) := by
  refine ln_el (Q := fun u v => wpX_keep (fun r u' => wpY_keep (fun r' => r' = r ∧ i_Rel (k + 5) u' v) v v1 (lw_bz v2)) u v1 (lw_bz v2)) I ?_
  intro f_handCount f_setCount f_levelNow f_chainLength f_pairKeyNow f_pairValueNow f_orderCount a_handKey a_handValue a_kindOf a_fromX a_numberA a_numberB a_sourceCount a_sourceKey a_sourceValue a_pairCount a_pairPart a_pairKey a_pairValue a_there a_kept a_bigness a_needed a_users a_chain a_hasLocal a_local a_hasSum a_sums a_orderKey a_orderValue f_hand f_n b_handKey b_handValue a_kind a_px a_pa a_pb a_given a_givenKey a_givenValue a_size a_big a_key a_value
  rintro ⟨n, P, C, M, Th, H, hn16, hn, hn', pl, pl', w, ct, hy, hh, hh'⟩
  unfold wpX_keep wpY_keep
  dsimp only
  rcases pk_ix v1 (n := n) (by omega) with z | z | ⟨d, hd, rfl⟩
  · exact ln_xisSet0 hn (Or.inl z) (br_t rfl (ln_yisSet0 hn' (Or.inl z) ⟨narrow_b0, rfl, ln_mkR ⟨n, P, C, M, Th, H, hn16, hn, hn', pl, pl', w, ct, hy, hh, hh'⟩⟩))
  · exact ln_xisSet0 hn (Or.inr z) (br_t rfl (ln_yisSet0 hn' (Or.inr z) ⟨narrow_b0, rfl, ln_mkR ⟨n, P, C, M, Th, H, hn16, hn, hn', pl, pl', w, ct, hy, hh, hh'⟩⟩))
  · have hin : vp_in (nI d) 16 := vp_in_nI (by omega) (by decide)
    refine ln_xisSet1 hn hn16 hd (br_f ln_10 ⟨hin, nm_e (br_c (fun h0 => ?_) (fun h0 => ?_))⟩)
    · refine ln_xforget hy.1 hy.2.1 (by omega) fun pc th hp hT => ?_
      refine ln_yisSet1 hn' hn16 hd ⟨narrow_b1, rfl, ?_⟩
      exact ln_mkR ⟨n, P, C, _, _, H, hn16, hn, hn', pl, pl', w, ct, ⟨hp, hT, fun j hj => ln_gd_td (hy.2.2.1 j hj) (ln_td_f (ln_td_r Th M) d), hy.2.2.2⟩, hh, hh'⟩
    · exact ln_yisSet1 hn' hn16 hd ⟨narrow_b1, rfl, ln_mkR ⟨n, P, C, M, Th, H, hn16, hn, hn', pl, pl', w, ct, hy, hh, hh'⟩⟩
theorem i_vc_lose {k : Nat} {u : SX} {v : SY} (I : i_Rel k u v) (hk : k + 5 ≤ 2560) (v1 : Int32) : wpX_lose (fun r u' => wpY_lose (fun r' => r' = r ∧ i_Rel (k + 5) u' v) v v1) u v1 := by
  refine ln_el (Q := fun u v => wpX_lose (fun r u' => wpY_lose (fun r' => r' = r ∧ i_Rel (k + 5) u' v) v v1) u v1) I ?_
  intro f_handCount f_setCount f_levelNow f_chainLength f_pairKeyNow f_pairValueNow f_orderCount a_handKey a_handValue a_kindOf a_fromX a_numberA a_numberB a_sourceCount a_sourceKey a_sourceValue a_pairCount a_pairPart a_pairKey a_pairValue a_there a_kept a_bigness a_needed a_users a_chain a_hasLocal a_local a_hasSum a_sums a_orderKey a_orderValue f_hand f_n b_handKey b_handValue a_kind a_px a_pa a_pb a_given a_givenKey a_givenValue a_size a_big a_key a_value
  rintro ⟨n, P, C, M, Th, H, hn16, hn, hn', pl, pl', w, ct, hy, hh, hh'⟩
  unfold wpX_lose wpY_lose
  dsimp only
  rcases ln_rng v1 0 3 (by decide) (by decide) with z | ⟨z1, z2, z3⟩ | ⟨j, _, j2, rfl⟩
  · exact br_t z (ln_yin0 (Or.inl z) ⟨narrow_b0, rfl, ln_mkR ⟨n, P, C, M, Th, H, hn16, hn, hn', pl, pl', w, ct, hy, hh, hh'⟩⟩)
  · exact br_f z1 (br_f z2 (ln_yin0 (Or.inr z3) ⟨narrow_b0, rfl, ln_mkR ⟨n, P, C, M, Th, H, hn16, hn, hn', pl, pl', w, ct, hy, hh, hh'⟩⟩))
  · have c2 : nI j ≤ 3 := nI_le (b := 3) j2 (by decide)
    refine br_f (nI_pos (by omega)) (br_t c2 ⟨n + 1, ?_⟩)
    refine ln_xlo13 hn hn16 (ln_ct_rg w ct) (fun pc pp pk pv th M' Th' hy' => ?_) n 0 _ _ _ _ _ M Th (by omega) hy
    exact ln_yin1 (a := 0) (b := 3) (by omega) (by decide) (Nat.zero_le j) j2 ⟨narrow_b1, rfl, ln_mkR ⟨n, P, C, M', Th', H, hn16, hn, hn', pl, pl', w, ct, hy', hh, hh'⟩⟩
theorem i_vc_discard {k : Nat} {u : SX} {v : SY} (I : i_Rel k u v) (hk : k + 5 ≤ 2560) : wpX_discard (fun r u' => wpY_discard (fun r' v' => r' = r ∧ i_Rel (k + 5) u' v') v) u := by
  refine ln_el (Q := fun u v => wpX_discard (fun r u' => wpY_discard (fun r' v' => r' = r ∧ i_Rel (k + 5) u' v') v) u) I ?_
  intro f_handCount f_setCount f_levelNow f_chainLength f_pairKeyNow f_pairValueNow f_orderCount a_handKey a_handValue a_kindOf a_fromX a_numberA a_numberB a_sourceCount a_sourceKey a_sourceValue a_pairCount a_pairPart a_pairKey a_pairValue a_there a_kept a_bigness a_needed a_users a_chain a_hasLocal a_local a_hasSum a_sums a_orderKey a_orderValue f_hand f_n b_handKey b_handValue a_kind a_px a_pa a_pb a_given a_givenKey a_givenValue a_size a_big a_key a_value
  rintro ⟨n, P, C, M, Th, H, hn16, hn, hn', pl, pl', w, ct, hy, hh, hh'⟩
  unfold wpX_discard wpY_discard
  exact ⟨hh'.1.trans hh.1.symm, ln_mkR ⟨n, P, C, M, Th, [], hn16, hn, hn', pl, pl', w, ct, hy, ln_hd_nil, ln_hd_nil⟩⟩
theorem i_vc_drop {k : Nat} {u : SX} {v : SY} (I : i_Rel k u v) (hk : k + 5 ≤ 2560) : wpX_drop (fun r u' => wpY_drop (fun r' v' => r' = r ∧ i_Rel (k + 5) u' v') v) u := by
  refine ln_el (Q := fun u v => wpX_drop (fun r u' => wpY_drop (fun r' v' => r' = r ∧ i_Rel (k + 5) u' v') v) u) I ?_
  intro f_handCount f_setCount f_levelNow f_chainLength f_pairKeyNow f_pairValueNow f_orderCount a_handKey a_handValue a_kindOf a_fromX a_numberA a_numberB a_sourceCount a_sourceKey a_sourceValue a_pairCount a_pairPart a_pairKey a_pairValue a_there a_kept a_bigness a_needed a_users a_chain a_hasLocal a_local a_hasSum a_sums a_orderKey a_orderValue f_hand f_n b_handKey b_handValue a_kind a_px a_pa a_pb a_given a_givenKey a_givenValue a_size a_big a_key a_value
  rintro ⟨n, P, C, M, Th, H, hn16, hn, hn', pl, pl', w, ct, hy, hh, hh'⟩
  by_cases hz : n = 0
  · subst hz
    unfold wpX_drop wpY_drop
    exact br_t hn (br_t hn' ⟨rfl, ln_mkR ⟨0, P, C, M, Th, H, hn16, hn, hn', pl, pl', w, ct, hy, hh, hh'⟩⟩)
  · obtain ⟨m, rfl⟩ : ∃ m, n = m + 1 := ⟨n - 1, by omega⟩
    subst hn hn'
    have hne : ¬ nI (m + 1) = 0 := nI_ne0 (by omega) (by omega)
    unfold wpX_drop wpY_drop
    refine br_f hne (nm_r (nI_pred m) ?_)
    refine ln_xforget hy.1 hy.2.1 (by omega) fun pc th hp hT => ?_
    refine br_f hne (nm_r (nI_pred m) ⟨rfl, ?_⟩)
    exact ln_mkR ⟨m, P, C, _, _, H, by omega, rfl, rfl, fun d hd => pl d (by omega), fun d hd => pl' d (by omega), fun d hd => w d (by omega), fun d hd => ct d (by omega), ⟨hp, hT, fun j hj => ln_gd_td (hy.2.2.1 j (by omega)) (ln_td_f (ln_td_r Th M) m), fun j hj => hy.2.2.2 j (by omega)⟩, hh, hh'⟩
theorem i_vc_level {k : Nat} {u : SX} {v : SY} (I : i_Rel k u v) (hk : k + 5 ≤ 2560) (v1 : Int32) : wpX_level (fun r u' => wpY_level (fun r' => r' = r ∧ i_Rel (k + 5) u' v) v v1) u v1 := by
  refine ln_el (Q := fun u v => wpX_level (fun r u' => wpY_level (fun r' => r' = r ∧ i_Rel (k + 5) u' v) v v1) u v1) I ?_
  intro f_handCount f_setCount f_levelNow f_chainLength f_pairKeyNow f_pairValueNow f_orderCount a_handKey a_handValue a_kindOf a_fromX a_numberA a_numberB a_sourceCount a_sourceKey a_sourceValue a_pairCount a_pairPart a_pairKey a_pairValue a_there a_kept a_bigness a_needed a_users a_chain a_hasLocal a_local a_hasSum a_sums a_orderKey a_orderValue f_hand f_n b_handKey b_handValue a_kind a_px a_pa a_pb a_given a_givenKey a_givenValue a_size a_big a_key a_value
  rintro ⟨n, P, C, M, Th, H, hn16, hn, hn', pl, pl', w, ct, hy, hh, hh'⟩
  unfold wpX_level wpY_level
  dsimp only
  rcases ln_rng v1 0 2 (by decide) (by decide) with z | ⟨z1, z2, z3⟩ | ⟨j, _, j2, rfl⟩
  · exact br_t z (ln_yin0 (Or.inl z) ⟨narrow_b0, rfl, ln_mkR ⟨n, P, C, M, Th, H, hn16, hn, hn', pl, pl', w, ct, hy, hh, hh'⟩⟩)
  · exact br_f z1 (br_f z2 (ln_yin0 (Or.inr z3) ⟨narrow_b0, rfl, ln_mkR ⟨n, P, C, M, Th, H, hn16, hn, hn', pl, pl', w, ct, hy, hh, hh'⟩⟩))
  · have c2 : nI j ≤ 2 := nI_le (b := 2) j2 (by decide)
    exact br_f (nI_pos (by omega)) (br_t c2 (ln_yin1 (a := 0) (b := 2) (by omega) (by decide) (Nat.zero_le j) j2 ⟨narrow_b1, rfl, ln_mkR ⟨n, P, C, M, Th, H, hn16, hn, hn', pl, pl', w, ct, hy, hh, hh'⟩⟩))
end
end

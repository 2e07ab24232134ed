section
theorem pk_us {f : Nat → Int32} {k : Nat} {x : Int32} : upd f k x k = x := if_pos rfl
theorem pk_un {f : Nat → Int32} {k j : Nat} {x : Int32} (h : j ≠ k) : upd f k x j = f j := if_neg h
theorem pk_uLs {f : Nat → Int64} {k : Nat} {x : Int64} : vp_updL f k x k = x := if_pos rfl
theorem pk_uLn {f : Nat → Int64} {k j : Nat} {x : Int64} (h : j ≠ k) : vp_updL f k x j = f j := if_neg h
theorem pk_sub {a b : Nat} (h : b ≤ a) : nI a - nI b = nI (a - b) := by
  obtain ⟨c, rfl⟩ : ∃ c, a = c + b := ⟨a - b, by omega⟩
  rw [← nI_add, Int32.add_sub_cancel, Nat.add_sub_cancel]
theorem pk_m1 (n : Nat) : nI (n + 1) + (-1) = nI n := by
  rw [← nI_1, Int32.add_assoc, show (1 : Int32) + (-1) = 0 from rfl, Int32.add_zero]
theorem pk_mul (a b : Nat) : nI a * nI b = nI (a * b) := (Int32.ofNat_mul a b).symm
theorem pk_div {a d : Nat} (ha : a < 2 ^ 31) (h0 : 0 < d) (hd : d < 2 ^ 31) : nI a / nI d = nI (a / d) := by
  apply Int32.toInt_inj.mp
  rw [lg_idiv_nonneg (by rw [nI_toInt ha]; omega) (by rw [nI_toInt hd]; omega), nI_toInt ha, nI_toInt hd, nI_toInt (Nat.lt_of_le_of_lt (Nat.div_le_self a d) ha)]
  first | rfl | exact (Int.natCast_ediv _ _).symm
theorem pk_rem {a d : Nat} (ha : a < 2 ^ 31) (h0 : 0 < d) (hd : d < 2 ^ 31) : nI a - nI a / nI d * nI d = nI (a % d) := by
  rw [pk_div ha h0 hd, pk_mul, pk_sub (Nat.div_mul_le_self a d)]
  exact congrArg nI (by have := Nat.div_add_mod' a d; omega)
theorem pk_sub_toInt {a b : Nat} (ha : a < 2 ^ 30) (hb : b < 2 ^ 30) : (nI a - nI b).toInt = (a : Int) - b := by
  rw [Int32.toInt_sub, nI_toInt (by omega), nI_toInt (by omega)]
  exact Int.bmod_eq_of_le (by omega) (by omega)
theorem pk_sneg {a b : Nat} (hb : b < 2 ^ 30) (h : a < b) : nI a - nI b < 0 := by
  rw [Int32.lt_iff_toInt_lt, pk_sub_toInt (by omega) hb, show (0 : Int32).toInt = 0 from by decide]
  omega
theorem pk_ix (x : Int32) {n : Nat} (hn : n < 2 ^ 31) : x < 0 ∨ nI n ≤ x ∨ ∃ j : Nat, j < n ∧ x = nI j := by
  by_cases h : x < 0
  · exact Or.inl h
  · obtain ⟨j, hj, rfl⟩ := nI_of h
    by_cases h2 : j < n
    · exact Or.inr (Or.inr ⟨j, h2, rfl⟩)
    · exact Or.inr (Or.inl (nI_le (by omega) hj))
theorem pk_le {x y : Int32} {A B : Prop} (a b : Nat) (f : a ≤ b → A) (g : b < a → B) (hx : x = nI a := by rfl) (hy : y = nI b := by rfl) (ha : a < 2 ^ 31 := by omega) (hb : b < 2 ^ 31 := by omega) : (x ≤ y → A) ∧ (¬ x ≤ y → B) := by
  subst hx hy
  rw [nI_leI ha hb]
  exact ⟨f, fun z => g (by omega)⟩
theorem pk_lt {x y : Int32} {A B : Prop} (a b : Nat) (f : a < b → A) (g : b ≤ a → B) (hx : x = nI a := by rfl) (hy : y = nI b := by rfl) (ha : a < 2 ^ 31 := by omega) (hb : b < 2 ^ 31 := by omega) : (x < y → A) ∧ (¬ x < y → B) := by
  subst hx hy
  rw [nI_ltI ha hb]
  exact ⟨f, fun z => g (by omega)⟩
theorem pk_eq {x y : Int32} {A B : Prop} (a b : Nat) (f : a = b → A) (g : a ≠ b → B) (hx : x = nI a := by rfl) (hy : y = nI b := by rfl) (ha : a < 2 ^ 31 := by omega) (hb : b < 2 ^ 31 := by omega) : (x = y → A) ∧ (¬ x = y → B) := by
  subst hx hy
  rw [nI_eq ha hb]
  exact ⟨f, g⟩
theorem pk_in {x : Int32} (n N : Nat) (h : n < N) (hx : x = nI n := by rfl) (hN : N < 2 ^ 31 := by omega) : vp_in x N := by
  subst hx
  exact vp_in_nI h hN
theorem pk_cl {x : Int32} (n : Nat) (hx : x = nI n := by rfl) (h : n < 2 ^ 31 := by omega) : x.toNatClampNeg = n := by
  subst hx
  exact nI_clamp h
theorem pk_tn {n : Nat} (h : n < 2 ^ 32) : (nI n).toBitVec.toNat = n := Nat.mod_eq_of_lt h
theorem pk_and (x : Int32) {m : Int32} (k : Nat) (hm : m.toBitVec.toNat = 2 ^ k - 1) : x &&& m = nI (x.toBitVec.toNat % 2 ^ k) := by
  apply Int32.toBitVec_inj.mp
  apply BitVec.eq_of_toNat_eq
  rw [Int32.toBitVec_and, BitVec.toNat_and, hm, Nat.and_two_pow_sub_one_eq_mod]
  show _ = (BitVec.ofNat 32 _).toNat
  rw [BitVec.toNat_ofNat]
  exact (Nat.mod_eq_of_lt (Nat.lt_of_le_of_lt (Nat.mod_le _ _) x.toBitVec.isLt)).symm
theorem pk_andN {n : Nat} (h : n < 2 ^ 32) {m : Int32} (k : Nat) (hm : m.toBitVec.toNat = 2 ^ k - 1) : nI n &&& m = nI (n % 2 ^ k) := by
  rw [pk_and _ k hm, pk_tn h]
theorem pk_andE (x : Int32) {m : Int32} (k : Nat) (hm : m.toBitVec.toNat = 2 ^ k - 1) : ∃ j : Nat, j < 2 ^ k ∧ x &&& m = nI j := ⟨_, Nat.mod_lt _ (Nat.two_pow_pos k), pk_and x k hm⟩
theorem pk_andIn (x : Int32) {m : Int32} (k : Nat) (hm : m.toBitVec.toNat = 2 ^ k - 1) (hk : k ≤ 30) : vp_in (x &&& m) (2 ^ k) := by
  obtain ⟨j, hj, e⟩ := pk_andE x k hm
  rw [e]
  exact vp_in_nI hj (Nat.lt_of_le_of_lt (Nat.pow_le_pow_right (by decide) hk) (by decide))
theorem pk_shl (a s : Int32) (k : Nat) (hs : (s.toBitVec.smod 32).toNat = k) : (a <<< s).toBitVec.toNat = a.toBitVec.toNat * 2 ^ k % 2 ^ 32 := by
  show (a.toBitVec <<< (s.toBitVec.smod 32).toNat).toNat = _
  rw [hs, BitVec.toNat_shiftLeft, Nat.shiftLeft_eq]
theorem pk_shlN {n : Nat} (s : Int32) (k : Nat) (hs : (s.toBitVec.smod 32).toNat = k) (h : n * 2 ^ k < 2 ^ 32) : nI n <<< s = nI (n * 2 ^ k) := by
  apply Int32.toBitVec_inj.mp
  apply BitVec.eq_of_toNat_eq
  have hn : n < 2 ^ 32 := Nat.lt_of_le_of_lt (Nat.le_mul_of_pos_right n (Nat.two_pow_pos k)) h
  rw [pk_shl _ _ k hs, pk_tn hn, pk_tn h, Nat.mod_eq_of_lt h]
theorem pk_shr (a s : Int32) (k : Nat) (hs : (s.toBitVec.smod 32).toNat = k) : (a >>> s).toInt = a.toInt >>> k := by
  show (a.toBitVec.sshiftRight (s.toBitVec.smod 32).toNat).toInt = _
  rw [hs, BitVec.toInt_sshiftRight]
  rfl
theorem pk_shrN {n : Nat} (h : n < 2 ^ 31) (s : Int32) (k : Nat) (hs : (s.toBitVec.smod 32).toNat = k) : nI n >>> s = nI (n / 2 ^ k) := by
  apply Int32.toInt_inj.mp
  have h2 : n / 2 ^ k ≤ n := Nat.div_le_self _ _
  rw [pk_shr _ _ k hs, nI_toInt h, nI_toInt (by omega), Int.shiftRight_eq_div_pow]
  rfl
theorem pk_ushr (x s : Int32) (k : Nat) (hs : ((s.toUInt32 &&& Int32.toUInt32 31).toBitVec % 32).toNat = k) : (x.toUInt32 >>> (s.toUInt32 &&& Int32.toUInt32 31)).toInt32.toBitVec.toNat = x.toBitVec.toNat / 2 ^ k := by
  have e : (x.toUInt32 >>> (s.toUInt32 &&& Int32.toUInt32 31)).toInt32.toBitVec = x.toBitVec >>> k := by
    rw [← hs]
    exact UInt32.toBitVec_shiftRight _ _
  rw [e, BitVec.toNat_ushiftRight, Nat.shiftRight_eq_div_pow]
theorem pk_ushrN {n : Nat} (hn : n < 2 ^ 32) (s : Int32) (k : Nat) (hs : ((s.toUInt32 &&& Int32.toUInt32 31).toBitVec % 32).toNat = k) : ((nI n).toUInt32 >>> (s.toUInt32 &&& Int32.toUInt32 31)).toInt32 = nI (n / 2 ^ k) := by
  apply Int32.toBitVec_inj.mp
  apply BitVec.eq_of_toNat_eq
  rw [pk_ushr _ s k hs, pk_tn hn, pk_tn (Nat.lt_of_le_of_lt (Nat.div_le_self _ _) hn)]
theorem pk_lT {n : Nat} (h : n < 2 ^ 63) : (lN n).toInt = (n : Int) := lg_ofNat_toInt h
theorem pk_lLT {a b : Nat} (ha : a < 2 ^ 63) (hb : b < 2 ^ 63) : lN a < lN b ↔ a < b := by
  rw [Int64.lt_iff_toInt_lt, pk_lT ha, pk_lT hb]; omega
theorem pk_lLE {a b : Nat} (ha : a < 2 ^ 63) (hb : b < 2 ^ 63) : lN a ≤ lN b ↔ a ≤ b := by
  rw [Int64.le_iff_toInt_le, pk_lT ha, pk_lT hb]; omega
theorem pk_lEQ {a b : Nat} (ha : a < 2 ^ 63) (hb : b < 2 ^ 63) : lN a = lN b ↔ a = b := by
  rw [← Int64.toInt_inj, pk_lT ha, pk_lT hb]; omega
theorem pk_lOf {x : Int64} (h : ¬ x < 0) : ∃ k : Nat, k < 2 ^ 63 ∧ x = lN k := by
  rw [Int64.lt_iff_toInt_lt] at h
  have h0 : (0 : Int64).toInt = 0 := by decide
  have hx := Int64.toInt_lt x
  refine ⟨x.toInt.toNat, by omega, Int64.toInt_inj.mp ?_⟩
  rw [pk_lT (by omega)]
  omega
theorem pk_lDiv {a b : Nat} (ha : a < 2 ^ 63) (h0 : 0 < b) (hb : b < 2 ^ 63) : lN a / lN b = lN (a / b) := by
  apply Int64.toInt_inj.mp
  rw [lg_ldiv_nonneg (by rw [pk_lT ha]; omega) (by rw [pk_lT hb]; omega), pk_lT ha, pk_lT hb, pk_lT (Nat.lt_of_le_of_lt (Nat.div_le_self a b) ha)]
  rfl
theorem pk_lRem {a b : Nat} (ha : a < 2 ^ 63) (h0 : 0 < b) (hb : b < 2 ^ 63) : lN a - lN a / lN b * lN b = lN (a % b) := by
  rw [pk_lDiv ha h0 hb, lN_mul, lN_sub (Nat.div_mul_le_self a b)]
  exact congrArg lN (by have := Nat.div_add_mod' a b; omega)
theorem pk_loop {σ : Type} (W : Nat → Nat → σ → Prop) (I : Nat → σ → Prop) (e i0 : Nat) (s : σ) (hi : i0 ≤ e) (h0 : I i0 s) (hx : ∀ n s, I e s → W (n + 1) e s)
    (hs : ∀ n i s, i < e → I i s → (∀ s', I (i + 1) s' → W n (i + 1) s') → W (n + 1) i s) : ∃ n, W n i0 s :=
  ⟨e + 1, loop_i W I e hx hs (e + 1) i0 s hi (by omega) h0⟩
theorem pk_loopD {σ : Type} (W : Nat → Nat → σ → Prop) (I : Nat → σ → Prop) (hx : ∀ n s, I 0 s → W (n + 1) 0 s)
    (hs : ∀ n i s, I (i + 1) s → (∀ s', I i s' → W n i s') → W (n + 1) (i + 1) s) : ∀ (e : Nat) (s : σ), I e s → W (e + 1) e s := by
  intro e
  induction e with
  | zero => exact fun s h => hx 0 s h
  | succ e ih => exact fun s h => hs (e + 1) e s h (fun s' h' => ih s' h')
theorem ts_nf {x : Bool} (h : ¬ x = false) : x = true := by cases x <;> first | rfl | exact absurd rfl h
theorem ts_nt {x : Bool} (h : ¬ x = true) : x = false := by cases x <;> first | rfl | exact absurd rfl h
theorem ts_bit {w : Int64} {s : UInt64} {j : Nat} (hj : j < 64) (hs : s.toNat = j) : ((w.toUInt64 >>> s).toInt64 &&& 1) = 0 ↔ w.toBitVec.getLsbD j = false := by
  have e : (w.toUInt64 >>> s).toInt64.toBitVec = w.toBitVec >>> j := by
    apply BitVec.eq_of_toNat_eq
    show (w.toUInt64 >>> s).toNat = _
    rw [UInt64.toNat_shiftRight, hs, Nat.mod_eq_of_lt hj, BitVec.toNat_ushiftRight]
    rfl
  rw [← Int64.toBitVec_inj, Int64.toBitVec_and, e]
  show w.toBitVec >>> j &&& 1#64 = 0#64 ↔ _
  constructor
  · intro h
    have t := congrArg (fun x => x.getLsbD 0) h
    simpa using t
  · intro h
    apply BitVec.eq_of_getLsbD_eq
    intro i hi
    cases i with
    | zero => simp [h]
    | succ i => simp
theorem ts_or {w m : Int64} {j : Nat} (hj : j < 64) (hm : m.toBitVec = BitVec.twoPow 64 j) : (w ||| m) = w ↔ w.toBitVec.getLsbD j = true := by
  rw [← Int64.toBitVec_inj, Int64.toBitVec_or, hm]
  constructor
  · intro h
    have t := congrArg (fun x => x.getLsbD j) h
    simp only [BitVec.getLsbD_or, BitVec.getLsbD_twoPow] at t
    simpa [hj] using t.symm
  · intro h
    apply BitVec.eq_of_getLsbD_eq
    intro i hi
    rw [BitVec.getLsbD_or, BitVec.getLsbD_twoPow]
    by_cases e : j = i
    · subst e; rw [h, Bool.true_or]
    · simp [e]
theorem ts_and {w m : Int64} {j : Nat} (hj : j < 64) (hm : m.toBitVec = BitVec.twoPow 64 j) : (w &&& (m ^^^ (-1))) = w ↔ w.toBitVec.getLsbD j = false := by
  have ha : (-1 : Int64).toBitVec = BitVec.allOnes 64 := by decide
  rw [← Int64.toBitVec_inj, Int64.toBitVec_and, Int64.toBitVec_xor, hm, ha]
  constructor
  · intro h
    have t := congrArg (fun x => x.getLsbD j) h
    simp only [BitVec.getLsbD_and, BitVec.getLsbD_xor, BitVec.getLsbD_twoPow, BitVec.getLsbD_allOnes] at t
    simpa [hj] using t.symm
  · intro h
    apply BitVec.eq_of_getLsbD_eq
    intro i hi
    rw [BitVec.getLsbD_and, BitVec.getLsbD_xor, BitVec.getLsbD_twoPow, BitVec.getLsbD_allOnes]
    by_cases e : j = i
    · subst e; rw [h, Bool.false_and]
    · simp [e, hi]
/-! ===== lN n to 2^64: shifts, and, or, masks, one bit ===== -/
theorem wb_tb (n : Nat) : (lN n).toBitVec = BitVec.ofNat 64 n := rfl
theorem wb_inj {a b : Int64} (h : a.toBitVec = b.toBitVec) : a = b := Int64.toBitVec_inj.mp h
theorem wb_tn {n : Nat} (h : n < 2 ^ 64) : (lN n).toBitVec.toNat = n := by rw [wb_tb, BitVec.toNat_ofNat, Nat.mod_eq_of_lt h]
theorem wb_of (x : Int64) : ∃ n, n < 2 ^ 64 ∧ x = lN n := ⟨x.toBitVec.toNat, x.toBitVec.isLt, wb_inj (by rw [wb_tb]; simp)⟩
theorem wb_of32 (x : Int32) : ∃ n, n < 2 ^ 32 ∧ x = nI n := ⟨x.toBitVec.toNat, x.toBitVec.isLt, Int32.toBitVec_inj.mp (by show _ = BitVec.ofNat 32 _; simp)⟩
theorem wb_c : ∀ k, k < 64 → ((nI k).toInt64 &&& 63) = lN k := by decide +kernel
theorem wb_cu : ∀ k, k < 64 → ((nI k).toInt64.toUInt64 &&& Int64.toUInt64 63) = UInt64.ofNat k := by decide +kernel
theorem wb_sm : ∀ k, k < 64 → (BitVec.ofNat 64 k).smod 64 = BitVec.ofNat 64 k := by decide +kernel
theorem wb_pw {a b : Nat} (h : a ≤ b) : 2 ^ b = 2 ^ a * 2 ^ (b - a) := by rw [← Nat.pow_add]; congr 1; omega
theorem wb_lt2 {a b : Nat} (h : a < b) : 2 ^ a < 2 ^ b := Nat.pow_lt_pow_right (by decide) h
theorem wb_mod (n : Nat) : lN n = lN (n % 2 ^ 64) := wb_inj (by rw [wb_tb, wb_tb]; apply BitVec.eq_of_toNat_eq; rw [BitVec.toNat_ofNat, BitVec.toNat_ofNat, Nat.mod_mod])
theorem wb_shr {n k : Nat} (hn : n < 2 ^ 64) (hk : k < 64) : ((lN n).toUInt64 >>> ((nI k).toInt64.toUInt64 &&& Int64.toUInt64 63)).toInt64 = lN (n / 2 ^ k) := by
  rw [wb_cu k hk]
  apply wb_inj
  apply BitVec.eq_of_toNat_eq
  show ((lN n).toUInt64 >>> UInt64.ofNat k).toNat = (BitVec.ofNat 64 _).toNat
  have h1 : (UInt64.ofNat k).toNat = k := by
    show (BitVec.ofNat 64 k).toNat = k
    rw [BitVec.toNat_ofNat, Nat.mod_eq_of_lt (by omega)]
  have h2 : (lN n).toUInt64.toNat = n := wb_tn hn
  rw [UInt64.toNat_shiftRight, h1, h2, Nat.mod_eq_of_lt hk, Nat.shiftRight_eq_div_pow, BitVec.toNat_ofNat, Nat.mod_eq_of_lt (Nat.lt_of_le_of_lt (Nat.div_le_self _ _) hn)]
theorem wb_shl (n : Nat) {k : Nat} (hk : k < 64) : lN n <<< ((nI k).toInt64 &&& 63) = lN (n * 2 ^ k) := by
  rw [wb_c k hk]
  apply wb_inj
  rw [Int64.toBitVec_shiftLeft, wb_tb, wb_tb, wb_tb, wb_sm k hk]
  apply BitVec.eq_of_toNat_eq
  rw [BitVec.shiftLeft_eq', BitVec.toNat_shiftLeft, BitVec.toNat_ofNat, BitVec.toNat_ofNat, BitVec.toNat_ofNat, Nat.mod_eq_of_lt (show k < 2 ^ 64 by omega), Nat.shiftLeft_eq, Nat.mul_mod, Nat.mod_mod, ← Nat.mul_mod]
theorem wb_and {a b : Nat} (ha : a < 2 ^ 64) (hb : b < 2 ^ 64) : lN a &&& lN b = lN (a &&& b) := by
  apply wb_inj
  rw [Int64.toBitVec_and, wb_tb, wb_tb, wb_tb]
  apply BitVec.eq_of_toNat_eq
  rw [BitVec.toNat_and, BitVec.toNat_ofNat, BitVec.toNat_ofNat, BitVec.toNat_ofNat, Nat.mod_eq_of_lt ha, Nat.mod_eq_of_lt hb, Nat.mod_eq_of_lt (Nat.and_lt_two_pow _ hb)]
theorem wb_or {a b : Nat} (ha : a < 2 ^ 64) (hb : b < 2 ^ 64) : lN a ||| lN b = lN (a ||| b) := by
  apply wb_inj
  rw [Int64.toBitVec_or, wb_tb, wb_tb, wb_tb]
  apply BitVec.eq_of_toNat_eq
  rw [BitVec.toNat_or, BitVec.toNat_ofNat, BitVec.toNat_ofNat, BitVec.toNat_ofNat, Nat.mod_eq_of_lt ha, Nat.mod_eq_of_lt hb, Nat.mod_eq_of_lt (Nat.or_lt_two_pow ha hb)]
theorem wb_mask {n k : Nat} (hn : n < 2 ^ 64) (hk : k < 64) : lN n &&& lN (2 ^ k - 1) = lN (n % 2 ^ k) := by
  rw [wb_and hn (by have := wb_lt2 hk; omega), Nat.and_two_pow_sub_one_eq_mod]
theorem wb_a1 {n : Nat} (hn : n < 2 ^ 64) : lN n &&& 1 = lN (n % 2) := wb_mask (k := 1) hn (by decide)
theorem wb_bit {n k : Nat} (hn : n < 2 ^ 64) (hk : k < 64) : ((lN n).toUInt64 >>> ((nI k).toInt64.toUInt64 &&& Int64.toUInt64 63)).toInt64 &&& 1 = lN (n / 2 ^ k % 2) := by
  rw [wb_shr hn hk, wb_a1 (Nat.lt_of_le_of_lt (Nat.div_le_self _ _) hn)]
end
section
/-! the pure calendar: leap years, lengths, days before, the date of a day -/
def cc_leap (y : Nat) : Bool := decide (y % 4 = 0) && (!decide (y % 100 = 0) || decide (y % 400 = 0))
def cc_len (y m : Nat) : Nat := if m = 2 then (if cc_leap y = true then 29 else 28) else if m = 4 ∨ m = 6 ∨ m = 9 ∨ m = 11 then 30 else 31
def cc_yl (y : Nat) : Nat := if cc_leap y = true then 366 else 365
def cc_db (y : Nat) : Nat := 365 * (y - 2000) + (y - 2000 + 3) / 4 - (y - 2000 + 99) / 100 + (y - 2000 + 399) / 400
def cc_dm (y : Nat) : Nat → Nat
  | 0 => 0
  | j + 1 => cc_dm y j + cc_len y (j + 1)
theorem cc_leap_t {y : Nat} (h4 : y % 4 = 0) (h : y % 100 ≠ 0 ∨ y % 400 = 0) : cc_leap y = true := by
  unfold cc_leap
  rcases h with h | h <;> simp [h4, h]
theorem cc_leap_f4 {y : Nat} (h4 : y % 4 ≠ 0) : cc_leap y = false := by
  unfold cc_leap; simp [h4]
theorem cc_leap_f1 {y : Nat} (h1 : y % 100 = 0) (h : y % 400 ≠ 0) : cc_leap y = false := by
  unfold cc_leap; simp [h1, h]
theorem cc_leap_or (y : Nat) : (cc_leap y = true ∧ y % 4 = 0 ∧ (y % 100 ≠ 0 ∨ y % 400 = 0)) ∨ (cc_leap y = false ∧ (y % 4 ≠ 0 ∨ (y % 100 = 0 ∧ y % 400 ≠ 0))) := by
  by_cases h4 : y % 4 = 0
  · by_cases h1 : y % 100 = 0
    · by_cases h : y % 400 = 0
      · exact Or.inl ⟨cc_leap_t h4 (Or.inr h), h4, Or.inr h⟩
      · exact Or.inr ⟨cc_leap_f1 h1 h, Or.inr ⟨h1, h⟩⟩
    · exact Or.inl ⟨cc_leap_t h4 (Or.inl h1), h4, Or.inl h1⟩
  · exact Or.inr ⟨cc_leap_f4 h4, Or.inl h4⟩
theorem cc_yl_in (y : Nat) : 365 ≤ cc_yl y ∧ cc_yl y ≤ 366 := by
  unfold cc_yl; split <;> omega
theorem cc_len_in (y m : Nat) : 28 ≤ cc_len y m ∧ cc_len y m ≤ 31 := by
  unfold cc_len
  split
  · split <;> omega
  · split <;> omega
theorem cc_db0 : cc_db 2000 = 0 := by decide
theorem cc_db400 : cc_db 2400 = 146097 := by decide
theorem cc_db_s {y : Nat} (h : 2000 ≤ y) : cc_db (y + 1) = cc_db y + cc_yl y := by
  obtain ⟨k, rfl⟩ : ∃ k, y = 2000 + k := ⟨y - 2000, by omega⟩
  unfold cc_db cc_yl
  have e1 : 2000 + k + 1 - 2000 = k + 1 := by omega
  have e2 : 2000 + k - 2000 = k := by omega
  rw [e1, e2]
  rcases cc_leap_or (2000 + k) with ⟨e, h4, h1⟩ | ⟨e, h1⟩
  · rw [e, if_pos rfl]
    rcases h1 with h1 | h1 <;> omega
  · rw [e, if_neg (by decide)]
    rcases h1 with h1 | ⟨h1, h2⟩ <;> omega
theorem cc_db_lo {y : Nat} : 365 * (y - 2000) ≤ cc_db y := by
  unfold cc_db; omega
theorem cc_db_hi {y : Nat} : cc_db y ≤ 366 * (y - 2000) := by
  unfold cc_db; omega
theorem cc_db_mono {a b : Nat} (ha : 2000 ≤ a) (h : a ≤ b) : cc_db a ≤ cc_db b := by
  obtain ⟨k, rfl⟩ : ∃ k, b = a + k := ⟨b - a, by omega⟩
  induction k with
  | zero => exact Nat.le_refl _
  | succ k ih =>
    have e := cc_db_s (y := a + k) (by omega)
    have := ih (by omega)
    rw [← Nat.add_assoc]
    omega
theorem cc_dm_s (y j : Nat) : cc_dm y (j + 1) = cc_dm y j + cc_len y (j + 1) := rfl
theorem cc_dm_mono (y : Nat) {a b : Nat} (h : a ≤ b) : cc_dm y a ≤ cc_dm y b := by
  obtain ⟨k, rfl⟩ : ∃ k, b = a + k := ⟨b - a, by omega⟩
  induction k with
  | zero => exact Nat.le_refl _
  | succ k ih =>
    have e := cc_dm_s y (a + k)
    have := ih (by omega)
    rw [← Nat.add_assoc]
    omega
theorem cc_dm_12 (y : Nat) : cc_dm y 12 = cc_yl y := by
  unfold cc_yl
  by_cases h : cc_leap y = true
  · rw [if_pos h]; simp [cc_dm, cc_len, h]
  · rw [if_neg h]; simp [cc_dm, cc_len, h]
theorem cc_dm_hi (y : Nat) {j : Nat} (h : j ≤ 12) : cc_dm y j ≤ 366 := by
  have h1 := cc_dm_mono y h
  have h2 := cc_dm_12 y
  have h3 := cc_yl_in y
  omega
/-- day n is the date y, m, d -/
def cc_is (n y m d : Nat) : Prop := 2000 ≤ y ∧ 1 ≤ m ∧ m ≤ 12 ∧ 1 ≤ d ∧ d ≤ cc_len y m ∧ n + 1 = cc_db y + cc_dm y (m - 1) + d
theorem cc_is_next {n y m d : Nat} (h : cc_is n y m d) : (d < cc_len y m ∧ cc_is (n + 1) y m (d + 1)) ∨ (d = cc_len y m ∧ m < 12 ∧ cc_is (n + 1) y (m + 1) 1) ∨ (d = cc_len y m ∧ m = 12 ∧ cc_is (n + 1) (y + 1) 1 1) := by
  obtain ⟨h1, h2, h3, h4, h5, h6⟩ := h
  by_cases hd : d < cc_len y m
  · exact Or.inl ⟨hd, h1, h2, h3, by omega, hd, by omega⟩
  · have ed : d = cc_len y m := by omega
    obtain ⟨j, rfl⟩ : ∃ j, m = j + 1 := ⟨m - 1, by omega⟩
    have es := cc_dm_s y j
    rw [Nat.add_sub_cancel] at h6
    by_cases hm : j + 1 < 12
    · refine Or.inr (Or.inl ⟨ed, hm, h1, by omega, by omega, Nat.le_refl 1, ?_, ?_⟩)
      · have := cc_len_in y (j + 1 + 1); omega
      · rw [Nat.add_sub_cancel]; omega
    · have ej : j = 11 := by omega
      subst ej
      refine Or.inr (Or.inr ⟨ed, rfl, by omega, Nat.le_refl 1, by omega, Nat.le_refl 1, ?_, ?_⟩)
      · have := cc_len_in (y + 1) 1; omega
      · have e1 := cc_db_s h1
        have e2 : cc_dm y (11 + 1) = cc_yl y := cc_dm_12 y
        have e3 : cc_dm (y + 1) (1 - 1) = 0 := rfl
        rw [e3]
        omega
theorem cc_ex : ∀ n : Nat, ∃ p : Nat × Nat × Nat, cc_is n p.1 p.2.1 p.2.2 := by
  intro n
  induction n with
  | zero =>
    refine ⟨(2000, 1, 1), Nat.le_refl _, Nat.le_refl _, by decide, Nat.le_refl _, ?_, ?_⟩
    · have := cc_len_in 2000 1
      show 1 ≤ cc_len 2000 1
      omega
    · have e1 := cc_db0
      have e3 : cc_dm 2000 (1 - 1) = 0 := rfl
      show 0 + 1 = cc_db 2000 + cc_dm 2000 (1 - 1) + 1
      omega
  | succ n ih =>
    obtain ⟨p, hp⟩ := ih
    rcases cc_is_next hp with ⟨_, h⟩ | ⟨_, _, h⟩ | ⟨_, _, h⟩
    · exact ⟨(p.1, p.2.1, p.2.2 + 1), h⟩
    · exact ⟨(p.1, p.2.1 + 1, 1), h⟩
    · exact ⟨(p.1 + 1, 1, 1), h⟩
noncomputable def cc_y (n : Nat) : Nat := (Classical.choose (cc_ex n)).1
noncomputable def cc_m (n : Nat) : Nat := (Classical.choose (cc_ex n)).2.1
noncomputable def cc_d (n : Nat) : Nat := (Classical.choose (cc_ex n)).2.2
theorem cc_isD (n : Nat) : cc_is n (cc_y n) (cc_m n) (cc_d n) := Classical.choose_spec (cc_ex n)
theorem cc_is_y {n y m d : Nat} (h : cc_is n y m d) : cc_db y ≤ n ∧ n < cc_db (y + 1) := by
  obtain ⟨h1, h2, h3, h4, h5, h6⟩ := h
  obtain ⟨j, rfl⟩ : ∃ j, m = j + 1 := ⟨m - 1, by omega⟩
  rw [Nat.add_sub_cancel] at h6
  have es := cc_dm_s y j
  have e1 := cc_db_s h1
  have e2 := cc_dm_12 y
  have e3 := cc_dm_mono y (a := j + 1) (b := 12) h3
  omega
theorem cc_is_uy {n a b : Nat} (ha : 2000 ≤ a) (hb : 2000 ≤ b) (h1 : cc_db a ≤ n ∧ n < cc_db (a + 1)) (h2 : cc_db b ≤ n ∧ n < cc_db (b + 1)) : a = b := by
  rcases Nat.lt_trichotomy a b with h | h | h
  · have := cc_db_mono (a := a + 1) (b := b) (by omega) h; omega
  · exact h
  · have := cc_db_mono (a := b + 1) (b := a) (by omega) h; omega
theorem cc_is_u {n y m d y' m' d' : Nat} (h : cc_is n y m d) (h' : cc_is n y' m' d') : y = y' ∧ m = m' ∧ d = d' := by
  have ey := cc_is_uy h.1 h'.1 (cc_is_y h) (cc_is_y h')
  subst ey
  obtain ⟨h1, h2, h3, h4, h5, h6⟩ := h
  obtain ⟨g1, g2, g3, g4, g5, g6⟩ := h'
  obtain ⟨j, rfl⟩ : ∃ j, m = j + 1 := ⟨m - 1, by omega⟩
  obtain ⟨i, rfl⟩ : ∃ i, m' = i + 1 := ⟨m' - 1, by omega⟩
  rw [Nat.add_sub_cancel] at h6 g6
  have es := cc_dm_s y j
  have et := cc_dm_s y i
  have em : j = i := by
    rcases Nat.lt_trichotomy j i with h | h | h
    · have := cc_dm_mono y (a := j + 1) (b := i) h; omega
    · exact h
    · have := cc_dm_mono y (a := i + 1) (b := j) h; omega
  subst em
  exact ⟨rfl, rfl, by omega⟩
theorem cc_isE {n y m d : Nat} (h : cc_is n y m d) : cc_y n = y ∧ cc_m n = m ∧ cc_d n = d := cc_is_u (cc_isD n) h
theorem cc_is_ylt {n y m d : Nat} (h : cc_is n y m d) (hn : n < 146097) : y < 2400 := by
  have h1 := cc_is_y h
  have h2 := h.1
  have h3 := cc_db400
  by_cases g : y < 2400
  · exact g
  · have := cc_db_mono (a := 2400) (b := y) (by decide) (by omega); omega
theorem cc_is_yhi {n y m d : Nat} (h : cc_is n y m d) : 365 * (y - 2000) ≤ n := by
  have h1 := cc_is_y h
  have h2 := cc_db_lo (y := y)
  omega
theorem cc_is_ylo {n y m d : Nat} (h : cc_is n y m d) : 2000 + n / 366 ≤ y := by
  have h1 := cc_is_y h
  have h2 := cc_db_hi (y := y + 1)
  have h3 := h.1
  omega
/-- a step back -/
theorem cc_is_prev {n y m d : Nat} (h : cc_is (n + 1) y m d) : (2 ≤ d ∧ cc_is n y m (d - 1)) ∨ (d = 1 ∧ 2 ≤ m ∧ cc_is n y (m - 1) (cc_len y (m - 1))) ∨ (d = 1 ∧ m = 1 ∧ cc_is n (y - 1) 12 (cc_len (y - 1) 12)) := by
  obtain ⟨h1, h2, h3, h4, h5, h6⟩ := h
  by_cases hd : 2 ≤ d
  · exact Or.inl ⟨hd, h1, h2, h3, by omega, by omega, by omega⟩
  · have ed : d = 1 := by omega
    by_cases hm : 2 ≤ m
    · obtain ⟨j, rfl⟩ : ∃ j, m = j + 1 + 1 := ⟨m - 2, by omega⟩
      have es := cc_dm_s y j
      refine Or.inr (Or.inl ⟨ed, hm, h1, by omega, by omega, ?_, Nat.le_refl _, ?_⟩)
      · have := cc_len_in y (j + 1 + 1 - 1); omega
      · rw [Nat.add_sub_cancel] at h6 ⊢
        rw [Nat.add_sub_cancel]
        omega
    · have em : m = 1 := by omega
      subst em
      have e3 : cc_dm y (1 - 1) = 0 := rfl
      have hy : 2001 ≤ y := by
        by_cases g : 2001 ≤ y
        · exact g
        · have ey : y = 2000 := by omega
          subst ey
          have := cc_db0
          omega
      obtain ⟨z, rfl⟩ : ∃ z, y = z + 1 := ⟨y - 1, by omega⟩
      have e1 := cc_db_s (y := z) (by omega)
      have e2 := cc_dm_12 z
      have e4 : cc_dm z 12 = cc_dm z 11 + cc_len z 12 := cc_dm_s z 11
      refine Or.inr (Or.inr ⟨ed, rfl, by omega, by decide, by decide, ?_, Nat.le_refl _, ?_⟩)
      · have := cc_len_in (z + 1 - 1) 12; omega
      · rw [Nat.add_sub_cancel]
        show n + 1 = cc_db z + cc_dm z 11 + cc_len z 12
        omega
/-- within a month -/
theorem cc_is_in {n y m d : Nat} (h : cc_is n y m d) {d' : Nat} (h1 : 1 ≤ d') (h2 : d' ≤ cc_len y m) : cc_is (n + d' - d) y m d' := by
  obtain ⟨g1, g2, g3, g4, g5, g6⟩ := h
  exact ⟨g1, g2, g3, h1, h2, by omega⟩
end
section
/-! the component's calendar walks -/
/-- a boolean as an int -/
def cc_b (b : Bool) : Int32 := match b with | true => 1 | false => 0
theorem cc_br {b : Bool} {A B : Prop} (f : b = false → A) (g : b = true → B) : (cc_b b = 0 → A) ∧ (¬ cc_b b = 0 → B) := by
  cases b with
  | false => exact ⟨fun _ => f rfl, fun h => absurd rfl h⟩
  | true => exact ⟨fun h => absurd h (by decide), fun _ => g rfl⟩
theorem cc_b1 {post : Int32 → Prop} {b : Bool} (h : post (cc_b b)) (e : b = true) : post 1 := by subst e; exact h
theorem cc_b0 {post : Int32 → Prop} {b : Bool} (h : post (cc_b b)) (e : b = false) : post 0 := by subst e; exact h
theorem cc_e {post : Int32 → Prop} {a b : Nat} (h : post (nI a)) (e : a = b) : post (nI b) := by subst e; exact h
theorem cc_dm_p (y : Nat) {m : Nat} (h : 1 ≤ m) : cc_dm y m = cc_dm y (m - 1) + cc_len y m := by
  obtain ⟨j, rfl⟩ : ∃ j, m = j + 1 := ⟨m - 1, by omega⟩
  rfl
theorem xs_rule {post : Int32 → Prop} {p : Int32} (h0 : (p < 0 ∨ 4 ≤ p) → post 0) (h1 : ¬ p < 0 → ¬ 4 ≤ p → post 1) : wpX_isRule post p :=
  br_c (fun h => h0 (Or.inl h)) (fun h => br_c (fun g => h0 (Or.inr g)) (fun g => h1 h g))
theorem xs_leap {post : Int32 → Prop} {y : Nat} (hy : y < 2 ^ 31) (h : post (cc_b (cc_leap y))) : wpX_isLeap post (nI y) := by
  have e4 : nI y - nI y / 4 * 4 = nI (y % 4) := pk_rem (d := 4) hy (by decide) (by decide)
  have e1 : nI y - nI y / 100 * 100 = nI (y % 100) := pk_rem (d := 100) hy (by decide) (by decide)
  have e0 : nI y - nI y / 400 * 400 = nI (y % 400) := pk_rem (d := 400) hy (by decide) (by decide)
  unfold wpX_isLeap
  rw [e4, e1, e0]
  exact ⟨by decide, pk_eq (y % 4) 0
    (fun h4 => ⟨by decide, pk_eq (y % 100) 0
      (fun h1 => ⟨by decide, pk_eq (y % 400) 0 (fun h0 => cc_b1 h (cc_leap_t h4 (Or.inr h0))) (fun h0 => cc_b0 h (cc_leap_f1 h1 h0))⟩)
      (fun h1 => cc_b1 h (cc_leap_t h4 (Or.inl h1)))⟩)
    (fun h4 => cc_b0 h (cc_leap_f4 h4))⟩
theorem xs_len {post : Int32 → Prop} {y m : Nat} (hy : y < 2 ^ 31) (hm : m < 2 ^ 31) (h : post (nI (cc_len y m))) : wpX_lengthOf post (nI y) (nI m) := by
  unfold wpX_lengthOf
  exact pk_eq m 2
    (fun e2 => xs_leap hy (cc_br (fun hl => cc_e (b := 28) h (by unfold cc_len; rw [if_pos e2, if_neg (by rw [hl]; decide)])) (fun hl => cc_e (b := 29) h (by unfold cc_len; rw [if_pos e2, if_pos hl]))))
    (fun e2 => pk_eq m 4 (fun e => cc_e (b := 30) h (by unfold cc_len; rw [if_neg e2, if_pos (by omega)]))
      (fun e4 => pk_eq m 6 (fun e => cc_e (b := 30) h (by unfold cc_len; rw [if_neg e2, if_pos (by omega)]))
        (fun e6 => pk_eq m 9 (fun e => cc_e (b := 30) h (by unfold cc_len; rw [if_neg e2, if_pos (by omega)]))
          (fun e9 => pk_eq m 11 (fun e => cc_e (b := 30) h (by unfold cc_len; rw [if_neg e2, if_pos (by omega)]))
            (fun e11 => cc_e (b := 31) h (by unfold cc_len; rw [if_neg e2, if_neg (by omega)]))))))
theorem cc_dbI {k : Nat} (h : k < 10000) : ((((365 * nI k) + ((nI k + 3) / 4)) - ((nI k + 99) / 100)) + ((nI k + 399) / 400)) = nI (365 * k + (k + 3) / 4 - (k + 99) / 100 + (k + 399) / 400) := by
  have a1 : nI k + 3 = nI (k + 3) := nI_add k 3
  have a2 : nI k + 99 = nI (k + 99) := nI_add k 99
  have a3 : nI k + 399 = nI (k + 399) := nI_add k 399
  have b1 : nI (k + 3) / 4 = nI ((k + 3) / 4) := pk_div (d := 4) (by omega) (by decide) (by decide)
  have b2 : nI (k + 99) / 100 = nI ((k + 99) / 100) := pk_div (d := 100) (by omega) (by decide) (by decide)
  have b3 : nI (k + 399) / 400 = nI ((k + 399) / 400) := pk_div (d := 400) (by omega) (by decide) (by decide)
  have c : 365 * nI k = nI (365 * k) := pk_mul 365 k
  rw [a1, a2, a3, b1, b2, b3, c, nI_add, pk_sub (by omega), nI_add]
theorem xs_db {post : Int32 → Prop} {y : Nat} (hy : 2000 ≤ y) (hy2 : y < 10000) (h : post (nI (cc_db y))) : wpX_daysBefore post (nI y) := by
  unfold wpX_daysBefore
  refine nm_r (e' := nI (y - 2000)) (pk_sub (b := 2000) hy) ⟨by decide, by decide, by decide, ?_⟩
  rw [cc_dbI (by omega)]
  exact h
theorem xs_dbm_lp {post : Int32 → Prop} {y m : Nat} (hy : y < 2 ^ 31) (hm : m ≤ 12) : ∀ k j : Nat, j + k + 1 = m → post (nI (cc_dm y (j + k))) → ∀ n, k < n → wX_daysBeforeMonth_4 post (nI y) (nI m) n (nI (cc_dm y j)) (nI (j + 1)) := by
  intro k
  induction k with
  | zero =>
    intro j hj h n hn
    obtain ⟨n, rfl⟩ : ∃ i, n = i + 1 := ⟨n - 1, by omega⟩
    exact pk_le m (j + 1) (fun _ => h) (fun g => absurd g (by omega))
  | succ k ih =>
    intro j hj h n hn
    obtain ⟨n, rfl⟩ : ∃ i, n = i + 1 := ⟨n - 1, by omega⟩
    refine pk_le m (j + 1) (fun g => absurd g (by omega)) (fun _ => xs_len hy (by omega) ?_)
    refine nm_r (e' := nI (cc_dm y (j + 1))) ?_ (nm_r (e' := nI (j + 1 + 1)) (nI_1 (j + 1)) (ih (j + 1) (by omega) (by rw [show j + 1 + k = j + (k + 1) by omega]; exact h) n (by omega)))
    rw [nI_add, cc_dm_s]
theorem xs_dn {post : Int32 → Prop} {y m d : Nat} (hy : 2000 ≤ y) (hy2 : y < 10000) (hm : 1 ≤ m) (hm2 : m ≤ 12) (hd : 1 ≤ d) (h : post (nI (cc_db y + cc_dm y (m - 1) + d - 1))) : wpX_dayNumber post (nI y) (nI m) (nI d) := by
  unfold wpX_dayNumber
  refine xs_db hy hy2 ⟨13, ?_⟩
  refine xs_dbm_lp (by omega) hm2 (m - 1) 0 (by omega) ?_ 13 (by omega)
  rw [Nat.zero_add]
  have e : nI (cc_db y) + nI (cc_dm y (m - 1)) + nI d - 1 = nI (cc_db y + cc_dm y (m - 1) + d - 1) := by
    rw [nI_add, nI_add]
    exact pk_sub (b := 1) (by omega)
  rw [e]
  exact h
theorem xs_yearOf_lp {post : Int32 → Prop} {n y : Nat} (hn : n < 2 ^ 31) (hy : 2000 ≤ y) (hy2 : y < 9999) (h1 : cc_db y ≤ n) (h2 : n < cc_db (y + 1)) (h : post (nI y)) : ∀ k j : Nat, j + k = y → 2000 ≤ j → ∀ f, k < f → wX_yearOf_10 post (nI n) f (nI j) := by
  intro k
  induction k with
  | zero =>
    intro j hj hj2 f hf
    obtain ⟨f, rfl⟩ : ∃ i, f = i + 1 := ⟨f - 1, by omega⟩
    have ej : j = y := by omega
    subst ej
    have hb := cc_db_hi (y := j + 1)
    have q : wpX_daysBefore (fun r_3 => (((nI n < r_3 → (post (nI j))) ∧ (¬ nI n < r_3 → (∀ x1_5 : Int32, x1_5 = nI j + 1 → (wX_yearOf_10 post (nI n) f x1_5)))))) (nI (j + 1)) :=
      xs_db (by omega) (by omega) (pk_lt n (cc_db (j + 1)) (fun _ => h) (fun g => absurd g (by omega)))
    rw [← nI_1] at q
    exact q
  | succ k ih =>
    intro j hj hj2 f hf
    obtain ⟨f, rfl⟩ : ∃ i, f = i + 1 := ⟨f - 1, by omega⟩
    have hm := cc_db_mono (a := j + 1) (b := y) (by omega) (by omega)
    have q : wpX_daysBefore (fun r_3 => (((nI n < r_3 → (post (nI j))) ∧ (¬ nI n < r_3 → (∀ x1_5 : Int32, x1_5 = nI j + 1 → (wX_yearOf_10 post (nI n) f x1_5)))))) (nI (j + 1)) :=
      xs_db (by omega) (by omega) (pk_lt n (cc_db (j + 1)) (fun g => absurd g (by omega)) (fun _ => nm_r (e' := nI (j + 1)) (nI_1 j) (ih (j + 1) (by omega) (by omega) f (by omega))))
    rw [← nI_1] at q
    exact q
theorem xs_yearOf {post : Int32 → Prop} {n y : Nat} (hn : n < 1000000) (hy : 2000 ≤ y) (h1 : cc_db y ≤ n) (h2 : n < cc_db (y + 1)) (h : post (nI y)) : wpX_yearOf post (nI n) := by
  have l1 := cc_db_lo (y := y)
  have l2 := cc_db_hi (y := y + 1)
  unfold wpX_yearOf
  refine ⟨by decide, nm_r (e' := nI (2000 + n / 366)) ?_ ⟨y + 1, ?_⟩⟩
  · have e : nI n / 366 = nI (n / 366) := pk_div (d := 366) (by omega) (by decide) (by decide)
    rw [e]
    exact nI_add 2000 (n / 366)
  · exact xs_yearOf_lp (by omega) hy (by omega) h1 h2 h (y - (2000 + n / 366)) (2000 + n / 366) (by omega) (by omega) (y + 1) (by omega)
section XS
variable {fy fm fd : Int32} {st : Nat → Int64} {fl lo hi : Nat → Int32}
theorem xs_split_lp {post : SX → Prop} {y m d D : Nat} (hy : y < 2 ^ 31) (hm : m ≤ 12) (hd1 : 1 ≤ d) (hd : d ≤ cc_len y m) (hD : D + 1 = cc_dm y (m - 1) + d) (h : post (nI y, nI m, nI d, st, fl, lo, hi)) :
    ∀ k j : Nat, j + k + 1 = m → ∀ n, k < n → wX_split_23 post (nI y) fd st fl lo hi n (nI (D - cc_dm y j)) (nI (j + 1)) := by
  have hl := cc_len_in y m
  have hdm := cc_dm_hi y (j := m - 1) (by omega)
  intro k
  induction k with
  | zero =>
    intro j hj n hn
    obtain ⟨n, rfl⟩ : ∃ i, n = i + 1 := ⟨n - 1, by omega⟩
    obtain rfl : m = j + 1 := by omega
    rw [Nat.add_sub_cancel] at hD
    have e : D - cc_dm y j = d - 1 := by omega
    have e2 : nI (d - 1) + 1 = nI d := by rw [nI_1]; exact congrArg nI (by omega)
    rw [e]
    refine pk_le 12 (j + 1) (fun _ => nm_r (e' := nI d) e2 h) (fun _ => xs_len hy (by omega) (pk_lt (d - 1) (cc_len y (j + 1)) (fun _ => nm_r (e' := nI d) e2 h) (fun g => absurd g (by omega))))
  | succ k ih =>
    intro j hj n hn
    obtain ⟨n, rfl⟩ : ∃ i, n = i + 1 := ⟨n - 1, by omega⟩
    have hs := cc_dm_s y j
    have hmo := cc_dm_mono y (a := j + 1) (b := m - 1) (by omega)
    refine pk_le 12 (j + 1) (fun g => absurd g (by omega)) (fun _ => xs_len hy (by omega) (pk_lt (D - cc_dm y j) (cc_len y (j + 1)) (fun g => absurd g (by omega)) (fun _ => xs_len hy (by omega) ?_)))
    refine nm_r (e' := nI (D - cc_dm y (j + 1))) ?_ (nm_r (e' := nI (j + 1 + 1)) (nI_1 (j + 1)) (ih (j + 1) (by omega) n (by omega)))
    rw [pk_sub (by omega)]
    exact congrArg nI (by omega)
theorem xs_split {post : SX → Prop} {n : Nat} (hn : n < 1000000) (h : post (nI (cc_y n), nI (cc_m n), nI (cc_d n), st, fl, lo, hi)) : wpX_split post (fy, fm, fd, st, fl, lo, hi) (nI n) := by
  have hi' := cc_isD n
  have hy := cc_is_y hi'
  have hyl := cc_is_yhi hi'
  obtain ⟨h1, h2, h3, h4, h5, h6⟩ := hi'
  show wpX_yearOf _ _
  refine xs_yearOf hn h1 hy.1 hy.2 ?_
  refine xs_db h1 (by omega) ?_
  refine nm_r (e' := nI (n - cc_db (cc_y n))) (pk_sub hy.1) ⟨13, ?_⟩
  exact xs_split_lp (m := cc_m n) (d := cc_d n) (D := n - cc_db (cc_y n)) (by omega) h3 h4 h5 (by omega) h (cc_m n - 1) 0 (by omega) 13 (by omega)
end XS
end
section
/-! the reference's calendar walks -/
section YS
variable {gy gm gd : Int32} {op fl : Nat → Int32}
theorem ys_leap {post : Int32 → Prop} {y : Nat} (hy : y < 2 ^ 31) (h : post (cc_b (cc_leap y))) : wpY_leap post (gy, gm, gd, op, fl) (nI y) := by
  have e4 : nI y - nI y / 4 * 4 = nI (y % 4) := pk_rem (d := 4) hy (by decide) (by decide)
  have e1 : nI y - nI y / 100 * 100 = nI (y % 100) := pk_rem (d := 100) hy (by decide) (by decide)
  have e0 : nI y - nI y / 400 * 400 = nI (y % 400) := pk_rem (d := 400) hy (by decide) (by decide)
  unfold wpY_leap wY_leap_13
  dsimp only
  rw [e4, e1, e0]
  exact ⟨by decide, pk_eq (y % 4) 0
    (fun h4 => ⟨by decide, pk_eq (y % 100) 0
      (fun h1 => ⟨by decide, pk_eq (y % 400) 0 (fun h0 => cc_b1 h (cc_leap_t h4 (Or.inr h0))) (fun h0 => cc_b0 h (cc_leap_f1 h1 h0))⟩)
      (fun h1 => cc_b1 h (cc_leap_t h4 (Or.inl h1)))⟩)
    (fun h4 => ⟨by decide, pk_eq (y % 400) 0 (fun h0 => absurd h0 (by omega)) (fun h0 => cc_b0 h (cc_leap_f4 h4))⟩)⟩
theorem ys_len {post : Int32 → Prop} {y m : Nat} (hy : y < 2 ^ 31) (hm : m < 2 ^ 31) (h : post (nI (cc_len y m))) : wpY_length post (gy, gm, gd, op, fl) (nI y) (nI m) := by
  unfold wpY_length
  exact pk_eq m 2
    (fun e2 => ys_leap hy (cc_br (fun hl => cc_e (b := 28) h (by unfold cc_len; rw [if_pos e2, if_neg (by rw [hl]; decide)])) (fun hl => cc_e (b := 29) h (by unfold cc_len; rw [if_pos e2, if_pos hl]))))
    (fun e2 => pk_eq m 4 (fun e => cc_e (b := 30) h (by unfold cc_len; rw [if_neg e2, if_pos (by omega)]))
      (fun e4 => pk_eq m 6 (fun e => cc_e (b := 30) h (by unfold cc_len; rw [if_neg e2, if_pos (by omega)]))
        (fun e6 => pk_eq m 9 (fun e => cc_e (b := 30) h (by unfold cc_len; rw [if_neg e2, if_pos (by omega)]))
          (fun e9 => pk_eq m 11 (fun e => cc_e (b := 30) h (by unfold cc_len; rw [if_neg e2, if_pos (by omega)]))
            (fun e11 => cc_e (b := 31) h (by unfold cc_len; rw [if_neg e2, if_neg (by omega)]))))))
theorem ys_split84 {post : SY → Prop} {y m d D : Nat} (hy : y < 2 ^ 31) (hm : m ≤ 12) (hd1 : 1 ≤ d) (hd : d ≤ cc_len y m) (hD : D + 1 = cc_dm y (m - 1) + d) (h : post (nI y, nI m, nI d, op, fl)) :
    ∀ k j : Nat, j + k + 1 = m → ∀ n, k < n → wY_split_84 post (nI y) gd op fl n (nI (D - cc_dm y j)) (nI (j + 1)) := by
  have hl := cc_len_in y m
  have hdm := cc_dm_hi y (j := m - 1) (by omega)
  intro k
  induction k with
  | zero =>
    intro j hj n hn
    obtain ⟨n, rfl⟩ : ∃ i, n = i + 1 := ⟨n - 1, by omega⟩
    obtain rfl : m = j + 1 := by omega
    rw [Nat.add_sub_cancel] at hD
    have e : D - cc_dm y j = d - 1 := by omega
    have e2 : nI (d - 1) + 1 = nI d := by rw [nI_1]; exact congrArg nI (by omega)
    rw [e]
    refine pk_le 12 (j + 1) (fun _ => nm_r (e' := nI d) e2 h) (fun _ => ys_len hy (by omega) (pk_lt (d - 1) (cc_len y (j + 1)) (fun _ => nm_r (e' := nI d) e2 h) (fun g => absurd g (by omega))))
  | succ k ih =>
    intro j hj n hn
    obtain ⟨n, rfl⟩ : ∃ i, n = i + 1 := ⟨n - 1, by omega⟩
    have hs := cc_dm_s y j
    have hmo := cc_dm_mono y (a := j + 1) (b := m - 1) (by omega)
    refine pk_le 12 (j + 1) (fun g => absurd g (by omega)) (fun _ => ys_len hy (by omega) (pk_lt (D - cc_dm y j) (cc_len y (j + 1)) (fun g => absurd g (by omega)) (fun _ => ys_len hy (by omega) ?_)))
    refine nm_r (e' := nI (D - cc_dm y (j + 1))) ?_ (nm_r (e' := nI (j + 1 + 1)) (nI_1 (j + 1)) (ih (j + 1) (by omega) n (by omega)))
    rw [pk_sub (by omega)]
    exact congrArg nI (by omega)
theorem cc_ylT {y : Nat} (h : cc_leap y = true) : cc_yl y = 366 := by unfold cc_yl; rw [if_pos h]
theorem cc_ylF {y : Nat} (h : cc_leap y = false) : cc_yl y = 365 := by unfold cc_yl; rw [if_neg (by rw [h]; decide)]
theorem ys_split64 {post : SY → Prop} {J : Int32 → Int32 → Prop} {j r w : Nat} (hw : w ≤ r) (h : J (nI (r - w)) (nI (j + 1))) : wY_split_64 post J (nI w) (nI r) (nI j) gm gd op fl := by
  unfold wY_split_64
  exact nm_r (e' := nI (r - w)) (pk_sub hw) (nm_r (e' := nI (j + 1)) (nI_1 j) h)
theorem ys_split40 {post : SY → Prop} {J : Int32 → Int32 → Prop} {j r : Nat} (hj : j < 2 ^ 31) (hr : r < 2 ^ 31) (h0 : r < cc_yl j → ∃ n84, wY_split_84 post (nI j) gd op fl n84 (nI r) 1) (h1 : cc_yl j ≤ r → J (nI (r - cc_yl j)) (nI (j + 1))) :
    wY_split_40 post J (nI r) (nI (cc_yl j)) (nI r) (nI j) gm gd op fl := by
  have hb := cc_yl_in j
  unfold wY_split_40
  refine pk_lt r (cc_yl j) h0 (fun g => ys_leap hj (cc_br (fun hl => ?_) (fun hl => ?_)))
  · rw [cc_ylF hl] at g h1
    exact ys_split64 (w := 365) g (h1 g)
  · rw [cc_ylT hl] at g h1
    exact ys_split64 (w := 366) g (h1 g)
theorem ys_split9 {post : SY → Prop} {N y m d : Nat} (hN : N < 146097) (his : cc_is N y m d) (h : post (nI y, nI m, nI d, op, fl)) :
    ∀ k j : Nat, j + k = y → 2000 ≤ j → ∀ n, k < n → wY_split_9 post gm gd op fl n (nI (N - cc_db j)) (nI j) := by
  have hlt := cc_is_ylt his hN
  have hyy := cc_is_y his
  intro k
  induction k with
  | zero =>
    intro j hj hj2 n hn
    obtain ⟨n, rfl⟩ : ∃ i, n = i + 1 := ⟨n - 1, by omega⟩
    obtain rfl : j = y := by omega
    have hs := cc_db_s hj2
    have h84 : ∃ n84, wY_split_84 post (nI j) gd op fl n84 (nI (N - cc_db j)) 1 := by
      obtain ⟨h1, h2, h3, h4, h5, h6⟩ := his
      exact ⟨13, ys_split84 (m := m) (d := d) (D := N - cc_db j) (by omega) h3 h4 h5 (by omega) h (m - 1) 0 (by omega) 13 (by omega)⟩
    refine pk_le 2400 j (fun _ => h84) (fun _ => ys_leap (by omega) (cc_br (fun hl => ?_) (fun hl => ?_)))
    · have q := ys_split40 (post := post) (J := wY_split_9 post gm gd op fl n) (gm := gm) (gd := gd) (op := op) (fl := fl) (j := j) (r := N - cc_db j) (by omega) (by omega) (fun _ => h84) (fun g => absurd g (by omega))
      rw [cc_ylF hl] at q
      exact q
    · have q := ys_split40 (post := post) (J := wY_split_9 post gm gd op fl n) (gm := gm) (gd := gd) (op := op) (fl := fl) (j := j) (r := N - cc_db j) (by omega) (by omega) (fun _ => h84) (fun g => absurd g (by omega))
      rw [cc_ylT hl] at q
      exact q
  | succ k ih =>
    intro j hj hj2 n hn
    obtain ⟨n, rfl⟩ : ∃ i, n = i + 1 := ⟨n - 1, by omega⟩
    have hs := cc_db_s hj2
    have hmo := cc_db_mono (a := j + 1) (b := y) (by omega) (by omega)
    have K : wY_split_9 post gm gd op fl n (nI (N - cc_db j - cc_yl j)) (nI (j + 1)) := by
      rw [show N - cc_db j - cc_yl j = N - cc_db (j + 1) by omega]
      exact ih (j + 1) (by omega) (by omega) n (by omega)
    refine pk_le 2400 j (fun g => absurd g (by omega)) (fun _ => ys_leap (by omega) (cc_br (fun hl => ?_) (fun hl => ?_)))
    · have q := ys_split40 (post := post) (J := wY_split_9 post gm gd op fl n) (gm := gm) (gd := gd) (op := op) (fl := fl) (j := j) (r := N - cc_db j) (by omega) (by omega) (fun g => absurd g (by omega)) (fun _ => K)
      rw [cc_ylF hl] at q
      exact q
    · have q := ys_split40 (post := post) (J := wY_split_9 post gm gd op fl n) (gm := gm) (gd := gd) (op := op) (fl := fl) (j := j) (r := N - cc_db j) (by omega) (by omega) (fun g => absurd g (by omega)) (fun _ => K)
      rw [cc_ylT hl] at q
      exact q
theorem ys_split {post : SY → Prop} {n : Nat} (hn : n < 146097) (h : post (nI (cc_y n), nI (cc_m n), nI (cc_d n), op, fl)) : wpY_split post (gy, gm, gd, op, fl) (nI n) := by
  have hs := cc_isD n
  have h2 := hs.1
  have h3 := cc_is_ylt hs hn
  unfold wpY_split
  refine ⟨401, ?_⟩
  exact ys_split9 hn hs h (cc_y n - 2000) 2000 (by omega) (Nat.le_refl _) 401 (by omega)
theorem ys_join56 {post : Int32 → Prop} {y m B : Nat} (hy : y < 2 ^ 31) (hm : m ≤ 12) : ∀ k j : Nat, j + k + 1 = m → post (nI (B + cc_dm y (j + k))) → ∀ n, k < n → wY_join_56 post (nI y) (nI m) gy gm gd op fl n (nI (B + cc_dm y j)) (nI (j + 1)) := by
  intro k
  induction k with
  | zero =>
    intro j hj h n hn
    obtain ⟨n, rfl⟩ : ∃ i, n = i + 1 := ⟨n - 1, by omega⟩
    exact pk_le m (j + 1) (fun _ => h) (fun g => absurd g (by omega))
  | succ k ih =>
    intro j hj h n hn
    obtain ⟨n, rfl⟩ : ∃ i, n = i + 1 := ⟨n - 1, by omega⟩
    refine pk_le m (j + 1) (fun g => absurd g (by omega)) (fun _ => pk_le 12 (j + 1) (fun g => absurd g (by omega)) (fun _ => ys_len hy (by omega) ?_))
    refine nm_r (e' := nI (B + cc_dm y (j + 1))) ?_ (nm_r (e' := nI (j + 1 + 1)) (nI_1 (j + 1)) (ih (j + 1) (by omega) (by rw [show j + 1 + k = j + (k + 1) by omega]; exact h) n (by omega)))
    rw [nI_add, cc_dm_s]
    exact congrArg nI (by omega)
theorem ys_join10 {post : Int32 → Prop} {y m B : Nat} (hy : y < 2401) (hm : 1 ≤ m) (hm2 : m ≤ 12) (h : post (nI (B + cc_db y + cc_dm y (m - 1)))) : ∀ k j : Nat, j + k = y → 2000 ≤ j → ∀ n, k < n → wY_join_10 post (nI y) (nI m) gy gm gd op fl n (nI (B + cc_db j)) (nI j) := by
  intro k
  induction k with
  | zero =>
    intro j hj hj2 n hn
    obtain ⟨n, rfl⟩ : ∃ i, n = i + 1 := ⟨n - 1, by omega⟩
    obtain rfl : j = y := by omega
    refine pk_le j j (fun _ => ⟨13, ?_⟩) (fun g => absurd g (by omega))
    exact ys_join56 (B := B + cc_db j) (by omega) hm2 (m - 1) 0 (by omega) (by rw [Nat.zero_add]; exact h) 13 (by omega)
  | succ k ih =>
    intro j hj hj2 n hn
    obtain ⟨n, rfl⟩ : ∃ i, n = i + 1 := ⟨n - 1, by omega⟩
    have hs := cc_db_s hj2
    refine pk_le y j (fun g => absurd g (by omega)) (fun _ => pk_le 2400 j (fun g => absurd g (by omega)) (fun _ => ys_leap (by omega) (cc_br (fun hl => ?_) (fun hl => ?_))))
    · rw [cc_ylF hl] at hs
      refine nm_r (e' := nI (B + cc_db (j + 1))) ?_ (nm_r (e' := nI (j + 1)) (nI_1 j) (ih (j + 1) (by omega) (by omega) n (by omega)))
      rw [hs, ← Nat.add_assoc]
      exact nI_add (B + cc_db j) 365
    · rw [cc_ylT hl] at hs
      refine nm_r (e' := nI (B + cc_db (j + 1))) ?_ (nm_r (e' := nI (j + 1)) (nI_1 j) (ih (j + 1) (by omega) (by omega) n (by omega)))
      rw [hs, ← Nat.add_assoc]
      exact nI_add (B + cc_db j) 366
theorem ys_join {post : Int32 → Prop} {y m d : Nat} (hy : 2000 ≤ y) (hy2 : y < 2401) (hm : 1 ≤ m) (hm2 : m ≤ 12) (hd : 1 ≤ d) (h : post (nI (cc_db y + cc_dm y (m - 1) + d - 1))) : wpY_join post (gy, gm, gd, op, fl) (nI y) (nI m) (nI d) := by
  unfold wpY_join
  refine nm_r (e' := nI (d - 1)) (pk_sub (b := 1) hd) ⟨402, ?_⟩
  exact ys_join10 (B := d - 1) hy2 hm hm2 (cc_e h (by omega)) (y - 2000) 2000 (by omega) (Nat.le_refl _) 402 (by omega)
theorem ys_move93u {post : SY → Prop} {y m : Nat} (h : post (nI y, nI m, 1, op, fl)) : wY_move_93 post 1 (nI y) (nI m) gd op fl := by
  unfold wY_move_93
  exact pk_le 1 0 (fun g => absurd g (by omega)) (fun _ => h)
theorem ys_move_up {post : SY → Prop} {n y m d : Nat} (hn : n < 1000000) (his : cc_is n y m d) (h : post (nI (cc_y (n + 1)), nI (cc_m (n + 1)), nI (cc_d (n + 1)), op, fl)) : wpY_move post (nI y, nI m, nI d, op, fl) 1 := by
  have hyl := cc_is_yhi his
  have hlen := cc_len_in y m
  have h2 := his.2.1
  have h3 := his.2.2.1
  have h5 := his.2.2.2.2.1
  unfold wpY_move
  refine nm_r (e' := nI (d + 1)) (nI_1 d) (pk_lt (d + 1) 1 (fun g => absurd g (by omega)) (fun _ => ys_len (by omega) (by omega) ?_))
  rcases cc_is_next his with ⟨hd, hi⟩ | ⟨hd, hm, hi⟩ | ⟨hd, hm, hi⟩
  · obtain ⟨e1, e2, e3⟩ := cc_isE hi
    rw [e1, e2, e3] at h
    exact pk_lt (cc_len y m) (d + 1) (fun g => absurd g (by omega)) (fun _ => h)
  · obtain ⟨e1, e2, e3⟩ := cc_isE hi
    rw [e1, e2, e3] at h
    refine pk_lt (cc_len y m) (d + 1) (fun _ => ?_) (fun g => absurd g (by omega))
    unfold wY_move_38
    exact nm_r (e' := nI (m + 1)) (nI_1 m) (pk_lt 12 (m + 1) (fun g => absurd g (by omega)) (fun _ => pk_le 1 (m + 1) (fun _ => ys_move93u h) (fun g => absurd g (by omega))))
  · obtain ⟨e1, e2, e3⟩ := cc_isE hi
    rw [e1, e2, e3] at h
    subst hm
    refine pk_lt (cc_len y 12) (d + 1) (fun _ => ?_) (fun g => absurd g (by omega))
    unfold wY_move_38
    refine nm_r (e' := nI (12 + 1)) (nI_1 12) (pk_lt 12 (12 + 1) (fun _ => ?_) (fun g => absurd g (by omega)))
    unfold wY_move_65
    refine nm_r (e' := nI (y + 1)) (nI_1 y) (pk_le 1 (12 + 1) (fun _ => ?_) (fun g => absurd g (by omega)))
    unfold wY_move_90
    exact ys_move93u (m := 1) h
theorem ys_move93d {post : SY → Prop} {y m : Nat} (hy : y < 2 ^ 31) (hm : m < 2 ^ 31) (h : post (nI y, nI m, nI (cc_len y m), op, fl)) : wY_move_93 post (-1) (nI y) (nI m) gd op fl := by
  unfold wY_move_93
  exact br_t (by decide) (ys_len hy hm h)
/-- one day back; from day 0 to a state that nobody reads -/
theorem ys_move_dn {post : SY → Prop} {n y m d : Nat} (hn : n < 1000000) (his : cc_is n y m d) (h : n ≠ 0 → post (nI (cc_y (n - 1)), nI (cc_m (n - 1)), nI (cc_d (n - 1)), op, fl)) (h0 : n = 0 → ∀ a b c : Int32, post (a, b, c, op, fl)) : wpY_move post (nI y, nI m, nI d, op, fl) (-1) := by
  have hyl := cc_is_yhi his
  have hlen := cc_len_in y m
  have h1 := his.1
  have h2 := his.2.1
  have h3 := his.2.2.1
  have h4 := his.2.2.2.1
  have h5 := his.2.2.2.2.1
  have ed : nI d + (-1) = nI (d - 1) := by
    obtain ⟨e, rfl⟩ : ∃ e, d = e + 1 := ⟨d - 1, by omega⟩
    exact pk_m1 e
  have em : nI m + (-1) = nI (m - 1) := by
    obtain ⟨e, rfl⟩ : ∃ e, m = e + 1 := ⟨m - 1, by omega⟩
    exact pk_m1 e
  have ey : nI y + (-1) = nI (y - 1) := by
    obtain ⟨e, rfl⟩ : ∃ e, y = e + 1 := ⟨y - 1, by omega⟩
    exact pk_m1 e
  unfold wpY_move
  refine nm_r (e' := nI (d - 1)) ed ?_
  cases n with
  | zero =>
    have h0 := h0 rfl
    refine pk_lt (d - 1) 1 (fun _ => ?_) (fun _ => ys_len (by omega) (by omega) (pk_lt (cc_len y m) (d - 1) (fun g => absurd g (by omega)) (fun _ => h0 _ _ _)))
    unfold wY_move_38
    refine nm_r (e' := nI (m - 1)) em (pk_lt 12 (m - 1) (fun g => absurd g (by omega)) (fun _ => pk_le 1 (m - 1) (fun _ => ys_move93d (by omega) (by omega) (h0 _ _ _)) (fun _ => ?_)))
    unfold wY_move_65
    refine nm_r (e' := nI (y - 1)) ey (pk_le 1 (m - 1) (fun g => absurd g (by omega)) (fun _ => ?_))
    unfold wY_move_90
    exact ys_move93d (m := 12) (by omega) (by decide) (h0 _ _ _)
  | succ n =>
    have h := h (by omega)
    rw [Nat.add_sub_cancel] at h
    rcases cc_is_prev his with ⟨hd, hi⟩ | ⟨hd, hm, hi⟩ | ⟨hd, hm, hi⟩
    · obtain ⟨e1, e2, e3⟩ := cc_isE hi
      rw [e1, e2, e3] at h
      exact pk_lt (d - 1) 1 (fun g => absurd g (by omega)) (fun _ => ys_len (by omega) (by omega) (pk_lt (cc_len y m) (d - 1) (fun g => absurd g (by omega)) (fun _ => h)))
    · obtain ⟨e1, e2, e3⟩ := cc_isE hi
      rw [e1, e2, e3] at h
      refine pk_lt (d - 1) 1 (fun _ => ?_) (fun g => absurd g (by omega))
      unfold wY_move_38
      exact nm_r (e' := nI (m - 1)) em (pk_lt 12 (m - 1) (fun g => absurd g (by omega)) (fun _ => pk_le 1 (m - 1) (fun _ => ys_move93d (by omega) (by omega) h) (fun g => absurd g (by omega))))
    · obtain ⟨e1, e2, e3⟩ := cc_isE hi
      rw [e1, e2, e3] at h
      refine pk_lt (d - 1) 1 (fun _ => ?_) (fun g => absurd g (by omega))
      unfold wY_move_38
      refine nm_r (e' := nI (m - 1)) em (pk_lt 12 (m - 1) (fun g => absurd g (by omega)) (fun _ => pk_le 1 (m - 1) (fun g => absurd g (by omega)) (fun _ => ?_)))
      unfold wY_move_65
      refine nm_r (e' := nI (y - 1)) ey (pk_le 1 (m - 1) (fun g => absurd g (by omega)) (fun _ => ?_))
      unfold wY_move_90
      exact ys_move93d (m := 12) (by omega) (by decide) h
end YS
end
section
/-! what is allowed: one picture for both sides -/
def cc_lo (f : Nat) : Nat := if f = 2 ∨ f = 3 then 1 else 0
def cc_hi (f : Nat) : Nat := if f = 0 then 59 else if f = 1 then 23 else if f = 2 then 31 else if f = 3 then 12 else 6
def cc_R (st : Nat → Int64) (lo hi op : Nat → Int32) : Prop := (∀ f, f < 5 → lo f = nI (cc_lo f) ∧ hi f = nI (cc_hi f)) ∧ (∀ k j, k < 20 → j < 64 → (op (k * 64 + j) = 0 ↔ (st k).toBitVec.getLsbD j = false)) ∧ (∀ k j, k < 20 → 60 ≤ j → (st k).toBitVec.getLsbD j = false)
def cc_al (fl : Nat → Int32) (st : Nat → Int64) (r f v : Nat) : Bool := !decide (fl (5 * r + f) = 0) || (st (5 * r + f)).toBitVec.getLsbD v
def cc_dx (fl : Nat → Int32) (st : Nat → Int64) (r d w : Nat) : Bool := if fl (5 * r + 2) = 0 ∧ fl (5 * r + 4) = 0 then cc_al fl st r 2 d || cc_al fl st r 4 w else cc_al fl st r 2 d && cc_al fl st r 4 w
def cc_df (fl : Nat → Int32) (st : Nat → Int64) (r m d w : Nat) : Bool := cc_al fl st r 3 m && cc_dx fl st r d w
def cc_tf (fl : Nat → Int32) (st : Nat → Int64) (r t : Nat) : Bool := cc_al fl st r 1 (t / 60) && cc_al fl st r 0 (t % 60)
theorem cc_hi_in (f : Nat) : cc_hi f ≤ 59 := by
  unfold cc_hi; repeat' split
  all_goals omega
theorem cc_lo_in (f : Nat) : cc_lo f ≤ 1 := by
  unfold cc_lo; split <;> omega
theorem cc_at1 (r f : Nat) : 5 * nI r + nI f = nI (5 * r + f) := by
  rw [show (5 : Int32) * nI r = nI (5 * r) from pk_mul 5 r, nI_add]
theorem cc_at2 (r f : Nat) : nI r * 5 + nI f = nI (5 * r + f) := by
  rw [show nI r * 5 = nI (r * 5) from pk_mul r 5, nI_add, Nat.mul_comm]
theorem cc_at3 (k v : Nat) : nI k * 64 + nI v = nI (k * 64 + v) := by
  rw [show nI k * 64 = nI (k * 64) from pk_mul k 64, nI_add]
theorem cc_bit (w : Int64) {j : Nat} (hj : j < 64) : ((w.toUInt64 >>> ((nI j).toInt64.toUInt64 &&& Int64.toUInt64 63)).toInt64 &&& 1) = lN (if w.toBitVec.getLsbD j = true then 1 else 0) := by
  obtain ⟨n, hn, rfl⟩ := wb_of w
  rw [wb_bit hn hj, wb_tb, BitVec.getLsbD_ofNat, Nat.testBit_eq_decide_div_mod_eq]
  congr 1
  by_cases h : n / 2 ^ j % 2 = 1
  · rw [h]; simp [hj]
  · simp [h]; omega
theorem cc_al_t {fl : Nat → Int32} {st : Nat → Int64} {r f v : Nat} (h : ¬ fl (5 * r + f) = 0) : cc_al fl st r f v = true := by
  unfold cc_al; simp [h]
theorem cc_al_b {fl : Nat → Int32} {st : Nat → Int64} {r f v : Nat} (h : fl (5 * r + f) = 0) : cc_al fl st r f v = (st (5 * r + f)).toBitVec.getLsbD v := by
  unfold cc_al; simp [h]
section AL
variable {fy fm fd gy gm gd : Int32} {st : Nat → Int64} {fl lo hi op : Nat → Int32}
theorem xs_val {post : Int32 → Prop} {f : Nat} {v : Int32} (hf : f < 5) (hR : cc_R st lo hi op) (h0 : (v < nI (cc_lo f) ∨ nI (cc_hi f) < v) → post 0) (h1 : ¬ v < nI (cc_lo f) → ¬ nI (cc_hi f) < v → post 1) : wpX_isValue post (fy, fm, fd, st, fl, lo, hi) (nI f) v := by
  have hv := vp_in_nI (n := f) (N := 5) hf (by decide)
  unfold wpX_isValue
  dsimp only
  rw [nI_clamp (by omega), (hR.1 f hf).1, (hR.1 f hf).2]
  exact ⟨hv, br_c (fun g => h0 (Or.inl g)) (fun g => ⟨hv, br_c (fun g' => h0 (Or.inr g')) (fun g' => h1 g g')⟩)⟩
theorem cc_val_of {f : Nat} {v : Int32} (h1 : ¬ v < nI (cc_lo f)) (h2 : ¬ nI (cc_hi f) < v) : ∃ j : Nat, cc_lo f ≤ j ∧ j ≤ cc_hi f ∧ v = nI j := by
  have hl := cc_lo_in f
  have hh := cc_hi_in f
  rw [Int32.lt_iff_toInt_lt, nI_toInt (by omega)] at h1 h2
  have h0 : ¬ v < 0 := by
    rw [Int32.lt_iff_toInt_lt, Int32.toInt_zero]; omega
  obtain ⟨j, hj, rfl⟩ := nI_of h0
  rw [nI_toInt hj] at h1 h2
  exact ⟨j, by omega, by omega, rfl⟩
theorem xs_al0 {post : Int32 → Prop} {r f v : Nat} (hr : r < 4) (hf : f < 5) (hv : v < 64) (h : post (cc_b (cc_al fl st r f v))) :
    (vp_in (nI (5 * r + f)) 20 ∧ (((fl (nI (5 * r + f)).toNatClampNeg) = 0 → (vp_in (nI (5 * r + f)) 20 ∧ (((((((st (nI (5 * r + f)).toNatClampNeg).toUInt64 >>> ((nI v).toInt64.toUInt64 &&& Int64.toUInt64 63)).toInt64) &&& 1) = 1 → (post 1)) ∧ (¬ ((((st (nI (5 * r + f)).toNatClampNeg).toUInt64 >>> ((nI v).toInt64.toUInt64 &&& Int64.toUInt64 63)).toInt64) &&& 1) = 1 → (post 0)))))) ∧ (¬ (fl (nI (5 * r + f)).toNatClampNeg) = 0 → (post 1)))) := by
  have hi := vp_in_nI (n := 5 * r + f) (N := 20) (by omega) (by decide)
  rw [nI_clamp (by omega), cc_bit _ hv]
  refine ⟨hi, br_c (fun g => ⟨hi, ?_⟩) (fun g => cc_b1 h (cc_al_t g))⟩
  have e := cc_al_b (st := st) (v := v) g
  by_cases b : (st (5 * r + f)).toBitVec.getLsbD v = true
  · rw [if_pos b]
    exact br_t rfl (cc_b1 h (e.trans b))
  · rw [if_neg b]
    exact br_f (by decide) (cc_b0 h (e.trans (ts_nt b)))
theorem xs_al {post : Int32 → Prop} {r f v : Nat} (hr : r < 4) (hf : f < 5) (hR : cc_R st lo hi op) (hv : cc_lo f ≤ v) (hv2 : v ≤ cc_hi f) (h : post (cc_b (cc_al fl st r f v))) : wpX_isAllowed post (fy, fm, fd, st, fl, lo, hi) (nI r) (nI f) (nI v) := by
  have hh := cc_hi_in f
  unfold wpX_isAllowed
  refine nm_r (e' := nI (5 * r + f)) (cc_at1 r f) (xs_val hf hR (fun g => ?_) (fun _ _ => ?_))
  · rw [nI_ltI (by omega) (by omega), nI_ltI (by omega) (by omega)] at g
    omega
  · exact br_f (by decide) (xs_al0 hr hf (by omega) h)
/-- any value: outside the field it isn't allowed -/
theorem xs_alX {post : Int32 → Prop} {r f : Nat} {v : Int32} (hr : r < 4) (hf : f < 5) (hR : cc_R st lo hi op) (h0 : (v < nI (cc_lo f) ∨ nI (cc_hi f) < v) → post 0) (h1 : ∀ j : Nat, cc_lo f ≤ j → j ≤ cc_hi f → v = nI j → post (cc_b (cc_al fl st r f j))) : wpX_isAllowed post (fy, fm, fd, st, fl, lo, hi) (nI r) (nI f) v := by
  have hh := cc_hi_in f
  unfold wpX_isAllowed
  refine nm_r (e' := nI (5 * r + f)) (cc_at1 r f) (xs_val hf hR (fun g => br_t rfl (h0 g)) (fun g1 g2 => ?_))
  obtain ⟨j, hj1, hj2, rfl⟩ := cc_val_of g1 g2
  exact br_f (by decide) (xs_al0 hr hf (by omega) (h1 j hj1 hj2 rfl))
theorem ys_may {post : Int32 → Prop} {r f v : Nat} (hr : r < 4) (hf : f < 5) (hR : cc_R st lo hi op) (hv : v < 64) (h : post (cc_b (cc_al fl st r f v))) : wpY_may post (gy, gm, gd, op, fl) (nI r) (nI f) (nI v) := by
  have hi' := vp_in_nI (n := 5 * r + f) (N := 20) (by omega) (by decide)
  have hj := vp_in_nI (n := (5 * r + f) * 64 + v) (N := 1280) (by omega) (by decide)
  unfold wpY_may
  dsimp only
  rw [cc_at2, cc_at3, nI_clamp (by omega), nI_clamp (by omega)]
  refine ⟨hi', br_c (fun g => ⟨hj, ?_⟩) (fun g => cc_b1 h (cc_al_t g))⟩
  have e := cc_al_b (st := st) (v := v) g
  have q := hR.2.1 (5 * r + f) v (by omega) hv
  exact br_c (fun z => cc_b0 h (e.trans (q.mp z))) (fun z => cc_b1 h (e.trans (ts_nf (fun z' => z (q.mpr z')))))
theorem xs_57a {post : Int32 → Prop} {a b : Bool} (h : post (cc_b (a || b))) : wX_dayFits_57 post (cc_b a) (cc_b b) 0 fy fm fd st fl lo hi := by
  unfold wX_dayFits_57
  exact br_t rfl (cc_br (fun ea => cc_br (fun eb => cc_b0 h (by rw [ea, eb]; rfl)) (fun eb => cc_b1 h (by rw [ea, eb]; rfl))) (fun ea => cc_b1 h (by rw [ea]; rfl)))
theorem xs_57b {post : Int32 → Prop} {a b : Bool} (h : post (cc_b (a && b))) : wX_dayFits_57 post (cc_b a) (cc_b b) 1 fy fm fd st fl lo hi := by
  unfold wX_dayFits_57
  exact br_f (by decide) (cc_br (fun ea => cc_b0 h (by rw [ea]; rfl)) (fun ea => cc_br (fun eb => cc_b0 h (by rw [ea, eb]; rfl)) (fun eb => cc_b1 h (by rw [ea, eb]; rfl))))
theorem ys_57 {post : Int32 → Prop} {a b : Bool} (h : post (cc_b (a && b))) : wY_dayFits_57 post (cc_b a) (cc_b b) gy gm gd op fl := by
  unfold wY_dayFits_57
  exact cc_br (fun ea => cc_b0 h (by rw [ea]; rfl)) (fun ea => cc_br (fun eb => cc_b0 h (by rw [ea, eb]; rfl)) (fun eb => cc_b1 h (by rw [ea, eb]; rfl)))
theorem cc_w7 {n : Nat} (hn : n < 1000000) : (nI n + 6) - (nI n + 6) / 7 * 7 = nI ((n + 6) % 7) := by
  rw [show nI n + 6 = nI (n + 6) from nI_add n 6]
  exact pk_rem (d := 7) (by omega) (by decide) (by decide)
theorem cc_dx_or {r d w : Nat} (h2 : fl (5 * r + 2) = 0) (h4 : fl (5 * r + 4) = 0) : cc_dx fl st r d w = (cc_al fl st r 2 d || cc_al fl st r 4 w) := by
  unfold cc_dx; rw [if_pos ⟨h2, h4⟩]
theorem cc_dx_and {r d w : Nat} (h : ¬ (fl (5 * r + 2) = 0 ∧ fl (5 * r + 4) = 0)) : cc_dx fl st r d w = (cc_al fl st r 2 d && cc_al fl st r 4 w) := by
  unfold cc_dx; rw [if_neg h]
theorem xs_dayFits {post : Int32 → Prop} {r d n : Nat} (hr : r < 4) (hR : cc_R st lo hi op) (hd1 : 1 ≤ d) (hd : d ≤ 31) (hn : n < 1000000) (h : post (cc_b (cc_dx fl st r d ((n + 6) % 7)))) : wpX_dayFits post (fy, fm, nI d, st, fl, lo, hi) (nI r) (nI n) := by
  have i2 := vp_in_nI (n := 5 * r + 2) (N := 20) (by omega) (by decide)
  have i4 := vp_in_nI (n := 5 * r + 4) (N := 20) (by omega) (by decide)
  have a2 : 5 * nI r + 2 = nI (5 * r + 2) := cc_at1 r 2
  have a4 : 5 * nI r + 4 = nI (5 * r + 4) := cc_at1 r 4
  unfold wpX_dayFits
  dsimp only
  rw [cc_w7 hn, a2, a4, nI_clamp (by omega), nI_clamp (by omega)]
  refine xs_al (f := 2) hr (by decide) hR hd1 hd ⟨by decide, xs_al (f := 4) hr (by decide) hR (Nat.zero_le _) (show (n + 6) % 7 ≤ 6 by omega) ⟨i2, ?_⟩⟩
  refine br_c (fun g2 => ⟨i4, br_c (fun g4 => ?_) (fun g4 => ?_)⟩) (fun g2 => ?_)
  · rw [cc_dx_or g2 g4] at h
    exact xs_57a h
  · rw [cc_dx_and (fun z => g4 z.2)] at h
    unfold wX_dayFits_52
    exact xs_57b h
  · rw [cc_dx_and (fun z => g2 z.1)] at h
    unfold wX_dayFits_52
    exact xs_57b h
theorem ys_dayFits {post : Int32 → Prop} {r m d w : Nat} (hr : r < 4) (hR : cc_R st lo hi op) (hm : m ≤ 12) (hd : d ≤ 31) (hw : w < 7) (h : post (cc_b (cc_df fl st r m d w))) : wpY_dayFits post (gy, gm, gd, op, fl) (nI r) (nI m) (nI d) (nI w) := by
  have i2 := vp_in_nI (n := 5 * r + 2) (N := 20) (by omega) (by decide)
  have i4 := vp_in_nI (n := 5 * r + 4) (N := 20) (by omega) (by decide)
  have a2 : nI r * 5 + 2 = nI (5 * r + 2) := cc_at2 r 2
  have a4 : nI r * 5 + 4 = nI (5 * r + 4) := cc_at2 r 4
  unfold wpY_dayFits
  dsimp only
  rw [a2, a4, nI_clamp (by omega), nI_clamp (by omega)]
  refine ys_may (st := st) (f := 3) hr (by decide) hR (by omega) (cc_br (fun e3 => cc_b0 h (by unfold cc_df; rw [e3]; rfl)) (fun e3 => ?_))
  have h' : post (cc_b (cc_dx fl st r d w)) := by unfold cc_df at h; rw [e3] at h; exact h
  refine ys_may (st := st) (f := 2) hr (by decide) hR (by omega) (ys_may (st := st) (f := 4) hr (by decide) hR (by omega) ⟨i2, ?_⟩)
  refine br_c (fun g2 => ⟨i4, br_c (fun g4 => ?_) (fun g4 => ?_)⟩) (fun g2 => ?_)
  · rw [cc_dx_or g2 g4] at h'
    exact cc_br (fun ea => cc_br (fun eb => cc_b0 h' (by rw [ea, eb]; rfl)) (fun eb => cc_b1 h' (by rw [ea, eb]; rfl))) (fun ea => cc_b1 h' (by rw [ea]; rfl))
  · rw [cc_dx_and (fun z => g4 z.2)] at h'
    exact ys_57 h'
  · rw [cc_dx_and (fun z => g2 z.1)] at h'
    exact ys_57 h'
theorem ys_timeFits {post : Int32 → Prop} {r t : Nat} (hr : r < 4) (hR : cc_R st lo hi op) (ht : t < 1440) (h : post (cc_b (cc_tf fl st r t))) : wpY_timeFits post (gy, gm, gd, op, fl) (nI r) (nI t) := by
  have e1 : nI t / 60 = nI (t / 60) := pk_div (d := 60) (by omega) (by decide) (by decide)
  have e2 : nI t - nI t / 60 * 60 = nI (t % 60) := pk_rem (d := 60) (by omega) (by decide) (by decide)
  unfold wpY_timeFits
  dsimp only
  rw [e2, e1]
  exact ⟨by decide, ys_may (st := st) (f := 1) hr (by decide) hR (by omega) (cc_br (fun ea => cc_b0 h (by unfold cc_tf; rw [ea]; rfl)) (fun ea => ⟨by decide, ys_may (st := st) (f := 0) hr (by decide) hR (by omega) (cc_br (fun eb => cc_b0 h (by unfold cc_tf; rw [ea, eb]; rfl)) (fun eb => cc_b1 h (by unfold cc_tf; rw [ea, eb]; rfl)))⟩))⟩
end AL
end
section
/-! arguments of any sign; the relation -/
theorem cc_pick (x : Int32) {n : Nat} (hn : n < 2 ^ 31) : (x < 0 ∨ nI n ≤ x) ∨ ∃ j : Nat, j < n ∧ x = nI j := by
  rcases pk_ix x hn with h | h | h
  · exact Or.inl (Or.inl h)
  · exact Or.inl (Or.inr h)
  · exact Or.inr h
theorem cc_ti {x : Int32} {n : Nat} (hn : n < 2 ^ 31) (h : nI n ≤ x) : (n : Int) ≤ x.toInt := by
  rw [Int32.le_iff_toInt_le, nI_toInt hn] at h
  exact h
theorem cc_nle {x : Int32} {a n : Nat} (hn : n < 2 ^ 31) (ha : a < n) (h : nI n ≤ x) : ¬ x ≤ nI a := by
  have := cc_ti hn h
  rw [Int32.le_iff_toInt_le, nI_toInt (by omega)]
  omega
theorem cc_nlt0 {x : Int32} {n : Nat} (hn : n < 2 ^ 31) (h : nI n ≤ x) : ¬ x < 0 := by
  have := cc_ti hn h
  rw [Int32.lt_iff_toInt_lt, Int32.toInt_zero]
  omega
/-- either below 0, or a natural -/
theorem cc_nat (x : Int32) : x < 0 ∨ ∃ j : Nat, j < 2 ^ 31 ∧ x = nI j := by
  by_cases h : x < 0
  · exact Or.inl h
  · exact Or.inr (nI_of h)
section BS
variable {fy fm fd gy gm gd : Int32} {st : Nat → Int64} {fl lo hi op : Nat → Int32} {p : Int32}
theorem xs_ruleF {post : Int32 → Prop} (h : p < 0 ∨ nI 4 ≤ p) (hp : post 0) : wpX_isRule post p := by
  unfold wpX_isRule
  rcases h with h | h
  · exact br_t h hp
  · exact br_f (cc_nlt0 (by decide) h) (br_t h hp)
theorem xs_ruleT {post : Int32 → Prop} {r : Nat} (h : r < 4) (hp : post 1) : wpX_isRule post (nI r) := by
  unfold wpX_isRule
  exact br_f (nI_pos (by omega)) (br_f (nI_ge (b := 4) h (by decide)) hp)
theorem xs_fieldF {post : Int32 → Prop} (h : p < 0 ∨ nI 5 ≤ p) (hp : post 0) : wpX_isField post p := by
  unfold wpX_isField
  rcases h with h | h
  · exact br_t h hp
  · exact br_f (cc_nlt0 (by decide) h) (br_t h hp)
theorem xs_fieldT {post : Int32 → Prop} {r : Nat} (h : r < 5) (hp : post 1) : wpX_isField post (nI r) := by
  unfold wpX_isField
  exact br_f (nI_pos (by omega)) (br_f (nI_ge (b := 5) h (by decide)) hp)
theorem xs_dayF {post : Int32 → Prop} (h : p < 0 ∨ nI 146097 ≤ p) (hp : post 0) : wpX_isDay post p := by
  unfold wpX_isDay
  rcases h with h | h
  · exact br_t h hp
  · exact br_f (cc_nlt0 (by decide) h) (br_t h hp)
theorem xs_dayT {post : Int32 → Prop} {r : Nat} (h : r < 146097) (hp : post 1) : wpX_isDay post (nI r) := by
  unfold wpX_isDay
  exact br_f (nI_pos (by omega)) (br_f (nI_ge (b := 146097) h (by decide)) hp)
theorem ys_ruleF {post : Int32 → Prop} (h : p < 0 ∨ nI 4 ≤ p) (hp : post 1) : wpY_badRule post (gy, gm, gd, op, fl) p := by
  unfold wpY_badRule
  rcases h with h | h
  · exact br_t h hp
  · exact br_f (cc_nlt0 (by decide) h) (br_f (cc_nle (a := 3) (by decide) (by decide) h) hp)
theorem ys_ruleT {post : Int32 → Prop} {r : Nat} (h : r < 4) (hp : post 0) : wpY_badRule post (gy, gm, gd, op, fl) (nI r) := by
  unfold wpY_badRule
  exact br_f (nI_pos (by omega)) (br_t (nI_le (b := 3) (by omega) (by decide)) hp)
theorem ys_fieldF {post : Int32 → Prop} (h : p < 0 ∨ nI 5 ≤ p) (hp : post 1) : wpY_badField post (gy, gm, gd, op, fl) p := by
  unfold wpY_badField
  rcases h with h | h
  · exact br_t h hp
  · exact br_f (cc_nlt0 (by decide) h) (br_f (cc_nle (a := 4) (by decide) (by decide) h) hp)
theorem ys_fieldT {post : Int32 → Prop} {r : Nat} (h : r < 5) (hp : post 0) : wpY_badField post (gy, gm, gd, op, fl) (nI r) := by
  unfold wpY_badField
  exact br_f (nI_pos (by omega)) (br_t (nI_le (b := 4) (by omega) (by decide)) hp)
theorem ys_dayF {post : Int32 → Prop} (h : p < 0 ∨ nI 146097 ≤ p) (hp : post 1) : wpY_badDay post (gy, gm, gd, op, fl) p := by
  unfold wpY_badDay
  rcases h with h | h
  · exact br_t h hp
  · exact br_f (cc_nlt0 (by decide) h) (br_f (cc_nle (a := 146096) (by decide) (by decide) h) hp)
theorem ys_dayT {post : Int32 → Prop} {r : Nat} (h : r < 146097) (hp : post 0) : wpY_badDay post (gy, gm, gd, op, fl) (nI r) := by
  unfold wpY_badDay
  exact br_f (nI_pos (by omega)) (br_t (nI_le (b := 146096) (by omega) (by decide)) hp)
theorem cc_not0 : ¬ (1 : Int32) = 0 := by decide
/-- Y's test of a field's value -/
theorem ys_low {post : Int32 → Prop} {f : Nat} (hf : f < 5) (h : post (nI (cc_lo f))) : wpY_low post (gy, gm, gd, op, fl) (nI f) := by
  unfold wpY_low
  exact pk_eq f 2 (fun e => cc_e (b := 1) h (by subst e; rfl)) (fun e2 => pk_eq f 3 (fun e => cc_e (b := 1) h (by subst e; rfl)) (fun e3 => cc_e (b := 0) h (by unfold cc_lo; rw [if_neg (by omega)])))
theorem ys_high {post : Int32 → Prop} {f : Nat} (hf : f < 5) (h : post (nI (cc_hi f))) : wpY_high post (gy, gm, gd, op, fl) (nI f) := by
  unfold wpY_high
  exact pk_eq f 0 (fun e => cc_e (b := 59) h (by subst e; rfl)) (fun e0 => pk_eq f 1 (fun e => cc_e (b := 23) h (by subst e; rfl)) (fun e1 => pk_eq f 2 (fun e => cc_e (b := 31) h (by subst e; rfl)) (fun e2 => pk_eq f 3 (fun e => cc_e (b := 12) h (by subst e; rfl)) (fun e3 => cc_e (b := 6) h (by unfold cc_hi; rw [if_neg e0, if_neg e1, if_neg e2, if_neg e3])))))
theorem ys_inField {post : Int32 → Prop} {f : Nat} {v : Int32} (hf : f < 5) (h0 : (v < nI (cc_lo f) ∨ nI (cc_hi f) < v) → post 0) (h1 : ¬ v < nI (cc_lo f) → ¬ nI (cc_hi f) < v → post 1) : wpY_inField post (gy, gm, gd, op, fl) (nI f) v := by
  unfold wpY_inField
  exact ys_low hf (br_c (fun g => h0 (Or.inl g)) (fun g => ys_high hf (br_c (fun g' => h0 (Or.inr g')) (fun g' => h1 g g'))))
end BS
/-- the relation: the same 'full'; limits as they are; a cell of Y for each bit of X; no bit from 60 on -/
def i_Rel (k : Nat) (u : SX) (v : SY) : Prop := ∃ (a b c a' b' c' : Int32) (st : Nat → Int64) (fl lo hi op : Nat → Int32), u = (a, b, c, st, fl, lo, hi) ∧ v = (a', b', c', op, fl) ∧ cc_R st lo hi op
theorem cc_rel {k : Nat} {st : Nat → Int64} {fl lo hi op : Nat → Int32} (hR : cc_R st lo hi op) (a b c a' b' c' : Int32) : i_Rel k (a, b, c, st, fl, lo, hi) (a', b', c', op, fl) := ⟨a, b, c, a', b', c', st, fl, lo, hi, op, rfl, rfl, hR⟩
theorem i_up {k : Nat} {u : SX} {v : SY} (h : i_Rel k u v) : i_Rel (k + 4) u v := h
/-! the constructors -/
def cc_ini : Nat → Nat → Int32
  | 0 => fun _ => 0
  | i + 1 => upd (cc_ini i) i (vp_nar .boolean 1)
theorem ys_init {post : SY → Prop} {a b c : Int32} {o : Nat → Int32} (h : post (a, b, c, o, cc_ini 20)) : ∀ k i : Nat, i + k = 20 → ∀ n, k < n → wY_init_23 post a b c n (nI i) o (cc_ini i) := by
  intro k
  induction k with
  | zero =>
    intro i hi n hn
    obtain ⟨n, rfl⟩ : ∃ j, n = j + 1 := ⟨n - 1, by omega⟩
    obtain rfl : i = 20 := by omega
    exact pk_le 20 20 (fun _ => h) (fun g => absurd g (by omega))
  | succ k ih =>
    intro i hi n hn
    obtain ⟨n, rfl⟩ : ∃ j, n = j + 1 := ⟨n - 1, by omega⟩
    refine pk_le 20 i (fun g => absurd g (by omega)) (fun _ => ⟨vp_in_nI (by omega) (by decide), nm_r (e' := cc_ini (i + 1)) ?_ (nm_r (e' := nI (i + 1)) (nI_1 i) (ih (i + 1) (by omega) n (by omega)))⟩)
    rw [nI_clamp (by omega)]
    rfl
def cc_his : Nat → Int32 := upd (upd (upd (upd (upd (fun _ => 0) 0 59) 1 23) 2 31) 3 12) 4 6
def cc_los : Nat → Int32 := upd (upd (fun _ => 0) 2 1) 3 1
theorem xs_init {post : SX → Prop} {a b c : Int32} {o : Nat → Int64} (h : post (a, b, c, o, cc_ini 20, cc_los, cc_his)) : ∀ k i : Nat, i + k = 20 → ∀ n, k < n → wX_init_36 post a b c n (nI i) o (cc_ini i) (fun _ => 0) (fun _ => 0) := by
  intro k
  induction k with
  | zero =>
    intro i hi n hn
    obtain ⟨n, rfl⟩ : ∃ j, n = j + 1 := ⟨n - 1, by omega⟩
    obtain rfl : i = 20 := by omega
    exact pk_le 20 20 (fun _ => nm_e (nm_e (nm_e (nm_e (nm_e (nm_e (nm_e h))))))) (fun g => absurd g (by omega))
  | succ k ih =>
    intro i hi n hn
    obtain ⟨n, rfl⟩ : ∃ j, n = j + 1 := ⟨n - 1, by omega⟩
    refine pk_le 20 i (fun g => absurd g (by omega)) (fun _ => ⟨vp_in_nI (by omega) (by decide), nm_r (e' := cc_ini (i + 1)) ?_ (nm_r (e' := nI (i + 1)) (nI_1 i) (ih (i + 1) (by omega) n (by omega)))⟩)
    rw [nI_clamp (by omega)]
    rfl
theorem cc_R0 : cc_R (fun _ => 0) cc_los cc_his (fun _ => 0) := by
  refine ⟨?_, ?_, ?_⟩
  · intro f hf
    have h : f = 0 ∨ f = 1 ∨ f = 2 ∨ f = 3 ∨ f = 4 := by omega
    rcases h with rfl | rfl | rfl | rfl | rfl <;> exact ⟨rfl, rfl⟩
  · intro k j hk hj
    show (0 : Int32) = 0 ↔ (0#64).getLsbD j = false
    simp
  · intro k j hk hj
    show (0#64).getLsbD j = false
    simp
theorem i_vc0 : wpX_init (fun u => wpY_init (fun v => i_Rel 0 u v)) :=
  ⟨21, xs_init (post := fun u => wpY_init (fun v => i_Rel 0 u v)) ⟨21, ys_init (post := fun v => i_Rel 0 (0, 0, 0, (fun _ => 0), cc_ini 20, cc_los, cc_his) v) (cc_rel cc_R0 0 0 0 0 0 0) 20 0 rfl 21 (by decide)⟩ 20 0 rfl 21 (by decide)⟩
end
section
/-! fill, allowed, day, date, weekday, monthDays, dayOfYear -/
section SM
variable {fy fm fd gy gm gd : Int32} {st : Nat → Int64} {fl lo hi op : Nat → Int32} {p : Int32}
theorem xm_fill {post : Int32 → SX → Prop} {r f : Nat} (hr : r < 4) (hf : f < 5) (h : post (if fl (5 * r + f) = 0 then 0 else 1) (fy, fm, fd, st, upd fl (5 * r + f) (vp_nar .boolean 1), lo, hi)) : wpX_fill post (fy, fm, fd, st, fl, lo, hi) (nI r) (nI f) := by
  have hi' := vp_in_nI (n := 5 * r + f) (N := 20) (by omega) (by decide)
  unfold wpX_fill wX_fill_37
  dsimp only
  rw [cc_at1, nI_clamp (by omega)]
  refine xs_ruleT hr (br_f cc_not0 (xs_fieldT hf (br_f cc_not0 ⟨hi', ?_⟩)))
  refine br_c (fun g => ⟨hi', nm_e ?_⟩) (fun g => ⟨hi', nm_e ?_⟩)
  · rw [if_pos g] at h; exact h
  · rw [if_neg g] at h; exact h
theorem ym_fill {post : Int32 → SY → Prop} {r f : Nat} (hr : r < 4) (hf : f < 5) (h : post (if fl (5 * r + f) = 0 then 0 else 1) (gy, gm, gd, op, upd fl (5 * r + f) (vp_nar .boolean 1))) : wpY_fill post (gy, gm, gd, op, fl) (nI r) (nI f) := by
  have hi' := vp_in_nI (n := 5 * r + f) (N := 20) (by omega) (by decide)
  unfold wpY_fill wY_fill_39
  dsimp only
  rw [cc_at2, nI_clamp (by omega)]
  refine ys_ruleT hr (br_t rfl (ys_fieldT hf (br_t rfl ⟨hi', ?_⟩)))
  refine br_c (fun g => ⟨hi', nm_e ?_⟩) (fun g => ⟨hi', nm_e ?_⟩)
  · rw [if_pos g] at h; exact h
  · rw [if_neg g] at h; exact h
theorem i_vc_fill {k : Nat} {u : SX} {v : SY} (I : i_Rel k u v) (hk : k + 4 ≤ 2048) (v1 : Int32) (v2 : Int32) : wpX_fill (fun r u' => wpY_fill (fun r' v' => r' = r ∧ i_Rel (k + 4) u' v') v v1 v2) u v1 v2 := by
  obtain ⟨a, b, c, a', b', c', st, fl, lo, hi, op, rfl, rfl, hR⟩ := I
  rcases cc_pick v1 (n := 4) (by decide) with h1 | ⟨r, hr, rfl⟩
  · unfold wpX_fill wpY_fill
    exact xs_ruleF h1 (br_t rfl (ys_ruleF h1 (br_f cc_not0 ⟨rfl, cc_rel hR _ _ _ _ _ _⟩)))
  · rcases cc_pick v2 (n := 5) (by decide) with h2 | ⟨f, hf, rfl⟩
    · unfold wpX_fill wpY_fill
      exact xs_ruleT hr (br_f cc_not0 (xs_fieldF h2 (br_t rfl (ys_ruleT hr (br_t rfl (ys_fieldF h2 (br_f cc_not0 ⟨rfl, cc_rel hR _ _ _ _ _ _⟩)))))))
    · exact xm_fill hr hf (ym_fill hr hf ⟨rfl, cc_rel hR _ _ _ _ _ _⟩)
theorem i_vc_allowed {k : Nat} {u : SX} {v : SY} (I : i_Rel k u v) (hk : k + 4 ≤ 2048) (v1 : Int32) (v2 : Int32) (v3 : Int32) : wpX_allowed (fun r => wpY_allowed (fun r' => r' = r ∧ i_Rel (k + 4) u v) v v1 v2 v3) u v1 v2 v3 := by
  obtain ⟨a, b, c, a', b', c', st, fl, lo, hi, op, rfl, rfl, hR⟩ := I
  unfold wpX_allowed wpY_allowed
  rcases cc_pick v1 (n := 4) (by decide) with h1 | ⟨r, hr, rfl⟩
  · exact xs_ruleF h1 (br_t rfl (ys_ruleF h1 (br_f cc_not0 ⟨rfl, cc_rel hR _ _ _ _ _ _⟩)))
  · rcases cc_pick v2 (n := 5) (by decide) with h2 | ⟨f, hf, rfl⟩
    · exact xs_ruleT hr (br_f cc_not0 (xs_fieldF h2 (br_t rfl (ys_ruleT hr (br_t rfl (ys_fieldF h2 (br_f cc_not0 ⟨rfl, cc_rel hR _ _ _ _ _ _⟩)))))))
    · refine xs_ruleT hr (br_f cc_not0 (xs_fieldT hf (br_f cc_not0 (xs_alX hr hf hR (fun g => br_t rfl ?_) (fun j hj1 hj2 ej => ?_)))))
      · exact ys_ruleT hr (br_t rfl (ys_fieldT hf (br_t rfl (ys_inField hf (fun _ => br_t rfl ⟨rfl, cc_rel hR _ _ _ _ _ _⟩) (fun g1 g2 => (g.elim g1 g2).elim)))))
      · subst ej
        have hh := cc_hi_in f
        have hll := cc_lo_in f
        refine cc_br (fun e => ?_) (fun e => ?_)
        · refine ys_ruleT hr (br_t rfl (ys_fieldT hf (br_t rfl (ys_inField hf (fun g => ?_) (fun g1 g2 => br_f cc_not0 (ys_may hr hf hR (by omega) (cc_br (fun _ => ⟨rfl, cc_rel hR _ _ _ _ _ _⟩) (fun e' => ?_))))))))
          · rw [nI_ltI (by omega) (by omega), nI_ltI (by omega) (by omega)] at g
            omega
          · rw [e] at e'; exact absurd e' (by decide)
        · refine ys_ruleT hr (br_t rfl (ys_fieldT hf (br_t rfl (ys_inField hf (fun g => ?_) (fun g1 g2 => br_f cc_not0 (ys_may hr hf hR (by omega) (cc_br (fun e' => ?_) (fun _ => ⟨rfl, cc_rel hR _ _ _ _ _ _⟩))))))))
          · rw [nI_ltI (by omega) (by omega), nI_ltI (by omega) (by omega)] at g
            omega
          · rw [e] at e'; exact absurd e' (by decide)
def cc_good (D : Nat) : Prop := 2000 ≤ D / 10000 ∧ D / 10000 < 2400 ∧ 1 ≤ D / 100 % 100 ∧ D / 100 % 100 ≤ 12 ∧ 1 ≤ D % 100 ∧ D % 100 ≤ cc_len (D / 10000) (D / 100 % 100)
theorem cc_dI {D : Nat} (hD : D < 2 ^ 31) : nI D / 10000 = nI (D / 10000) ∧ (nI D / 100) - (nI D / 100) / 100 * 100 = nI (D / 100 % 100) ∧ nI D - nI D / 100 * 100 = nI (D % 100) := by
  have e : nI D / 100 = nI (D / 100) := pk_div (d := 100) hD (by decide) (by decide)
  refine ⟨pk_div (d := 10000) hD (by decide) (by decide), ?_, pk_rem (d := 100) hD (by decide) (by decide)⟩
  rw [e]
  exact pk_rem (d := 100) (by omega) (by decide) (by decide)
theorem xs_year {post : Int32 → Prop} {y : Nat} (hy : y < 2 ^ 31) (h0 : y < 2000 ∨ 2400 ≤ y → post 0) (h1 : 2000 ≤ y → y < 2400 → post 1) : wpX_isYear post (nI y) := by
  unfold wpX_isYear
  exact pk_lt y 2000 (fun g => h0 (Or.inl g)) (fun g => pk_le 2400 y (fun g' => h0 (Or.inr g')) (fun g' => h1 g g'))
theorem xm_day {post : Int32 → Prop} {D : Nat} (hD : D < 2 ^ 31) (h0 : ¬ cc_good D → post (-1)) (h1 : cc_good D → post (nI (cc_db (D / 10000) + cc_dm (D / 10000) (D / 100 % 100 - 1) + D % 100 - 1))) : wpX_day post (fy, fm, fd, st, fl, lo, hi) (nI D) := by
  obtain ⟨e1, e2, e3⟩ := cc_dI hD
  have hl := cc_len_in (D / 10000) (D / 100 % 100)
  unfold wpX_day
  refine ⟨by decide, nm_r e1 ⟨by decide, by decide, nm_r e2 ⟨by decide, nm_r e3 (br_f (nI_pos hD) (xs_year (by omega) (fun g => br_t rfl (h0 (fun z => ?_))) (fun g1 g2 => br_f cc_not0 ?_)))⟩⟩⟩
  · have z1 := z.1
    have z2 := z.2.1
    omega
  · refine pk_lt (D / 100 % 100) 1 (fun g => h0 (fun z => absurd z.2.2.1 (by omega))) (fun g3 => pk_lt 12 (D / 100 % 100) (fun g => h0 (fun z => absurd z.2.2.2.1 (by omega))) (fun g4 => pk_lt (D % 100) 1 (fun g => h0 (fun z => absurd z.2.2.2.2.1 (by omega))) (fun g5 => xs_len (by omega) (by omega) (pk_le (D % 100) (cc_len (D / 10000) (D / 100 % 100)) (fun g6 => ?_) (fun g => h0 (fun z => absurd z.2.2.2.2.2 (by omega)))))))
    exact xs_dn g1 (by omega) g3 g4 g5 (h1 ⟨g1, g2, g3, g4, g5, g6⟩)
theorem ym_day {post : Int32 → Prop} {D : Nat} (hD : D < 2 ^ 31) (h0 : ¬ cc_good D → post (-1)) (h1 : cc_good D → post (nI (cc_db (D / 10000) + cc_dm (D / 10000) (D / 100 % 100 - 1) + D % 100 - 1))) : wpY_day post (gy, gm, gd, op, fl) (nI D) := by
  obtain ⟨e1, e2, e3⟩ := cc_dI hD
  have hl := cc_len_in (D / 10000) (D / 100 % 100)
  unfold wpY_day
  refine ⟨by decide, nm_r e1 ⟨by decide, by decide, nm_r e2 ⟨by decide, nm_r e3 (br_f (nI_pos hD) (pk_lt (D / 10000) 2000 (fun g => h0 (fun z => absurd z.1 (by omega))) (fun g1 => pk_lt 2399 (D / 10000) (fun g => h0 (fun z => absurd z.2.1 (by omega))) (fun g2 => ?_))))⟩⟩⟩
  refine pk_lt (D / 100 % 100) 1 (fun g => h0 (fun z => absurd z.2.2.1 (by omega))) (fun g3 => pk_le (D / 100 % 100) 12 (fun g4 => pk_lt (D % 100) 1 (fun g => h0 (fun z => absurd z.2.2.2.2.1 (by omega))) (fun g5 => ys_len (by omega) (by omega) (pk_le (D % 100) (cc_len (D / 10000) (D / 100 % 100)) (fun g6 => ?_) (fun g => h0 (fun z => absurd z.2.2.2.2.2 (by omega)))))) (fun g => h0 (fun z => absurd z.2.2.2.1 (by omega))))
  exact ys_join g1 (by omega) g3 g4 g5 (h1 ⟨g1, by omega, g3, g4, g5, g6⟩)
theorem i_vc_day {k : Nat} {u : SX} {v : SY} (I : i_Rel k u v) (hk : k + 4 ≤ 2048) (v1 : Int32) : wpX_day (fun r => wpY_day (fun r' => r' = r ∧ i_Rel (k + 4) u v) v v1) u v1 := by
  obtain ⟨a, b, c, a', b', c', st, fl, lo, hi, op, rfl, rfl, hR⟩ := I
  rcases cc_nat v1 with h | ⟨D, hD, rfl⟩
  · unfold wpX_day wpY_day
    exact ⟨by decide, nm_e ⟨by decide, by decide, nm_e ⟨by decide, nm_e (br_t h ⟨by decide, nm_e ⟨by decide, by decide, nm_e ⟨by decide, nm_e (br_t h ⟨rfl, cc_rel hR _ _ _ _ _ _⟩)⟩⟩⟩)⟩⟩⟩
  · by_cases g : cc_good D
    · exact xm_day hD (fun z => absurd g z) (fun _ => ym_day hD (fun z => absurd g z) (fun _ => ⟨rfl, cc_rel hR _ _ _ _ _ _⟩))
    · exact xm_day hD (fun _ => ym_day hD (fun _ => ⟨rfl, cc_rel hR _ _ _ _ _ _⟩) (fun z => absurd z g)) (fun z => absurd z g)
theorem i_vc_date {k : Nat} {u : SX} {v : SY} (I : i_Rel k u v) (hk : k + 4 ≤ 2048) (v1 : Int32) : wpX_date (fun r u' => wpY_date (fun r' v' => r' = r ∧ i_Rel (k + 4) u' v') v v1) u v1 := by
  obtain ⟨a, b, c, a', b', c', st, fl, lo, hi, op, rfl, rfl, hR⟩ := I
  unfold wpX_date wpY_date
  rcases cc_pick v1 (n := 146097) (by decide) with h1 | ⟨n, hn, rfl⟩
  · exact xs_dayF h1 (br_t rfl (ys_dayF h1 (br_f cc_not0 ⟨rfl, cc_rel hR _ _ _ _ _ _⟩)))
  · exact xs_dayT hn (br_f cc_not0 (xs_split (by omega) (ys_dayT hn (br_t rfl (ys_split hn ⟨rfl, cc_rel hR _ _ _ _ _ _⟩)))))
theorem i_vc_weekday {k : Nat} {u : SX} {v : SY} (I : i_Rel k u v) (hk : k + 4 ≤ 2048) (v1 : Int32) : wpX_weekday (fun r => wpY_weekday (fun r' => r' = r ∧ i_Rel (k + 4) u v) v v1) u v1 := by
  obtain ⟨a, b, c, a', b', c', st, fl, lo, hi, op, rfl, rfl, hR⟩ := I
  unfold wpX_weekday wpY_weekday
  rcases cc_pick v1 (n := 146097) (by decide) with h1 | ⟨n, hn, rfl⟩
  · exact xs_dayF h1 (br_t rfl (ys_dayF h1 (br_f cc_not0 ⟨rfl, cc_rel hR _ _ _ _ _ _⟩)))
  · exact xs_dayT hn (br_f cc_not0 ⟨by decide, ys_dayT hn (br_t rfl ⟨by decide, rfl, cc_rel hR _ _ _ _ _ _⟩)⟩)
/-- an int as a year: below, above, or one of the 400 -/
theorem cc_yr (x : Int32) : x < 2000 ∨ (¬ x < 2000 ∧ ¬ x ≤ 2399 ∧ 2400 ≤ x) ∨ ∃ j : Nat, 2000 ≤ j ∧ j < 2400 ∧ x = nI j := by
  rcases cc_pick x (n := 2400) (by decide) with (h | h) | ⟨j, hj, rfl⟩
  · refine Or.inl ?_
    rw [Int32.lt_iff_toInt_lt, Int32.toInt_zero] at h
    rw [Int32.lt_iff_toInt_lt, show (2000 : Int32).toInt = 2000 by decide]
    omega
  · refine Or.inr (Or.inl ⟨?_, cc_nle (a := 2399) (by decide) (by decide) h, h⟩)
    have := cc_ti (by decide) h
    rw [Int32.lt_iff_toInt_lt, show (2000 : Int32).toInt = 2000 by decide]
    omega
  · by_cases g : j < 2000
    · exact Or.inl (nI_lt (b := 2000) g (by decide))
    · exact Or.inr (Or.inr ⟨j, by omega, hj, rfl⟩)
theorem xs_yearF {post : Int32 → Prop} (h : p < 2000 ∨ (¬ p < 2000 ∧ ¬ p ≤ 2399 ∧ 2400 ≤ p)) (hp : post 0) : wpX_isYear post p := by
  unfold wpX_isYear
  rcases h with h | h
  · exact br_t h hp
  · exact br_f h.1 (br_t h.2.2 hp)
theorem xs_yearT {post : Int32 → Prop} {y : Nat} (h1 : 2000 ≤ y) (h2 : y < 2400) (hp : post 1) : wpX_isYear post (nI y) :=
  xs_year (by omega) (fun g => absurd g (by omega)) (fun _ _ => hp)
/-- Y's test of a year -/
theorem ys_yr {A B : Prop} (h : p < 2000 ∨ (¬ p < 2000 ∧ ¬ p ≤ 2399 ∧ 2400 ≤ p)) (hp : A) : (p < 2000 → A) ∧ (¬ p < 2000 → ((p ≤ 2399 → B) ∧ (¬ p ≤ 2399 → A))) := by
  rcases h with h | h
  · exact br_t h hp
  · exact br_f h.1 (br_f h.2.1 hp)
theorem ys_yrT {A B : Prop} {y : Nat} (h1 : 2000 ≤ y) (h2 : y < 2400) (hp : B) : (nI y < 2000 → A) ∧ (¬ nI y < 2000 → ((nI y ≤ 2399 → B) ∧ (¬ nI y ≤ 2399 → A))) :=
  pk_lt y 2000 (fun g => absurd g (by omega)) (fun _ => pk_le y 2399 (fun _ => hp) (fun g => absurd g (by omega)))
theorem i_vc_monthDays {k : Nat} {u : SX} {v : SY} (I : i_Rel k u v) (hk : k + 4 ≤ 2048) (v1 : Int32) (v2 : Int32) : wpX_monthDays (fun r => wpY_monthDays (fun r' => r' = r ∧ i_Rel (k + 4) u v) v v1 v2) u v1 v2 := by
  obtain ⟨a, b, c, a', b', c', st, fl, lo, hi, op, rfl, rfl, hR⟩ := I
  unfold wpX_monthDays wpY_monthDays
  have dn : ∀ r : Int32, r = r ∧ i_Rel (k + 4) (a, b, c, st, fl, lo, hi) (a', b', c', op, fl) := fun r => ⟨rfl, cc_rel hR _ _ _ _ _ _⟩
  have cy := cc_yr v1
  rw [← or_assoc] at cy
  rcases cy with h1 | ⟨y, hy1, hy2, rfl⟩
  · exact xs_yearF h1 (br_t rfl (ys_yr h1 (dn _)))
  · refine xs_yearT hy1 hy2 (br_f cc_not0 (br_c (fun g1 => ys_yrT hy1 hy2 (br_t g1 (dn _))) (fun g1 => br_c (fun g2 => ys_yrT hy1 hy2 (br_f g1 (br_f (Int32.not_le.mpr g2) (dn _)))) (fun g2 => ?_))))
    have h0 : ¬ v2 < 0 := by
      rw [Int32.lt_iff_toInt_lt, show (1 : Int32).toInt = 1 by decide] at g1
      rw [Int32.lt_iff_toInt_lt, Int32.toInt_zero]
      omega
    obtain ⟨m, hm, rfl⟩ := nI_of h0
    exact xs_len (by omega) hm (ys_yrT hy1 hy2 (br_f g1 (br_t (Int32.not_lt.mp g2) (ys_len (by omega) hm (dn _)))))
theorem i_vc_dayOfYear {k : Nat} {u : SX} {v : SY} (I : i_Rel k u v) (hk : k + 4 ≤ 2048) (v1 : Int32) : wpX_dayOfYear (fun r u' => wpY_dayOfYear (fun r' v' => r' = r ∧ i_Rel (k + 4) u' v') v v1) u v1 := by
  obtain ⟨a, b, c, a', b', c', st, fl, lo, hi, op, rfl, rfl, hR⟩ := I
  unfold wpX_dayOfYear wpY_dayOfYear
  rcases cc_pick v1 (n := 146097) (by decide) with h1 | ⟨n, hn, rfl⟩
  · exact xs_dayF h1 (br_t rfl (ys_dayF h1 (br_f cc_not0 ⟨rfl, cc_rel hR _ _ _ _ _ _⟩)))
  · have h3 := cc_is_ylt (cc_isD n) hn
    have h4 := (cc_isD n).1
    refine xs_dayT hn (br_f cc_not0 (xs_split (by omega) (xs_db h4 (by omega) (ys_dayT hn (br_t rfl (ys_split hn (ys_join (m := 1) (d := 1) h4 (by omega) (by decide) (by decide) (by decide) ⟨?_, cc_rel hR _ _ _ _ _ _⟩)))))))
    have e : cc_db (cc_y n) + cc_dm (cc_y n) (1 - 1) + 1 - 1 = cc_db (cc_y n) := rfl
    rw [e]
end SM
end
section
/-! addMonths, week, nth -/
section DT
variable {fy fm fd gy gm gd : Int32} {st : Nat → Int64} {fl lo hi op : Nat → Int32} {p : Int32}
theorem cc_addI {a B : Nat} {v : Int32} (ha : a < 2 ^ 30) (h1 : -5000 ≤ v.toInt) (h2 : v.toInt ≤ 5000) (hB : B < 2 ^ 31) (h : (B : Int) = a + v.toInt) : nI a + v = nI B := by
  apply Int32.toInt_inj.mp
  have e := nI_toInt (n := a) (by omega)
  rw [Jvm.Kit.i32_add (by omega) (by omega), e, nI_toInt hB, h]
theorem cc_addN {a : Nat} {v : Int32} (ha : a < 2 ^ 30) (h1 : -5000 ≤ v.toInt) (h2 : v.toInt ≤ 5000) (h : (a : Int) + v.toInt < 0) : nI a + v < 0 := by
  have e := nI_toInt (n := a) (by omega)
  rw [Int32.lt_iff_toInt_lt, Jvm.Kit.i32_add (by omega) (by omega), e, Int32.toInt_zero]
  exact h
def cc_am (M d : Nat) : Int32 := if M < 24000 ∨ 28800 ≤ M then -3 else nI (cc_db (M / 12) + cc_dm (M / 12) (M % 12 + 1 - 1) + (if cc_len (M / 12) (M % 12 + 1) ≤ d then cc_len (M / 12) (M % 12 + 1) else d) - 1)
theorem cc_m12 {M : Nat} (hM : M < 2 ^ 31) : (nI M - nI M / 12 * 12) + 1 = nI (M % 12 + 1) := by
  have e : nI M - nI M / 12 * 12 = nI (M % 12) := pk_rem (d := 12) hM (by decide) (by decide)
  rw [e, nI_1]
theorem ym_addMonths {post : Int32 → SY → Prop} {n M : Nat} {v : Int32} (hn : n < 146097) (g1 : ¬ v < -4800) (g2 : v ≤ 4800) (z1 : -4800 ≤ v.toInt) (z2 : v.toInt ≤ 4800) (hM : (M : Int) = 12 * (cc_y n : Int) + cc_m n - 1 + v.toInt)
    (h : post (cc_am M (cc_d n)) (nI (cc_y n), nI (cc_m n), nI (cc_d n), op, fl)) : wpY_addMonths post (gy, gm, gd, op, fl) (nI n) v := by
  have hI := cc_isD n
  have hyl := cc_is_ylt hI hn
  obtain ⟨i1, i2, i3, i4, i5, i6⟩ := hI
  have hl := cc_len_in (cc_y n) (cc_m n)
  have hL := cc_len_in (M / 12) (M % 12 + 1)
  have e1 : nI (cc_y n) * 12 + nI (cc_m n) - 1 + v = nI M := by
    have q : nI (cc_y n) * 12 = nI (cc_y n * 12) := pk_mul _ 12
    have q2 : nI (cc_y n * 12 + cc_m n) - 1 = nI (cc_y n * 12 + cc_m n - 1) := pk_sub (b := 1) (by omega)
    rw [q, nI_add, q2]
    exact cc_addI (by omega) (by omega) (by omega) (by omega) (by omega)
  unfold wpY_addMonths
  refine ys_dayT hn (br_t rfl (br_f g1 (br_t g2 (ys_split hn ?_))))
  refine nm_r (e' := nI M) e1 ⟨by decide, nm_r (e' := nI (M / 12)) (pk_div (d := 12) (by omega) (by decide) (by decide)) ⟨by decide, nm_r (e' := nI (M % 12 + 1)) (cc_m12 (by omega)) ?_⟩⟩
  unfold cc_am at h
  by_cases hM2 : M < 24000 ∨ 28800 ≤ M
  · rw [if_pos hM2] at h
    exact pk_lt (M / 12) 2000 (fun _ => h) (fun g => pk_le (M / 12) 2399 (fun g' => absurd hM2 (by omega)) (fun _ => h))
  · rw [if_neg hM2] at h
    refine pk_lt (M / 12) 2000 (fun g => absurd g (by omega)) (fun _ => pk_le (M / 12) 2399 (fun _ => ys_len (by omega) (by omega) (pk_le (cc_len (M / 12) (M % 12 + 1)) (cc_d n) (fun q => ?_) (fun q => ?_))) (fun g' => absurd g' (by omega)))
    · rw [if_pos q] at h
      refine ys_len (by omega) (by omega) ?_
      unfold wY_addMonths_112
      exact ys_join (by omega) (by omega) (by omega) (by omega) (by omega) h
    · rw [if_neg (by omega)] at h
      unfold wY_addMonths_112
      exact ys_join (by omega) (by omega) (by omega) (by omega) (by omega) h
theorem xm_addMonths {post : Int32 → SX → Prop} {n M : Nat} {v : Int32} (hn : n < 146097) (g1 : ¬ v < -4800) (g2 : v ≤ 4800) (z1 : -4800 ≤ v.toInt) (z2 : v.toInt ≤ 4800) (hM : (M : Int) = 12 * (cc_y n : Int) + cc_m n - 1 + v.toInt)
    (h : post (cc_am M (cc_d n)) (nI (cc_y n), nI (cc_m n), nI (cc_d n), st, fl, lo, hi)) : wpX_addMonths post (fy, fm, fd, st, fl, lo, hi) (nI n) v := by
  have hI := cc_isD n
  have hyl := cc_is_ylt hI hn
  obtain ⟨i1, i2, i3, i4, i5, i6⟩ := hI
  have hl := cc_len_in (cc_y n) (cc_m n)
  have hL := cc_len_in (M / 12) (M % 12 + 1)
  have e1 : ((12 * (nI (cc_y n) - 2000)) + nI (cc_m n)) - 1 = nI (12 * (cc_y n - 2000) + cc_m n - 1) := by
    have q0 : nI (cc_y n) - 2000 = nI (cc_y n - 2000) := pk_sub (b := 2000) i1
    have q : 12 * nI (cc_y n - 2000) = nI (12 * (cc_y n - 2000)) := pk_mul 12 _
    rw [q0, q, nI_add]
    exact pk_sub (b := 1) (by omega)
  unfold wpX_addMonths
  refine xs_dayT hn (br_f cc_not0 (br_f g1 (br_t g2 (xs_split (by omega) ?_))))
  unfold cc_am at h
  by_cases hM1 : M < 24000
  · rw [if_pos (Or.inl hM1)] at h
    refine nm_r (e' := nI (12 * (cc_y n - 2000) + cc_m n - 1) + v) (by rw [e1]) (br_t (cc_addN (by omega) (by omega) (by omega) (by omega)) h)
  · refine nm_r (e' := nI (M - 24000)) (by rw [e1]; exact cc_addI (by omega) (by omega) (by omega) (by omega) (by omega)) (br_f (nI_pos (by omega)) (pk_lt (M - 24000) 4800 (fun g => ?_) (fun g => ?_)))
    · rw [if_neg (by omega)] at h
      refine ⟨by decide, nm_r (e' := nI (M / 12)) ?_ ⟨by decide, nm_r (e' := nI (M % 12 + 1)) ?_ (xs_len (by omega) (by omega) (pk_le (cc_len (M / 12) (M % 12 + 1)) (cc_d n) (fun q => ?_) (fun q => ?_)))⟩⟩
      · have q : nI (M - 24000) / 12 = nI ((M - 24000) / 12) := pk_div (d := 12) (by omega) (by decide) (by decide)
        rw [q]
        have q2 : 2000 + nI ((M - 24000) / 12) = nI (2000 + (M - 24000) / 12) := nI_add 2000 _
        rw [q2]
        exact congrArg nI (by omega)
      · rw [cc_m12 (by omega)]
        exact congrArg nI (by omega)
      · rw [if_pos q] at h
        unfold wX_addMonths_115
        exact xs_dn (by omega) (by omega) (by omega) (by omega) (by omega) h
      · rw [if_neg (by omega)] at h
        unfold wX_addMonths_115
        exact xs_dn (by omega) (by omega) (by omega) (by omega) (by omega) h
    · rw [if_pos (by omega)] at h
      exact h
theorem i_vc_addMonths {k : Nat} {u : SX} {v : SY} (I : i_Rel k u v) (hk : k + 4 ≤ 2048) (v1 : Int32) (v2 : Int32) : wpX_addMonths (fun r u' => wpY_addMonths (fun r' v' => r' = r ∧ i_Rel (k + 4) u' v') v v1 v2) u v1 v2 := by
  obtain ⟨a, b, c, a', b', c', st, fl, lo, hi, op, rfl, rfl, hR⟩ := I
  rcases cc_pick v1 (n := 146097) (by decide) with h1 | ⟨n, hn, rfl⟩
  · unfold wpX_addMonths wpY_addMonths
    exact xs_dayF h1 (br_t rfl (ys_dayF h1 (br_f cc_not0 ⟨rfl, cc_rel hR _ _ _ _ _ _⟩)))
  · by_cases g1 : v2 < -4800
    · unfold wpX_addMonths wpY_addMonths
      exact xs_dayT hn (br_f cc_not0 (br_t g1 (ys_dayT hn (br_t rfl (br_t g1 ⟨rfl, cc_rel hR _ _ _ _ _ _⟩)))))
    · by_cases g2 : v2 ≤ 4800
      · have z1 : -4800 ≤ v2.toInt := by
          rw [Int32.lt_iff_toInt_lt, show (-4800 : Int32).toInt = -4800 by decide] at g1
          omega
        have z2 : v2.toInt ≤ 4800 := by
          rw [Int32.le_iff_toInt_le, show (4800 : Int32).toInt = 4800 by decide] at g2
          exact g2
        have hI := cc_isD n
        have i1 := hI.1
        have i2 := hI.2.1
        have hM : (((12 * (cc_y n : Int) + cc_m n - 1 + v2.toInt).toNat : Nat) : Int) = 12 * (cc_y n : Int) + cc_m n - 1 + v2.toInt := Int.toNat_of_nonneg (by omega)
        exact xm_addMonths hn g1 g2 z1 z2 hM (ym_addMonths hn g1 g2 z1 z2 hM ⟨rfl, cc_rel hR _ _ _ _ _ _⟩)
      · unfold wpX_addMonths wpY_addMonths
        exact xs_dayT hn (br_f cc_not0 (br_f g1 (br_f g2 (ys_dayT hn (br_t rfl (br_f g1 (br_f g2 ⟨rfl, cc_rel hR _ _ _ _ _ _⟩)))))))
/-! week -/
theorem ys_yearOf {post : Int32 → SY → Prop} {n : Nat} (hn : n < 146097) (h : post (nI (cc_y n)) (nI (cc_y n), nI (cc_m n), nI (cc_d n), op, fl)) : wpY_yearOf post (gy, gm, gd, op, fl) (nI n) := by
  unfold wpY_yearOf
  exact ys_split hn h
theorem cc_wk {T j : Nat} : (7 * j ≤ T ∧ cc_y (T - 7 * j) = cc_y T) ↔ j ≤ (T - cc_db (cc_y T)) / 7 := by
  have hT := cc_is_y (cc_isD T)
  constructor
  · intro ⟨h1, h2⟩
    have h3 := cc_is_y (cc_isD (T - 7 * j))
    rw [h2] at h3
    omega
  · intro h
    have h1 : 7 * j ≤ T := by omega
    exact ⟨h1, cc_is_uy (cc_isD _).1 (cc_isD T).1 (cc_is_y (cc_isD _)) ⟨by omega, by omega⟩⟩
theorem ys_week93 {post : Int32 → SY → Prop} {mon y q : Nat} (hq : q < 100000) (hmon : mon + 3 = 5 + 7 * q) (h : post (100 * nI y + nI (q + 1)) (gy, gm, gd, op, fl)) : ∀ k i : Nat, i + k = q + 1 → ∀ n, k < n → wY_week_93 post (nI mon) (nI y) gy gm gd op fl n (nI i) (nI (5 + 7 * i)) := by
  have e : nI mon + 3 = nI (mon + 3) := nI_add mon 3
  intro k
  induction k with
  | zero =>
    intro i hi n hn
    obtain ⟨n, rfl⟩ : ∃ j, n = j + 1 := ⟨n - 1, by omega⟩
    obtain rfl : i = q + 1 := by omega
    exact pk_lt (mon + 3) (5 + 7 * (q + 1)) (fun _ => h) (fun g => absurd g (by omega)) e
  | succ k ih =>
    intro i hi n hn
    obtain ⟨n, rfl⟩ : ∃ j, n = j + 1 := ⟨n - 1, by omega⟩
    refine pk_lt (mon + 3) (5 + 7 * i) (fun g => absurd g (by omega)) (fun _ => nm_r (e' := nI (i + 1)) (nI_1 i) (nm_r (e' := nI (5 + 7 * (i + 1))) ?_ (ih (i + 1) (by omega) n (by omega)))) e
    have e2 : nI (5 + 7 * i) + 7 = nI (5 + 7 * i + 7) := nI_add _ 7
    rw [e2]
    exact congrArg nI (by omega)
theorem cc_cap (i R : Nat) (h : i ≤ R) : (if i ≤ R + 1 then i else R + 1) + 1 = (if i + 1 ≤ R + 1 then i + 1 else R + 1) := by
  rw [if_pos (by omega), if_pos (by omega)]
theorem cc_cap2 (i R : Nat) (h : ¬ i ≤ R) : (if i ≤ R + 1 then i else R + 1) = (if i + 1 ≤ R + 1 then i + 1 else R + 1) := by
  rw [if_neg (show ¬ i + 1 ≤ R + 1 by omega)]
  split <;> omega
theorem ys_week38 {post : Int32 → SY → Prop} {mon R : Nat} (hm2 : 2 ≤ mon) (hm : mon + 3 < 146097) (hR : R = (mon + 3 - cc_db (cc_y (mon + 3))) / 7) (h7 : (mon + 3) % 7 = 5) (h : ∀ a b c, post (100 * nI (cc_y (mon + 3)) + nI (R + 1)) (a, b, c, op, fl)) :
    ∀ k i : Nat, i + k = 54 → ∀ n, k < n → ∀ a b c, wY_week_38 post (nI mon) (nI (cc_y (mon + 3))) n (nI (if i ≤ R + 1 then i else R + 1)) (nI i) a b c op fl := by
  have hT := cc_isD (mon + 3)
  have hTy := cc_is_y hT
  have hlt := cc_is_ylt hT hm
  have hlo := hT.1
  have hs := cc_db_s hlo
  have hyl := cc_yl_in (cc_y (mon + 3))
  have e : nI mon + 3 = nI (mon + 3) := nI_add mon 3
  intro k
  induction k with
  | zero =>
    intro i hi n hn a b c
    obtain ⟨n, rfl⟩ : ∃ j, n = j + 1 := ⟨n - 1, by omega⟩
    obtain rfl : i = 54 := by omega
    rw [if_neg (by omega)]
    refine pk_le 54 54 (fun _ => pk_eq (cc_y (mon + 3)) 2000 (fun ey => ?_) (fun _ => h a b c)) (fun g => absurd g (by omega))
    have hq : cc_db (cc_y (mon + 3)) = 0 := by rw [ey]; exact cc_db0
    rw [hq] at hR
    exact ⟨R + 2, ys_week93 (q := R) (by omega) (by omega) (h a b c) (R + 1) 0 (by omega) (R + 2) (by omega)⟩
  | succ k ih =>
    intro i hi n hn a b c
    obtain ⟨n, rfl⟩ : ∃ j, n = j + 1 := ⟨n - 1, by omega⟩
    have e7 : 7 * nI i = nI (7 * i) := pk_mul 7 i
    have hw := cc_wk (T := mon + 3) (j := i)
    rw [← hR] at hw
    refine pk_le 54 i (fun g => absurd g (by omega)) (fun _ => ?_)
    by_cases g7 : 7 * i ≤ mon + 3
    · refine nm_r (e' := nI (mon + 3 - 7 * i)) (by rw [e, e7, pk_sub g7]) (br_f (nI_pos (by omega)) (ys_yearOf (by omega) ?_))
      by_cases gi : i ≤ R
      · refine br_t (by rw [(hw.mpr gi).2]) (nm_r (e' := nI (if i + 1 ≤ R + 1 then i + 1 else R + 1)) (by rw [nI_1, cc_cap i R gi]) (nm_r (e' := nI (i + 1)) (nI_1 i) (ih (i + 1) (by omega) n (by omega) _ _ _)))
      · have hne : cc_y (mon + 3 - 7 * i) ≠ cc_y (mon + 3) := fun z => gi (hw.mp ⟨g7, z⟩)
        have hlt2 := cc_is_ylt (cc_isD (mon + 3 - 7 * i)) (by omega)
        rw [cc_cap2 i R gi]
        exact br_f (by rw [nI_eq (by omega) (by omega)]; exact hne) (nm_r (e' := nI (i + 1)) (nI_1 i) (ih (i + 1) (by omega) n (by omega) _ _ _))
    · have gi : ¬ i ≤ R := by omega
      rw [cc_cap2 i R gi]
      refine nm_e (br_t ?_ (nm_r (e' := nI (i + 1)) (nI_1 i) (ih (i + 1) (by omega) n (by omega) _ _ _)))
      rw [e, e7]
      exact pk_sneg (by omega) (by omega)
theorem cc_monI {n : Nat} (h2 : 2 ≤ n) (hn : n < 146097) : nI n - ((nI n + 5) - (nI n + 5) / 7 * 7) = nI (n - (n + 5) % 7) := by
  have e : nI n + 5 = nI (n + 5) := nI_add n 5
  have e2 : nI (n + 5) - nI (n + 5) / 7 * 7 = nI ((n + 5) % 7) := pk_rem (d := 7) (by omega) (by decide) (by decide)
  rw [e, e2, pk_sub (by omega)]
theorem ym_week {post : Int32 → SY → Prop} {n : Nat} (h2 : 2 ≤ n) (hn : n < 146097) (h : ∀ a b c, post (100 * nI (cc_y (n - (n + 5) % 7 + 3)) + nI ((n - (n + 5) % 7 + 3 - cc_db (cc_y (n - (n + 5) % 7 + 3))) / 7 + 1)) (a, b, c, op, fl)) : wpY_week post (gy, gm, gd, op, fl) (nI n) := by
  unfold wpY_week
  refine ys_dayT hn (br_t rfl (br_t (nI_le (a := 2) h2 (by omega)) ⟨by decide, nm_r (e' := nI (n - (n + 5) % 7)) (cc_monI h2 hn) ?_⟩))
  have e : nI (n - (n + 5) % 7) + 3 = nI (n - (n + 5) % 7 + 3) := nI_add _ 3
  rw [e]
  refine ys_yearOf (by omega) ⟨55, ?_⟩
  exact ys_week38 (R := (n - (n + 5) % 7 + 3 - cc_db (cc_y (n - (n + 5) % 7 + 3))) / 7) (by omega) (by omega) rfl (by omega) h 54 0 (by omega) 55 (by omega) _ _ _
theorem xm_week {post : Int32 → Prop} {n : Nat} (h2 : 2 ≤ n) (hn : n < 146097) (h : post (100 * nI (cc_y (n - (n + 5) % 7 + 3)) + nI ((n - (n + 5) % 7 + 3 - cc_db (cc_y (n - (n + 5) % 7 + 3))) / 7 + 1))) : wpX_week post (fy, fm, fd, st, fl, lo, hi) (nI n) := by
  have e : nI (n - (n + 5) % 7) + 3 = nI (n - (n + 5) % 7 + 3) := nI_add _ 3
  have hI := cc_isD (n - (n + 5) % 7 + 3)
  have hy := cc_is_y hI
  have hyl := cc_is_ylt hI (by omega)
  unfold wpX_week
  refine xs_dayT hn (br_f cc_not0 (br_t (nI_le (a := 2) h2 (by omega)) ⟨by decide, nm_r (e' := nI (n - (n + 5) % 7 + 3)) (by rw [cc_monI h2 hn, e]) ?_⟩))
  refine xs_yearOf (by omega) hI.1 hy.1 hy.2 (xs_db hI.1 (by omega) ⟨by decide, nm_r (e' := nI ((n - (n + 5) % 7 + 3 - cc_db (cc_y (n - (n + 5) % 7 + 3))) / 7 + 1)) ?_ h⟩)
  rw [pk_sub hy.1]
  have e7 : nI (n - (n + 5) % 7 + 3 - cc_db (cc_y (n - (n + 5) % 7 + 3))) / 7 = nI ((n - (n + 5) % 7 + 3 - cc_db (cc_y (n - (n + 5) % 7 + 3))) / 7) := pk_div (d := 7) (by omega) (by decide) (by decide)
  rw [e7, nI_1]
theorem i_vc_week {k : Nat} {u : SX} {v : SY} (I : i_Rel k u v) (hk : k + 4 ≤ 2048) (v1 : Int32) : wpX_week (fun r => wpY_week (fun r' v' => r' = r ∧ i_Rel (k + 4) u v') v v1) u v1 := by
  obtain ⟨a, b, c, a', b', c', st, fl, lo, hi, op, rfl, rfl, hR⟩ := I
  rcases cc_pick v1 (n := 146097) (by decide) with h1 | ⟨n, hn, rfl⟩
  · unfold wpX_week wpY_week
    exact xs_dayF h1 (br_t rfl (ys_dayF h1 (br_f cc_not0 ⟨rfl, cc_rel hR _ _ _ _ _ _⟩)))
  · by_cases h2 : 2 ≤ n
    · exact xm_week h2 hn (ym_week h2 hn (fun _ _ _ => ⟨rfl, cc_rel hR _ _ _ _ _ _⟩))
    · unfold wpX_week wpY_week
      have g : ¬ (2 : Int32) ≤ nI n := nI_ge (b := 2) (by omega) (by decide)
      exact xs_dayT hn (br_f cc_not0 (br_f g (ys_dayT hn (br_t rfl (br_f g ⟨rfl, cc_rel hR _ _ _ _ _ _⟩)))))
end DT
end
section
/-! nth -/
section NT
variable {fy fm fd gy gm gd : Int32} {st : Nat → Int64} {fl lo hi op : Nat → Int32} {p : Int32}
/-- how far the first such weekday is from the first day F -/
def cc_a0 (F w : Nat) : Nat := (w + 7 - (F + 6) % 7) % 7
theorem cc_a0_lt (F w : Nat) : cc_a0 F w < 7 := Nat.mod_lt _ (by decide)
theorem cc_a0_iff {F w k : Nat} (hw : w < 7) : (F + k + 6) % 7 = w ↔ k % 7 = cc_a0 F w := by
  unfold cc_a0
  omega
theorem cc_sa {a b c : Nat} (h : b ≤ a + c) : nI a - nI b + nI c = nI (a + c - b) := by
  rw [← pk_sub h, ← nI_add]
  grind
theorem ys_nth119 {post : Int32 → Prop} {J : Int32 → Int32 → Prop} {y w n m F s k : Nat} (hw : w < 7) (hF : F < 1000000) (hk : k < 1000000) (hs : s < 1000) (hn : n < 1000) (h1 : k % 7 = cc_a0 F w → s = n → post (nI (F + k))) (h2 : ¬ (k % 7 = cc_a0 F w ∧ s = n) → J (nI s) (nI (k + 1))) :
    wY_nth_119 post J (nI y) (nI w) (nI n) (nI m) (nI F) (nI s) (nI k) gy gm gd op fl := by
  have e1 : nI F + nI k + 6 = nI (F + k + 6) := by rw [nI_add]; exact nI_add _ 6
  have e2 : nI (F + k + 6) - nI (F + k + 6) / 7 * 7 = nI ((F + k + 6) % 7) := pk_rem (d := 7) (by omega) (by decide) (by decide)
  have q := cc_a0_iff (F := F) (k := k) hw
  unfold wY_nth_119
  rw [e1, e2, nI_add]
  refine ⟨by decide, pk_eq ((F + k + 6) % 7) w (fun g => pk_eq s n (fun g' => h1 (q.mp g) g') (fun g' => nm_r (e' := nI (k + 1)) (nI_1 k) (h2 (fun z => g' z.2)))) (fun g => nm_r (e' := nI (k + 1)) (nI_1 k) (h2 (fun z => g (q.mpr z.1))))⟩
theorem ys_nth89 {post : Int32 → Prop} {y w n m F : Nat} (hy : y < 2 ^ 31) (hw : w < 7) (hF : F < 900000) (hn : 1 ≤ n) (hn5 : n ≤ 5) (hm : m < 2 ^ 31) (h0 : cc_len y m ≤ cc_a0 F w + 7 * (n - 1) → post (-4)) (h1 : cc_a0 F w + 7 * (n - 1) < cc_len y m → post (nI (F + (cc_a0 F w + 7 * (n - 1))))) :
    ∀ j k : Nat, k + j = cc_a0 F w + 7 * (n - 1) → ∀ f, j < f → wY_nth_89 post (nI y) (nI w) (nI n) (nI m) (nI F) gy gm gd op fl f (nI ((k + 6 - cc_a0 F w) / 7)) (nI k) := by
  have ha := cc_a0_lt F w
  have hl := cc_len_in y m
  intro j
  induction j with
  | zero =>
    intro k hk f hf
    obtain ⟨f, rfl⟩ : ∃ i, f = i + 1 := ⟨f - 1, by omega⟩
    have e1 : nI F + nI k + 6 = nI (F + k + 6) := by rw [nI_add]; exact nI_add _ 6
    have e2 : nI (F + k + 6) - nI (F + k + 6) / 7 * 7 = nI ((F + k + 6) % 7) := pk_rem (d := 7) (by omega) (by decide) (by decide)
    have q := cc_a0_iff (F := F) (k := k) hw
    rw [wY_nth_89]
    refine ys_len hy hm (pk_le (cc_len y m) k (fun g => h0 (by omega)) (fun g => ⟨by decide, ?_⟩))
    rw [e1, e2]
    refine pk_eq ((F + k + 6) % 7) w (fun g' => nm_r (e' := nI ((k + 6 - cc_a0 F w) / 7 + 1)) (nI_1 _) (ys_nth119 hw (by omega) (by omega) (by omega) (by omega) (fun _ _ => ?_) (fun z => ?_))) (fun g' => absurd (q.mpr (by omega)) g')
    · have := h1 (by omega)
      rw [← hk] at this
      exact this
    · exact absurd ⟨by omega, by omega⟩ z
  | succ j ih =>
    intro k hk f hf
    obtain ⟨f, rfl⟩ : ∃ i, f = i + 1 := ⟨f - 1, by omega⟩
    have e1 : nI F + nI k + 6 = nI (F + k + 6) := by rw [nI_add]; exact nI_add _ 6
    have e2 : nI (F + k + 6) - nI (F + k + 6) / 7 * 7 = nI ((F + k + 6) % 7) := pk_rem (d := 7) (by omega) (by decide) (by decide)
    have q := cc_a0_iff (F := F) (k := k) hw
    have K := ih (k + 1) (by omega) f (by omega)
    rw [wY_nth_89]
    refine ys_len hy hm (pk_le (cc_len y m) k (fun g => h0 (by omega)) (fun g => ⟨by decide, ?_⟩))
    rw [e1, e2]
    refine pk_eq ((F + k + 6) % 7) w (fun g' => nm_r (e' := nI ((k + 6 - cc_a0 F w) / 7 + 1)) (nI_1 _) (ys_nth119 hw (by omega) (by omega) (by omega) (by omega) (fun z1 z2 => ?_) (fun z => ?_))) (fun g' => ys_nth119 hw (by omega) (by omega) (by omega) (by omega) (fun z1 z2 => absurd (q.mpr z1) g') (fun z => ?_))
    · exfalso; omega
    · have q1 := q.mp g'
      rw [show (k + 6 - cc_a0 F w) / 7 + 1 = (k + 1 + 6 - cc_a0 F w) / 7 by omega]
      exact K
    · have q1 : ¬ k % 7 = cc_a0 F w := fun z => g' (q.mpr z)
      rw [show (k + 6 - cc_a0 F w) / 7 = (k + 1 + 6 - cc_a0 F w) / 7 by omega]
      exact K
/-- X's number of days ahead -/
theorem cc_ahI {F w n : Nat} (hF : F < 1000000) (hw : w < 7) (hn : 1 ≤ n) (hn5 : n ≤ 5) : ((((nI w - ((nI F + 6) - (nI F + 6) / 7 * 7)) + 7) - ((nI w - ((nI F + 6) - (nI F + 6) / 7 * 7)) + 7) / 7 * 7) + (7 * (nI n - 1))) = nI (cc_a0 F w + 7 * (n - 1)) := by
  have e1 : nI w - nI ((F + 6) % 7) + 7 = nI (w + 7 - (F + 6) % 7) := cc_sa (c := 7) (by omega)
  have e2 : nI (w + 7 - (F + 6) % 7) - nI (w + 7 - (F + 6) % 7) / 7 * 7 = nI ((w + 7 - (F + 6) % 7) % 7) := pk_rem (d := 7) (by omega) (by decide) (by decide)
  have e3 : nI n - 1 = nI (n - 1) := pk_sub (b := 1) hn
  have e4 : 7 * nI (n - 1) = nI (7 * (n - 1)) := pk_mul 7 _
  rw [cc_w7 hF, e1, e2, e3, e4, nI_add]
  rfl
/-- the code of nth: n from 1 to 5, m from 1 to 12 -/
def cc_gc (C : Nat) : Prop := 1 ≤ C / 100 ∧ C / 100 ≤ 5 ∧ 1 ≤ C % 100 ∧ C % 100 ≤ 12
theorem cc_gcI {A B : Prop} {C : Nat} (hC : C < 2 ^ 31) (h0 : ¬ cc_gc C → A) (h1 : cc_gc C → B) : (nI (C / 100) < 1 → A) ∧ (¬ nI (C / 100) < 1 → ((5 < nI (C / 100) → A) ∧ (¬ 5 < nI (C / 100) → ((nI (C % 100) < 1 → A) ∧ (¬ nI (C % 100) < 1 → ((nI (C % 100) ≤ 12 → B) ∧ (¬ nI (C % 100) ≤ 12 → A))))))) :=
  pk_lt (C / 100) 1 (fun g => h0 (fun z => absurd z.1 (by omega))) (fun g1 => pk_lt 5 (C / 100) (fun g => h0 (fun z => absurd z.2.1 (by omega))) (fun g2 => pk_lt (C % 100) 1 (fun g => h0 (fun z => absurd z.2.2.1 (by omega))) (fun g3 => pk_le (C % 100) 12 (fun g4 => h1 ⟨g1, g2, g3, g4⟩) (fun g => h0 (fun z => absurd z.2.2.2 (by omega))))))
/-- a weekday -/
theorem cc_wd (x : Int32) : x < 0 ∨ (¬ x < 0 ∧ ¬ x ≤ 6) ∨ ∃ w : Nat, w < 7 ∧ x = nI w := by
  rcases cc_pick x (n := 7) (by decide) with (h | h) | h
  · exact Or.inl h
  · exact Or.inr (Or.inl ⟨cc_nlt0 (by decide) h, cc_nle (a := 6) (by decide) (by decide) h⟩)
  · exact Or.inr (Or.inr h)
def cc_F (y m : Nat) : Nat := cc_db y + cc_dm y (m - 1) + 1 - 1
def cc_nth (y m n w : Nat) : Int32 := if cc_len y m ≤ cc_a0 (cc_F y m) w + 7 * (n - 1) then -4 else nI (cc_F y m + (cc_a0 (cc_F y m) w + 7 * (n - 1)))
theorem cc_F_lt {y m : Nat} (hy : y < 2400) (hm : m ≤ 12) : cc_F y m < 900000 := by
  have h1 := cc_db_hi (y := y)
  have h2 := cc_dm_hi y (j := m - 1) (by omega)
  unfold cc_F
  omega
theorem xm_nth {post : Int32 → Prop} {y C w : Nat} (hy1 : 2000 ≤ y) (hy2 : y < 2400) (hC : C < 2 ^ 31) (hg : cc_gc C) (hw : w < 7) (h : post (cc_nth y (C % 100) (C / 100) w)) : wpX_nth post (fy, fm, fd, st, fl, lo, hi) (nI y) (nI C) (nI w) := by
  have e1 : nI C / 100 = nI (C / 100) := pk_div (d := 100) hC (by decide) (by decide)
  have e2 : nI C - nI C / 100 * 100 = nI (C % 100) := pk_rem (d := 100) hC (by decide) (by decide)
  obtain ⟨c1, c2, c3, c4⟩ := hg
  have hF := cc_F_lt (m := C % 100) hy2 c4
  have ha := cc_a0_lt (cc_F y (C % 100)) w
  have hl := cc_len_in y (C % 100)
  unfold wpX_nth
  refine xs_yearT hy1 hy2 (br_f cc_not0 ⟨by decide, nm_r e1 ⟨by decide, nm_r e2 (br_f (nI_pos hC) (cc_gcI hC (fun z => absurd ⟨c1, c2, c3, c4⟩ z) (fun _ => br_f (nI_pos (by omega)) (br_t (nI_le (b := 6) (by omega) (by decide)) ?_))))⟩⟩)
  refine xs_dn (d := 1) hy1 (by omega) c3 c4 (by decide) ⟨by decide, by decide, nm_r (cc_ahI (F := cc_F y (C % 100)) (by omega) hw c1 c2) (xs_len (by omega) (by omega) ?_)⟩
  unfold cc_nth at h
  refine pk_le (cc_len y (C % 100)) (cc_a0 (cc_F y (C % 100)) w + 7 * (C / 100 - 1)) (fun g => ?_) (fun g => ?_)
  · rw [if_pos g] at h; exact h
  · rw [if_neg (by omega), ← nI_add] at h; exact h
theorem ym_nth {post : Int32 → Prop} {y C w : Nat} (hy1 : 2000 ≤ y) (hy2 : y < 2400) (hC : C < 2 ^ 31) (hg : cc_gc C) (hw : w < 7) (h : post (cc_nth y (C % 100) (C / 100) w)) : wpY_nth post (gy, gm, gd, op, fl) (nI y) (nI C) (nI w) := by
  have e1 : nI C / 100 = nI (C / 100) := pk_div (d := 100) hC (by decide) (by decide)
  have e2 : nI C - nI C / 100 * 100 = nI (C % 100) := pk_rem (d := 100) hC (by decide) (by decide)
  obtain ⟨c1, c2, c3, c4⟩ := hg
  have hF := cc_F_lt (m := C % 100) hy2 c4
  have ha := cc_a0_lt (cc_F y (C % 100)) w
  have hl := cc_len_in y (C % 100)
  unfold wpY_nth
  refine ys_yrT hy1 hy2 ⟨by decide, nm_r e1 ⟨by decide, nm_r e2 (br_f (nI_pos hC) (cc_gcI hC (fun z => absurd ⟨c1, c2, c3, c4⟩ z) (fun _ => br_f (nI_pos (by omega)) (br_t (nI_le (b := 6) (by omega) (by decide)) ?_))))⟩⟩
  refine ys_join (d := 1) hy1 (by omega) c3 c4 (by decide) ⟨40, ?_⟩
  have q := ys_nth89 (gy := gy) (gm := gm) (gd := gd) (op := op) (fl := fl) (post := post) (y := y) (w := w) (n := C / 100) (m := C % 100) (F := cc_F y (C % 100)) (by omega) hw hF c1 c2 (by omega) (fun g => by unfold cc_nth at h; rw [if_pos g] at h; exact h) (fun g => by unfold cc_nth at h; rw [if_neg (by omega)] at h; exact h) (cc_a0 (cc_F y (C % 100)) w + 7 * (C / 100 - 1)) 0 (by omega) 40 (by omega)
  rw [show (0 + 6 - cc_a0 (cc_F y (C % 100)) w) / 7 = 0 by omega] at q
  exact q
theorem i_vc_nth {k : Nat} {u : SX} {v : SY} (I : i_Rel k u v) (hk : k + 4 ≤ 2048) (v1 : Int32) (v2 : Int32) (v3 : Int32) : wpX_nth (fun r => wpY_nth (fun r' => r' = r ∧ i_Rel (k + 4) u v) v v1 v2 v3) u v1 v2 v3 := by
  obtain ⟨a, b, c, a', b', c', st, fl, lo, hi, op, rfl, rfl, hR⟩ := I
  have dn : ∀ r : Int32, r = r ∧ i_Rel (k + 4) (a, b, c, st, fl, lo, hi) (a', b', c', op, fl) := fun r => ⟨rfl, cc_rel hR _ _ _ _ _ _⟩
  have cy := cc_yr v1
  rw [← or_assoc] at cy
  rcases cy with h1 | ⟨y, hy1, hy2, rfl⟩
  · unfold wpX_nth wpY_nth
    exact xs_yearF h1 (br_t rfl (ys_yr h1 (dn _)))
  · rcases cc_nat v2 with h2 | ⟨C, hC, rfl⟩
    · unfold wpX_nth wpY_nth
      exact xs_yearT hy1 hy2 (br_f cc_not0 ⟨by decide, nm_e ⟨by decide, nm_e (br_t h2 (ys_yrT hy1 hy2 ⟨by decide, nm_e ⟨by decide, nm_e (br_t h2 (dn _))⟩⟩))⟩⟩)
    · have e1 : nI C / 100 = nI (C / 100) := pk_div (d := 100) hC (by decide) (by decide)
      have e2 : nI C - nI C / 100 * 100 = nI (C % 100) := pk_rem (d := 100) hC (by decide) (by decide)
      by_cases hg : cc_gc C
      · rcases cc_wd v3 with h3 | h3 | ⟨w, hw, rfl⟩
        · unfold wpX_nth wpY_nth
          exact xs_yearT hy1 hy2 (br_f cc_not0 ⟨by decide, nm_r e1 ⟨by decide, nm_r e2 (br_f (nI_pos hC) (cc_gcI hC (fun z => absurd hg z) (fun _ => br_t h3 (ys_yrT hy1 hy2 ⟨by decide, nm_r e1 ⟨by decide, nm_r e2 (br_f (nI_pos hC) (cc_gcI hC (fun z => absurd hg z) (fun _ => br_t h3 (dn _))))⟩⟩))))⟩⟩)
        · unfold wpX_nth wpY_nth
          exact xs_yearT hy1 hy2 (br_f cc_not0 ⟨by decide, nm_r e1 ⟨by decide, nm_r e2 (br_f (nI_pos hC) (cc_gcI hC (fun z => absurd hg z) (fun _ => br_f h3.1 (br_f h3.2 (ys_yrT hy1 hy2 ⟨by decide, nm_r e1 ⟨by decide, nm_r e2 (br_f (nI_pos hC) (cc_gcI hC (fun z => absurd hg z) (fun _ => br_f h3.1 (br_f h3.2 (dn _)))))⟩⟩)))))⟩⟩)
        · exact xm_nth hy1 hy2 hC hg hw (ym_nth hy1 hy2 hC hg hw (dn _))
      · unfold wpX_nth wpY_nth
        exact xs_yearT hy1 hy2 (br_f cc_not0 ⟨by decide, nm_r e1 ⟨by decide, nm_r e2 (br_f (nI_pos hC) (cc_gcI hC (fun _ => ys_yrT hy1 hy2 ⟨by decide, nm_r e1 ⟨by decide, nm_r e2 (br_f (nI_pos hC) (cc_gcI hC (fun _ => dn _) (fun z => absurd z hg)))⟩⟩) (fun z => absurd z hg)))⟩⟩)
end NT
end
section
/-! counts; fits, dueOn, dueDays -/
def cc_cnt (p : Nat → Bool) : Nat → Nat
  | 0 => 0
  | n + 1 => cc_cnt p n + (if p n = true then 1 else 0)
theorem cc_cnt_t {p : Nat → Bool} {n : Nat} (h : p n = true) : cc_cnt p (n + 1) = cc_cnt p n + 1 := by
  show cc_cnt p n + (if p n = true then 1 else 0) = _
  rw [if_pos h]
theorem cc_cnt_f {p : Nat → Bool} {n : Nat} (h : p n = false) : cc_cnt p (n + 1) = cc_cnt p n := by
  show cc_cnt p n + (if p n = true then 1 else 0) = _
  rw [if_neg (by rw [h]; decide)]
  rfl
theorem cc_cnt_le (p : Nat → Bool) (n : Nat) : cc_cnt p n ≤ n := by
  induction n with
  | zero => exact Nat.le_refl _
  | succ n ih =>
    cases h : p n with
    | true => rw [cc_cnt_t h]; omega
    | false => rw [cc_cnt_f h]; omega
theorem cc_cnt_blk0 (p q : Nat → Bool) (h : Nat) : ∀ j, j ≤ 60 → cc_cnt (fun t => p (t / 60) && q (t % 60)) (60 * h + j) = cc_cnt (fun t => p (t / 60) && q (t % 60)) (60 * h) + (if p h = true then cc_cnt q j else 0) := by
  intro j
  induction j with
  | zero => intro _; show _ = _ + (if p h = true then 0 else 0); split <;> rfl
  | succ j ih =>
    intro hj
    have i := ih (by omega)
    have e1 : (60 * h + j) / 60 = h := by omega
    have e2 : (60 * h + j) % 60 = j := by omega
    rw [← Nat.add_assoc]
    cases hp : p h with
    | false =>
      rw [hp] at i
      rw [cc_cnt_f (p := fun t => p (t / 60) && q (t % 60)) (by show (p ((60 * h + j) / 60) && q ((60 * h + j) % 60)) = false; rw [e1, hp]; rfl), i]
      rfl
    | true =>
      rw [hp, if_pos rfl] at i
      rw [if_pos rfl]
      cases hq : q j with
      | false =>
        rw [cc_cnt_f (p := fun t => p (t / 60) && q (t % 60)) (by show (p ((60 * h + j) / 60) && q ((60 * h + j) % 60)) = false; rw [e1, e2, hp, hq]; rfl), i, cc_cnt_f hq]
      | true =>
        rw [cc_cnt_t (p := fun t => p (t / 60) && q (t % 60)) (by show (p ((60 * h + j) / 60) && q ((60 * h + j) % 60)) = true; rw [e1, e2, hp, hq]; rfl), i, cc_cnt_t hq]
        omega
theorem cc_cnt_blk (p q : Nat → Bool) : ∀ h, cc_cnt (fun t => p (t / 60) && q (t % 60)) (60 * h) = cc_cnt q 60 * cc_cnt p h := by
  intro h
  induction h with
  | zero => rfl
  | succ h ih =>
    have e := cc_cnt_blk0 p q h 60 (by omega)
    rw [Nat.mul_succ, e, ih]
    cases hp : p h with
    | true => rw [cc_cnt_t hp, if_pos rfl, Nat.mul_succ]
    | false => rw [cc_cnt_f hp]; rfl
section DU
variable {fy fm fd gy gm gd : Int32} {st : Nat → Int64} {fl lo hi op : Nat → Int32} {p : Int32}
noncomputable def cc_DF (fl : Nat → Int32) (st : Nat → Int64) (r n : Nat) : Bool := cc_df fl st r (cc_m n) (cc_d n) ((n + 6) % 7)
theorem cc_d_in (n : Nat) : 1 ≤ cc_m n ∧ cc_m n ≤ 12 ∧ 1 ≤ cc_d n ∧ cc_d n ≤ 31 := by
  have h := cc_isD n
  have hl := cc_len_in (cc_y n) (cc_m n)
  obtain ⟨h1, h2, h3, h4, h5, h6⟩ := h
  exact ⟨h2, h3, h4, by omega⟩
theorem xs_due {post : Int32 → SX → Prop} {r n : Nat} (hr : r < 4) (hR : cc_R st lo hi op) (hn : n < 1000000) (h : post (cc_b (cc_DF fl st r n)) (nI (cc_y n), nI (cc_m n), nI (cc_d n), st, fl, lo, hi)) : wpX_isDue post (fy, fm, fd, st, fl, lo, hi) (nI r) (nI n) := by
  obtain ⟨i1, i2, i3, i4⟩ := cc_d_in n
  unfold wpX_isDue
  refine xs_split hn (xs_al (f := 3) hr (by decide) hR i1 i2 (cc_br (fun e => ?_) (fun e => xs_dayFits hr hR i3 i4 hn (cc_br (fun e' => ?_) (fun e' => ?_)))))
  · rw [show cc_DF fl st r n = false by unfold cc_DF cc_df; rw [e]; rfl] at h
    exact h
  · rw [show cc_DF fl st r n = false by unfold cc_DF cc_df; rw [e, e']; rfl] at h
    exact h
  · rw [show cc_DF fl st r n = true by unfold cc_DF cc_df; rw [e, e']; rfl] at h
    exact h
/-- the day of Y's state fits -/
theorem ys_due {post : Int32 → Prop} {r n : Nat} (hr : r < 4) (hR : cc_R st lo hi op) (h : post (cc_b (cc_DF fl st r n))) : wpY_dayFits post (gy, gm, gd, op, fl) (nI r) (nI (cc_m n)) (nI (cc_d n)) (nI ((n + 6) % 7)) := by
  obtain ⟨i1, i2, i3, i4⟩ := cc_d_in n
  exact ys_dayFits (st := st) hr hR i2 i4 (by omega) h
theorem xs_vals_lp {post : Int32 → Prop} {r f : Nat} (hr : r < 4) (hf : f < 5) (hl0 : cc_lo f = 0) (hR : cc_R st lo hi op) (h : post (nI (cc_cnt (cc_al fl st r f) (cc_hi f + 1)))) : ∀ k i : Nat, i + k = cc_hi f + 1 → ∀ n, k < n → wX_valuesOf_10 post (nI r) (nI f) fy fm fd st fl lo hi n (nI (cc_cnt (cc_al fl st r f) i)) (nI i) := by
  have hv := vp_in_nI (n := f) (N := 5) hf (by decide)
  have hh := cc_hi_in f
  have ec : hi (nI f).toNatClampNeg = nI (cc_hi f) := by rw [nI_clamp (by omega)]; exact (hR.1 f hf).2
  intro k
  induction k with
  | zero =>
    intro i hi' n hn
    obtain ⟨n, rfl⟩ : ∃ j, n = j + 1 := ⟨n - 1, by omega⟩
    obtain rfl : i = cc_hi f + 1 := by omega
    exact ⟨hv, pk_lt (cc_hi f) (cc_hi f + 1) (fun _ => h) (fun g => absurd g (by omega)) ec⟩
  | succ k ih =>
    intro i hi' n hn
    obtain ⟨n, rfl⟩ : ∃ j, n = j + 1 := ⟨n - 1, by omega⟩
    refine ⟨hv, pk_lt (cc_hi f) i (fun g => absurd g (by omega)) (fun _ => xs_al hr hf hR (by omega) (by omega) (cc_br (fun e => ?_) (fun e => ?_))) ec⟩
    · refine nm_r (e' := nI (cc_cnt (cc_al fl st r f) (i + 1))) ?_ (nm_r (e' := nI (i + 1)) (nI_1 i) (ih (i + 1) (by omega) n (by omega)))
      rw [cc_cnt_f e]
      exact nI_add _ 0
    · refine nm_r (e' := nI (cc_cnt (cc_al fl st r f) (i + 1))) ?_ (nm_r (e' := nI (i + 1)) (nI_1 i) (ih (i + 1) (by omega) n (by omega)))
      rw [cc_cnt_t e, nI_1]
theorem xs_vals {post : Int32 → Prop} {r f : Nat} (hr : r < 4) (hf : f < 5) (hl0 : cc_lo f = 0) (hR : cc_R st lo hi op) (h : post (nI (cc_cnt (cc_al fl st r f) (cc_hi f + 1)))) : wpX_valuesOf post (fy, fm, fd, st, fl, lo, hi) (nI r) (nI f) := by
  have hh := cc_hi_in f
  unfold wpX_valuesOf
  refine ⟨vp_in_nI hf (by decide), nm_r (e' := nI 0) ?_ ⟨cc_hi f + 2, ?_⟩⟩
  · rw [nI_clamp (by omega), (hR.1 f hf).1, hl0]
  · exact xs_vals_lp hr hf hl0 hR h (cc_hi f + 1) 0 (by omega) (cc_hi f + 2) (by omega)
theorem ys_on56 {post : Int32 → SY → Prop} {r : Nat} (hr : r < 4) (hR : cc_R st lo hi op) (h : post (nI (cc_cnt (cc_tf fl st r) 1440)) (gy, gm, gd, op, fl)) : ∀ k i : Nat, i + k = 1440 → ∀ n, k < n → wY_dueOn_56 post (nI r) gy gm gd op fl n (nI (cc_cnt (cc_tf fl st r) i)) (nI i) := by
  intro k
  induction k with
  | zero =>
    intro i hi' n hn
    obtain ⟨n, rfl⟩ : ∃ j, n = j + 1 := ⟨n - 1, by omega⟩
    obtain rfl : i = 1440 := by omega
    exact pk_le 1440 1440 (fun _ => h) (fun g => absurd g (by omega))
  | succ k ih =>
    intro i hi' n hn
    obtain ⟨n, rfl⟩ : ∃ j, n = j + 1 := ⟨n - 1, by omega⟩
    refine pk_le 1440 i (fun g => absurd g (by omega)) (fun _ => ys_timeFits (st := st) hr hR (by omega) (cc_br (fun e => ?_) (fun e => ?_)))
    · have K := ih (i + 1) (by omega) n (by omega)
      rw [cc_cnt_f e] at K
      exact nm_r (e' := nI (i + 1)) (nI_1 i) K
    · have K := ih (i + 1) (by omega) n (by omega)
      rw [cc_cnt_t e] at K
      exact nm_r (e' := nI (cc_cnt (cc_tf fl st r) i + 1)) (nI_1 _) (nm_r (e' := nI (i + 1)) (nI_1 i) K)
theorem cc_tf_cnt (r : Nat) : cc_cnt (cc_tf fl st r) 1440 = cc_cnt (cc_al fl st r 0) 60 * cc_cnt (cc_al fl st r 1) 24 := cc_cnt_blk (cc_al fl st r 1) (cc_al fl st r 0) 24
theorem i_vc_dueOn {k : Nat} {u : SX} {v : SY} (I : i_Rel k u v) (hk : k + 4 ≤ 2048) (v1 : Int32) (v2 : Int32) : wpX_dueOn (fun r u' => wpY_dueOn (fun r' v' => r' = r ∧ i_Rel (k + 4) u' v') v v1 v2) u v1 v2 := by
  obtain ⟨a, b, c, a', b', c', st, fl, lo, hi, op, rfl, rfl, hR⟩ := I
  unfold wpX_dueOn wpY_dueOn
  rcases cc_pick v1 (n := 4) (by decide) with h1 | ⟨r, hr, rfl⟩
  · exact xs_ruleF h1 (br_t rfl (ys_ruleF h1 (br_f cc_not0 ⟨rfl, cc_rel hR _ _ _ _ _ _⟩)))
  · rcases cc_pick v2 (n := 146097) (by decide) with h2 | ⟨n, hn, rfl⟩
    · exact xs_ruleT hr (br_f cc_not0 (xs_dayF h2 (br_t rfl (ys_ruleT hr (br_t rfl (ys_dayF h2 (br_f cc_not0 ⟨rfl, cc_rel hR _ _ _ _ _ _⟩)))))))
    · refine xs_ruleT hr (br_f cc_not0 (xs_dayT hn (br_f cc_not0 (xs_due hr hR (by omega) (cc_br (fun e => ?_) (fun e => ?_))))))
      · refine ys_ruleT hr (br_t rfl (ys_dayT hn (br_t rfl (ys_split hn ⟨by decide, ?_⟩))))
        rw [cc_w7 (by omega)]
        exact ys_due (st := st) hr hR (cc_br (fun _ => ⟨rfl, cc_rel hR _ _ _ _ _ _⟩) (fun e' => absurd (e.symm.trans e') (by decide)))
      · refine xs_vals (f := 0) hr (by decide) rfl hR (xs_vals (f := 1) hr (by decide) rfl hR ?_)
        refine ys_ruleT hr (br_t rfl (ys_dayT hn (br_t rfl (ys_split hn ⟨by decide, ?_⟩))))
        rw [cc_w7 (by omega)]
        refine ys_due (st := st) hr hR (cc_br (fun e' => absurd (e.symm.trans e') (by decide)) (fun _ => ⟨1441, ?_⟩))
        refine ys_on56 (st := st) hr hR ⟨?_, cc_rel hR _ _ _ _ _ _⟩ 1440 0 (by omega) 1441 (by omega)
        rw [cc_tf_cnt, ← pk_mul]
        rfl
/-! dueDays -/
theorem xs_days51 {post : Int32 → SX → Prop} {r a c : Nat} (hr : r < 4) (hR : cc_R st lo hi op) (hac : a + c ≤ 146097) (h : ∀ x y z, post (nI (cc_cnt (fun j => cc_DF fl st r (a + j)) c)) (x, y, z, st, fl, lo, hi)) :
    ∀ k i : Nat, i + k = c → ∀ n, k < n → ∀ x y z, wX_dueDays_51 post (nI r) (nI a) (nI c) n (nI (cc_cnt (fun j => cc_DF fl st r (a + j)) i)) (nI (a + i)) x y z st fl lo hi := by
  intro k
  induction k with
  | zero =>
    intro i hi' n hn x y z
    obtain ⟨n, rfl⟩ : ∃ j, n = j + 1 := ⟨n - 1, by omega⟩
    obtain rfl : i = c := by omega
    exact pk_le (a + i) (a + i) (fun _ => h x y z) (fun g => absurd g (by omega)) (nI_add a i)
  | succ k ih =>
    intro i hi' n hn x y z
    obtain ⟨n, rfl⟩ : ∃ j, n = j + 1 := ⟨n - 1, by omega⟩
    refine pk_le (a + c) (a + i) (fun g => absurd g (by omega)) (fun _ => xs_due hr hR (by omega) (cc_br (fun e => ?_) (fun e => ?_))) (nI_add a c)
    · have K := ih (i + 1) (by omega) n (by omega) (nI (cc_y (a + i))) (nI (cc_m (a + i))) (nI (cc_d (a + i)))
      rw [cc_cnt_f (p := fun j => cc_DF fl st r (a + j)) e] at K
      exact nm_r (e' := nI (cc_cnt (fun j => cc_DF fl st r (a + j)) i)) (nI_add _ 0) (nm_r (e' := nI (a + (i + 1))) (nI_1 _) K)
    · have K := ih (i + 1) (by omega) n (by omega) (nI (cc_y (a + i))) (nI (cc_m (a + i))) (nI (cc_d (a + i)))
      rw [cc_cnt_t (p := fun j => cc_DF fl st r (a + j)) e] at K
      exact nm_r (e' := nI (cc_cnt (fun j => cc_DF fl st r (a + j)) i + 1)) (nI_1 _) (nm_r (e' := nI (a + (i + 1))) (nI_1 _) K)
theorem ys_days70 {post : Int32 → SY → Prop} {r a c : Nat} (hr : r < 4) (hR : cc_R st lo hi op) (hac : a + c ≤ 146097) (h : ∀ x y z, post (nI (cc_cnt (fun j => cc_DF fl st r (a + j)) c)) (x, y, z, op, fl)) :
    ∀ k i : Nat, i + k = c → ∀ n, k < n → wY_dueDays_70 post (nI r) (nI a) (nI c) n (nI (cc_cnt (fun j => cc_DF fl st r (a + j)) i)) (nI i) (nI (cc_y (a + i))) (nI (cc_m (a + i))) (nI (cc_d (a + i))) op fl := by
  intro k
  induction k with
  | zero =>
    intro i hi' n hn
    obtain ⟨n, rfl⟩ : ∃ j, n = j + 1 := ⟨n - 1, by omega⟩
    obtain rfl : i = c := by omega
    exact pk_le i i (fun _ => h _ _ _) (fun g => absurd g (by omega))
  | succ k ih =>
    intro i hi' n hn
    obtain ⟨n, rfl⟩ : ∃ j, n = j + 1 := ⟨n - 1, by omega⟩
    have K := ih (i + 1) (by omega) n (by omega)
    refine pk_le c i (fun g => absurd g (by omega)) (fun _ => ⟨by decide, ?_⟩)
    rw [nI_add a i, cc_w7 (by omega)]
    refine ys_due (st := st) hr hR (cc_br (fun e => ?_) (fun e => ?_))
    · rw [cc_cnt_f (p := fun j => cc_DF fl st r (a + j)) e] at K
      unfold wY_dueDays_105
      exact ys_move_up (n := a + i) (by omega) (cc_isD _) (nm_r (e' := nI (i + 1)) (nI_1 i) K)
    · rw [cc_cnt_t (p := fun j => cc_DF fl st r (a + j)) e] at K
      refine nm_r (e' := nI (cc_cnt (fun j => cc_DF fl st r (a + j)) i + 1)) (nI_1 _) ?_
      unfold wY_dueDays_105
      exact ys_move_up (n := a + i) (by omega) (cc_isD _) (nm_r (e' := nI (i + 1)) (nI_1 i) K)
/-- all days are there -/
theorem ys_days27 {post : Int32 → SY → Prop} {r a c : Nat} (hr : r < 4) (hR : cc_R st lo hi op) (hc : 1 ≤ c) (hac : a + c ≤ 146097) (h : ∀ x y z, post (nI (cc_cnt (fun j => cc_DF fl st r (a + j)) c)) (x, y, z, op, fl)) :
    ∀ k i : Nat, i + k = c → ∀ n, k < n → wY_dueDays_27 post (nI r) (nI a) (nI c) gy gm gd op fl n (nI i) := by
  intro k
  induction k with
  | zero =>
    intro i hi' n hn
    obtain ⟨n, rfl⟩ : ∃ j, n = j + 1 := ⟨n - 1, by omega⟩
    refine pk_le c i (fun _ => pk_eq c 0 (fun g => absurd g (by omega)) (fun _ => ys_split (by omega) ⟨c + 1, ?_⟩)) (fun g => absurd g (by omega))
    exact ys_days70 (st := st) hr hR hac h c 0 (by omega) (c + 1) (by omega)
  | succ k ih =>
    intro i hi' n hn
    obtain ⟨n, rfl⟩ : ∃ j, n = j + 1 := ⟨n - 1, by omega⟩
    refine pk_le c i (fun g => absurd g (by omega)) (fun _ => ?_)
    rw [nI_add]
    exact ys_dayT (by omega) (br_t rfl (nm_r (e' := nI (i + 1)) (nI_1 i) (ih (i + 1) (by omega) n (by omega))))
/-- one day isn't there -/
theorem ys_days27b {post : Int32 → SY → Prop} {r a c : Nat} (ha : a ≤ 146097) (hc : c ≤ 1000) (hac : 146097 < a + c) (h : post (-2) (gy, gm, gd, op, fl)) :
    ∀ k i : Nat, a + i + k = 146097 → ∀ n, k < n → wY_dueDays_27 post (nI r) (nI a) (nI c) gy gm gd op fl n (nI i) := by
  intro k
  induction k with
  | zero =>
    intro i hi' n hn
    obtain ⟨n, rfl⟩ : ∃ j, n = j + 1 := ⟨n - 1, by omega⟩
    refine pk_le c i (fun g => absurd g (by omega)) (fun _ => ?_)
    rw [nI_add]
    exact ys_dayF (Or.inr (nI_le (by omega) (by omega))) (br_f cc_not0 h)
  | succ k ih =>
    intro i hi' n hn
    obtain ⟨n, rfl⟩ : ∃ j, n = j + 1 := ⟨n - 1, by omega⟩
    refine pk_le c i (fun g => absurd g (by omega)) (fun _ => ?_)
    rw [nI_add]
    exact ys_dayT (by omega) (br_t rfl (nm_r (e' := nI (i + 1)) (nI_1 i) (ih (i + 1) (by omega) n (by omega))))
theorem i_vc_dueDays {k : Nat} {u : SX} {v : SY} (I : i_Rel k u v) (hk : k + 4 ≤ 2048) (v1 : Int32) (v2 : Int32) (v3 : Int32) : wpX_dueDays (fun r u' => wpY_dueDays (fun r' v' => r' = r ∧ i_Rel (k + 4) u' v') v v1 v2 v3) u v1 v2 v3 := by
  obtain ⟨a, b, c, a', b', c', st, fl, lo, hi, op, rfl, rfl, hR⟩ := I
  unfold wpX_dueDays wpY_dueDays
  rcases cc_pick v1 (n := 4) (by decide) with h1 | ⟨r, hr, rfl⟩
  · exact xs_ruleF h1 (br_t rfl (ys_ruleF h1 (br_f cc_not0 ⟨rfl, cc_rel hR _ _ _ _ _ _⟩)))
  · refine xs_ruleT hr (br_f cc_not0 ?_)
    rcases cc_pick v3 (n := 1001) (by decide) with (h3 | h3) | ⟨C, hC, rfl⟩
    · exact br_t h3 (ys_ruleT hr (br_t rfl (br_t h3 ⟨rfl, cc_rel hR _ _ _ _ _ _⟩)))
    · have g0 : ¬ v3 < 0 := cc_nlt0 (by decide) h3
      have g1 : ¬ v3 ≤ 1000 := cc_nle (a := 1000) (by decide) (by decide) h3
      exact br_f g0 (br_f g1 (ys_ruleT hr (br_t rfl (br_f g0 (br_f g1 ⟨rfl, cc_rel hR _ _ _ _ _ _⟩)))))
    · have g0 : ¬ nI C < 0 := nI_pos (by omega)
      have g1 : nI C ≤ 1000 := nI_le (b := 1000) (by omega) (by decide)
      refine br_f g0 (br_t g1 ?_)
      by_cases hC0 : C = 0
      · subst hC0
        refine br_t (by decide) ⟨1, br_t (by show v2 + 0 ≤ v2; rw [Int32.add_zero]; exact Int32.le_refl _) ?_⟩
        exact ys_ruleT hr (br_t rfl (br_f g0 (br_t g1 ⟨1, br_t (by decide) (br_t rfl ⟨rfl, cc_rel hR _ _ _ _ _ _⟩)⟩)))
      · refine br_f (nI_nle (by omega) (by omega)) ?_
        rcases cc_pick v2 (n := 146097) (by decide) with h2 | ⟨n, hn, rfl⟩
        · refine xs_dayF h2 (br_t rfl (ys_ruleT hr (br_t rfl (br_f g0 (br_t g1 ⟨1, br_f (nI_nle (by omega) (by omega)) ?_⟩)))))
          rw [Int32.add_zero]
          exact ys_dayF h2 (br_f cc_not0 ⟨rfl, cc_rel hR _ _ _ _ _ _⟩)
        · refine xs_dayT hn (br_f cc_not0 (pk_le (n + C) 146097 (fun g => ⟨C + 1, ?_⟩) (fun g => ?_) (nI_add n C)))
          · refine xs_days51 hr hR g (fun x y z => ?_) C 0 (by omega) (C + 1) (by omega) a b c
            exact ys_ruleT hr (br_t rfl (br_f g0 (br_t g1 ⟨C + 1, ys_days27 (st := st) hr hR (by omega) g (fun _ _ _ => ⟨rfl, cc_rel hR _ _ _ _ _ _⟩) C 0 (by omega) (C + 1) (by omega)⟩)))
          · exact ys_ruleT hr (br_t rfl (br_f g0 (br_t g1 ⟨146098 - n, ys_days27b (by omega) (by omega) g ⟨rfl, cc_rel hR _ _ _ _ _ _⟩ (146097 - n) 0 (by omega) (146098 - n) (by omega)⟩)))
/-! fits -/
theorem cc_dI64 {t : Nat} (ht : t < 2 ^ 62) : (lN t / 1440).toInt32 = nI (t / 1440) ∧ (lN t - lN t / 1440 * 1440).toInt32 = nI (t % 1440) := by
  have e1 : lN t / 1440 = lN (t / 1440) := pk_lDiv (b := 1440) (by omega) (by decide) (by decide)
  have e2 : lN t - lN t / 1440 * 1440 = lN (t % 1440) := pk_lRem (b := 1440) (by omega) (by decide) (by decide)
  rw [e2, e1, lN_i, lN_i]
  exact ⟨rfl, rfl⟩
noncomputable def cc_fit (fl : Nat → Int32) (st : Nat → Int64) (r t : Nat) : Bool := cc_DF fl st r (t / 1440) && cc_tf fl st r (t % 1440)
theorem xs_fits81 {post : Int32 → SX → Prop} {r n : Nat} {z : Bool} (hr : r < 4) (hR : cc_R st lo hi op) (hn : n < 1000000) (h : post (cc_b (z && cc_DF fl st r n)) (fy, nI (cc_m n), nI (cc_d n), st, fl, lo, hi)) : wX_fits_81 post (nI r) (nI n) (cc_b z) fy (nI (cc_m n)) (nI (cc_d n)) st fl lo hi := by
  obtain ⟨i1, i2, i3, i4⟩ := cc_d_in n
  unfold wX_fits_81
  refine cc_br (fun e => ?_) (fun e => xs_al (f := 3) hr (by decide) hR i1 i2 (cc_br (fun e1 => ?_) (fun e1 => xs_dayFits hr hR i3 i4 hn (cc_br (fun e2 => ?_) (fun e2 => ?_)))))
  · rw [e] at h; exact h
  · rw [show cc_DF fl st r n = false by unfold cc_DF cc_df; rw [e1]; rfl, e] at h
    exact h
  · rw [show cc_DF fl st r n = false by unfold cc_DF cc_df; rw [e1, e2]; rfl, e] at h
    exact h
  · rw [show cc_DF fl st r n = true by unfold cc_DF cc_df; rw [e1, e2]; rfl, e] at h
    exact h
theorem xm_fits {post : Int32 → SX → Prop} {r t : Nat} (hr : r < 4) (hR : cc_R st lo hi op) (ht : t < 210379680) (h : post (cc_b (cc_fit fl st r t)) (nI (cc_y (t / 1440)), nI (cc_m (t / 1440)), nI (cc_d (t / 1440)), st, fl, lo, hi)) : wpX_fits post (fy, fm, fd, st, fl, lo, hi) (nI r) (lN t) := by
  have g0 : ¬ lN t < 0 := fun z => absurd ((pk_lLT (b := 0) (by omega) (by decide)).mp z) (by omega)
  have g1 : lN t < 210379680 := (pk_lLT (b := 210379680) (by omega) (by decide)).mpr ht
  obtain ⟨e1, e2⟩ := cc_dI64 (t := t) (by omega)
  have e3 : nI (t % 1440) / 60 = nI (t % 1440 / 60) := pk_div (d := 60) (by omega) (by decide) (by decide)
  have e4 : nI (t % 1440) - nI (t % 1440) / 60 * 60 = nI (t % 1440 % 60) := pk_rem (d := 60) (by omega) (by decide) (by decide)
  unfold cc_fit cc_tf at h
  unfold wpX_fits
  refine xs_ruleT hr (br_f cc_not0 (br_f g0 (br_t g1 ⟨by decide, nm_r e1 ⟨by decide, nm_r e2 (xs_split (by omega) ⟨by decide, ?_⟩)⟩⟩)))
  rw [e4, e3]
  refine xs_al (f := 1) hr (by decide) hR (Nat.zero_le _) (show t % 1440 / 60 ≤ 23 by omega) (cc_br (fun e => ?_) (fun e => ⟨by decide, xs_al (f := 0) hr (by decide) hR (Nat.zero_le _) (show t % 1440 % 60 ≤ 59 by omega) (cc_br (fun e' => ?_) (fun e' => ?_))⟩))
  · unfold wX_fits_80
    rw [e, Bool.false_and, Bool.and_false] at h
    exact xs_fits81 (z := false) hr hR (by omega) h
  · unfold wX_fits_80
    rw [e, e', Bool.and_false, Bool.and_false] at h
    exact xs_fits81 (z := false) hr hR (by omega) h
  · rw [e, e', Bool.and_self, Bool.and_true] at h
    exact xs_fits81 (z := true) hr hR (by omega) (by rw [Bool.true_and]; exact h)
theorem ym_fits {post : Int32 → SY → Prop} {r t : Nat} (hr : r < 4) (hR : cc_R st lo hi op) (ht : t < 210379680) (h : post (cc_b (cc_fit fl st r t)) (nI (cc_y (t / 1440)), nI (cc_m (t / 1440)), nI (cc_d (t / 1440)), op, fl)) : wpY_fits post (gy, gm, gd, op, fl) (nI r) (lN t) := by
  have g0 : ¬ lN t < 0 := fun z => absurd ((pk_lLT (b := 0) (by omega) (by decide)).mp z) (by omega)
  have g1 : lN t ≤ 210379679 := (pk_lLE (b := 210379679) (by omega) (by decide)).mpr (by omega)
  obtain ⟨e1, e2⟩ := cc_dI64 (t := t) (by omega)
  unfold cc_fit at h
  unfold wpY_fits
  dsimp only
  rw [e2]
  refine ys_ruleT hr (br_t rfl (br_f g0 (br_t g1 ⟨by decide, nm_r e1 (ys_split (by omega) ⟨by decide, ?_⟩)⟩)))
  rw [cc_w7 (by omega)]
  refine ys_due (st := st) hr hR (cc_br (fun e => ?_) (fun e => ⟨by decide, ys_timeFits (st := st) hr hR (by omega) (cc_br (fun e' => ?_) (fun e' => ?_))⟩))
  · rw [e] at h; exact h
  · rw [e, e'] at h; exact h
  · rw [e, e'] at h; exact h
theorem i_vc_fits {k : Nat} {u : SX} {v : SY} (I : i_Rel k u v) (hk : k + 4 ≤ 2048) (v1 : Int32) (a1 : Int64) : wpX_fits (fun r u' => wpY_fits (fun r' v' => r' = r ∧ i_Rel (k + 4) u' v') v v1 a1) u v1 a1 := by
  obtain ⟨a, b, c, a', b', c', st, fl, lo, hi, op, rfl, rfl, hR⟩ := I
  rcases cc_pick v1 (n := 4) (by decide) with h1 | ⟨r, hr, rfl⟩
  · unfold wpX_fits wpY_fits
    exact xs_ruleF h1 (br_t rfl (ys_ruleF h1 (br_f cc_not0 ⟨rfl, cc_rel hR _ _ _ _ _ _⟩)))
  · by_cases g0 : a1 < 0
    · unfold wpX_fits wpY_fits
      exact xs_ruleT hr (br_f cc_not0 (br_t g0 (ys_ruleT hr (br_t rfl (br_t g0 ⟨rfl, cc_rel hR _ _ _ _ _ _⟩)))))
    · obtain ⟨t, ht, rfl⟩ := pk_lOf g0
      by_cases g : t < 210379680
      · exact xm_fits hr hR g (ym_fits (st := st) hr hR g ⟨rfl, cc_rel hR _ _ _ _ _ _⟩)
      · have q1 : ¬ lN t < 210379680 := fun z => g ((pk_lLT (b := 210379680) ht (by decide)).mp z)
        have q2 : ¬ lN t ≤ 210379679 := fun z => absurd ((pk_lLE (b := 210379679) ht (by decide)).mp z) (by omega)
        unfold wpX_fits wpY_fits
        exact xs_ruleT hr (br_f cc_not0 (br_f g0 (br_f q1 (ys_ruleT hr (br_t rfl (br_f g0 (br_f q2 ⟨rfl, cc_rel hR _ _ _ _ _ _⟩)))))))
end DU
end
section
/-! next: both sides find the least fitting minute -/
def cc_Nx (P : Nat → Bool) (s : Nat) (x : Int64) : Prop := (∃ t, s ≤ t ∧ t < 210379680 ∧ P t = true ∧ (∀ q, s ≤ q → q < t → P q = false) ∧ x = lN t) ∨ ((∀ q, s ≤ q → q < 210379680 → P q = false) ∧ x = -2)
theorem cc_bf {P : Nat → Bool} {a b : Nat} (h1 : P a = true) (h2 : P b = false) (e : a = b) : False := by
  subst e; rw [h1] at h2; exact absurd h2 (by decide)
theorem cc_Nx_u {P : Nat → Bool} {s : Nat} {x y : Int64} (hx : cc_Nx P s x) (hy : cc_Nx P s y) : x = y := by
  rcases hx with ⟨t, a1, a2, a3, a4, rfl⟩ | ⟨a1, rfl⟩ <;> rcases hy with ⟨q, b1, b2, b3, b4, rfl⟩ | ⟨b1, rfl⟩
  · rcases Nat.lt_trichotomy t q with g | g | g
    · exact (cc_bf a3 (b4 t a1 g) rfl).elim
    · rw [g]
    · exact (cc_bf b3 (a4 q b1 g) rfl).elim
  · exact (cc_bf a3 (b1 t a1 a2) rfl).elim
  · exact (cc_bf b3 (a1 q b1 b2) rfl).elim
  · rfl
theorem cc_Nx_step {P : Nat → Bool} {s s' : Nat} {x : Int64} (hs : s ≤ s') (h : ∀ q, s ≤ q → q < s' → P q = false) (hx : cc_Nx P s' x) : cc_Nx P s x := by
  have aux : ∀ q, s ≤ q → (s' ≤ q → P q = false) → P q = false := fun q q1 q2 => by
    by_cases g : q < s'
    · exact h q q1 g
    · exact q2 (by omega)
  rcases hx with ⟨t, a1, a2, a3, a4, rfl⟩ | ⟨a1, rfl⟩
  · exact Or.inl ⟨t, by omega, a2, a3, fun q q1 q2 => aux q q1 (fun q3 => a4 q q3 q2), rfl⟩
  · exact Or.inr ⟨fun q q1 q2 => aux q q1 (fun q3 => a1 q q3 q2), rfl⟩
theorem cc_Nx_hit {P : Nat → Bool} {s : Nat} (hs : s < 210379680) (h : P s = true) : cc_Nx P s (lN s) := Or.inl ⟨s, Nat.le_refl _, hs, h, fun q q1 q2 => absurd q2 (by omega), rfl⟩
theorem cc_Nx_end {P : Nat → Bool} {s : Nat} (hs : 210379680 ≤ s) : cc_Nx P s (-2) := Or.inr ⟨fun q q1 q2 => absurd q2 (by omega), rfl⟩
def cc_TF (p : Nat → Bool) (t : Nat) (z : Int32) : Prop := (∃ q, t ≤ q ∧ q < 1440 ∧ p q = true ∧ (∀ j, t ≤ j → j < q → p j = false) ∧ z = nI q) ∨ ((∀ j, t ≤ j → j < 1440 → p j = false) ∧ z = -1)
theorem cc_TF_step {P : Nat → Bool} {s s' : Nat} {x : Int32} (hs : s ≤ s') (h : ∀ q, s ≤ q → q < s' → P q = false) (hx : cc_TF P s' x) : cc_TF P s x := by
  have aux : ∀ q, s ≤ q → (s' ≤ q → P q = false) → P q = false := fun q q1 q2 => by
    by_cases g : q < s'
    · exact h q q1 g
    · exact q2 (by omega)
  rcases hx with ⟨t, a1, a2, a3, a4, rfl⟩ | ⟨a1, rfl⟩
  · exact Or.inl ⟨t, by omega, a2, a3, fun q q1 q2 => aux q q1 (fun q3 => a4 q q3 q2), rfl⟩
  · exact Or.inr ⟨fun q q1 q2 => aux q q1 (fun q3 => a1 q q3 q2), rfl⟩
theorem cc_TF_hit {P : Nat → Bool} {s : Nat} (hs : s < 1440) (h : P s = true) : cc_TF P s (nI s) := Or.inl ⟨s, Nat.le_refl _, hs, h, fun q q1 q2 => absurd q2 (by omega), rfl⟩
theorem cc_minI {n t : Nat} (hn : n < 1000000) (ht : t < 1440) : 1440 * (nI n).toInt64 + (nI t).toInt64 = lN (1440 * n + t) := by
  rw [nI_l (by omega), nI_l (by omega)]
  have e : 1440 * lN n = lN (1440 * n) := lN_mul 1440 n
  rw [e, lN_add]
section NX
variable {fy fm fd gy gm gd : Int32} {st : Nat → Int64} {fl lo hi op : Nat → Int32} {p : Int32}
theorem cc_fit_day {r n t : Nat} (h : cc_DF fl st r n = false) (h1 : 1440 * n ≤ t) (h2 : t < 1440 * (n + 1)) : cc_fit fl st r t = false := by
  unfold cc_fit
  rw [show t / 1440 = n by omega, h]
  rfl
theorem cc_fit_at {r n t : Nat} (ht : t < 1440) : cc_fit fl st r (1440 * n + t) = (cc_DF fl st r n && cc_tf fl st r t) := by
  unfold cc_fit
  rw [show (1440 * n + t) / 1440 = n by omega, show (1440 * n + t) % 1440 = t by omega]
/-! the reference -/
theorem ys_s103u {post : Int64 → SY → Prop} {J : Int32 → Int32 → Int32 → Int32 → Int32 → (Nat → Int32) → (Nat → Int32) → Prop} {x1 : Int32} {n : Nat} (hn : n < 146097) (h : J (nI (n + 1)) 0 (nI (cc_y (n + 1))) (nI (cc_m (n + 1))) (nI (cc_d (n + 1))) op fl) :
    wY_search_103 post J x1 1 (nI n) (nI (cc_y n)) (nI (cc_m n)) (nI (cc_d n)) op fl := by
  unfold wY_search_103 wY_search_122
  exact nm_r (e' := nI (n + 1)) (nI_1 n) (br_f (by decide) (ys_move_up (n := n) (by omega) (cc_isD n) h))
theorem ys_s58u {post : Int64 → SY → Prop} {J : Int32 → Int32 → Int32 → Int32 → Int32 → (Nat → Int32) → (Nat → Int32) → Prop} {r n : Nat} (hr : r < 4) (hR : cc_R st lo hi op) (hn : n < 146097) (hd : cc_DF fl st r n = true)
    (hJ : (∀ x, cc_Nx (cc_fit fl st r) (1440 * (n + 1)) x → ∀ a b c, post x (a, b, c, op, fl)) → J (nI (n + 1)) 0 (nI (cc_y (n + 1))) (nI (cc_m (n + 1))) (nI (cc_d (n + 1))) op fl) :
    ∀ k t : Nat, t + k = 1440 → ∀ f, k < f → (∀ x, cc_Nx (cc_fit fl st r) (1440 * n + t) x → ∀ a b c, post x (a, b, c, op, fl)) → wY_search_58 post J (nI r) 1 (nI n) (nI (cc_y n)) (nI (cc_m n)) (nI (cc_d n)) op fl f (nI t) := by
  intro k
  induction k with
  | zero =>
    intro t ht f hf hp
    obtain ⟨f, rfl⟩ : ∃ j, f = j + 1 := ⟨f - 1, by omega⟩
    obtain rfl : t = 1440 := by omega
    exact br_f (nI_pos (by omega)) (pk_le 1440 1440 (fun _ => ys_s103u hn (hJ hp)) (fun g => absurd g (by omega)))
  | succ k ih =>
    intro t ht f hf hp
    obtain ⟨f, rfl⟩ : ∃ j, f = j + 1 := ⟨f - 1, by omega⟩
    have q := cc_fit_at (fl := fl) (st := st) (r := r) (n := n) (t := t) (by omega)
    refine br_f (nI_pos (by omega)) (pk_le 1440 t (fun g => absurd g (by omega)) (fun _ => ys_timeFits (st := st) hr hR (by omega) (cc_br (fun e => ?_) (fun e => ?_))))
    · rw [hd, e] at q
      refine nm_r (e' := nI (t + 1)) (nI_1 t) (ih (t + 1) (by omega) f (by omega) (fun x hx => hp x (cc_Nx_step (s' := 1440 * n + (t + 1)) (by omega) (fun j j1 j2 => ?_) hx)))
      rw [show j = 1440 * n + t by omega]
      exact q
    · rw [hd, e] at q
      rw [cc_minI (by omega) (by omega)]
      exact hp _ (cc_Nx_hit (by omega) q) _ _ _
theorem ys_s22u {post : Int64 → SY → Prop} {r : Nat} (hr : r < 4) (hR : cc_R st lo hi op) :
    ∀ k n t : Nat, n + k = 146097 → t < 1440 → ∀ f, k < f → (∀ x, cc_Nx (cc_fit fl st r) (1440 * n + t) x → ∀ a b c, post x (a, b, c, op, fl)) → wY_search_22 post (nI r) 1 f (nI n) (nI t) (nI (cc_y n)) (nI (cc_m n)) (nI (cc_d n)) op fl := by
  intro k
  induction k with
  | zero =>
    intro n t hn ht f hf hp
    obtain ⟨f, rfl⟩ : ∃ j, f = j + 1 := ⟨f - 1, by omega⟩
    exact br_f (nI_pos (by omega)) (pk_lt 146096 n (fun _ => hp _ (cc_Nx_end (by omega)) _ _ _) (fun g => absurd g (by omega)))
  | succ k ih =>
    intro n t hn ht f hf hp
    obtain ⟨f, rfl⟩ : ∃ j, f = j + 1 := ⟨f - 1, by omega⟩
    refine br_f (nI_pos (by omega)) (pk_lt 146096 n (fun g => absurd g (by omega)) (fun _ => ⟨by decide, ?_⟩))
    rw [cc_w7 (by omega)]
    refine ys_due (st := st) hr hR (cc_br (fun e => ?_) (fun e => ⟨1441, ?_⟩))
    · exact ys_s103u (by omega) (ih (n + 1) 0 (by omega) (by omega) f (by omega) (fun x hx => hp x (cc_Nx_step (s' := 1440 * (n + 1) + 0) (by omega) (fun j j1 j2 => cc_fit_day e (by omega) (by omega)) hx)))
    · exact ys_s58u (st := st) hr hR (by omega) e (fun H => ih (n + 1) 0 (by omega) (by omega) f (by omega) H) (1440 - t) t (by omega) 1441 (by omega) hp
theorem ym_search_u {post : Int64 → SY → Prop} {r s : Nat} (hr : r < 4) (hR : cc_R st lo hi op) (hs : s < 210379680) (hp : ∀ x, cc_Nx (cc_fit fl st r) s x → ∀ a b c, post x (a, b, c, op, fl)) : wpY_search post (gy, gm, gd, op, fl) (nI r) (lN s) 1 := by
  obtain ⟨e1, e2⟩ := cc_dI64 (t := s) (by omega)
  unfold wpY_search
  refine ⟨by decide, nm_r e1 ⟨by decide, nm_r e2 (ys_split (by omega) ⟨146098, ?_⟩)⟩⟩
  exact ys_s22u (st := st) hr hR (146097 - s / 1440) (s / 1440) (s % 1440) (by omega) (by omega) 146098 (by omega) (by rw [show 1440 * (s / 1440) + s % 1440 = s by omega]; exact hp)
/-! the component -/
theorem cc_tf_at {r h m : Nat} (hm : m < 60) : cc_tf fl st r (60 * h + m) = (cc_al fl st r 1 h && cc_al fl st r 0 m) := by
  unfold cc_tf
  rw [show (60 * h + m) / 60 = h by omega, show (60 * h + m) % 60 = m by omega]
theorem cc_tf_hr {r h t : Nat} (e : cc_al fl st r 1 h = false) (h1 : 60 * h ≤ t) (h2 : t < 60 * (h + 1)) : cc_tf fl st r t = false := by
  unfold cc_tf
  rw [show t / 60 = h by omega, e]
  rfl
theorem xs_from43 {post : Int32 → Prop} {J : Int32 → Prop} {x2 : Int32} {r h : Nat} (hr : r < 4) (hR : cc_R st lo hi op) (hh : h < 24) (ha : cc_al fl st r 1 h = true)
    (hJ : (∀ z, cc_TF (cc_tf fl st r) (60 * (h + 1)) z → post z) → J (nI (h + 1))) :
    ∀ k m : Nat, m + k = 60 → ∀ f, k < f → (∀ z, cc_TF (cc_tf fl st r) (60 * h + m) z → post z) → wX_timeFrom_43 post J (nI r) x2 (nI h) fy fm fd st fl lo hi f (nI m) := by
  intro k
  induction k with
  | zero =>
    intro m hm f hf hp
    obtain ⟨f, rfl⟩ : ∃ j, f = j + 1 := ⟨f - 1, by omega⟩
    obtain rfl : m = 60 := by omega
    exact pk_le 60 60 (fun _ => nm_r (e' := nI (h + 1)) (nI_1 h) (hJ hp)) (fun g => absurd g (by omega))
  | succ k ih =>
    intro m hm f hf hp
    obtain ⟨f, rfl⟩ : ∃ j, f = j + 1 := ⟨f - 1, by omega⟩
    have q := cc_tf_at (fl := fl) (st := st) (r := r) (h := h) (m := m) (by omega)
    refine pk_le 60 m (fun g => absurd g (by omega)) (fun _ => xs_al (f := 0) hr (by decide) hR (Nat.zero_le _) (show m ≤ 59 by omega) (cc_br (fun e => ?_) (fun e => ?_)))
    · rw [ha, e] at q
      refine nm_r (e' := nI (m + 1)) (nI_1 m) (ih (m + 1) (by omega) f (by omega) (fun z hz => hp z (cc_TF_step (s' := 60 * h + (m + 1)) (by omega) (fun j j1 j2 => ?_) hz)))
      rw [show j = 60 * h + m by omega]
      exact q
    · rw [ha, e] at q
      have e6 : 60 * nI h = nI (60 * h) := pk_mul 60 h
      rw [e6, nI_add]
      exact hp _ (cc_TF_hit (by omega) q)
theorem xs_from5 {post : Int32 → Prop} {r t : Nat} (hr : r < 4) (hR : cc_R st lo hi op) (ht : t < 1440) :
    ∀ k h : Nat, h + k = 24 → t / 60 ≤ h → ∀ f, k < f → (∀ z, cc_TF (cc_tf fl st r) (if h = t / 60 then t else 60 * h) z → post z) → wX_timeFrom_5 post (nI r) (nI t) fy fm fd st fl lo hi f (nI h) := by
  have e1 : nI t / 60 = nI (t / 60) := pk_div (d := 60) (by omega) (by decide) (by decide)
  have e2 : nI t - nI t / 60 * 60 = nI (t % 60) := pk_rem (d := 60) (by omega) (by decide) (by decide)
  intro k
  induction k with
  | zero =>
    intro h hh h2 f hf hp
    obtain ⟨f, rfl⟩ : ∃ j, f = j + 1 := ⟨f - 1, by omega⟩
    obtain rfl : h = 24 := by omega
    rw [if_neg (by omega)] at hp
    exact pk_le 24 24 (fun _ => hp _ (Or.inr ⟨fun j j1 j2 => absurd j2 (by omega), rfl⟩)) (fun g => absurd g (by omega))
  | succ k ih =>
    intro h hh h2 f hf hp
    obtain ⟨f, rfl⟩ : ∃ j, f = j + 1 := ⟨f - 1, by omega⟩
    have K : (∀ z, cc_TF (cc_tf fl st r) (60 * (h + 1)) z → post z) → wX_timeFrom_5 post (nI r) (nI t) fy fm fd st fl lo hi f (nI (h + 1)) := fun H =>
      ih (h + 1) (by omega) (by omega) f (by omega) (by rw [if_neg (by omega)]; exact H)
    refine pk_le 24 h (fun g => absurd g (by omega)) (fun _ => xs_al (f := 1) hr (by decide) hR (Nat.zero_le _) (show h ≤ 23 by omega) (cc_br (fun e => ?_) (fun e => ⟨by decide, ?_⟩)))
    · refine nm_r (e' := nI (h + 1)) (nI_1 h) (K (fun z hz => hp z (cc_TF_step (s' := 60 * (h + 1)) ?_ (fun j j1 j2 => cc_tf_hr e ?_ j2) hz)))
      · split <;> omega
      · split at j1 <;> omega
    · refine pk_eq h (t / 60) (fun g => ⟨by decide, nm_r e2 ⟨61, ?_⟩⟩) (fun g => ⟨61, ?_⟩) rfl e1
      · rw [if_pos g] at hp
        exact xs_from43 hr hR (by omega) e K (60 - t % 60) (t % 60) (by omega) 61 (by omega) (by rw [show 60 * h + t % 60 = t by omega]; exact hp)
      · rw [if_neg g] at hp
        exact xs_from43 hr hR (by omega) e K 60 0 (by omega) 61 (by omega) hp
theorem xs_from {post : Int32 → Prop} {r t : Nat} (hr : r < 4) (hR : cc_R st lo hi op) (ht : t < 1440) (hp : ∀ z, cc_TF (cc_tf fl st r) t z → post z) : wpX_timeFrom post (fy, fm, fd, st, fl, lo, hi) (nI r) (nI t) := by
  unfold wpX_timeFrom
  refine ⟨by decide, nm_r (e' := nI (t / 60)) (pk_div (d := 60) (by omega) (by decide) (by decide)) ⟨25, ?_⟩⟩
  exact xs_from5 hr hR ht (24 - t / 60) (t / 60) (by omega) (Nat.le_refl _) 25 (by omega) (by rw [if_pos rfl]; exact hp)
/-- a month that isn't allowed: none of its days fits -/
theorem cc_DF_month {r n q : Nat} (e : cc_al fl st r 3 (cc_m n) = false) (h1 : n + 1 - cc_d n ≤ q) (h2 : q < n + 1 + cc_len (cc_y n) (cc_m n) - cc_d n) : cc_DF fl st r q = false := by
  have hI := cc_isD n
  have i4 := hI.2.2.2.1
  have i5 := hI.2.2.2.2.1
  have i6 := hI.2.2.2.2.2
  have hJ := cc_is_in hI (d' := q + cc_d n - n) (by omega) (by omega)
  rw [show n + (q + cc_d n - n) - cc_d n = q by omega] at hJ
  obtain ⟨e1, e2, e3⟩ := cc_isE hJ
  unfold cc_DF cc_df
  rw [e2, e]
  rfl
theorem xs_n132 {post : Int64 → SX → Prop} {J : Int32 → Int32 → Int32 → Int32 → Int32 → (Nat → Int64) → (Nat → Int32) → (Nat → Int32) → (Nat → Int32) → Prop} {x1 z : Int32} {r n t : Nat} (hn : n < 146097) (hd : cc_DF fl st r n = true) (ht : t < 1440)
    (hz : cc_TF (cc_tf fl st r) t z) (hp : ∀ x, cc_Nx (cc_fit fl st r) (1440 * n + t) x → post x (fy, fm, fd, st, fl, lo, hi)) (hJ : (∀ q, 1440 * n + t ≤ q → q < 1440 * (n + 1) → cc_fit fl st r q = false) → J (nI (n + 1)) 0 fy fm fd st fl lo hi) :
    wX_next_132 post J x1 (nI n) z fy fm fd st fl lo hi := by
  unfold wX_next_132
  rcases hz with ⟨q, a1, a2, a3, a4, rfl⟩ | ⟨a1, rfl⟩
  · rw [cc_minI (by omega) a2]
    refine br_f (nI_pos (by omega)) (hp _ (Or.inl ⟨1440 * n + q, by omega, by omega, ?_, fun j j1 j2 => ?_, rfl⟩))
    · rw [cc_fit_at a2, hd, a3]; rfl
    · have w := a4 (j - 1440 * n) (by omega) (by omega)
      rw [show j = 1440 * n + (j - 1440 * n) by omega, cc_fit_at (by omega), w, Bool.and_false]
  · refine br_t (by decide) (nm_r (e' := nI (n + 1)) (nI_1 n) (hJ (fun q q1 q2 => ?_)))
    have w := a1 (q - 1440 * n) (by omega) (by omega)
    rw [show q = 1440 * n + (q - 1440 * n) by omega, cc_fit_at (by omega), w, Bool.and_false]
theorem xs_n56 {post : Int64 → SX → Prop} {r : Nat} (hr : r < 4) (hR : cc_R st lo hi op) :
    ∀ k n t : Nat, 146097 ≤ n + k → n < 200000 → t < 1440 → ∀ f, k < f → ∀ x y z, (∀ w, cc_Nx (cc_fit fl st r) (1440 * n + t) w → ∀ a b c, post w (a, b, c, st, fl, lo, hi)) → wX_next_56 post (nI r) f (nI n) (nI t) x y z st fl lo hi := by
  intro k
  induction k with
  | zero =>
    intro n t hn hn2 ht f hf x y z hp
    obtain ⟨f, rfl⟩ : ∃ j, f = j + 1 := ⟨f - 1, by omega⟩
    exact pk_le 146097 n (fun _ => hp _ (cc_Nx_end (by omega)) _ _ _) (fun g => absurd g (by omega))
  | succ k ih =>
    intro n t hn hn2 ht f hf x y z hp
    obtain ⟨f, rfl⟩ : ∃ j, f = j + 1 := ⟨f - 1, by omega⟩
    obtain ⟨i1, i2, i3, i4⟩ := cc_d_in n
    have i5 := (cc_isD n).2.2.2.2.1
    have hl := cc_len_in (cc_y n) (cc_m n)
    refine pk_le 146097 n (fun _ => hp _ (cc_Nx_end (by omega)) _ _ _) (fun g => xs_split (by omega) ?_)
    have hy := cc_is_ylt (cc_isD n) g
    have K : ∀ a b c, (∀ q, 1440 * n + t ≤ q → q < 1440 * (n + 1) → cc_fit fl st r q = false) → wX_next_56 post (nI r) f (nI (n + 1)) 0 a b c st fl lo hi := fun a b c H =>
      ih (n + 1) 0 (by omega) (by omega) (by omega) f (by omega) a b c (fun w hw => hp w (cc_Nx_step (s' := 1440 * (n + 1) + 0) (by omega) H hw))
    refine xs_al (f := 3) hr (by decide) hR i1 i2 (cc_br (fun e => xs_len (by omega) (by omega) ?_) (fun e => xs_dayFits hr hR i3 i4 (by omega) (cc_br (fun e' => ?_) (fun e' => ?_))))
    · refine nm_r (e' := nI (n + (cc_len (cc_y n) (cc_m n) - cc_d n + 1))) (by rw [pk_sub i5, nI_1, nI_add]) ?_
      refine ih _ 0 (by omega) (by omega) (by omega) f (by omega) _ _ _ (fun w hw => hp w (cc_Nx_step (s' := 1440 * (n + (cc_len (cc_y n) (cc_m n) - cc_d n + 1)) + 0) (by omega) (fun q q1 q2 => ?_) hw))
      exact cc_fit_day (n := q / 1440) (cc_DF_month e (by omega) (by omega)) (by omega) (by omega)
    · have hd : cc_DF fl st r n = false := by unfold cc_DF cc_df; rw [e, e']; rfl
      unfold wX_next_132
      exact br_t (by decide) (nm_r (e' := nI (n + 1)) (nI_1 n) (K _ _ _ (fun q q1 q2 => cc_fit_day hd (by omega) q2)))
    · have hd : cc_DF fl st r n = true := by unfold cc_DF cc_df; rw [e, e']; rfl
      exact xs_from hr hR ht (fun z hz => xs_n132 g hd ht hz (fun w hw => hp w hw _ _ _) (K _ _ _))
theorem xm_next {post : Int64 → SX → Prop} {r s : Nat} (hr : r < 4) (hR : cc_R st lo hi op) (hs : s < 210379680) (hp : ∀ x, cc_Nx (cc_fit fl st r) s x → ∀ a b c, post x (a, b, c, st, fl, lo, hi)) : wX_next_36 post (nI r) (lN s) fy fm fd st fl lo hi := by
  obtain ⟨e1, e2⟩ := cc_dI64 (t := s) (by omega)
  unfold wX_next_36
  refine ⟨by decide, nm_r e1 ⟨by decide, nm_r e2 ⟨146098, ?_⟩⟩⟩
  exact xs_n56 hr hR (146097 - s / 1440) (s / 1440) (s % 1440) (by omega) (by omega) (by omega) 146098 (by omega) _ _ _ (by rw [show 1440 * (s / 1440) + s % 1440 = s by omega]; exact hp)
theorem i_vc_next {k : Nat} {u : SX} {v : SY} (I : i_Rel k u v) (hk : k + 4 ≤ 2048) (v1 : Int32) (a1 : Int64) : wpX_next (fun r u' => wpY_next (fun r' v' => r' = r ∧ i_Rel (k + 4) u' v') v v1 a1) u v1 a1 := by
  obtain ⟨a, b, c, a', b', c', st, fl, lo, hi, op, rfl, rfl, hR⟩ := I
  unfold wpX_next wpY_next wY_next_39
  rcases cc_pick v1 (n := 4) (by decide) with h1 | ⟨r, hr, rfl⟩
  · exact xs_ruleF h1 (br_t rfl (ys_ruleF h1 (br_f cc_not0 ⟨rfl, cc_rel hR _ _ _ _ _ _⟩)))
  · refine xs_ruleT hr (br_f cc_not0 (br_c (fun g => ?_) (fun g => ys_ruleT hr (br_t rfl (br_f g ⟨rfl, cc_rel hR _ _ _ _ _ _⟩)))))
    by_cases g0 : a1 < 0
    · have g1 : ¬ 0 ≤ a1 := Int64.not_le.mpr g0
      refine br_f g1 (xm_next (s := 0) hr hR (by decide) (fun x hx _ _ _ => ys_ruleT hr (br_t rfl (br_t g (br_f g1 ?_)))))
      exact ym_search_u (s := 0) (st := st) hr hR (by decide) (fun y hy _ _ _ => ⟨cc_Nx_u hy hx, cc_rel hR _ _ _ _ _ _⟩)
    · have g1 : 0 ≤ a1 := Int64.not_lt.mp g0
      obtain ⟨t, ht, rfl⟩ := pk_lOf g0
      have gt : t < 210379679 := (pk_lLT (b := 210379679) ht (by decide)).mp g
      refine br_t g1 ?_
      rw [lN_1]
      refine xm_next (s := t + 1) hr hR (by omega) (fun x hx _ _ _ => ys_ruleT hr (br_t rfl (br_t g (br_t g1 ?_))))
      exact ym_search_u (s := t + 1) (st := st) hr hR (by omega) (fun y hy _ _ _ => ⟨cc_Nx_u hy hx, cc_rel hR _ _ _ _ _ _⟩)
end NX
end
section
/-! previous: both sides find the greatest fitting minute below s -/
def cc_Pv (P : Nat → Bool) (s : Nat) (x : Int64) : Prop := (∃ t, t < s ∧ P t = true ∧ (∀ q, t < q → q < s → P q = false) ∧ x = lN t) ∨ ((∀ q, q < s → P q = false) ∧ x = -2)
theorem cc_Pv_u {P : Nat → Bool} {s : Nat} {x y : Int64} (hx : cc_Pv P s x) (hy : cc_Pv P s y) : x = y := by
  rcases hx with ⟨t, a1, a3, a4, rfl⟩ | ⟨a1, rfl⟩ <;> rcases hy with ⟨q, b1, b3, b4, rfl⟩ | ⟨b1, rfl⟩
  · rcases Nat.lt_trichotomy t q with g | g | g
    · exact (cc_bf b3 (a4 q g b1) rfl).elim
    · rw [g]
    · exact (cc_bf a3 (b4 t g a1) rfl).elim
  · exact (cc_bf a3 (b1 t a1) rfl).elim
  · exact (cc_bf b3 (a1 q b1) rfl).elim
  · rfl
theorem cc_Pv_step {P : Nat → Bool} {s s' : Nat} {x : Int64} (hs : s' ≤ s) (h : ∀ q, s' ≤ q → q < s → P q = false) (hx : cc_Pv P s' x) : cc_Pv P s x := by
  have aux : ∀ q, q < s → (q < s' → P q = false) → P q = false := fun q q1 q2 => by
    by_cases g : q < s'
    · exact q2 g
    · exact h q (by omega) q1
  rcases hx with ⟨t, a1, a3, a4, rfl⟩ | ⟨a1, rfl⟩
  · exact Or.inl ⟨t, by omega, a3, fun q q1 q2 => aux q q2 (fun q3 => a4 q q1 q3), rfl⟩
  · exact Or.inr ⟨fun q q1 => aux q q1 (fun q3 => a1 q q3), rfl⟩
theorem cc_Pv_hit {P : Nat → Bool} {s : Nat} (h : P s = true) : cc_Pv P (s + 1) (lN s) := Or.inl ⟨s, by omega, h, fun q q1 q2 => absurd q2 (by omega), rfl⟩
theorem cc_Pv_end {P : Nat → Bool} : cc_Pv P 0 (-2) := Or.inr ⟨fun q q1 => absurd q1 (by omega), rfl⟩
def cc_TU (p : Nat → Bool) (s : Nat) (z : Int32) : Prop := (∃ q, q < s ∧ p q = true ∧ (∀ j, q < j → j < s → p j = false) ∧ z = nI q) ∨ ((∀ j, j < s → p j = false) ∧ z = -1)
theorem cc_TU_step {P : Nat → Bool} {s s' : Nat} {x : Int32} (hs : s' ≤ s) (h : ∀ q, s' ≤ q → q < s → P q = false) (hx : cc_TU P s' x) : cc_TU P s x := by
  have aux : ∀ q, q < s → (q < s' → P q = false) → P q = false := fun q q1 q2 => by
    by_cases g : q < s'
    · exact q2 g
    · exact h q (by omega) q1
  rcases hx with ⟨t, a1, a3, a4, rfl⟩ | ⟨a1, rfl⟩
  · exact Or.inl ⟨t, by omega, a3, fun q q1 q2 => aux q q2 (fun q3 => a4 q q1 q3), rfl⟩
  · exact Or.inr ⟨fun q q1 => aux q q1 (fun q3 => a1 q q3), rfl⟩
theorem cc_TU_hit {P : Nat → Bool} {s : Nat} (h : P s = true) : cc_TU P (s + 1) (nI s) := Or.inl ⟨s, by omega, h, fun q q1 q2 => absurd q2 (by omega), rfl⟩
theorem cc_z : nI 0 + (-1) = -1 := by decide
theorem cc_1439 : (1439 : Int32) = nI 1440 + (-1) := by decide
theorem cc_59 : (59 : Int32) = nI 60 + (-1) := by decide
section PV
variable {fy fm fd gy gm gd : Int32} {st : Nat → Int64} {fl lo hi op : Nat → Int32} {p : Int32}
/-! the reference. A day or a time that may be -1 is nI k + (-1) -/
theorem ys_s103d {post : Int64 → SY → Prop} {J : Int32 → Int32 → Int32 → Int32 → Int32 → (Nat → Int32) → (Nat → Int32) → Prop} {x1 : Int32} {n : Nat} (hn : n < 146097) (h : ∀ a b c, (n ≠ 0 → a = nI (cc_y (n - 1)) ∧ b = nI (cc_m (n - 1)) ∧ c = nI (cc_d (n - 1))) → J (nI n + (-1)) (nI 1440 + (-1)) a b c op fl) :
    wY_search_103 post J x1 (-1) (nI n) (nI (cc_y n)) (nI (cc_m n)) (nI (cc_d n)) op fl := by
  unfold wY_search_103 wY_search_122
  refine nm_e (br_t (by decide) (ys_move_dn (n := n) (by omega) (cc_isD n) (fun g => ?_) (fun g a b c => ?_)))
  · show J (nI n + (-1)) 1439 _ _ _ op fl
    rw [cc_1439]
    exact h _ _ _ (fun _ => ⟨rfl, rfl, rfl⟩)
  · show J (nI n + (-1)) 1439 a b c op fl
    rw [cc_1439]
    exact h a b c (fun z => absurd g z)
theorem ys_s58d {post : Int64 → SY → Prop} {J : Int32 → Int32 → Int32 → Int32 → Int32 → (Nat → Int32) → (Nat → Int32) → Prop} {r n : Nat} (hr : r < 4) (hR : cc_R st lo hi op) (hn : n < 146097) (hd : cc_DF fl st r n = true)
    (hJ : (∀ x, cc_Pv (cc_fit fl st r) (1440 * n) x → ∀ a b c, post x (a, b, c, op, fl)) → ∀ a b c, (n ≠ 0 → a = nI (cc_y (n - 1)) ∧ b = nI (cc_m (n - 1)) ∧ c = nI (cc_d (n - 1))) → J (nI n + (-1)) (nI 1440 + (-1)) a b c op fl) :
    ∀ j : Nat, j ≤ 1440 → ∀ f, j < f → (∀ x, cc_Pv (cc_fit fl st r) (1440 * n + j) x → ∀ a b c, post x (a, b, c, op, fl)) → wY_search_58 post J (nI r) (-1) (nI n) (nI (cc_y n)) (nI (cc_m n)) (nI (cc_d n)) op fl f (nI j + (-1)) := by
  intro j
  induction j with
  | zero =>
    intro hj f hf hp
    obtain ⟨f, rfl⟩ : ∃ i, f = i + 1 := ⟨f - 1, by omega⟩
    rw [cc_z]
    exact br_t (by decide) (ys_s103d hn (hJ hp))
  | succ j ih =>
    intro hj f hf hp
    obtain ⟨f, rfl⟩ : ∃ i, f = i + 1 := ⟨f - 1, by omega⟩
    have q := cc_fit_at (fl := fl) (st := st) (r := r) (n := n) (t := j) (by omega)
    rw [pk_m1]
    refine br_f (nI_pos (by omega)) (pk_le 1440 j (fun g => absurd g (by omega)) (fun _ => ys_timeFits (st := st) hr hR (by omega) (cc_br (fun e => ?_) (fun e => ?_))))
    · rw [hd, e] at q
      refine nm_e (ih (by omega) f (by omega) (fun x hx => hp x (cc_Pv_step (s' := 1440 * n + j) (by omega) (fun i j1 j2 => ?_) hx)))
      rw [show i = 1440 * n + j by omega]
      exact q
    · rw [hd, e] at q
      rw [cc_minI (by omega) (by omega)]
      exact hp _ (cc_Pv_hit q) _ _ _
theorem ys_s22d {post : Int64 → SY → Prop} {r : Nat} (hr : r < 4) (hR : cc_R st lo hi op) :
    ∀ k j : Nat, k ≤ 146097 → 1 ≤ j → j ≤ 1440 → ∀ f, k < f → ∀ a b c, (k ≠ 0 → a = nI (cc_y (k - 1)) ∧ b = nI (cc_m (k - 1)) ∧ c = nI (cc_d (k - 1))) → (∀ x, cc_Pv (cc_fit fl st r) (if k = 0 then 0 else 1440 * (k - 1) + j) x → ∀ a b c, post x (a, b, c, op, fl)) → wY_search_22 post (nI r) (-1) f (nI k + (-1)) (nI j + (-1)) a b c op fl := by
  intro k
  induction k with
  | zero =>
    intro j hk hj hj2 f hf a b c hS hp
    obtain ⟨f, rfl⟩ : ∃ i, f = i + 1 := ⟨f - 1, by omega⟩
    rw [if_pos rfl] at hp
    rw [cc_z]
    exact br_t (by decide) (hp _ cc_Pv_end _ _ _)
  | succ n ih =>
    intro j hk hj hj2 f hf a b c hS hp
    obtain ⟨f, rfl⟩ : ∃ i, f = i + 1 := ⟨f - 1, by omega⟩
    obtain ⟨rfl, rfl, rfl⟩ := hS (by omega)
    rw [if_neg (by omega)] at hp
    rw [Nat.add_sub_cancel] at hp ⊢
    rw [pk_m1]
    have K : (∀ x, cc_Pv (cc_fit fl st r) (1440 * n) x → ∀ a b c, post x (a, b, c, op, fl)) → ∀ a b c, (n ≠ 0 → a = nI (cc_y (n - 1)) ∧ b = nI (cc_m (n - 1)) ∧ c = nI (cc_d (n - 1))) → wY_search_22 post (nI r) (-1) f (nI n + (-1)) (nI 1440 + (-1)) a b c op fl := fun H a b c hS =>
      ih 1440 (by omega) (by decide) (by decide) f (by omega) a b c hS (by
        by_cases z : n = 0
        · subst z; rw [if_pos rfl]; exact H
        · rw [if_neg z, show 1440 * (n - 1) + 1440 = 1440 * n by omega]; exact H)
    refine br_f (nI_pos (by omega)) (pk_lt 146096 n (fun g => absurd g (by omega)) (fun _ => ⟨by decide, ?_⟩))
    rw [cc_w7 (by omega)]
    refine ys_due (st := st) hr hR (cc_br (fun e => ?_) (fun e => ⟨1441, ?_⟩))
    · exact ys_s103d (by omega) (K (fun x hx => hp x (cc_Pv_step (s' := 1440 * n) (by omega) (fun i j1 j2 => cc_fit_day e j1 (by omega)) hx)))
    · exact ys_s58d (st := st) hr hR (by omega) e K j hj2 1441 (by omega) hp
theorem ym_search_d {post : Int64 → SY → Prop} {r s : Nat} (hr : r < 4) (hR : cc_R st lo hi op) (hs : s < 210379680) (hp : ∀ x, cc_Pv (cc_fit fl st r) (s + 1) x → ∀ a b c, post x (a, b, c, op, fl)) : wpY_search post (gy, gm, gd, op, fl) (nI r) (lN s) (-1) := by
  obtain ⟨e1, e2⟩ := cc_dI64 (t := s) (by omega)
  unfold wpY_search
  refine ⟨by decide, nm_r e1 ⟨by decide, nm_r e2 (ys_split (by omega) ⟨146098, ?_⟩)⟩⟩
  have q := ys_s22d (st := st) (post := post) (r := r) hr hR (fl := fl) (s / 1440 + 1) (s % 1440 + 1) (by omega) (by omega) (by omega) 146098 (by omega) (nI (cc_y (s / 1440))) (nI (cc_m (s / 1440))) (nI (cc_d (s / 1440))) (fun _ => ⟨rfl, rfl, rfl⟩) (by rw [if_neg (by omega), Nat.add_sub_cancel, show 1440 * (s / 1440) + (s % 1440 + 1) = s + 1 by omega]; exact hp)
  rw [pk_m1, pk_m1] at q
  exact q
/-! the component -/
theorem xs_up42 {post : Int32 → Prop} {J : Int32 → Prop} {x2 : Int32} {r h : Nat} (hr : r < 4) (hR : cc_R st lo hi op) (hh : h < 24) (ha : cc_al fl st r 1 h = true)
    (hJ : (∀ z, cc_TU (cc_tf fl st r) (60 * h) z → post z) → J (nI h + (-1))) :
    ∀ j : Nat, j ≤ 60 → ∀ f, j < f → (∀ z, cc_TU (cc_tf fl st r) (60 * h + j) z → post z) → wX_timeUpTo_42 post J (nI r) x2 (nI h) fy fm fd st fl lo hi f (nI j + (-1)) := by
  intro j
  induction j with
  | zero =>
    intro hj f hf hp
    obtain ⟨f, rfl⟩ : ∃ i, f = i + 1 := ⟨f - 1, by omega⟩
    rw [cc_z]
    exact br_t (by decide) (nm_e (hJ hp))
  | succ m ih =>
    intro hj f hf hp
    obtain ⟨f, rfl⟩ : ∃ i, f = i + 1 := ⟨f - 1, by omega⟩
    have q := cc_tf_at (fl := fl) (st := st) (r := r) (h := h) (m := m) (by omega)
    rw [pk_m1]
    refine br_f (nI_pos (by omega)) (xs_al (f := 0) hr (by decide) hR (Nat.zero_le _) (show m ≤ 59 by omega) (cc_br (fun e => ?_) (fun e => ?_)))
    · rw [ha, e] at q
      refine nm_e (ih (by omega) f (by omega) (fun z hz => hp z (cc_TU_step (s' := 60 * h + m) (by omega) (fun i j1 j2 => ?_) hz)))
      rw [show i = 60 * h + m by omega]
      exact q
    · rw [ha, e] at q
      have e6 : 60 * nI h = nI (60 * h) := pk_mul 60 h
      rw [e6, nI_add]
      exact hp _ (cc_TU_hit q)
theorem xs_up5 {post : Int32 → Prop} {r t : Nat} (hr : r < 4) (hR : cc_R st lo hi op) (ht : t < 1440) :
    ∀ g : Nat, g ≤ t / 60 + 1 → ∀ f, g < f → (∀ z, cc_TU (cc_tf fl st r) (if g = t / 60 + 1 then t + 1 else 60 * g) z → post z) → wX_timeUpTo_5 post (nI r) (nI t) fy fm fd st fl lo hi f (nI g + (-1)) := by
  have e1 : nI t / 60 = nI (t / 60) := pk_div (d := 60) (by omega) (by decide) (by decide)
  have e2 : nI t - nI t / 60 * 60 = nI (t % 60) := pk_rem (d := 60) (by omega) (by decide) (by decide)
  intro g
  induction g with
  | zero =>
    intro hg f hf hp
    obtain ⟨f, rfl⟩ : ∃ i, f = i + 1 := ⟨f - 1, by omega⟩
    rw [if_neg (by omega)] at hp
    rw [cc_z]
    exact br_t (by decide) (hp _ (Or.inr ⟨fun j j1 => absurd j1 (by omega), rfl⟩))
  | succ h ih =>
    intro hg f hf hp
    obtain ⟨f, rfl⟩ : ∃ i, f = i + 1 := ⟨f - 1, by omega⟩
    have K : (∀ z, cc_TU (cc_tf fl st r) (60 * h) z → post z) → wX_timeUpTo_5 post (nI r) (nI t) fy fm fd st fl lo hi f (nI h + (-1)) := fun H =>
      ih (by omega) f (by omega) (by rw [if_neg (by omega)]; exact H)
    rw [pk_m1]
    refine br_f (nI_pos (by omega)) (xs_al (f := 1) hr (by decide) hR (Nat.zero_le _) (show h ≤ 23 by omega) (cc_br (fun e => ?_) (fun e => ⟨by decide, ?_⟩)))
    · refine nm_e (K (fun z hz => hp z (cc_TU_step (s' := 60 * h) ?_ (fun j j1 j2 => cc_tf_hr e j1 ?_) hz)))
      · split <;> omega
      · split at j2 <;> omega
    · refine pk_eq h (t / 60) (fun g => ⟨by decide, nm_r e2 ⟨61, ?_⟩⟩) (fun g => ⟨61, ?_⟩) rfl e1
      · rw [if_pos (by omega)] at hp
        have q := xs_up42 (fy := fy) (fm := fm) (fd := fd) (x2 := nI t) hr hR (by omega) e K (t % 60 + 1) (by omega) 61 (by omega) (by rw [show 60 * h + (t % 60 + 1) = t + 1 by omega]; exact hp)
        rw [pk_m1] at q
        exact q
      · rw [if_neg (by omega)] at hp
        have q := xs_up42 (fy := fy) (fm := fm) (fd := fd) (x2 := nI t) hr hR (by omega) e K 60 (by omega) 61 (by omega) (by rw [show 60 * h + 60 = 60 * (h + 1) by omega]; exact hp)
        rw [← cc_59] at q
        exact q
theorem xs_up {post : Int32 → Prop} {r t : Nat} (hr : r < 4) (hR : cc_R st lo hi op) (ht : t < 1440) (hp : ∀ z, cc_TU (cc_tf fl st r) (t + 1) z → post z) : wpX_timeUpTo post (fy, fm, fd, st, fl, lo, hi) (nI r) (nI t) := by
  unfold wpX_timeUpTo
  refine ⟨by decide, nm_r (e' := nI (t / 60)) (pk_div (d := 60) (by omega) (by decide) (by decide)) ⟨26, ?_⟩⟩
  have q := xs_up5 (fy := fy) (fm := fm) (fd := fd) hr hR ht (t / 60 + 1) (by omega) 26 (by omega) (by rw [if_pos rfl]; exact hp)
  rw [pk_m1] at q
  exact q
theorem xs_p120 {post : Int64 → SX → Prop} {J : Int32 → Int32 → Int32 → Int32 → Int32 → (Nat → Int64) → (Nat → Int32) → (Nat → Int32) → (Nat → Int32) → Prop} {x1 z : Int32} {r n s : Nat} (hn : n < 146097) (hd : cc_DF fl st r n = true) (hs : s ≤ 1440)
    (hz : cc_TU (cc_tf fl st r) s z) (hp : ∀ x, cc_Pv (cc_fit fl st r) (1440 * n + s) x → post x (fy, fm, fd, st, fl, lo, hi)) (hJ : (∀ q, 1440 * n ≤ q → q < 1440 * n + s → cc_fit fl st r q = false) → J (nI n + (-1)) 1439 fy fm fd st fl lo hi) :
    wX_previous_120 post J x1 (nI n) z fy fm fd st fl lo hi := by
  unfold wX_previous_120
  rcases hz with ⟨q, a1, a3, a4, rfl⟩ | ⟨a1, rfl⟩
  · rw [cc_minI (by omega) (by omega)]
    refine br_f (nI_pos (by omega)) (hp _ (Or.inl ⟨1440 * n + q, by omega, ?_, fun j j1 j2 => ?_, rfl⟩))
    · rw [cc_fit_at (by omega), hd, a3]; rfl
    · have w := a4 (j - 1440 * n) (by omega) (by omega)
      rw [show j = 1440 * n + (j - 1440 * n) by omega, cc_fit_at (by omega), w, Bool.and_false]
  · refine br_t (by decide) (nm_e (hJ (fun q q1 q2 => ?_)))
    have w := a1 (q - 1440 * n) (by omega)
    rw [show q = 1440 * n + (q - 1440 * n) by omega, cc_fit_at (by omega), w, Bool.and_false]
theorem xs_p58 {post : Int64 → SX → Prop} {r : Nat} (hr : r < 4) (hR : cc_R st lo hi op) :
    ∀ K k j : Nat, k ≤ K → k ≤ 146097 → 1 ≤ j → j ≤ 1440 → ∀ f, K < f → ∀ x y z, (∀ w, cc_Pv (cc_fit fl st r) (if k = 0 then 0 else 1440 * (k - 1) + j) w → ∀ a b c, post w (a, b, c, st, fl, lo, hi)) → wX_previous_58 post (nI r) f (nI k + (-1)) (nI j + (-1)) x y z st fl lo hi := by
  intro K
  induction K with
  | zero =>
    intro k j hk hk2 hj hj2 f hf x y z hp
    obtain ⟨f, rfl⟩ : ∃ i, f = i + 1 := ⟨f - 1, by omega⟩
    obtain rfl : k = 0 := by omega
    rw [if_pos rfl] at hp
    rw [cc_z]
    exact br_t (by decide) (hp _ cc_Pv_end _ _ _)
  | succ K ih =>
    intro k j hk hk2 hj hj2 f hf x y z hp
    obtain ⟨f, rfl⟩ : ∃ i, f = i + 1 := ⟨f - 1, by omega⟩
    cases k with
    | zero =>
      rw [if_pos rfl] at hp
      rw [cc_z]
      exact br_t (by decide) (hp _ cc_Pv_end _ _ _)
    | succ n =>
      rw [if_neg (by omega), Nat.add_sub_cancel] at hp
      obtain ⟨t, rfl⟩ : ∃ t, j = t + 1 := ⟨j - 1, by omega⟩
      rw [pk_m1, pk_m1]
      obtain ⟨i1, i2, i3, i4⟩ := cc_d_in n
      have i5 := (cc_isD n).2.2.2.2.1
      have i6 := (cc_isD n).2.2.2.2.2
      have hl := cc_len_in (cc_y n) (cc_m n)
      have hy := cc_is_ylt (cc_isD n) (by omega)
      have J : ∀ i, i ≤ n → (∀ q, 1440 * i ≤ q → q < 1440 * n + (t + 1) → cc_fit fl st r q = false) → ∀ a b c, wX_previous_58 post (nI r) f (nI i + (-1)) 1439 a b c st fl lo hi := fun i hi' H a b c => by
        rw [cc_1439]
        refine ih i 1440 (by omega) (by omega) (by decide) (by decide) f (by omega) a b c (fun w hw => hp w (cc_Pv_step (s' := 1440 * i) (by omega) H ?_))
        by_cases z : i = 0
        · subst z; rw [if_pos rfl] at hw; exact hw
        · rw [if_neg z, show 1440 * (i - 1) + 1440 = 1440 * i by omega] at hw; exact hw
      refine br_f (nI_pos (by omega)) (xs_split (by omega) ?_)
      refine xs_al (f := 3) hr (by decide) hR i1 i2 (cc_br (fun e => ?_) (fun e => xs_dayFits hr hR i3 i4 (by omega) (cc_br (fun e' => ?_) (fun e' => ?_))))
      · refine nm_r (e' := nI (n + 1 - cc_d n) + (-1)) ?_ (J _ (by omega) (fun q q1 q2 => ?_) _ _ _)
        · rw [← pk_sub (a := n + 1) (b := cc_d n) (by omega), ← nI_1]
          grind
        · exact cc_fit_day (n := q / 1440) (cc_DF_month e (by omega) (by omega)) (by omega) (by omega)
      · have hd : cc_DF fl st r n = false := by unfold cc_DF cc_df; rw [e, e']; rfl
        unfold wX_previous_120
        exact br_t (by decide) (nm_e (J n (Nat.le_refl _) (fun q q1 q2 => cc_fit_day hd q1 (by omega)) _ _ _))
      · have hd : cc_DF fl st r n = true := by unfold cc_DF cc_df; rw [e, e']; rfl
        exact xs_up hr hR (by omega) (fun z hz => xs_p120 (s := t + 1) (by omega) hd (by omega) hz (fun w hw => hp w hw _ _ _) (fun H => J n (Nat.le_refl _) H _ _ _))
theorem xm_prev {post : Int64 → SX → Prop} {r s : Nat} (hr : r < 4) (hR : cc_R st lo hi op) (hs : s < 210379680) (hp : ∀ x, cc_Pv (cc_fit fl st r) (s + 1) x → ∀ a b c, post x (a, b, c, st, fl, lo, hi)) : wX_previous_38 post (nI r) (lN s) fy fm fd st fl lo hi := by
  obtain ⟨e1, e2⟩ := cc_dI64 (t := s) (by omega)
  unfold wX_previous_38
  refine ⟨by decide, nm_r e1 ⟨by decide, nm_r e2 ⟨146098, ?_⟩⟩⟩
  have q := xs_p58 (post := post) (fl := fl) hr hR 146097 (s / 1440 + 1) (s % 1440 + 1) (by omega) (by omega) (by omega) (by omega) 146098 (by omega) fy fm fd (by rw [if_neg (by omega), Nat.add_sub_cancel, show 1440 * (s / 1440) + (s % 1440 + 1) = s + 1 by omega]; exact hp)
  rw [pk_m1, pk_m1] at q
  exact q
theorem i_vc_previous {k : Nat} {u : SX} {v : SY} (I : i_Rel k u v) (hk : k + 4 ≤ 2048) (v1 : Int32) (a1 : Int64) : wpX_previous (fun r u' => wpY_previous (fun r' v' => r' = r ∧ i_Rel (k + 4) u' v') v v1 a1) u v1 a1 := by
  obtain ⟨a, b, c, a', b', c', st, fl, lo, hi, op, rfl, rfl, hR⟩ := I
  unfold wpX_previous wpY_previous wY_previous_41
  rcases cc_pick v1 (n := 4) (by decide) with h1 | ⟨r, hr, rfl⟩
  · exact xs_ruleF h1 (br_t rfl (ys_ruleF h1 (br_f cc_not0 ⟨rfl, cc_rel hR _ _ _ _ _ _⟩)))
  · refine xs_ruleT hr (br_f cc_not0 (br_c (fun g => ?_) (fun g => ys_ruleT hr (br_t rfl (br_f g ⟨rfl, cc_rel hR _ _ _ _ _ _⟩)))))
    have g0 : ¬ a1 < 0 := fun z => Int64.lt_irrefl (Int64.lt_trans z g)
    obtain ⟨t, ht, rfl⟩ := pk_lOf g0
    have gt : 0 < t := (pk_lLT (a := 0) (by decide) ht).mp g
    by_cases g2 : t < 210379680
    · have q1 : lN t < 210379680 := (pk_lLT (b := 210379680) ht (by decide)).mpr g2
      have q2 : lN t ≤ 210379679 := (pk_lLE (b := 210379679) ht (by decide)).mpr (by omega)
      have e : lN t - 1 = lN (t - 1) := lN_sub (b := 1) gt
      refine br_t q1 ?_
      rw [e]
      refine xm_prev (s := t - 1) hr hR (by omega) (fun x hx _ _ _ => ys_ruleT hr (br_t rfl (br_t g (br_t q2 ?_))))
      exact ym_search_d (s := t - 1) (st := st) hr hR (by omega) (fun y hy _ _ _ => ⟨cc_Pv_u hy hx, cc_rel hR _ _ _ _ _ _⟩)
    · have q1 : ¬ lN t < 210379680 := fun z => g2 ((pk_lLT (b := 210379680) ht (by decide)).mp z)
      have q2 : ¬ lN t ≤ 210379679 := fun z => absurd ((pk_lLE (b := 210379679) ht (by decide)).mp z) (by omega)
      refine br_f q1 (xm_prev (s := 210379679) hr hR (by decide) (fun x hx _ _ _ => ys_ruleT hr (br_t rfl (br_t g (br_f q2 ?_)))))
      exact ym_search_d (s := 210379679) (st := st) hr hR (by decide) (fun y hy _ _ _ => ⟨cc_Pv_u hy hx, cc_rel hR _ _ _ _ _ _⟩)
end PV
end
section
/-! allow -/
section AM
variable {fy fm fd gy gm gd : Int32} {st : Nat → Int64} {fl lo hi op : Nat → Int32} {p : Int32}
theorem cc_uLL (f : Nat → Int64) (k : Nat) (x y : Int64) : vp_updL (vp_updL f k x) k y = vp_updL f k y := by
  funext j
  unfold vp_updL
  by_cases h : j = k
  · rw [if_pos h, if_pos h]
  · rw [if_neg h, if_neg h, if_neg h]
theorem cc_uLi (f : Nat → Int64) (k : Nat) : vp_updL f k (f k) = f := by
  funext j
  unfold vp_updL
  by_cases h : j = k
  · rw [if_pos h, h]
  · rw [if_neg h]
theorem cc_ui {f : Nat → Int32} {k : Nat} {x : Int32} (h : f k = x) : upd f k x = f := by
  funext j
  unfold upd
  by_cases g : j = k
  · rw [if_pos g, g, h]
  · rw [if_neg g]
theorem cc_nb0 : vp_nar .boolean 0 = 0 := rfl
theorem cc_nb1 : ¬ vp_nar .boolean 1 = 0 := by
  have e : vp_nar .boolean 1 = 1 := rfl
  rw [e]; decide
theorem cc_setbit (w : Int64) {v j : Nat} (hv : v < 64) (hj : j < 64) : (w ||| ((1 : Int64) <<< ((nI v).toInt64 &&& 63))).toBitVec.getLsbD j = true ↔ (w.toBitVec.getLsbD j = true ∨ j = v) := by
  have e : (1 : Int64) <<< ((nI v).toInt64 &&& 63) = lN (1 * 2 ^ v) := wb_shl 1 hv
  rw [e, Int64.toBitVec_or, BitVec.getLsbD_or, wb_tb, BitVec.getLsbD_ofNat, Nat.one_mul, Nat.testBit_two_pow]
  simp [hj]
  constructor
  · rintro (h | h)
    · exact Or.inl h
    · exact Or.inr h.symm
  · rintro (h | h)
    · exact Or.inl h
    · exact Or.inr h.symm
/-- w is w0 with the bits a, a + s, .. up to T -/
def cc_Fin (w0 : Int64) (a T s : Nat) (w : Int64) : Prop := ∀ j, j < 64 → (w.toBitVec.getLsbD j = true ↔ (w0.toBitVec.getLsbD j = true ∨ (a ≤ j ∧ j ≤ T ∧ (j - a) % s = 0)))
def cc_bits (w : Int64) : Nat → Bool := fun j => w.toBitVec.getLsbD j
theorem xs_a178 {post : Int32 → SX → Prop} {k : Nat} {w : Int64} (hk : k < 20) (hw : st k = w) (h : post (nI (cc_cnt (cc_bits w) 60)) (fy, fm, fd, st, fl, lo, hi)) :
    ∀ m i : Nat, i + m = 60 → ∀ n, m < n → wX_allow_178 post (nI k) fy fm fd st fl lo hi n (nI (cc_cnt (cc_bits w) i)) (nI i) := by
  intro m
  induction m with
  | zero =>
    intro i hi' n hn
    obtain ⟨n, rfl⟩ : ∃ j, n = j + 1 := ⟨n - 1, by omega⟩
    obtain rfl : i = 60 := by omega
    exact pk_le 60 60 (fun _ => h) (fun g => absurd g (by omega))
  | succ m ih =>
    intro i hi' n hn
    obtain ⟨n, rfl⟩ : ∃ j, n = j + 1 := ⟨n - 1, by omega⟩
    refine pk_le 60 i (fun g => absurd g (by omega)) (fun _ => ⟨vp_in_nI hk (by decide), nm_r (e' := nI (cc_cnt (cc_bits w) (i + 1))) ?_ (nm_r (e' := nI (i + 1)) (nI_1 i) (ih (i + 1) (by omega) n (by omega)))⟩)
    rw [nI_clamp (by omega), hw, cc_bit w (by omega), lN_i, nI_add]
    rfl
theorem xs_a137 {post : Int32 → SX → Prop} {k a T s : Nat} {w0 : Int64} (hk : k < 20) (hs : 1 ≤ s) (hs2 : s ≤ 59) (hT : T ≤ 59)
    (h : ∀ w, cc_Fin w0 a T s w → post (nI (cc_cnt (cc_bits w) 60)) (fy, fm, fd, vp_updL st k w, fl, lo, hi)) :
    ∀ m v : Nat, T + 1 ≤ v + m → a ≤ v → (v - a) % s = 0 → (v = a ∧ a ≤ T ∨ v ≤ T + s) → ∀ w, (∀ j, j < 64 → (w.toBitVec.getLsbD j = true ↔ (w0.toBitVec.getLsbD j = true ∨ (a ≤ j ∧ j < v ∧ (j - a) % s = 0)))) → ∀ n, m < n → wX_allow_137 post (nI s) (nI T) (nI k) fy fm fd n (nI v) (vp_updL st k w) fl lo hi := by
  have ex : ∀ v, T < v → a ≤ v → (v - a) % s = 0 → (v = a ∧ a ≤ T ∨ v ≤ T + s) → ∀ w, (∀ j, j < 64 → (w.toBitVec.getLsbD j = true ↔ (w0.toBitVec.getLsbD j = true ∨ (a ≤ j ∧ j < v ∧ (j - a) % s = 0)))) → ∃ n178, wX_allow_178 post (nI k) fy fm fd (vp_updL st k w) fl lo hi n178 0 0 := by
    intro v hv hav hm hb w hw
    refine ⟨61, xs_a178 hk pk_uLs (h w (fun j hj => (hw j hj).trans (or_congr Iff.rfl ⟨fun z => ⟨z.1, ?_, z.2.2⟩, fun z => ⟨z.1, by omega, z.2.2⟩⟩))) 60 0 (by omega) 61 (by omega)⟩
    obtain ⟨z1, z2, z3⟩ := z
    have d1 : (v - a) - (j - a) = v - j := by omega
    have d2 := (Nat.dvd_sub (Nat.dvd_of_mod_eq_zero hm) (Nat.dvd_of_mod_eq_zero z3))
    rw [d1] at d2
    have d3 := Nat.le_of_dvd (by omega) d2
    omega
  intro m
  induction m with
  | zero =>
    intro v hv hav hm hb w hw n hn
    obtain ⟨n, rfl⟩ : ∃ j, n = j + 1 := ⟨n - 1, by omega⟩
    exact pk_lt T v (fun g => ex v g hav hm hb w hw) (fun g => absurd g (by omega)) rfl rfl (by omega) (by omega)
  | succ m ih =>
    intro v hv hav hm hb w hw n hn
    obtain ⟨n, rfl⟩ : ∃ j, n = j + 1 := ⟨n - 1, by omega⟩
    have hi' := vp_in_nI (n := k) (N := 20) hk (by decide)
    refine pk_lt T v (fun g => ex v g hav hm hb w hw) (fun g => ⟨hi', hi', nm_r (e' := vp_updL st k (w ||| ((1 : Int64) <<< ((nI v).toInt64 &&& 63)))) ?_ (nm_r (e' := nI (v + s)) (nI_add v s) (ih (v + s) (by omega) (by omega) ?_ (Or.inr (by omega)) _ (fun j hj => ?_) n (by omega)))⟩) rfl rfl (by omega) (by omega)
    · rw [nI_clamp (by omega), pk_uLs, cc_uLL]
    · rw [show v + s - a = v - a + s by omega, Nat.add_mod_right]; exact hm
    · rw [cc_setbit w (by omega) hj, hw j hj]
      constructor
      · rintro ((z | ⟨z1, z2, z3⟩) | z)
        · exact Or.inl z
        · exact Or.inr ⟨z1, by omega, z3⟩
        · subst z; exact Or.inr ⟨hav, by omega, hm⟩
      · rintro (z | ⟨z1, z2, z3⟩)
        · exact Or.inl (Or.inl z)
        · by_cases e : j < v
          · exact Or.inl (Or.inr ⟨z1, e, z3⟩)
          · refine Or.inr ?_
            by_cases e2 : j = v
            · exact e2
            · exfalso
              have d1 : (j - a) - (v - a) = j - v := by omega
              have d2 := (Nat.dvd_sub (Nat.dvd_of_mod_eq_zero z3) (Nat.dvd_of_mod_eq_zero hm))
              rw [d1] at d2
              have d3 := Nat.le_of_dvd (by omega) d2
              omega
/-- Y's cells of block k up to v are those of w, the others those of op -/
def cc_YI (k : Nat) (w : Int64) (op : Nat → Int32) (v : Nat) (o : Nat → Int32) : Prop := (∀ j, j < v → (o (k * 64 + j) = 0 ↔ w.toBitVec.getLsbD j = false)) ∧ (∀ i, (i < k * 64 ∨ k * 64 + v ≤ i) → o i = op i)
theorem cc_YI_s {k v : Nat} {w : Int64} {op o o' : Nat → Int32} (h : cc_YI k w op v o) (h1 : o' (k * 64 + v) = 0 ↔ w.toBitVec.getLsbD v = false) (h2 : ∀ i, i ≠ k * 64 + v → o' i = o i) : cc_YI k w op (v + 1) o' := by
  refine ⟨fun j hj => ?_, fun i hi => ?_⟩
  · by_cases e : j = v
    · subst e; exact h1
    · rw [h2 _ (by omega)]
      exact h.1 j (by omega)
  · rw [h2 _ (by omega)]
    exact h.2 i (by omega)
theorem ys_a204 {post : Int32 → SY → Prop} {J : Int32 → Int32 → (Nat → Int32) → (Nat → Int32) → Prop} {x3 x5 x6 : Int32} {k v : Nat} {w : Int64} {o : Nat → Int32} (hk : k < 20) (hv : v < 64) (hI : cc_YI k w op (v + 1) o) (h : J (nI (cc_cnt (cc_bits w) (v + 1))) (nI (v + 1)) o fl) :
    wY_allow_204 post J x3 x5 x6 (nI k) (nI (cc_cnt (cc_bits w) v)) (nI v) gy gm gd o fl := by
  have q := hI.1 v (by omega)
  unfold wY_allow_204
  rw [cc_at3, nI_clamp (by omega)]
  refine ⟨vp_in_nI (by omega) (by decide), br_c (fun g => ?_) (fun g => ?_)⟩
  · rw [cc_cnt_f (p := cc_bits w) (q.mp g)] at h
    exact nm_r (e' := nI (v + 1)) (nI_1 v) h
  · rw [cc_cnt_t (p := cc_bits w) (ts_nf (fun z => g (q.mpr z)))] at h
    exact nm_r (e' := nI (cc_cnt (cc_bits w) v + 1)) (nI_1 _) (nm_r (e' := nI (v + 1)) (nI_1 v) h)
theorem ys_a159 {post : Int32 → SY → Prop} {k a T s : Nat} {w0 w : Int64} (hk : k < 20) (hs : 1 ≤ s) (hs2 : s ≤ 59) (hT : T ≤ 59) (haT : a ≤ T) (hF : cc_Fin w0 a T s w) (h0 : ∀ j, j < 64 → (op (k * 64 + j) = 0 ↔ w0.toBitVec.getLsbD j = false))
    (h : ∀ o, cc_YI k w op 64 o → post (nI (cc_cnt (cc_bits w) 64)) (gy, gm, gd, o, fl)) :
    ∀ m v : Nat, v + m = 64 → ∀ n, m < n → ∀ o, cc_YI k w op v o → wY_allow_159 post (nI s) (nI a) (nI T) (nI k) gy gm gd n (nI (cc_cnt (cc_bits w) v)) (nI v) o fl := by
  intro m
  induction m with
  | zero =>
    intro v hv n hn o hI
    obtain ⟨n, rfl⟩ : ∃ j, n = j + 1 := ⟨n - 1, by omega⟩
    obtain rfl : v = 64 := by omega
    exact pk_le 64 64 (fun _ => h o hI) (fun g => absurd g (by omega))
  | succ m ih =>
    intro v hv n hn o hI
    obtain ⟨n, rfl⟩ : ∃ j, n = j + 1 := ⟨n - 1, by omega⟩
    have K : ∀ o', cc_YI k w op (v + 1) o' → wY_allow_204 post (wY_allow_159 post (nI s) (nI a) (nI T) (nI k) gy gm gd n) (nI s) (nI a) (nI T) (nI k) (nI (cc_cnt (cc_bits w) v)) (nI v) gy gm gd o' fl := fun o' hI' =>
      ys_a204 hk (by omega) hI' (ih (v + 1) (by omega) n (by omega) o' hI')
    have q0 := h0 v (by omega)
    have qF := hF v (by omega)
    have qo := hI.2 (k * 64 + v) (Or.inr (Nat.le_refl _))
    have N : ¬ (a ≤ v ∧ v ≤ T ∧ (v - a) % s = 0) → cc_YI k w op (v + 1) o := fun z => cc_YI_s hI (by
      rw [qo, q0]
      constructor
      · intro e
        cases hb : w.toBitVec.getLsbD v with
        | false => rfl
        | true =>
          rcases qF.mp hb with y | y
          · rw [e] at y; exact absurd y (by decide)
          · exact absurd y z
      · intro e
        cases hb : w0.toBitVec.getLsbD v with
        | false => rfl
        | true =>
          have y := qF.mpr (Or.inl hb)
          rw [e] at y; exact absurd y (by decide)) (fun i _ => rfl)
    refine pk_le 64 v (fun g => absurd g (by omega)) (fun _ => pk_lt v a (fun g => K o (N (fun z => absurd z.1 (by omega)))) (fun g1 => pk_lt T v (fun g => K o (N (fun z => absurd z.2.1 (by omega)))) (fun g2 => ⟨nI_ne0 (by omega) (by omega), ?_⟩) rfl rfl (by omega) (by omega)) rfl rfl (by omega) (by omega))
    rw [pk_sub g1, pk_rem (by omega) (by omega) (by omega), cc_at3, nI_clamp (by omega)]
    refine pk_eq ((v - a) % s) 0 (fun g3 => ⟨vp_in_nI (by omega) (by decide), nm_e (K _ ?_)⟩) (fun g3 => K o (N (fun z => g3 z.2.2))) rfl rfl (by have := Nat.mod_lt (v - a) (show 0 < s by omega); omega) (by omega)
    refine cc_YI_s hI ?_ (fun i hi' => pk_un hi')
    rw [pk_us]
    have y := qF.mpr (Or.inr ⟨g1, g2, g3⟩)
    constructor
    · intro z; exact absurd z cc_nb1
    · intro z; rw [y] at z; exact absurd z (by decide)
/-- clearing: nothing is done where the field isn't full -/
theorem ys_a108 {post : Int32 → SY → Prop} {x3 x5 x6 : Int32} {k : Nat} (hk : k < 20) (z : fl k = 0) (h : ∃ n159, wY_allow_159 post x3 x5 x6 (nI k) gy gm gd n159 0 0 op (upd fl k (vp_nar .boolean 0))) :
    ∀ m v : Nat, v + m = 64 → ∀ n, m < n → wY_allow_108 post x3 x5 x6 (nI k) gy gm gd n (nI v) op fl := by
  have hi' := vp_in_nI (n := k) (N := 20) hk (by decide)
  have ec : (nI k).toNatClampNeg = k := nI_clamp (by omega)
  intro m
  induction m with
  | zero =>
    intro v hv n hn
    obtain ⟨n, rfl⟩ : ∃ j, n = j + 1 := ⟨n - 1, by omega⟩
    refine pk_le 64 v (fun _ => ⟨hi', nm_r (e' := upd fl k (vp_nar .boolean 0)) (by rw [ec]) h⟩) (fun g => absurd g (by omega))
  | succ m ih =>
    intro v hv n hn
    obtain ⟨n, rfl⟩ : ∃ j, n = j + 1 := ⟨n - 1, by omega⟩
    refine pk_le 64 v (fun g => absurd g (by omega)) (fun _ => ⟨hi', br_t (by rw [ec]; exact z) (nm_r (e' := nI (v + 1)) (nI_1 v) (ih (v + 1) (by omega) n (by omega)))⟩)
theorem ys_a108c {post : Int32 → SY → Prop} {x3 x5 x6 : Int32} {k : Nat} (hk : k < 20) (z : ¬ fl k = 0) (h : ∀ o, (∀ j, j < 64 → o (k * 64 + j) = 0) → (∀ i, (i < k * 64 ∨ k * 64 + 64 ≤ i) → o i = op i) → ∃ n159, wY_allow_159 post x3 x5 x6 (nI k) gy gm gd n159 0 0 o (upd fl k (vp_nar .boolean 0))) :
    ∀ m v : Nat, v + m = 64 → ∀ n, m < n → ∀ o, (∀ j, j < v → o (k * 64 + j) = 0) → (∀ i, (i < k * 64 ∨ k * 64 + 64 ≤ i) → o i = op i) → wY_allow_108 post x3 x5 x6 (nI k) gy gm gd n (nI v) o fl := by
  have hi' := vp_in_nI (n := k) (N := 20) hk (by decide)
  have ec : (nI k).toNatClampNeg = k := nI_clamp (by omega)
  intro m
  induction m with
  | zero =>
    intro v hv n hn o h1 h2
    obtain ⟨n, rfl⟩ : ∃ j, n = j + 1 := ⟨n - 1, by omega⟩
    obtain rfl : v = 64 := by omega
    refine pk_le 64 64 (fun _ => ⟨hi', nm_r (e' := upd fl k (vp_nar .boolean 0)) (by rw [ec]) (h o h1 h2)⟩) (fun g => absurd g (by omega))
  | succ m ih =>
    intro v hv n hn o h1 h2
    obtain ⟨n, rfl⟩ : ∃ j, n = j + 1 := ⟨n - 1, by omega⟩
    refine pk_le 64 v (fun g => absurd g (by omega)) (fun _ => ⟨hi', br_f (by rw [ec]; exact z) ?_⟩)
    rw [cc_at3, nI_clamp (n := k * 64 + v) (by omega)]
    refine ⟨vp_in_nI (by omega) (by decide), nm_e (nm_r (e' := nI (v + 1)) (nI_1 v) (ih (v + 1) (by omega) n (by omega) _ (fun j hj => ?_) (fun i hi2 => ?_)))⟩
    · by_cases e : j = v
      · subst e; rw [pk_us]; exact cc_nb0
      · rw [pk_un (by omega)]; exact h1 j (by omega)
    · rw [pk_un (by omega)]; exact h2 i hi2
/-- the code of allow -/
theorem cc_wI {W : Nat} (hW : W < 2 ^ 31) : nI W >>> ((3 : Int32) &&& 31) = nI (W / 8) ∧ nI W &&& 7 = nI (W % 8) ∧ nI W / 8 = nI (W / 8) ∧ nI W - nI W / 8 * 8 = nI (W % 8) :=
  ⟨pk_shrN hW _ 3 (by decide), pk_andN (by omega) 3 (by decide), pk_div (d := 8) hW (by decide) (by decide), pk_rem (d := 8) hW (by decide) (by decide)⟩
theorem cc_spI {S : Nat} (hS : S < 2 ^ 31) : nI S >>> ((6 : Int32) &&& 31) = nI (S / 64) ∧ nI S &&& 63 = nI (S % 64) ∧ nI S / 64 = nI (S / 64) ∧ nI S - nI S / 64 * 64 = nI (S % 64) :=
  ⟨pk_shrN hS _ 6 (by decide), pk_andN (by omega) 6 (by decide), pk_div (d := 64) hS (by decide) (by decide), pk_rem (d := 64) hS (by decide) (by decide)⟩
/-- the span is good for the field -/
def cc_sp (f S : Nat) : Prop := cc_lo f ≤ S / 64 ∧ S / 64 ≤ cc_hi f ∧ cc_lo f ≤ S % 64 ∧ S % 64 ≤ cc_hi f ∧ S / 64 ≤ S % 64
def cc_w0 (fl : Nat → Int32) (st : Nat → Int64) (k : Nat) : Int64 := if fl k = 0 then st k else 0
theorem xs_valN {post : Int32 → Prop} {f v : Nat} (hv : v < 2 ^ 31) (hf : f < 5) (hR : cc_R st lo hi op) (h0 : ¬ (cc_lo f ≤ v ∧ v ≤ cc_hi f) → post 0) (h1 : cc_lo f ≤ v → v ≤ cc_hi f → post 1) : wpX_isValue post (fy, fm, fd, st, fl, lo, hi) (nI f) (nI v) := by
  have hh := cc_hi_in f
  have hl := cc_lo_in f
  refine xs_val hf hR (fun g => h0 ?_) (fun g1 g2 => ?_)
  · rw [nI_ltI (by omega) (by omega), nI_ltI (by omega) (by omega)] at g
    omega
  · rw [nI_ltI (by omega) (by omega)] at g1 g2
    exact h1 (by omega) (by omega)
theorem ys_valN {post : Int32 → Prop} {f v : Nat} (hv : v < 2 ^ 31) (hf : f < 5) (h0 : ¬ (cc_lo f ≤ v ∧ v ≤ cc_hi f) → post 0) (h1 : cc_lo f ≤ v → v ≤ cc_hi f → post 1) : wpY_inField post (gy, gm, gd, op, fl) (nI f) (nI v) := by
  have hh := cc_hi_in f
  have hl := cc_lo_in f
  refine ys_inField hf (fun g => h0 ?_) (fun g1 g2 => ?_)
  · rw [nI_ltI (by omega) (by omega), nI_ltI (by omega) (by omega)] at g
    omega
  · rw [nI_ltI (by omega) (by omega)] at g1 g2
    exact h1 (by omega) (by omega)
theorem xm_allow {post : Int32 → SX → Prop} {W S : Nat} {v3 : Int32} (hR : cc_R st lo hi op) (hW : W < 32) (hf : W % 8 < 5) (hS : S < 2 ^ 31) (h3 : ¬ cc_sp (W % 8) S → post (-3) (fy, fm, fd, st, fl, lo, hi)) (h4 : cc_sp (W % 8) S → (v3 < 1 ∨ (¬ v3 < 1 ∧ ¬ v3 ≤ 59)) → post (-4) (fy, fm, fd, st, fl, lo, hi))
    (h : cc_sp (W % 8) S → ∀ s, 1 ≤ s → s ≤ 59 → v3 = nI s → ∀ w, cc_Fin (cc_w0 fl st (5 * (W / 8) + W % 8)) (S / 64) (S % 64) s w → post (nI (cc_cnt (cc_bits w) 60)) (fy, fm, fd, vp_updL st (5 * (W / 8) + W % 8) w, upd fl (5 * (W / 8) + W % 8) (vp_nar .boolean 0), lo, hi)) :
    wpX_allow post (fy, fm, fd, st, fl, lo, hi) (nI W) (nI S) v3 := by
  obtain ⟨w1, w2, _, _⟩ := cc_wI (W := W) (by omega)
  obtain ⟨s1, s2, _, _⟩ := cc_spI hS
  have hh := cc_hi_in (W % 8)
  unfold wpX_allow
  refine nm_r w1 (nm_r w2 (br_f (nI_pos (by omega)) (xs_ruleT (by omega) (br_f cc_not0 (xs_fieldT hf (br_f cc_not0 (nm_r s1 (nm_r s2 (br_f (nI_pos hS) ?_)))))))))
  refine xs_valN (by omega) hf hR (fun g => br_t rfl (h3 (fun z => g ⟨z.1, z.2.1⟩))) (fun a1 a2 => br_f cc_not0 (xs_valN (by omega) hf hR (fun g => br_t rfl (h3 (fun z => g ⟨z.2.2.1, z.2.2.2.1⟩))) (fun b1 b2 => br_f cc_not0 ?_)))
  refine pk_le (S / 64) (S % 64) (fun c1 => ?_) (fun g => h3 (fun z => absurd z.2.2.2.2 (by omega)))
  have hsp : cc_sp (W % 8) S := ⟨a1, a2, b1, b2, c1⟩
  refine br_c (fun g => h4 hsp (Or.inl g)) (fun g1 => br_c (fun g2 => ?_) (fun g2 => h4 hsp (Or.inr ⟨g1, g2⟩)))
  have g0 : ¬ v3 < 0 := by
    rw [Int32.lt_iff_toInt_lt, show (1 : Int32).toInt = 1 by decide] at g1
    rw [Int32.lt_iff_toInt_lt, Int32.toInt_zero]
    omega
  obtain ⟨s, hs, rfl⟩ := nI_of g0
  have k1 : 1 ≤ s := by
    have := mt (nI_lt (a := s) (b := 1) · (by decide)) g1
    omega
  have k2 : s ≤ 59 := (nI_leI (b := 59) hs (by decide)).mp g2
  have hk : 5 * (W / 8) + W % 8 < 20 := by omega
  have H := h hsp s k1 k2 rfl
  have hi' := vp_in_nI (n := 5 * (W / 8) + W % 8) (N := 20) hk (by decide)
  have ec : (nI (5 * (W / 8) + W % 8)).toNatClampNeg = 5 * (W / 8) + W % 8 := nI_clamp (by omega)
  refine nm_r (cc_at1 (W / 8) (W % 8)) ⟨hi', ?_⟩
  rw [ec]
  refine br_c (fun z => ⟨61, ?_⟩) (fun z => ⟨hi', nm_e ⟨hi', nm_e ⟨61, ?_⟩⟩⟩)
  · have e1 : cc_w0 fl st (5 * (W / 8) + W % 8) = st (5 * (W / 8) + W % 8) := if_pos z
    have e2 : upd fl (5 * (W / 8) + W % 8) (vp_nar .boolean 0) = fl := cc_ui (by rw [z]; exact cc_nb0.symm)
    rw [e1, e2] at H
    have q := xs_a137 (st := st) (fy := fy) (fm := fm) (fd := fd) (fl := fl) (lo := lo) (hi := hi) (post := post) hk k1 k2 (by omega) H 60 (S / 64) (by omega) (Nat.le_refl _) (by rw [Nat.sub_self, Nat.zero_mod]) (Or.inl ⟨rfl, c1⟩) (st (5 * (W / 8) + W % 8)) (fun j hj => ⟨fun z => Or.inl z, fun z => z.elim id (fun y => absurd y.2.1 (by omega))⟩) 61 (by omega)
    rw [cc_uLi] at q
    exact q
  · have e1 : cc_w0 fl st (5 * (W / 8) + W % 8) = 0 := if_neg z
    rw [e1] at H
    exact xs_a137 hk k1 k2 (by omega) H 60 (S / 64) (by omega) (Nat.le_refl _) (by rw [Nat.sub_self, Nat.zero_mod]) (Or.inl ⟨rfl, c1⟩) 0 (fun j hj => ⟨fun z => Or.inl z, fun z => z.elim id (fun y => absurd y.2.1 (by omega))⟩) 61 (by omega)
theorem ym_allow {post : Int32 → SY → Prop} {W S : Nat} {v3 : Int32} {w : Int64} (hR : cc_R st lo hi op) (hW : W < 32) (hf : W % 8 < 5) (hS : S < 2 ^ 31) (h3 : ¬ cc_sp (W % 8) S → post (-3) (gy, gm, gd, op, fl)) (h4 : cc_sp (W % 8) S → (v3 < 1 ∨ (¬ v3 < 1 ∧ ¬ v3 ≤ 59)) → post (-4) (gy, gm, gd, op, fl))
    (h : cc_sp (W % 8) S → ∀ s, 1 ≤ s → s ≤ 59 → v3 = nI s → cc_Fin (cc_w0 fl st (5 * (W / 8) + W % 8)) (S / 64) (S % 64) s w ∧ ∀ o, (∀ j, j < 64 → (o ((5 * (W / 8) + W % 8) * 64 + j) = 0 ↔ w.toBitVec.getLsbD j = false)) → (∀ i, (i < (5 * (W / 8) + W % 8) * 64 ∨ (5 * (W / 8) + W % 8) * 64 + 64 ≤ i) → o i = op i) → post (nI (cc_cnt (cc_bits w) 64)) (gy, gm, gd, o, upd fl (5 * (W / 8) + W % 8) (vp_nar .boolean 0))) :
    wpY_allow post (gy, gm, gd, op, fl) (nI W) (nI S) v3 := by
  obtain ⟨_, _, w3, w4⟩ := cc_wI (W := W) (by omega)
  obtain ⟨_, _, s3, s4⟩ := cc_spI hS
  have hh := cc_hi_in (W % 8)
  unfold wpY_allow
  dsimp only
  rw [w4, w3, s4, s3]
  refine br_f (nI_pos (by omega)) ⟨by decide, br_t (nI_le (b := 3) (by omega) (by decide)) ⟨by decide, nm_e (br_t (nI_le (b := 4) (by omega) (by decide)) (br_t (nI_pos' hS) ⟨by decide, nm_e ⟨by decide, nm_e ?_⟩⟩))⟩⟩
  refine ys_valN (by omega) hf (fun g => br_t rfl (h3 (fun z => g ⟨z.1, z.2.1⟩))) (fun a1 a2 => br_f cc_not0 (ys_valN (by omega) hf (fun g => br_t rfl (h3 (fun z => g ⟨z.2.2.1, z.2.2.2.1⟩))) (fun b1 b2 => br_f cc_not0 ?_)))
  refine pk_le (S / 64) (S % 64) (fun c1 => ?_) (fun g => h3 (fun z => absurd z.2.2.2.2 (by omega)))
  have hsp : cc_sp (W % 8) S := ⟨a1, a2, b1, b2, c1⟩
  refine br_c (fun g => h4 hsp (Or.inl g)) (fun g1 => br_c (fun g2 => ?_) (fun g2 => h4 hsp (Or.inr ⟨g1, g2⟩)))
  have g0 : ¬ v3 < 0 := by
    rw [Int32.lt_iff_toInt_lt, show (1 : Int32).toInt = 1 by decide] at g1
    rw [Int32.lt_iff_toInt_lt, Int32.toInt_zero]
    omega
  obtain ⟨s, hs, rfl⟩ := nI_of g0
  have k1 : 1 ≤ s := by
    have := mt (nI_lt (a := s) (b := 1) · (by decide)) g1
    omega
  have k2 : s ≤ 59 := (nI_leI (b := 59) hs (by decide)).mp g2
  have hk : 5 * (W / 8) + W % 8 < 20 := by omega
  obtain ⟨hF, H⟩ := h hsp s k1 k2 rfl
  refine ⟨by decide, nm_r (cc_at2 (W / 8) (W % 8)) ⟨65, ?_⟩⟩
  by_cases z : fl (5 * (W / 8) + W % 8) = 0
  · have e1 : cc_w0 fl st (5 * (W / 8) + W % 8) = st (5 * (W / 8) + W % 8) := if_pos z
    rw [e1] at hF
    refine ys_a108 hk z ⟨65, ?_⟩ 64 0 (by omega) 65 (by omega)
    exact ys_a159 hk k1 k2 (by omega) c1 hF (fun j hj => hR.2.1 _ j hk hj) (fun o ho => H o ho.1 ho.2) 64 0 (by omega) 65 (by omega) op ⟨fun j hj => absurd hj (by omega), fun i _ => rfl⟩
  · have e1 : cc_w0 fl st (5 * (W / 8) + W % 8) = 0 := if_neg z
    rw [e1] at hF
    refine ys_a108c (op := op) hk z (fun o o1 o2 => ⟨65, ?_⟩) 64 0 (by omega) 65 (by omega) op (fun j hj => absurd hj (by omega)) (fun i _ => rfl)
    refine ys_a159 (op := o) hk k1 k2 (by omega) c1 hF (fun j hj => ?_) (fun o' ho => H o' ho.1 (fun i hi' => (ho.2 i hi').trans (o2 i hi'))) 64 0 (by omega) 65 (by omega) o ⟨fun j hj => absurd hj (by omega), fun i _ => rfl⟩
    rw [o1 j hj]
    show (0 : Int32) = 0 ↔ (0#64).getLsbD j = false
    simp
/-- the bits from 60 on count nothing -/
theorem cc_cnt64 {w : Int64} (h : ∀ j, 60 ≤ j → w.toBitVec.getLsbD j = false) : cc_cnt (cc_bits w) 64 = cc_cnt (cc_bits w) 60 := by
  rw [cc_cnt_f (p := cc_bits w) (n := 63) (h 63 (by decide)), cc_cnt_f (p := cc_bits w) (n := 62) (h 62 (by decide)), cc_cnt_f (p := cc_bits w) (n := 61) (h 61 (by decide)), cc_cnt_f (p := cc_bits w) (n := 60) (h 60 (by decide))]
theorem cc_R_new {k : Nat} {w : Int64} {o : Nat → Int32} (hR : cc_R st lo hi op) (hk : k < 20) (h1 : ∀ j, j < 64 → (o (k * 64 + j) = 0 ↔ w.toBitVec.getLsbD j = false)) (h2 : ∀ i, (i < k * 64 ∨ k * 64 + 64 ≤ i) → o i = op i) (h3 : ∀ j, 60 ≤ j → w.toBitVec.getLsbD j = false) : cc_R (vp_updL st k w) lo hi o := by
  refine ⟨hR.1, fun i j hi' hj => ?_, fun i j hi' hj => ?_⟩
  · by_cases e : i = k
    · subst e; rw [pk_uLs]; exact h1 j hj
    · rw [pk_uLn e, h2 _ (by omega)]; exact hR.2.1 i j hi' hj
  · by_cases e : i = k
    · subst e; rw [pk_uLs]; exact h3 j hj
    · rw [pk_uLn e]; exact hR.2.2 i j hi' hj
theorem cc_Fin60 {k a T s : Nat} {w : Int64} (hR : cc_R st lo hi op) (hk : k < 20) (hT : T ≤ 59) (hF : cc_Fin (cc_w0 fl st k) a T s w) : ∀ j, 60 ≤ j → w.toBitVec.getLsbD j = false := by
  intro j hj
  by_cases g : j < 64
  · cases hb : w.toBitVec.getLsbD j with
    | false => rfl
    | true =>
      rcases (hF j g).mp hb with y | y
      · unfold cc_w0 at y
        split at y
        · rw [hR.2.2 k j hk hj] at y; exact absurd y (by decide)
        · have e : (0 : Int64).toBitVec.getLsbD j = false := by show (0#64).getLsbD j = false; simp
          rw [e] at y; exact absurd y (by decide)
      · exact absurd y.2.1 (by omega)
  · exact BitVec.getLsbD_of_ge _ _ (by omega)
theorem i_vc_allow {k : Nat} {u : SX} {v : SY} (I : i_Rel k u v) (hk : k + 4 ≤ 2048) (v1 : Int32) (v2 : Int32) (v3 : Int32) : wpX_allow (fun r u' => wpY_allow (fun r' v' => r' = r ∧ i_Rel (k + 4) u' v') v v1 v2 v3) u v1 v2 v3 := by
  obtain ⟨a, b, c, a', b', c', st, fl, lo, hi, op, rfl, rfl, hR⟩ := I
  rcases cc_nat v1 with h1 | ⟨W, hW, rfl⟩
  · unfold wpX_allow wpY_allow
    exact nm_e (nm_e (br_t h1 (br_t h1 ⟨rfl, cc_rel hR _ _ _ _ _ _⟩)))
  · obtain ⟨w1, w2, w3, w4⟩ := cc_wI hW
    by_cases hr : W / 8 < 4
    · by_cases hf : W % 8 < 5
      · rcases cc_nat v2 with h2 | ⟨S, hS, rfl⟩
        · unfold wpX_allow wpY_allow
          exact nm_r w1 (nm_r w2 (br_f (nI_pos hW) (xs_ruleT hr (br_f cc_not0 (xs_fieldT hf (br_f cc_not0 (nm_e (nm_e (br_t h2 (br_f (nI_pos hW) ⟨by decide, br_t (by rw [w3]; exact nI_le (b := 3) (by omega) (by decide)) ⟨by decide, nm_r w4 (br_t (nI_le (b := 4) (by omega) (by decide)) (br_f (Int32.not_le.mpr h2) ⟨rfl, cc_rel hR _ _ _ _ _ _⟩))⟩⟩))))))))))
        · refine xm_allow hR (by omega) hf hS (fun z => ?_) (fun z z3 => ?_) (fun z s hs1 hs2 es w hF => ?_)
          · exact ym_allow (st := st) (w := 0) hR (by omega) hf hS (fun _ => ⟨rfl, cc_rel hR _ _ _ _ _ _⟩) (fun y => absurd y z) (fun y => absurd y z)
          · refine ym_allow (st := st) (w := 0) hR (by omega) hf hS (fun y => absurd z y) (fun _ _ => ⟨rfl, cc_rel hR _ _ _ _ _ _⟩) (fun _ s hs1 hs2 es => ?_)
            subst es
            exfalso
            rcases z3 with z3 | ⟨_, z3⟩
            · exact nI_nlt (a := s) (b := 1) hs1 (by omega) z3
            · exact z3 (nI_le (b := 59) hs2 (by decide))
          · subst es
            have hh := cc_hi_in (W % 8)
            have f60 := cc_Fin60 hR (k := 5 * (W / 8) + W % 8) (by omega) (by have := z.2.2.2.1; omega) hF
            refine ym_allow (st := st) (w := w) hR (by omega) hf hS (fun y => absurd z y) (fun _ y => ?_) (fun _ s' hs1' hs2' es' => ⟨?_, fun o o1 o2 => ⟨?_, cc_rel (cc_R_new hR (by omega) o1 o2 f60) _ _ _ _ _ _⟩⟩)
            · exfalso
              rcases y with y | ⟨_, y⟩
              · exact nI_nlt (a := s) (b := 1) hs1 (by omega) y
              · exact y (nI_le (b := 59) hs2 (by decide))
            · have e : s = s' := (nI_eq (by omega) (by omega)).mp es'
              subst e
              exact hF
            · rw [cc_cnt64 f60]
      · unfold wpX_allow wpY_allow
        exact nm_r w1 (nm_r w2 (br_f (nI_pos hW) (xs_ruleT hr (br_f cc_not0 (xs_fieldF (Or.inr (nI_le (by omega) (by omega))) (br_t rfl (br_f (nI_pos hW) ⟨by decide, br_t (by rw [w3]; exact nI_le (b := 3) (by omega) (by decide)) ⟨by decide, nm_r w4 (br_f (nI_ge (a := 4) (by omega) (by omega)) ⟨rfl, cc_rel hR _ _ _ _ _ _⟩)⟩⟩)))))))
    · unfold wpX_allow wpY_allow
      exact nm_r w1 (nm_r w2 (br_f (nI_pos hW) (xs_ruleF (Or.inr (nI_le (by omega) (by omega))) (br_t rfl (br_f (nI_pos hW) ⟨by decide, br_f (by rw [w3]; exact nI_ge (a := 3) (by omega) (by omega)) ⟨rfl, cc_rel hR _ _ _ _ _ _⟩⟩)))))
end AM
end

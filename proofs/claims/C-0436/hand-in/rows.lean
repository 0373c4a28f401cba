section
/-! pure rows to paste: stores, nI and lN arithmetic, masks, shifts, narrowing, branches by naturals (pk_le, pk_lt, pk_eq), loops (lp1 .. lp16: the measure of the state; rp1 ..: recursion), negatives. Take what you need -/
theorem pk_us {f : Nat → Int32} {k : Nat} {x : Int32} : upd f k x k = x := if_pos rfl
theorem pk_un {f : Nat → Int32} {k j : Nat} {x : Int32} (h : j ≠ k) : upd f k x j = f j := if_neg h
theorem pk_uLs {f : Nat → Int64} {k : Nat} {x : Int64} : vp_updL f k x k = x := if_pos rfl
theorem pk_uLn {f : Nat → Int64} {k j : Nat} {x : Int64} (h : j ≠ k) : vp_updL f k x j = f j := if_neg h
theorem pk_sub {a b : Nat} (h : b ≤ a) : nI a - nI b = nI (a - b) := by
  obtain ⟨c, rfl⟩ : ∃ c, a = c + b := ⟨a - b, by omega⟩
  rw [← nI_add, Int32.add_sub_cancel, Nat.add_sub_cancel]
theorem pk_m1 (n : Nat) : nI (n + 1) + (-1) = nI n := by
  rw [← nI_1, Int32.add_assoc, show (1 : Int32) + (-1) = 0 from rfl, Int32.add_zero]
theorem pk_mul (a b : Nat) : nI a * nI b = nI (a * b) := (Int32.ofNat_mul a b).symm
theorem pk_div {a d : Nat} (ha : a < 2 ^ 31) (h0 : 0 < d) (hd : d < 2 ^ 31) : nI a / nI d = nI (a / d) := by
  apply Int32.toInt_inj.mp
  rw [lg_idiv_nonneg (by rw [nI_toInt ha]; omega) (by rw [nI_toInt hd]; omega), nI_toInt ha, nI_toInt hd, nI_toInt (Nat.lt_of_le_of_lt (Nat.div_le_self a d) ha)]
  first | rfl | exact (Int.natCast_ediv _ _).symm
theorem pk_rem {a d : Nat} (ha : a < 2 ^ 31) (h0 : 0 < d) (hd : d < 2 ^ 31) : nI a - nI a / nI d * nI d = nI (a % d) := by
  rw [pk_div ha h0 hd, pk_mul, pk_sub (Nat.div_mul_le_self a d)]
  exact congrArg nI (by have := Nat.div_add_mod' a d; omega)
theorem pk_sub_toInt {a b : Nat} (ha : a < 2 ^ 30) (hb : b < 2 ^ 30) : (nI a - nI b).toInt = (a : Int) - b := by
  rw [Int32.toInt_sub, nI_toInt (by omega), nI_toInt (by omega)]
  exact Int.bmod_eq_of_le (by omega) (by omega)
theorem pk_sneg {a b : Nat} (hb : b < 2 ^ 30) (h : a < b) : nI a - nI b < 0 := by
  rw [Int32.lt_iff_toInt_lt, pk_sub_toInt (by omega) hb, show (0 : Int32).toInt = 0 from by decide]
  omega
theorem pk_ix (x : Int32) {n : Nat} (hn : n < 2 ^ 31) : x < 0 ∨ nI n ≤ x ∨ ∃ j : Nat, j < n ∧ x = nI j := by
  by_cases h : x < 0
  · exact Or.inl h
  · obtain ⟨j, hj, rfl⟩ := nI_of h
    by_cases h2 : j < n
    · exact Or.inr (Or.inr ⟨j, h2, rfl⟩)
    · exact Or.inr (Or.inl (nI_le (by omega) hj))
theorem pk_le {x y : Int32} {A B : Prop} (a b : Nat) (f : a ≤ b → A) (g : b < a → B) (hx : x = nI a := by rfl) (hy : y = nI b := by rfl) (ha : a < 2 ^ 31 := by omega) (hb : b < 2 ^ 31 := by omega) : (x ≤ y → A) ∧ (¬ x ≤ y → B) := by
  subst hx hy
  rw [nI_leI ha hb]
  exact ⟨f, fun z => g (by omega)⟩
theorem pk_lt {x y : Int32} {A B : Prop} (a b : Nat) (f : a < b → A) (g : b ≤ a → B) (hx : x = nI a := by rfl) (hy : y = nI b := by rfl) (ha : a < 2 ^ 31 := by omega) (hb : b < 2 ^ 31 := by omega) : (x < y → A) ∧ (¬ x < y → B) := by
  subst hx hy
  rw [nI_ltI ha hb]
  exact ⟨f, fun z => g (by omega)⟩
theorem pk_eq {x y : Int32} {A B : Prop} (a b : Nat) (f : a = b → A) (g : a ≠ b → B) (hx : x = nI a := by rfl) (hy : y = nI b := by rfl) (ha : a < 2 ^ 31 := by omega) (hb : b < 2 ^ 31 := by omega) : (x = y → A) ∧ (¬ x = y → B) := by
  subst hx hy
  rw [nI_eq ha hb]
  exact ⟨f, g⟩
theorem pk_in {x : Int32} (n N : Nat) (h : n < N) (hx : x = nI n := by rfl) (hN : N < 2 ^ 31 := by omega) : vp_in x N := by
  subst hx
  exact vp_in_nI h hN
theorem pk_cl {x : Int32} (n : Nat) (hx : x = nI n := by rfl) (h : n < 2 ^ 31 := by omega) : x.toNatClampNeg = n := by
  subst hx
  exact nI_clamp h
theorem pk_tn {n : Nat} (h : n < 2 ^ 32) : (nI n).toBitVec.toNat = n := Nat.mod_eq_of_lt h
theorem pk_and (x : Int32) {m : Int32} (k : Nat) (hm : m.toBitVec.toNat = 2 ^ k - 1) : x &&& m = nI (x.toBitVec.toNat % 2 ^ k) := by
  apply Int32.toBitVec_inj.mp
  apply BitVec.eq_of_toNat_eq
  rw [Int32.toBitVec_and, BitVec.toNat_and, hm, Nat.and_two_pow_sub_one_eq_mod]
  show _ = (BitVec.ofNat 32 _).toNat
  rw [BitVec.toNat_ofNat]
  exact (Nat.mod_eq_of_lt (Nat.lt_of_le_of_lt (Nat.mod_le _ _) x.toBitVec.isLt)).symm
theorem pk_andN {n : Nat} (h : n < 2 ^ 32) {m : Int32} (k : Nat) (hm : m.toBitVec.toNat = 2 ^ k - 1) : nI n &&& m = nI (n % 2 ^ k) := by
  rw [pk_and _ k hm, pk_tn h]
theorem pk_andE (x : Int32) {m : Int32} (k : Nat) (hm : m.toBitVec.toNat = 2 ^ k - 1) : ∃ j : Nat, j < 2 ^ k ∧ x &&& m = nI j := ⟨_, Nat.mod_lt _ (Nat.two_pow_pos k), pk_and x k hm⟩
theorem pk_andIn (x : Int32) {m : Int32} (k : Nat) (hm : m.toBitVec.toNat = 2 ^ k - 1) (hk : k ≤ 30) : vp_in (x &&& m) (2 ^ k) := by
  obtain ⟨j, hj, e⟩ := pk_andE x k hm
  rw [e]
  exact vp_in_nI hj (Nat.lt_of_le_of_lt (Nat.pow_le_pow_right (by decide) hk) (by decide))
theorem pk_shl (a s : Int32) (k : Nat) (hs : (s.toBitVec.smod 32).toNat = k) : (a <<< s).toBitVec.toNat = a.toBitVec.toNat * 2 ^ k % 2 ^ 32 := by
  show (a.toBitVec <<< (s.toBitVec.smod 32).toNat).toNat = _
  rw [hs, BitVec.toNat_shiftLeft, Nat.shiftLeft_eq]
theorem pk_shlN {n : Nat} (s : Int32) (k : Nat) (hs : (s.toBitVec.smod 32).toNat = k) (h : n * 2 ^ k < 2 ^ 32) : nI n <<< s = nI (n * 2 ^ k) := by
  apply Int32.toBitVec_inj.mp
  apply BitVec.eq_of_toNat_eq
  have hn : n < 2 ^ 32 := Nat.lt_of_le_of_lt (Nat.le_mul_of_pos_right n (Nat.two_pow_pos k)) h
  rw [pk_shl _ _ k hs, pk_tn hn, pk_tn h, Nat.mod_eq_of_lt h]
theorem pk_shr (a s : Int32) (k : Nat) (hs : (s.toBitVec.smod 32).toNat = k) : (a >>> s).toInt = a.toInt >>> k := by
  show (a.toBitVec.sshiftRight (s.toBitVec.smod 32).toNat).toInt = _
  rw [hs, BitVec.toInt_sshiftRight]
  rfl
theorem pk_shrN {n : Nat} (h : n < 2 ^ 31) (s : Int32) (k : Nat) (hs : (s.toBitVec.smod 32).toNat = k) : nI n >>> s = nI (n / 2 ^ k) := by
  apply Int32.toInt_inj.mp
  have h2 : n / 2 ^ k ≤ n := Nat.div_le_self _ _
  rw [pk_shr _ _ k hs, nI_toInt h, nI_toInt (by omega), Int.shiftRight_eq_div_pow]
  rfl
theorem pk_ushr (x s : Int32) (k : Nat) (hs : ((s.toUInt32 &&& Int32.toUInt32 31).toBitVec % 32).toNat = k) : (x.toUInt32 >>> (s.toUInt32 &&& Int32.toUInt32 31)).toInt32.toBitVec.toNat = x.toBitVec.toNat / 2 ^ k := by
  have e : (x.toUInt32 >>> (s.toUInt32 &&& Int32.toUInt32 31)).toInt32.toBitVec = x.toBitVec >>> k := by
    rw [← hs]
    exact UInt32.toBitVec_shiftRight _ _
  rw [e, BitVec.toNat_ushiftRight, Nat.shiftRight_eq_div_pow]
theorem pk_ushrN {n : Nat} (hn : n < 2 ^ 32) (s : Int32) (k : Nat) (hs : ((s.toUInt32 &&& Int32.toUInt32 31).toBitVec % 32).toNat = k) : ((nI n).toUInt32 >>> (s.toUInt32 &&& Int32.toUInt32 31)).toInt32 = nI (n / 2 ^ k) := by
  apply Int32.toBitVec_inj.mp
  apply BitVec.eq_of_toNat_eq
  rw [pk_ushr _ s k hs, pk_tn hn, pk_tn (Nat.lt_of_le_of_lt (Nat.div_le_self _ _) hn)]
theorem pk_nb (z : Int32) : narrow .byte (.int z.toInt8.toInt32) = .int z.toInt8.toInt32 := congrArg Value.int (by simp)
theorem pk_ns (z : Int32) : narrow .short (.int z.toInt16.toInt32) = .int z.toInt16.toInt32 := congrArg Value.int (by simp)
theorem pk_fb (r : Int32) : fits .byte (.int r.toInt8.toInt32) = true := by
  have ⟨a, b⟩ := lg_i2b_range r
  have h1 : (-128 : Int32).toInt = -128 := by decide
  have h2 : (127 : Int32).toInt = 127 := by decide
  simp only [fits, Bool.and_eq_true, decide_eq_true_eq, Int32.le_iff_toInt_le, h1, h2]
  omega
theorem pk_fs (r : Int32) : fits .short (.int r.toInt16.toInt32) = true := by
  have ⟨a, b⟩ := lg_i2s_range r
  have h1 : (-32768 : Int32).toInt = -32768 := by decide
  have h2 : (32767 : Int32).toInt = 32767 := by decide
  simp only [fits, Bool.and_eq_true, decide_eq_true_eq, Int32.le_iff_toInt_le, h1, h2]
  omega
theorem pk_charN {q : Nat} (hq : q < 65536) : narrow .char (.int (nI q)) = .int (nI q) ∧ fits .char (.int (nI q)) = true := by
  constructor
  · have e : (nI q).toUInt32.toUInt16.toUInt32.toInt32 = nI q := by
      apply Int32.toBitVec_inj.mp
      apply BitVec.eq_of_toNat_eq
      show (nI q).toUInt32.toUInt16.toUInt32.toNat = q % 2 ^ 32
      rw [UInt16.toNat_toUInt32, UInt32.toNat_toUInt16, show (nI q).toUInt32.toNat = q % 2 ^ 32 from rfl]
      omega
    exact congrArg Value.int e
  · have a : (0 : Int32) ≤ nI q := nI_pos' (by omega)
    have b : nI q ≤ 65535 := nI_le (b := 65535) (by omega) (by decide)
    show (decide ((0 : Int32) ≤ nI q) && decide (nI q ≤ 65535)) = true
    rw [decide_eq_true a, decide_eq_true b]
    rfl
theorem pk_char (x : Int32) : (x.toUInt32 % 65536).toInt32 = nI (x.toBitVec.toNat % 65536) := by
  apply Int32.toBitVec_inj.mp
  apply BitVec.eq_of_toNat_eq
  rw [pk_tn (by omega)]
  show (x.toUInt32 % 65536).toNat = _
  rw [UInt32.toNat_mod]
  rfl
theorem pk_nc (x : Int32) : narrow .char (.int (x.toUInt32 % 65536).toInt32) = .int (x.toUInt32 % 65536).toInt32 := by
  rw [pk_char]
  exact (pk_charN (Nat.mod_lt _ (by decide))).1
theorem pk_fc (x : Int32) : fits .char (.int (x.toUInt32 % 65536).toInt32) = true := by
  rw [pk_char]
  exact (pk_charN (Nat.mod_lt _ (by decide))).2
theorem pk_vb (z : Int32) : vp_nar .byte z.toInt8.toInt32 = z.toInt8.toInt32 := by rw [vp_nar_byte]; simp
theorem pk_vs (z : Int32) : vp_nar .short z.toInt16.toInt32 = z.toInt16.toInt32 := by rw [vp_nar_short]; simp
theorem pk_vc (z : Int32) : vp_nar .char (z.toUInt32 % 65536).toInt32 = (z.toUInt32 % 65536).toInt32 := Value.int.inj (pk_nc z)
theorem pk_lT {n : Nat} (h : n < 2 ^ 63) : (lN n).toInt = (n : Int) := lg_ofNat_toInt h
theorem pk_lLT {a b : Nat} (ha : a < 2 ^ 63) (hb : b < 2 ^ 63) : lN a < lN b ↔ a < b := by
  rw [Int64.lt_iff_toInt_lt, pk_lT ha, pk_lT hb]; omega
theorem pk_lLE {a b : Nat} (ha : a < 2 ^ 63) (hb : b < 2 ^ 63) : lN a ≤ lN b ↔ a ≤ b := by
  rw [Int64.le_iff_toInt_le, pk_lT ha, pk_lT hb]; omega
theorem pk_lEQ {a b : Nat} (ha : a < 2 ^ 63) (hb : b < 2 ^ 63) : lN a = lN b ↔ a = b := by
  rw [← Int64.toInt_inj, pk_lT ha, pk_lT hb]; omega
theorem pk_lOf {x : Int64} (h : ¬ x < 0) : ∃ k : Nat, k < 2 ^ 63 ∧ x = lN k := by
  rw [Int64.lt_iff_toInt_lt] at h
  have h0 : (0 : Int64).toInt = 0 := by decide
  have hx := Int64.toInt_lt x
  refine ⟨x.toInt.toNat, by omega, Int64.toInt_inj.mp ?_⟩
  rw [pk_lT (by omega)]
  omega
theorem pk_lDiv {a b : Nat} (ha : a < 2 ^ 63) (h0 : 0 < b) (hb : b < 2 ^ 63) : lN a / lN b = lN (a / b) := by
  apply Int64.toInt_inj.mp
  rw [lg_ldiv_nonneg (by rw [pk_lT ha]; omega) (by rw [pk_lT hb]; omega), pk_lT ha, pk_lT hb, pk_lT (Nat.lt_of_le_of_lt (Nat.div_le_self a b) ha)]
  rfl
theorem pk_lRem {a b : Nat} (ha : a < 2 ^ 63) (h0 : 0 < b) (hb : b < 2 ^ 63) : lN a - lN a / lN b * lN b = lN (a % b) := by
  rw [pk_lDiv ha h0 hb, lN_mul, lN_sub (Nat.div_mul_le_self a b)]
  exact congrArg lN (by have := Nat.div_add_mod' a b; omega)
theorem pk_loop {σ : Type} (W : Nat → Nat → σ → Prop) (I : Nat → σ → Prop) (e i0 : Nat) (s : σ) (hi : i0 ≤ e) (h0 : I i0 s) (hx : ∀ n s, I e s → W (n + 1) e s)
    (hs : ∀ n i s, i < e → I i s → (∀ s', I (i + 1) s' → W n (i + 1) s') → W (n + 1) i s) : ∃ n, W n i0 s :=
  ⟨e + 1, loop_i W I e hx hs (e + 1) i0 s hi (by omega) h0⟩
theorem pk_loopD {σ : Type} (W : Nat → Nat → σ → Prop) (I : Nat → σ → Prop) (hx : ∀ n s, I 0 s → W (n + 1) 0 s)
    (hs : ∀ n i s, I (i + 1) s → (∀ s', I i s' → W n i s') → W (n + 1) (i + 1) s) : ∀ (e : Nat) (s : σ), I e s → W (e + 1) e s := by
  intro e
  induction e with
  | zero => exact fun s h => hx 0 s h
  | succ e ih => exact fun s h => hs (e + 1) e s h (fun s' h' => ih s' h')
theorem lp1 {A1 : Type} (W : Nat → A1 → Prop) (I : A1 → Prop) (μ : A1 → Nat) (hs : ∀ (n : Nat) (a1 : A1), I a1 → (∀ (b1 : A1), I b1 → μ b1 < μ a1 → W n b1) → W (n + 1) a1) (a1 : A1) (h : I a1) : ∃ n, W n a1 :=
  loop_m (σ := A1) (fun n s => W n s) (fun s => I s) (fun s => μ s) (fun n s hI hk => hs n s hI (fun b1 h9 hm => hk b1 h9 hm)) a1 h
theorem lp2 {A1 A2 : Type} (W : Nat → A1 → A2 → Prop) (I : A1 → A2 → Prop) (μ : A1 → A2 → Nat) (hs : ∀ (n : Nat) (a1 : A1) (a2 : A2), I a1 a2 → (∀ (b1 : A1) (b2 : A2), I b1 b2 → μ b1 b2 < μ a1 a2 → W n b1 b2) → W (n + 1) a1 a2) (a1 : A1) (a2 : A2) (h : I a1 a2) : ∃ n, W n a1 a2 :=
  loop_m (σ := A1 × A2) (fun n s => W n s.1 s.2) (fun s => I s.1 s.2) (fun s => μ s.1 s.2) (fun n s hI hk => hs n s.1 s.2 hI (fun b1 b2 h9 hm => hk (b1, b2) h9 hm)) (a1, a2) h
theorem lp3 {A1 A2 A3 : Type} (W : Nat → A1 → A2 → A3 → Prop) (I : A1 → A2 → A3 → Prop) (μ : A1 → A2 → A3 → Nat) (hs : ∀ (n : Nat) (a1 : A1) (a2 : A2) (a3 : A3), I a1 a2 a3 → (∀ (b1 : A1) (b2 : A2) (b3 : A3), I b1 b2 b3 → μ b1 b2 b3 < μ a1 a2 a3 → W n b1 b2 b3) → W (n + 1) a1 a2 a3) (a1 : A1) (a2 : A2) (a3 : A3) (h : I a1 a2 a3) : ∃ n, W n a1 a2 a3 :=
  loop_m (σ := A1 × A2 × A3) (fun n s => W n s.1 s.2.1 s.2.2) (fun s => I s.1 s.2.1 s.2.2) (fun s => μ s.1 s.2.1 s.2.2) (fun n s hI hk => hs n s.1 s.2.1 s.2.2 hI (fun b1 b2 b3 h9 hm => hk (b1, b2, b3) h9 hm)) (a1, a2, a3) h
theorem lp4 {A1 A2 A3 A4 : Type} (W : Nat → A1 → A2 → A3 → A4 → Prop) (I : A1 → A2 → A3 → A4 → Prop) (μ : A1 → A2 → A3 → A4 → Nat) (hs : ∀ (n : Nat) (a1 : A1) (a2 : A2) (a3 : A3) (a4 : A4), I a1 a2 a3 a4 → (∀ (b1 : A1) (b2 : A2) (b3 : A3) (b4 : A4), I b1 b2 b3 b4 → μ b1 b2 b3 b4 < μ a1 a2 a3 a4 → W n b1 b2 b3 b4) → W (n + 1) a1 a2 a3 a4) (a1 : A1) (a2 : A2) (a3 : A3) (a4 : A4) (h : I a1 a2 a3 a4) : ∃ n, W n a1 a2 a3 a4 :=
  loop_m (σ := A1 × A2 × A3 × A4) (fun n s => W n s.1 s.2.1 s.2.2.1 s.2.2.2) (fun s => I s.1 s.2.1 s.2.2.1 s.2.2.2) (fun s => μ s.1 s.2.1 s.2.2.1 s.2.2.2) (fun n s hI hk => hs n s.1 s.2.1 s.2.2.1 s.2.2.2 hI (fun b1 b2 b3 b4 h9 hm => hk (b1, b2, b3, b4) h9 hm)) (a1, a2, a3, a4) h
theorem lp5 {A1 A2 A3 A4 A5 : Type} (W : Nat → A1 → A2 → A3 → A4 → A5 → Prop) (I : A1 → A2 → A3 → A4 → A5 → Prop) (μ : A1 → A2 → A3 → A4 → A5 → Nat) (hs : ∀ (n : Nat) (a1 : A1) (a2 : A2) (a3 : A3) (a4 : A4) (a5 : A5), I a1 a2 a3 a4 a5 → (∀ (b1 : A1) (b2 : A2) (b3 : A3) (b4 : A4) (b5 : A5), I b1 b2 b3 b4 b5 → μ b1 b2 b3 b4 b5 < μ a1 a2 a3 a4 a5 → W n b1 b2 b3 b4 b5) → W (n + 1) a1 a2 a3 a4 a5) (a1 : A1) (a2 : A2) (a3 : A3) (a4 : A4) (a5 : A5) (h : I a1 a2 a3 a4 a5) : ∃ n, W n a1 a2 a3 a4 a5 :=
  loop_m (σ := A1 × A2 × A3 × A4 × A5) (fun n s => W n s.1 s.2.1 s.2.2.1 s.2.2.2.1 s.2.2.2.2) (fun s => I s.1 s.2.1 s.2.2.1 s.2.2.2.1 s.2.2.2.2) (fun s => μ s.1 s.2.1 s.2.2.1 s.2.2.2.1 s.2.2.2.2) (fun n s hI hk => hs n s.1 s.2.1 s.2.2.1 s.2.2.2.1 s.2.2.2.2 hI (fun b1 b2 b3 b4 b5 h9 hm => hk (b1, b2, b3, b4, b5) h9 hm)) (a1, a2, a3, a4, a5) h
theorem lp6 {A1 A2 A3 A4 A5 A6 : Type} (W : Nat → A1 → A2 → A3 → A4 → A5 → A6 → Prop) (I : A1 → A2 → A3 → A4 → A5 → A6 → Prop) (μ : A1 → A2 → A3 → A4 → A5 → A6 → Nat) (hs : ∀ (n : Nat) (a1 : A1) (a2 : A2) (a3 : A3) (a4 : A4) (a5 : A5) (a6 : A6), I a1 a2 a3 a4 a5 a6 → (∀ (b1 : A1) (b2 : A2) (b3 : A3) (b4 : A4) (b5 : A5) (b6 : A6), I b1 b2 b3 b4 b5 b6 → μ b1 b2 b3 b4 b5 b6 < μ a1 a2 a3 a4 a5 a6 → W n b1 b2 b3 b4 b5 b6) → W (n + 1) a1 a2 a3 a4 a5 a6) (a1 : A1) (a2 : A2) (a3 : A3) (a4 : A4) (a5 : A5) (a6 : A6) (h : I a1 a2 a3 a4 a5 a6) : ∃ n, W n a1 a2 a3 a4 a5 a6 :=
  loop_m (σ := A1 × A2 × A3 × A4 × A5 × A6) (fun n s => W n s.1 s.2.1 s.2.2.1 s.2.2.2.1 s.2.2.2.2.1 s.2.2.2.2.2) (fun s => I s.1 s.2.1 s.2.2.1 s.2.2.2.1 s.2.2.2.2.1 s.2.2.2.2.2) (fun s => μ s.1 s.2.1 s.2.2.1 s.2.2.2.1 s.2.2.2.2.1 s.2.2.2.2.2) (fun n s hI hk => hs n s.1 s.2.1 s.2.2.1 s.2.2.2.1 s.2.2.2.2.1 s.2.2.2.2.2 hI (fun b1 b2 b3 b4 b5 b6 h9 hm => hk (b1, b2, b3, b4, b5, b6) h9 hm)) (a1, a2, a3, a4, a5, a6) h
theorem lp7 {A1 A2 A3 A4 A5 A6 A7 : Type} (W : Nat → A1 → A2 → A3 → A4 → A5 → A6 → A7 → Prop) (I : A1 → A2 → A3 → A4 → A5 → A6 → A7 → Prop) (μ : A1 → A2 → A3 → A4 → A5 → A6 → A7 → Nat) (hs : ∀ (n : Nat) (a1 : A1) (a2 : A2) (a3 : A3) (a4 : A4) (a5 : A5) (a6 : A6) (a7 : A7), I a1 a2 a3 a4 a5 a6 a7 → (∀ (b1 : A1) (b2 : A2) (b3 : A3) (b4 : A4) (b5 : A5) (b6 : A6) (b7 : A7), I b1 b2 b3 b4 b5 b6 b7 → μ b1 b2 b3 b4 b5 b6 b7 < μ a1 a2 a3 a4 a5 a6 a7 → W n b1 b2 b3 b4 b5 b6 b7) → W (n + 1) a1 a2 a3 a4 a5 a6 a7) (a1 : A1) (a2 : A2) (a3 : A3) (a4 : A4) (a5 : A5) (a6 : A6) (a7 : A7) (h : I a1 a2 a3 a4 a5 a6 a7) : ∃ n, W n a1 a2 a3 a4 a5 a6 a7 :=
  loop_m (σ := A1 × A2 × A3 × A4 × A5 × A6 × A7) (fun n s => W n s.1 s.2.1 s.2.2.1 s.2.2.2.1 s.2.2.2.2.1 s.2.2.2.2.2.1 s.2.2.2.2.2.2) (fun s => I s.1 s.2.1 s.2.2.1 s.2.2.2.1 s.2.2.2.2.1 s.2.2.2.2.2.1 s.2.2.2.2.2.2) (fun s => μ s.1 s.2.1 s.2.2.1 s.2.2.2.1 s.2.2.2.2.1 s.2.2.2.2.2.1 s.2.2.2.2.2.2) (fun n s hI hk => hs n s.1 s.2.1 s.2.2.1 s.2.2.2.1 s.2.2.2.2.1 s.2.2.2.2.2.1 s.2.2.2.2.2.2 hI (fun b1 b2 b3 b4 b5 b6 b7 h9 hm => hk (b1, b2, b3, b4, b5, b6, b7) h9 hm)) (a1, a2, a3, a4, a5, a6, a7) h
theorem lp8 {A1 A2 A3 A4 A5 A6 A7 A8 : Type} (W : Nat → A1 → A2 → A3 → A4 → A5 → A6 → A7 → A8 → Prop) (I : A1 → A2 → A3 → A4 → A5 → A6 → A7 → A8 → Prop) (μ : A1 → A2 → A3 → A4 → A5 → A6 → A7 → A8 → Nat) (hs : ∀ (n : Nat) (a1 : A1) (a2 : A2) (a3 : A3) (a4 : A4) (a5 : A5) (a6 : A6) (a7 : A7) (a8 : A8), I a1 a2 a3 a4 a5 a6 a7 a8 → (∀ (b1 : A1) (b2 : A2) (b3 : A3) (b4 : A4) (b5 : A5) (b6 : A6) (b7 : A7) (b8 : A8), I b1 b2 b3 b4 b5 b6 b7 b8 → μ b1 b2 b3 b4 b5 b6 b7 b8 < μ a1 a2 a3 a4 a5 a6 a7 a8 → W n b1 b2 b3 b4 b5 b6 b7 b8) → W (n + 1) a1 a2 a3 a4 a5 a6 a7 a8) (a1 : A1) (a2 : A2) (a3 : A3) (a4 : A4) (a5 : A5) (a6 : A6) (a7 : A7) (a8 : A8) (h : I a1 a2 a3 a4 a5 a6 a7 a8) : ∃ n, W n a1 a2 a3 a4 a5 a6 a7 a8 :=
  loop_m (σ := A1 × A2 × A3 × A4 × A5 × A6 × A7 × A8) (fun n s => W n s.1 s.2.1 s.2.2.1 s.2.2.2.1 s.2.2.2.2.1 s.2.2.2.2.2.1 s.2.2.2.2.2.2.1 s.2.2.2.2.2.2.2) (fun s => I s.1 s.2.1 s.2.2.1 s.2.2.2.1 s.2.2.2.2.1 s.2.2.2.2.2.1 s.2.2.2.2.2.2.1 s.2.2.2.2.2.2.2) (fun s => μ s.1 s.2.1 s.2.2.1 s.2.2.2.1 s.2.2.2.2.1 s.2.2.2.2.2.1 s.2.2.2.2.2.2.1 s.2.2.2.2.2.2.2) (fun n s hI hk => hs n s.1 s.2.1 s.2.2.1 s.2.2.2.1 s.2.2.2.2.1 s.2.2.2.2.2.1 s.2.2.2.2.2.2.1 s.2.2.2.2.2.2.2 hI (fun b1 b2 b3 b4 b5 b6 b7 b8 h9 hm => hk (b1, b2, b3, b4, b5, b6, b7, b8) h9 hm)) (a1, a2, a3, a4, a5, a6, a7, a8) h
theorem lp9 {A1 A2 A3 A4 A5 A6 A7 A8 A9 : Type} (W : Nat → A1 → A2 → A3 → A4 → A5 → A6 → A7 → A8 → A9 → Prop) (I : A1 → A2 → A3 → A4 → A5 → A6 → A7 → A8 → A9 → Prop) (μ : A1 → A2 → A3 → A4 → A5 → A6 → A7 → A8 → A9 → Nat) (hs : ∀ (n : Nat) (a1 : A1) (a2 : A2) (a3 : A3) (a4 : A4) (a5 : A5) (a6 : A6) (a7 : A7) (a8 : A8) (a9 : A9), I a1 a2 a3 a4 a5 a6 a7 a8 a9 → (∀ (b1 : A1) (b2 : A2) (b3 : A3) (b4 : A4) (b5 : A5) (b6 : A6) (b7 : A7) (b8 : A8) (b9 : A9), I b1 b2 b3 b4 b5 b6 b7 b8 b9 → μ b1 b2 b3 b4 b5 b6 b7 b8 b9 < μ a1 a2 a3 a4 a5 a6 a7 a8 a9 → W n b1 b2 b3 b4 b5 b6 b7 b8 b9) → W (n + 1) a1 a2 a3 a4 a5 a6 a7 a8 a9) (a1 : A1) (a2 : A2) (a3 : A3) (a4 : A4) (a5 : A5) (a6 : A6) (a7 : A7) (a8 : A8) (a9 : A9) (h : I a1 a2 a3 a4 a5 a6 a7 a8 a9) : ∃ n, W n a1 a2 a3 a4 a5 a6 a7 a8 a9 :=
  loop_m (σ := A1 × A2 × A3 × A4 × A5 × A6 × A7 × A8 × A9) (fun n s => W n s.1 s.2.1 s.2.2.1 s.2.2.2.1 s.2.2.2.2.1 s.2.2.2.2.2.1 s.2.2.2.2.2.2.1 s.2.2.2.2.2.2.2.1 s.2.2.2.2.2.2.2.2) (fun s => I s.1 s.2.1 s.2.2.1 s.2.2.2.1 s.2.2.2.2.1 s.2.2.2.2.2.1 s.2.2.2.2.2.2.1 s.2.2.2.2.2.2.2.1 s.2.2.2.2.2.2.2.2) (fun s => μ s.1 s.2.1 s.2.2.1 s.2.2.2.1 s.2.2.2.2.1 s.2.2.2.2.2.1 s.2.2.2.2.2.2.1 s.2.2.2.2.2.2.2.1 s.2.2.2.2.2.2.2.2) (fun n s hI hk => hs n s.1 s.2.1 s.2.2.1 s.2.2.2.1 s.2.2.2.2.1 s.2.2.2.2.2.1 s.2.2.2.2.2.2.1 s.2.2.2.2.2.2.2.1 s.2.2.2.2.2.2.2.2 hI (fun b1 b2 b3 b4 b5 b6 b7 b8 b9 h9 hm => hk (b1, b2, b3, b4, b5, b6, b7, b8, b9) h9 hm)) (a1, a2, a3, a4, a5, a6, a7, a8, a9) h
theorem lp10 {A1 A2 A3 A4 A5 A6 A7 A8 A9 A10 : Type} (W : Nat → A1 → A2 → A3 → A4 → A5 → A6 → A7 → A8 → A9 → A10 → Prop) (I : A1 → A2 → A3 → A4 → A5 → A6 → A7 → A8 → A9 → A10 → Prop) (μ : A1 → A2 → A3 → A4 → A5 → A6 → A7 → A8 → A9 → A10 → Nat) (hs : ∀ (n : Nat) (a1 : A1) (a2 : A2) (a3 : A3) (a4 : A4) (a5 : A5) (a6 : A6) (a7 : A7) (a8 : A8) (a9 : A9) (a10 : A10), I a1 a2 a3 a4 a5 a6 a7 a8 a9 a10 → (∀ (b1 : A1) (b2 : A2) (b3 : A3) (b4 : A4) (b5 : A5) (b6 : A6) (b7 : A7) (b8 : A8) (b9 : A9) (b10 : A10), I b1 b2 b3 b4 b5 b6 b7 b8 b9 b10 → μ b1 b2 b3 b4 b5 b6 b7 b8 b9 b10 < μ a1 a2 a3 a4 a5 a6 a7 a8 a9 a10 → W n b1 b2 b3 b4 b5 b6 b7 b8 b9 b10) → W (n + 1) a1 a2 a3 a4 a5 a6 a7 a8 a9 a10) (a1 : A1) (a2 : A2) (a3 : A3) (a4 : A4) (a5 : A5) (a6 : A6) (a7 : A7) (a8 : A8) (a9 : A9) (a10 : A10) (h : I a1 a2 a3 a4 a5 a6 a7 a8 a9 a10) : ∃ n, W n a1 a2 a3 a4 a5 a6 a7 a8 a9 a10 :=
  loop_m (σ := A1 × A2 × A3 × A4 × A5 × A6 × A7 × A8 × A9 × A10) (fun n s => W n s.1 s.2.1 s.2.2.1 s.2.2.2.1 s.2.2.2.2.1 s.2.2.2.2.2.1 s.2.2.2.2.2.2.1 s.2.2.2.2.2.2.2.1 s.2.2.2.2.2.2.2.2.1 s.2.2.2.2.2.2.2.2.2) (fun s => I s.1 s.2.1 s.2.2.1 s.2.2.2.1 s.2.2.2.2.1 s.2.2.2.2.2.1 s.2.2.2.2.2.2.1 s.2.2.2.2.2.2.2.1 s.2.2.2.2.2.2.2.2.1 s.2.2.2.2.2.2.2.2.2) (fun s => μ s.1 s.2.1 s.2.2.1 s.2.2.2.1 s.2.2.2.2.1 s.2.2.2.2.2.1 s.2.2.2.2.2.2.1 s.2.2.2.2.2.2.2.1 s.2.2.2.2.2.2.2.2.1 s.2.2.2.2.2.2.2.2.2) (fun n s hI hk => hs n s.1 s.2.1 s.2.2.1 s.2.2.2.1 s.2.2.2.2.1 s.2.2.2.2.2.1 s.2.2.2.2.2.2.1 s.2.2.2.2.2.2.2.1 s.2.2.2.2.2.2.2.2.1 s.2.2.2.2.2.2.2.2.2 hI (fun b1 b2 b3 b4 b5 b6 b7 b8 b9 b10 h9 hm => hk (b1, b2, b3, b4, b5, b6, b7, b8, b9, b10) h9 hm)) (a1, a2, a3, a4, a5, a6, a7, a8, a9, a10) h
theorem lp11 {A1 A2 A3 A4 A5 A6 A7 A8 A9 A10 A11 : Type} (W : Nat → A1 → A2 → A3 → A4 → A5 → A6 → A7 → A8 → A9 → A10 → A11 → Prop) (I : A1 → A2 → A3 → A4 → A5 → A6 → A7 → A8 → A9 → A10 → A11 → Prop) (μ : A1 → A2 → A3 → A4 → A5 → A6 → A7 → A8 → A9 → A10 → A11 → Nat) (hs : ∀ (n : Nat) (a1 : A1) (a2 : A2) (a3 : A3) (a4 : A4) (a5 : A5) (a6 : A6) (a7 : A7) (a8 : A8) (a9 : A9) (a10 : A10) (a11 : A11), I a1 a2 a3 a4 a5 a6 a7 a8 a9 a10 a11 → (∀ (b1 : A1) (b2 : A2) (b3 : A3) (b4 : A4) (b5 : A5) (b6 : A6) (b7 : A7) (b8 : A8) (b9 : A9) (b10 : A10) (b11 : A11), I b1 b2 b3 b4 b5 b6 b7 b8 b9 b10 b11 → μ b1 b2 b3 b4 b5 b6 b7 b8 b9 b10 b11 < μ a1 a2 a3 a4 a5 a6 a7 a8 a9 a10 a11 → W n b1 b2 b3 b4 b5 b6 b7 b8 b9 b10 b11) → W (n + 1) a1 a2 a3 a4 a5 a6 a7 a8 a9 a10 a11) (a1 : A1) (a2 : A2) (a3 : A3) (a4 : A4) (a5 : A5) (a6 : A6) (a7 : A7) (a8 : A8) (a9 : A9) (a10 : A10) (a11 : A11) (h : I a1 a2 a3 a4 a5 a6 a7 a8 a9 a10 a11) : ∃ n, W n a1 a2 a3 a4 a5 a6 a7 a8 a9 a10 a11 :=
  loop_m (σ := A1 × A2 × A3 × A4 × A5 × A6 × A7 × A8 × A9 × A10 × A11) (fun n s => W n s.1 s.2.1 s.2.2.1 s.2.2.2.1 s.2.2.2.2.1 s.2.2.2.2.2.1 s.2.2.2.2.2.2.1 s.2.2.2.2.2.2.2.1 s.2.2.2.2.2.2.2.2.1 s.2.2.2.2.2.2.2.2.2.1 s.2.2.2.2.2.2.2.2.2.2) (fun s => I s.1 s.2.1 s.2.2.1 s.2.2.2.1 s.2.2.2.2.1 s.2.2.2.2.2.1 s.2.2.2.2.2.2.1 s.2.2.2.2.2.2.2.1 s.2.2.2.2.2.2.2.2.1 s.2.2.2.2.2.2.2.2.2.1 s.2.2.2.2.2.2.2.2.2.2) (fun s => μ s.1 s.2.1 s.2.2.1 s.2.2.2.1 s.2.2.2.2.1 s.2.2.2.2.2.1 s.2.2.2.2.2.2.1 s.2.2.2.2.2.2.2.1 s.2.2.2.2.2.2.2.2.1 s.2.2.2.2.2.2.2.2.2.1 s.2.2.2.2.2.2.2.2.2.2) (fun n s hI hk => hs n s.1 s.2.1 s.2.2.1 s.2.2.2.1 s.2.2.2.2.1 s.2.2.2.2.2.1 s.2.2.2.2.2.2.1 s.2.2.2.2.2.2.2.1 s.2.2.2.2.2.2.2.2.1 s.2.2.2.2.2.2.2.2.2.1 s.2.2.2.2.2.2.2.2.2.2 hI (fun b1 b2 b3 b4 b5 b6 b7 b8 b9 b10 b11 h9 hm => hk (b1, b2, b3, b4, b5, b6, b7, b8, b9, b10, b11) h9 hm)) (a1, a2, a3, a4, a5, a6, a7, a8, a9, a10, a11) h
theorem lp12 {A1 A2 A3 A4 A5 A6 A7 A8 A9 A10 A11 A12 : Type} (W : Nat → A1 → A2 → A3 → A4 → A5 → A6 → A7 → A8 → A9 → A10 → A11 → A12 → Prop) (I : A1 → A2 → A3 → A4 → A5 → A6 → A7 → A8 → A9 → A10 → A11 → A12 → Prop) (μ : A1 → A2 → A3 → A4 → A5 → A6 → A7 → A8 → A9 → A10 → A11 → A12 → Nat) (hs : ∀ (n : Nat) (a1 : A1) (a2 : A2) (a3 : A3) (a4 : A4) (a5 : A5) (a6 : A6) (a7 : A7) (a8 : A8) (a9 : A9) (a10 : A10) (a11 : A11) (a12 : A12), I a1 a2 a3 a4 a5 a6 a7 a8 a9 a10 a11 a12 → (∀ (b1 : A1) (b2 : A2) (b3 : A3) (b4 : A4) (b5 : A5) (b6 : A6) (b7 : A7) (b8 : A8) (b9 : A9) (b10 : A10) (b11 : A11) (b12 : A12), I b1 b2 b3 b4 b5 b6 b7 b8 b9 b10 b11 b12 → μ b1 b2 b3 b4 b5 b6 b7 b8 b9 b10 b11 b12 < μ a1 a2 a3 a4 a5 a6 a7 a8 a9 a10 a11 a12 → W n b1 b2 b3 b4 b5 b6 b7 b8 b9 b10 b11 b12) → W (n + 1) a1 a2 a3 a4 a5 a6 a7 a8 a9 a10 a11 a12) (a1 : A1) (a2 : A2) (a3 : A3) (a4 : A4) (a5 : A5) (a6 : A6) (a7 : A7) (a8 : A8) (a9 : A9) (a10 : A10) (a11 : A11) (a12 : A12) (h : I a1 a2 a3 a4 a5 a6 a7 a8 a9 a10 a11 a12) : ∃ n, W n a1 a2 a3 a4 a5 a6 a7 a8 a9 a10 a11 a12 :=
  loop_m (σ := A1 × A2 × A3 × A4 × A5 × A6 × A7 × A8 × A9 × A10 × A11 × A12) (fun n s => W n s.1 s.2.1 s.2.2.1 s.2.2.2.1 s.2.2.2.2.1 s.2.2.2.2.2.1 s.2.2.2.2.2.2.1 s.2.2.2.2.2.2.2.1 s.2.2.2.2.2.2.2.2.1 s.2.2.2.2.2.2.2.2.2.1 s.2.2.2.2.2.2.2.2.2.2.1 s.2.2.2.2.2.2.2.2.2.2.2) (fun s => I s.1 s.2.1 s.2.2.1 s.2.2.2.1 s.2.2.2.2.1 s.2.2.2.2.2.1 s.2.2.2.2.2.2.1 s.2.2.2.2.2.2.2.1 s.2.2.2.2.2.2.2.2.1 s.2.2.2.2.2.2.2.2.2.1 s.2.2.2.2.2.2.2.2.2.2.1 s.2.2.2.2.2.2.2.2.2.2.2) (fun s => μ s.1 s.2.1 s.2.2.1 s.2.2.2.1 s.2.2.2.2.1 s.2.2.2.2.2.1 s.2.2.2.2.2.2.1 s.2.2.2.2.2.2.2.1 s.2.2.2.2.2.2.2.2.1 s.2.2.2.2.2.2.2.2.2.1 s.2.2.2.2.2.2.2.2.2.2.1 s.2.2.2.2.2.2.2.2.2.2.2) (fun n s hI hk => hs n s.1 s.2.1 s.2.2.1 s.2.2.2.1 s.2.2.2.2.1 s.2.2.2.2.2.1 s.2.2.2.2.2.2.1 s.2.2.2.2.2.2.2.1 s.2.2.2.2.2.2.2.2.1 s.2.2.2.2.2.2.2.2.2.1 s.2.2.2.2.2.2.2.2.2.2.1 s.2.2.2.2.2.2.2.2.2.2.2 hI (fun b1 b2 b3 b4 b5 b6 b7 b8 b9 b10 b11 b12 h9 hm => hk (b1, b2, b3, b4, b5, b6, b7, b8, b9, b10, b11, b12) h9 hm)) (a1, a2, a3, a4, a5, a6, a7, a8, a9, a10, a11, a12) h
theorem lp13 {A1 A2 A3 A4 A5 A6 A7 A8 A9 A10 A11 A12 A13 : Type} (W : Nat → A1 → A2 → A3 → A4 → A5 → A6 → A7 → A8 → A9 → A10 → A11 → A12 → A13 → Prop) (I : A1 → A2 → A3 → A4 → A5 → A6 → A7 → A8 → A9 → A10 → A11 → A12 → A13 → Prop) (μ : A1 → A2 → A3 → A4 → A5 → A6 → A7 → A8 → A9 → A10 → A11 → A12 → A13 → Nat) (hs : ∀ (n : Nat) (a1 : A1) (a2 : A2) (a3 : A3) (a4 : A4) (a5 : A5) (a6 : A6) (a7 : A7) (a8 : A8) (a9 : A9) (a10 : A10) (a11 : A11) (a12 : A12) (a13 : A13), I a1 a2 a3 a4 a5 a6 a7 a8 a9 a10 a11 a12 a13 → (∀ (b1 : A1) (b2 : A2) (b3 : A3) (b4 : A4) (b5 : A5) (b6 : A6) (b7 : A7) (b8 : A8) (b9 : A9) (b10 : A10) (b11 : A11) (b12 : A12) (b13 : A13), I b1 b2 b3 b4 b5 b6 b7 b8 b9 b10 b11 b12 b13 → μ b1 b2 b3 b4 b5 b6 b7 b8 b9 b10 b11 b12 b13 < μ a1 a2 a3 a4 a5 a6 a7 a8 a9 a10 a11 a12 a13 → W n b1 b2 b3 b4 b5 b6 b7 b8 b9 b10 b11 b12 b13) → W (n + 1) a1 a2 a3 a4 a5 a6 a7 a8 a9 a10 a11 a12 a13) (a1 : A1) (a2 : A2) (a3 : A3) (a4 : A4) (a5 : A5) (a6 : A6) (a7 : A7) (a8 : A8) (a9 : A9) (a10 : A10) (a11 : A11) (a12 : A12) (a13 : A13) (h : I a1 a2 a3 a4 a5 a6 a7 a8 a9 a10 a11 a12 a13) : ∃ n, W n a1 a2 a3 a4 a5 a6 a7 a8 a9 a10 a11 a12 a13 :=
  loop_m (σ := A1 × A2 × A3 × A4 × A5 × A6 × A7 × A8 × A9 × A10 × A11 × A12 × A13) (fun n s => W n s.1 s.2.1 s.2.2.1 s.2.2.2.1 s.2.2.2.2.1 s.2.2.2.2.2.1 s.2.2.2.2.2.2.1 s.2.2.2.2.2.2.2.1 s.2.2.2.2.2.2.2.2.1 s.2.2.2.2.2.2.2.2.2.1 s.2.2.2.2.2.2.2.2.2.2.1 s.2.2.2.2.2.2.2.2.2.2.2.1 s.2.2.2.2.2.2.2.2.2.2.2.2) (fun s => I s.1 s.2.1 s.2.2.1 s.2.2.2.1 s.2.2.2.2.1 s.2.2.2.2.2.1 s.2.2.2.2.2.2.1 s.2.2.2.2.2.2.2.1 s.2.2.2.2.2.2.2.2.1 s.2.2.2.2.2.2.2.2.2.1 s.2.2.2.2.2.2.2.2.2.2.1 s.2.2.2.2.2.2.2.2.2.2.2.1 s.2.2.2.2.2.2.2.2.2.2.2.2) (fun s => μ s.1 s.2.1 s.2.2.1 s.2.2.2.1 s.2.2.2.2.1 s.2.2.2.2.2.1 s.2.2.2.2.2.2.1 s.2.2.2.2.2.2.2.1 s.2.2.2.2.2.2.2.2.1 s.2.2.2.2.2.2.2.2.2.1 s.2.2.2.2.2.2.2.2.2.2.1 s.2.2.2.2.2.2.2.2.2.2.2.1 s.2.2.2.2.2.2.2.2.2.2.2.2) (fun n s hI hk => hs n s.1 s.2.1 s.2.2.1 s.2.2.2.1 s.2.2.2.2.1 s.2.2.2.2.2.1 s.2.2.2.2.2.2.1 s.2.2.2.2.2.2.2.1 s.2.2.2.2.2.2.2.2.1 s.2.2.2.2.2.2.2.2.2.1 s.2.2.2.2.2.2.2.2.2.2.1 s.2.2.2.2.2.2.2.2.2.2.2.1 s.2.2.2.2.2.2.2.2.2.2.2.2 hI (fun b1 b2 b3 b4 b5 b6 b7 b8 b9 b10 b11 b12 b13 h9 hm => hk (b1, b2, b3, b4, b5, b6, b7, b8, b9, b10, b11, b12, b13) h9 hm)) (a1, a2, a3, a4, a5, a6, a7, a8, a9, a10, a11, a12, a13) h
theorem lp14 {A1 A2 A3 A4 A5 A6 A7 A8 A9 A10 A11 A12 A13 A14 : Type} (W : Nat → A1 → A2 → A3 → A4 → A5 → A6 → A7 → A8 → A9 → A10 → A11 → A12 → A13 → A14 → Prop) (I : A1 → A2 → A3 → A4 → A5 → A6 → A7 → A8 → A9 → A10 → A11 → A12 → A13 → A14 → Prop) (μ : A1 → A2 → A3 → A4 → A5 → A6 → A7 → A8 → A9 → A10 → A11 → A12 → A13 → A14 → Nat) (hs : ∀ (n : Nat) (a1 : A1) (a2 : A2) (a3 : A3) (a4 : A4) (a5 : A5) (a6 : A6) (a7 : A7) (a8 : A8) (a9 : A9) (a10 : A10) (a11 : A11) (a12 : A12) (a13 : A13) (a14 : A14), I a1 a2 a3 a4 a5 a6 a7 a8 a9 a10 a11 a12 a13 a14 → (∀ (b1 : A1) (b2 : A2) (b3 : A3) (b4 : A4) (b5 : A5) (b6 : A6) (b7 : A7) (b8 : A8) (b9 : A9) (b10 : A10) (b11 : A11) (b12 : A12) (b13 : A13) (b14 : A14), I b1 b2 b3 b4 b5 b6 b7 b8 b9 b10 b11 b12 b13 b14 → μ b1 b2 b3 b4 b5 b6 b7 b8 b9 b10 b11 b12 b13 b14 < μ a1 a2 a3 a4 a5 a6 a7 a8 a9 a10 a11 a12 a13 a14 → W n b1 b2 b3 b4 b5 b6 b7 b8 b9 b10 b11 b12 b13 b14) → W (n + 1) a1 a2 a3 a4 a5 a6 a7 a8 a9 a10 a11 a12 a13 a14) (a1 : A1) (a2 : A2) (a3 : A3) (a4 : A4) (a5 : A5) (a6 : A6) (a7 : A7) (a8 : A8) (a9 : A9) (a10 : A10) (a11 : A11) (a12 : A12) (a13 : A13) (a14 : A14) (h : I a1 a2 a3 a4 a5 a6 a7 a8 a9 a10 a11 a12 a13 a14) : ∃ n, W n a1 a2 a3 a4 a5 a6 a7 a8 a9 a10 a11 a12 a13 a14 :=
  loop_m (σ := A1 × A2 × A3 × A4 × A5 × A6 × A7 × A8 × A9 × A10 × A11 × A12 × A13 × A14) (fun n s => W n s.1 s.2.1 s.2.2.1 s.2.2.2.1 s.2.2.2.2.1 s.2.2.2.2.2.1 s.2.2.2.2.2.2.1 s.2.2.2.2.2.2.2.1 s.2.2.2.2.2.2.2.2.1 s.2.2.2.2.2.2.2.2.2.1 s.2.2.2.2.2.2.2.2.2.2.1 s.2.2.2.2.2.2.2.2.2.2.2.1 s.2.2.2.2.2.2.2.2.2.2.2.2.1 s.2.2.2.2.2.2.2.2.2.2.2.2.2) (fun s => I s.1 s.2.1 s.2.2.1 s.2.2.2.1 s.2.2.2.2.1 s.2.2.2.2.2.1 s.2.2.2.2.2.2.1 s.2.2.2.2.2.2.2.1 s.2.2.2.2.2.2.2.2.1 s.2.2.2.2.2.2.2.2.2.1 s.2.2.2.2.2.2.2.2.2.2.1 s.2.2.2.2.2.2.2.2.2.2.2.1 s.2.2.2.2.2.2.2.2.2.2.2.2.1 s.2.2.2.2.2.2.2.2.2.2.2.2.2) (fun s => μ s.1 s.2.1 s.2.2.1 s.2.2.2.1 s.2.2.2.2.1 s.2.2.2.2.2.1 s.2.2.2.2.2.2.1 s.2.2.2.2.2.2.2.1 s.2.2.2.2.2.2.2.2.1 s.2.2.2.2.2.2.2.2.2.1 s.2.2.2.2.2.2.2.2.2.2.1 s.2.2.2.2.2.2.2.2.2.2.2.1 s.2.2.2.2.2.2.2.2.2.2.2.2.1 s.2.2.2.2.2.2.2.2.2.2.2.2.2) (fun n s hI hk => hs n s.1 s.2.1 s.2.2.1 s.2.2.2.1 s.2.2.2.2.1 s.2.2.2.2.2.1 s.2.2.2.2.2.2.1 s.2.2.2.2.2.2.2.1 s.2.2.2.2.2.2.2.2.1 s.2.2.2.2.2.2.2.2.2.1 s.2.2.2.2.2.2.2.2.2.2.1 s.2.2.2.2.2.2.2.2.2.2.2.1 s.2.2.2.2.2.2.2.2.2.2.2.2.1 s.2.2.2.2.2.2.2.2.2.2.2.2.2 hI (fun b1 b2 b3 b4 b5 b6 b7 b8 b9 b10 b11 b12 b13 b14 h9 hm => hk (b1, b2, b3, b4, b5, b6, b7, b8, b9, b10, b11, b12, b13, b14) h9 hm)) (a1, a2, a3, a4, a5, a6, a7, a8, a9, a10, a11, a12, a13, a14) h
theorem lp15 {A1 A2 A3 A4 A5 A6 A7 A8 A9 A10 A11 A12 A13 A14 A15 : Type} (W : Nat → A1 → A2 → A3 → A4 → A5 → A6 → A7 → A8 → A9 → A10 → A11 → A12 → A13 → A14 → A15 → Prop) (I : A1 → A2 → A3 → A4 → A5 → A6 → A7 → A8 → A9 → A10 → A11 → A12 → A13 → A14 → A15 → Prop) (μ : A1 → A2 → A3 → A4 → A5 → A6 → A7 → A8 → A9 → A10 → A11 → A12 → A13 → A14 → A15 → Nat) (hs : ∀ (n : Nat) (a1 : A1) (a2 : A2) (a3 : A3) (a4 : A4) (a5 : A5) (a6 : A6) (a7 : A7) (a8 : A8) (a9 : A9) (a10 : A10) (a11 : A11) (a12 : A12) (a13 : A13) (a14 : A14) (a15 : A15), I a1 a2 a3 a4 a5 a6 a7 a8 a9 a10 a11 a12 a13 a14 a15 → (∀ (b1 : A1) (b2 : A2) (b3 : A3) (b4 : A4) (b5 : A5) (b6 : A6) (b7 : A7) (b8 : A8) (b9 : A9) (b10 : A10) (b11 : A11) (b12 : A12) (b13 : A13) (b14 : A14) (b15 : A15), I b1 b2 b3 b4 b5 b6 b7 b8 b9 b10 b11 b12 b13 b14 b15 → μ b1 b2 b3 b4 b5 b6 b7 b8 b9 b10 b11 b12 b13 b14 b15 < μ a1 a2 a3 a4 a5 a6 a7 a8 a9 a10 a11 a12 a13 a14 a15 → W n b1 b2 b3 b4 b5 b6 b7 b8 b9 b10 b11 b12 b13 b14 b15) → W (n + 1) a1 a2 a3 a4 a5 a6 a7 a8 a9 a10 a11 a12 a13 a14 a15) (a1 : A1) (a2 : A2) (a3 : A3) (a4 : A4) (a5 : A5) (a6 : A6) (a7 : A7) (a8 : A8) (a9 : A9) (a10 : A10) (a11 : A11) (a12 : A12) (a13 : A13) (a14 : A14) (a15 : A15) (h : I a1 a2 a3 a4 a5 a6 a7 a8 a9 a10 a11 a12 a13 a14 a15) : ∃ n, W n a1 a2 a3 a4 a5 a6 a7 a8 a9 a10 a11 a12 a13 a14 a15 :=
  loop_m (σ := A1 × A2 × A3 × A4 × A5 × A6 × A7 × A8 × A9 × A10 × A11 × A12 × A13 × A14 × A15) (fun n s => W n s.1 s.2.1 s.2.2.1 s.2.2.2.1 s.2.2.2.2.1 s.2.2.2.2.2.1 s.2.2.2.2.2.2.1 s.2.2.2.2.2.2.2.1 s.2.2.2.2.2.2.2.2.1 s.2.2.2.2.2.2.2.2.2.1 s.2.2.2.2.2.2.2.2.2.2.1 s.2.2.2.2.2.2.2.2.2.2.2.1 s.2.2.2.2.2.2.2.2.2.2.2.2.1 s.2.2.2.2.2.2.2.2.2.2.2.2.2.1 s.2.2.2.2.2.2.2.2.2.2.2.2.2.2) (fun s => I s.1 s.2.1 s.2.2.1 s.2.2.2.1 s.2.2.2.2.1 s.2.2.2.2.2.1 s.2.2.2.2.2.2.1 s.2.2.2.2.2.2.2.1 s.2.2.2.2.2.2.2.2.1 s.2.2.2.2.2.2.2.2.2.1 s.2.2.2.2.2.2.2.2.2.2.1 s.2.2.2.2.2.2.2.2.2.2.2.1 s.2.2.2.2.2.2.2.2.2.2.2.2.1 s.2.2.2.2.2.2.2.2.2.2.2.2.2.1 s.2.2.2.2.2.2.2.2.2.2.2.2.2.2) (fun s => μ s.1 s.2.1 s.2.2.1 s.2.2.2.1 s.2.2.2.2.1 s.2.2.2.2.2.1 s.2.2.2.2.2.2.1 s.2.2.2.2.2.2.2.1 s.2.2.2.2.2.2.2.2.1 s.2.2.2.2.2.2.2.2.2.1 s.2.2.2.2.2.2.2.2.2.2.1 s.2.2.2.2.2.2.2.2.2.2.2.1 s.2.2.2.2.2.2.2.2.2.2.2.2.1 s.2.2.2.2.2.2.2.2.2.2.2.2.2.1 s.2.2.2.2.2.2.2.2.2.2.2.2.2.2) (fun n s hI hk => hs n s.1 s.2.1 s.2.2.1 s.2.2.2.1 s.2.2.2.2.1 s.2.2.2.2.2.1 s.2.2.2.2.2.2.1 s.2.2.2.2.2.2.2.1 s.2.2.2.2.2.2.2.2.1 s.2.2.2.2.2.2.2.2.2.1 s.2.2.2.2.2.2.2.2.2.2.1 s.2.2.2.2.2.2.2.2.2.2.2.1 s.2.2.2.2.2.2.2.2.2.2.2.2.1 s.2.2.2.2.2.2.2.2.2.2.2.2.2.1 s.2.2.2.2.2.2.2.2.2.2.2.2.2.2 hI (fun b1 b2 b3 b4 b5 b6 b7 b8 b9 b10 b11 b12 b13 b14 b15 h9 hm => hk (b1, b2, b3, b4, b5, b6, b7, b8, b9, b10, b11, b12, b13, b14, b15) h9 hm)) (a1, a2, a3, a4, a5, a6, a7, a8, a9, a10, a11, a12, a13, a14, a15) h
theorem lp16 {A1 A2 A3 A4 A5 A6 A7 A8 A9 A10 A11 A12 A13 A14 A15 A16 : Type} (W : Nat → A1 → A2 → A3 → A4 → A5 → A6 → A7 → A8 → A9 → A10 → A11 → A12 → A13 → A14 → A15 → A16 → Prop) (I : A1 → A2 → A3 → A4 → A5 → A6 → A7 → A8 → A9 → A10 → A11 → A12 → A13 → A14 → A15 → A16 → Prop) (μ : A1 → A2 → A3 → A4 → A5 → A6 → A7 → A8 → A9 → A10 → A11 → A12 → A13 → A14 → A15 → A16 → Nat) (hs : ∀ (n : Nat) (a1 : A1) (a2 : A2) (a3 : A3) (a4 : A4) (a5 : A5) (a6 : A6) (a7 : A7) (a8 : A8) (a9 : A9) (a10 : A10) (a11 : A11) (a12 : A12) (a13 : A13) (a14 : A14) (a15 : A15) (a16 : A16), I a1 a2 a3 a4 a5 a6 a7 a8 a9 a10 a11 a12 a13 a14 a15 a16 → (∀ (b1 : A1) (b2 : A2) (b3 : A3) (b4 : A4) (b5 : A5) (b6 : A6) (b7 : A7) (b8 : A8) (b9 : A9) (b10 : A10) (b11 : A11) (b12 : A12) (b13 : A13) (b14 : A14) (b15 : A15) (b16 : A16), I b1 b2 b3 b4 b5 b6 b7 b8 b9 b10 b11 b12 b13 b14 b15 b16 → μ b1 b2 b3 b4 b5 b6 b7 b8 b9 b10 b11 b12 b13 b14 b15 b16 < μ a1 a2 a3 a4 a5 a6 a7 a8 a9 a10 a11 a12 a13 a14 a15 a16 → W n b1 b2 b3 b4 b5 b6 b7 b8 b9 b10 b11 b12 b13 b14 b15 b16) → W (n + 1) a1 a2 a3 a4 a5 a6 a7 a8 a9 a10 a11 a12 a13 a14 a15 a16) (a1 : A1) (a2 : A2) (a3 : A3) (a4 : A4) (a5 : A5) (a6 : A6) (a7 : A7) (a8 : A8) (a9 : A9) (a10 : A10) (a11 : A11) (a12 : A12) (a13 : A13) (a14 : A14) (a15 : A15) (a16 : A16) (h : I a1 a2 a3 a4 a5 a6 a7 a8 a9 a10 a11 a12 a13 a14 a15 a16) : ∃ n, W n a1 a2 a3 a4 a5 a6 a7 a8 a9 a10 a11 a12 a13 a14 a15 a16 :=
  loop_m (σ := A1 × A2 × A3 × A4 × A5 × A6 × A7 × A8 × A9 × A10 × A11 × A12 × A13 × A14 × A15 × A16) (fun n s => W n s.1 s.2.1 s.2.2.1 s.2.2.2.1 s.2.2.2.2.1 s.2.2.2.2.2.1 s.2.2.2.2.2.2.1 s.2.2.2.2.2.2.2.1 s.2.2.2.2.2.2.2.2.1 s.2.2.2.2.2.2.2.2.2.1 s.2.2.2.2.2.2.2.2.2.2.1 s.2.2.2.2.2.2.2.2.2.2.2.1 s.2.2.2.2.2.2.2.2.2.2.2.2.1 s.2.2.2.2.2.2.2.2.2.2.2.2.2.1 s.2.2.2.2.2.2.2.2.2.2.2.2.2.2.1 s.2.2.2.2.2.2.2.2.2.2.2.2.2.2.2) (fun s => I s.1 s.2.1 s.2.2.1 s.2.2.2.1 s.2.2.2.2.1 s.2.2.2.2.2.1 s.2.2.2.2.2.2.1 s.2.2.2.2.2.2.2.1 s.2.2.2.2.2.2.2.2.1 s.2.2.2.2.2.2.2.2.2.1 s.2.2.2.2.2.2.2.2.2.2.1 s.2.2.2.2.2.2.2.2.2.2.2.1 s.2.2.2.2.2.2.2.2.2.2.2.2.1 s.2.2.2.2.2.2.2.2.2.2.2.2.2.1 s.2.2.2.2.2.2.2.2.2.2.2.2.2.2.1 s.2.2.2.2.2.2.2.2.2.2.2.2.2.2.2) (fun s => μ s.1 s.2.1 s.2.2.1 s.2.2.2.1 s.2.2.2.2.1 s.2.2.2.2.2.1 s.2.2.2.2.2.2.1 s.2.2.2.2.2.2.2.1 s.2.2.2.2.2.2.2.2.1 s.2.2.2.2.2.2.2.2.2.1 s.2.2.2.2.2.2.2.2.2.2.1 s.2.2.2.2.2.2.2.2.2.2.2.1 s.2.2.2.2.2.2.2.2.2.2.2.2.1 s.2.2.2.2.2.2.2.2.2.2.2.2.2.1 s.2.2.2.2.2.2.2.2.2.2.2.2.2.2.1 s.2.2.2.2.2.2.2.2.2.2.2.2.2.2.2) (fun n s hI hk => hs n s.1 s.2.1 s.2.2.1 s.2.2.2.1 s.2.2.2.2.1 s.2.2.2.2.2.1 s.2.2.2.2.2.2.1 s.2.2.2.2.2.2.2.1 s.2.2.2.2.2.2.2.2.1 s.2.2.2.2.2.2.2.2.2.1 s.2.2.2.2.2.2.2.2.2.2.1 s.2.2.2.2.2.2.2.2.2.2.2.1 s.2.2.2.2.2.2.2.2.2.2.2.2.1 s.2.2.2.2.2.2.2.2.2.2.2.2.2.1 s.2.2.2.2.2.2.2.2.2.2.2.2.2.2.1 s.2.2.2.2.2.2.2.2.2.2.2.2.2.2.2 hI (fun b1 b2 b3 b4 b5 b6 b7 b8 b9 b10 b11 b12 b13 b14 b15 b16 h9 hm => hk (b1, b2, b3, b4, b5, b6, b7, b8, b9, b10, b11, b12, b13, b14, b15, b16) h9 hm)) (a1, a2, a3, a4, a5, a6, a7, a8, a9, a10, a11, a12, a13, a14, a15, a16) h
theorem pk_least (P : Nat → Prop) (h : ∃ k, P k) : ∃ k, P k ∧ ∀ j, j < k → ¬ P j := by
  obtain ⟨k, hk⟩ := h
  induction k using Nat.strongRecOn with
  | ind k ih =>
    by_cases e : ∃ j, j < k ∧ P j
    · obtain ⟨j, hj, pj⟩ := e
      exact ih j hj pj
    · exact ⟨k, hk, fun j hj pj => e ⟨j, hj, pj⟩⟩
theorem rp1 {ρ A1 : Type} (W : Nat → (ρ → Prop) → A1 → Prop) (ok : A1 → Prop) (μ : A1 → Nat) (val : A1 → ρ)
    (hs : ∀ (d : Nat) (post : ρ → Prop) (a1 : A1), ok a1 → post (val a1) → (∀ (post' : ρ → Prop) (b1 : A1), ok b1 → μ b1 < μ a1 → post' (val b1) → W d post' b1) → W (d + 1) post a1) :
    ∀ (d : Nat) (post : ρ → Prop) (a1 : A1), ok a1 → μ a1 < d → post (val a1) → W d post a1 := by
  intro d
  induction d with
  | zero => intro post a1 _ h; omega
  | succ d ih =>
    intro post a1 ho hm hp
    exact hs d post a1 ho hp (fun post' b1 ho' hm' hp' => ih post' b1 ho' (by omega) hp')
theorem rp2 {ρ A1 A2 : Type} (W : Nat → (ρ → Prop) → A1 → A2 → Prop) (ok : A1 → A2 → Prop) (μ : A1 → A2 → Nat) (val : A1 → A2 → ρ)
    (hs : ∀ (d : Nat) (post : ρ → Prop) (a1 : A1) (a2 : A2), ok a1 a2 → post (val a1 a2) → (∀ (post' : ρ → Prop) (b1 : A1) (b2 : A2), ok b1 b2 → μ b1 b2 < μ a1 a2 → post' (val b1 b2) → W d post' b1 b2) → W (d + 1) post a1 a2) :
    ∀ (d : Nat) (post : ρ → Prop) (a1 : A1) (a2 : A2), ok a1 a2 → μ a1 a2 < d → post (val a1 a2) → W d post a1 a2 := by
  intro d
  induction d with
  | zero => intro post a1 a2 _ h; omega
  | succ d ih =>
    intro post a1 a2 ho hm hp
    exact hs d post a1 a2 ho hp (fun post' b1 b2 ho' hm' hp' => ih post' b1 b2 ho' (by omega) hp')
theorem rp3 {ρ A1 A2 A3 : Type} (W : Nat → (ρ → Prop) → A1 → A2 → A3 → Prop) (ok : A1 → A2 → A3 → Prop) (μ : A1 → A2 → A3 → Nat) (val : A1 → A2 → A3 → ρ)
    (hs : ∀ (d : Nat) (post : ρ → Prop) (a1 : A1) (a2 : A2) (a3 : A3), ok a1 a2 a3 → post (val a1 a2 a3) → (∀ (post' : ρ → Prop) (b1 : A1) (b2 : A2) (b3 : A3), ok b1 b2 b3 → μ b1 b2 b3 < μ a1 a2 a3 → post' (val b1 b2 b3) → W d post' b1 b2 b3) → W (d + 1) post a1 a2 a3) :
    ∀ (d : Nat) (post : ρ → Prop) (a1 : A1) (a2 : A2) (a3 : A3), ok a1 a2 a3 → μ a1 a2 a3 < d → post (val a1 a2 a3) → W d post a1 a2 a3 := by
  intro d
  induction d with
  | zero => intro post a1 a2 a3 _ h; omega
  | succ d ih =>
    intro post a1 a2 a3 ho hm hp
    exact hs d post a1 a2 a3 ho hp (fun post' b1 b2 b3 ho' hm' hp' => ih post' b1 b2 b3 ho' (by omega) hp')
theorem rp4 {ρ A1 A2 A3 A4 : Type} (W : Nat → (ρ → Prop) → A1 → A2 → A3 → A4 → Prop) (ok : A1 → A2 → A3 → A4 → Prop) (μ : A1 → A2 → A3 → A4 → Nat) (val : A1 → A2 → A3 → A4 → ρ)
    (hs : ∀ (d : Nat) (post : ρ → Prop) (a1 : A1) (a2 : A2) (a3 : A3) (a4 : A4), ok a1 a2 a3 a4 → post (val a1 a2 a3 a4) → (∀ (post' : ρ → Prop) (b1 : A1) (b2 : A2) (b3 : A3) (b4 : A4), ok b1 b2 b3 b4 → μ b1 b2 b3 b4 < μ a1 a2 a3 a4 → post' (val b1 b2 b3 b4) → W d post' b1 b2 b3 b4) → W (d + 1) post a1 a2 a3 a4) :
    ∀ (d : Nat) (post : ρ → Prop) (a1 : A1) (a2 : A2) (a3 : A3) (a4 : A4), ok a1 a2 a3 a4 → μ a1 a2 a3 a4 < d → post (val a1 a2 a3 a4) → W d post a1 a2 a3 a4 := by
  intro d
  induction d with
  | zero => intro post a1 a2 a3 a4 _ h; omega
  | succ d ih =>
    intro post a1 a2 a3 a4 ho hm hp
    exact hs d post a1 a2 a3 a4 ho hp (fun post' b1 b2 b3 b4 ho' hm' hp' => ih post' b1 b2 b3 b4 ho' (by omega) hp')
theorem rp5 {ρ A1 A2 A3 A4 A5 : Type} (W : Nat → (ρ → Prop) → A1 → A2 → A3 → A4 → A5 → Prop) (ok : A1 → A2 → A3 → A4 → A5 → Prop) (μ : A1 → A2 → A3 → A4 → A5 → Nat) (val : A1 → A2 → A3 → A4 → A5 → ρ)
    (hs : ∀ (d : Nat) (post : ρ → Prop) (a1 : A1) (a2 : A2) (a3 : A3) (a4 : A4) (a5 : A5), ok a1 a2 a3 a4 a5 → post (val a1 a2 a3 a4 a5) → (∀ (post' : ρ → Prop) (b1 : A1) (b2 : A2) (b3 : A3) (b4 : A4) (b5 : A5), ok b1 b2 b3 b4 b5 → μ b1 b2 b3 b4 b5 < μ a1 a2 a3 a4 a5 → post' (val b1 b2 b3 b4 b5) → W d post' b1 b2 b3 b4 b5) → W (d + 1) post a1 a2 a3 a4 a5) :
    ∀ (d : Nat) (post : ρ → Prop) (a1 : A1) (a2 : A2) (a3 : A3) (a4 : A4) (a5 : A5), ok a1 a2 a3 a4 a5 → μ a1 a2 a3 a4 a5 < d → post (val a1 a2 a3 a4 a5) → W d post a1 a2 a3 a4 a5 := by
  intro d
  induction d with
  | zero => intro post a1 a2 a3 a4 a5 _ h; omega
  | succ d ih =>
    intro post a1 a2 a3 a4 a5 ho hm hp
    exact hs d post a1 a2 a3 a4 a5 ho hp (fun post' b1 b2 b3 b4 b5 ho' hm' hp' => ih post' b1 b2 b3 b4 b5 ho' (by omega) hp')
theorem rp6 {ρ A1 A2 A3 A4 A5 A6 : Type} (W : Nat → (ρ → Prop) → A1 → A2 → A3 → A4 → A5 → A6 → Prop) (ok : A1 → A2 → A3 → A4 → A5 → A6 → Prop) (μ : A1 → A2 → A3 → A4 → A5 → A6 → Nat) (val : A1 → A2 → A3 → A4 → A5 → A6 → ρ)
    (hs : ∀ (d : Nat) (post : ρ → Prop) (a1 : A1) (a2 : A2) (a3 : A3) (a4 : A4) (a5 : A5) (a6 : A6), ok a1 a2 a3 a4 a5 a6 → post (val a1 a2 a3 a4 a5 a6) → (∀ (post' : ρ → Prop) (b1 : A1) (b2 : A2) (b3 : A3) (b4 : A4) (b5 : A5) (b6 : A6), ok b1 b2 b3 b4 b5 b6 → μ b1 b2 b3 b4 b5 b6 < μ a1 a2 a3 a4 a5 a6 → post' (val b1 b2 b3 b4 b5 b6) → W d post' b1 b2 b3 b4 b5 b6) → W (d + 1) post a1 a2 a3 a4 a5 a6) :
    ∀ (d : Nat) (post : ρ → Prop) (a1 : A1) (a2 : A2) (a3 : A3) (a4 : A4) (a5 : A5) (a6 : A6), ok a1 a2 a3 a4 a5 a6 → μ a1 a2 a3 a4 a5 a6 < d → post (val a1 a2 a3 a4 a5 a6) → W d post a1 a2 a3 a4 a5 a6 := by
  intro d
  induction d with
  | zero => intro post a1 a2 a3 a4 a5 a6 _ h; omega
  | succ d ih =>
    intro post a1 a2 a3 a4 a5 a6 ho hm hp
    exact hs d post a1 a2 a3 a4 a5 a6 ho hp (fun post' b1 b2 b3 b4 b5 b6 ho' hm' hp' => ih post' b1 b2 b3 b4 b5 b6 ho' (by omega) hp')
theorem rec_p {σ ρ : Type} (W : Nat → (ρ → Prop) → σ → Prop) (ok : σ → Prop) (μ : σ → Nat) (val : σ → ρ)
    (hs : ∀ d s post, ok s → post (val s) → (∀ s' post', ok s' → μ s' < μ s → post' (val s') → W d post' s') → W (d + 1) post s) :
    ∀ d s post, ok s → μ s < d → post (val s) → W d post s := by
  intro d
  induction d with
  | zero => intro s post _ h; omega
  | succ d ih =>
    intro s post ho hm hp
    exact hs d s post ho hp (fun s' post' ho' hm' hp' => ih s' post' ho' (by omega) hp')
theorem rec_q {σ ρ : Type} (W : Nat → (ρ → Prop) → σ → Prop) (ok : σ → Prop) (μ : σ → Nat) (Q : σ → ρ → Prop)
    (hs : ∀ d s post, ok s → (∀ r, Q s r → post r) → (∀ s' post', ok s' → μ s' < μ s → (∀ r, Q s' r → post' r) → W d post' s') → W (d + 1) post s) :
    ∀ d s post, ok s → μ s < d → (∀ r, Q s r → post r) → W d post s := by
  intro d
  induction d with
  | zero => intro s post _ h; omega
  | succ d ih =>
    intro s post ho hm hp
    exact hs d s post ho hp (fun s' post' ho' hm' hp' => ih s' post' ho' (by omega) hp')
def bx_sum (f : Nat → Int32) : Nat → Int32
  | 0 => 0
  | n + 1 => bx_sum f n + f n
theorem ek_u {A : Prop} {B : Nat → Prop} {k N : Nat} (hk : k < N) (h : B k) : (some k = none → A) ∧ (∀ y : Nat, some k = some y → (y < N ∧ B y)) :=
  ⟨fun z => absurd z (Option.some_ne_none k), fun _ e => (by cases e; exact ⟨hk, h⟩)⟩
theorem ek_nu {A : Prop} {B : Nat → Prop} (h : A) : ((none : Option Nat) = none → A) ∧ (∀ y : Nat, (none : Option Nat) = some y → B y) :=
  ⟨fun _ => h, fun _ e => (by cases e)⟩
theorem ek_if {c d A B : Prop} (e : c ↔ d) (f : d → A) (g : ¬ d → B) : (c → A) ∧ (¬ c → B) :=
  ⟨fun z => f (e.mp z), fun z => g (fun y => z (e.mpr y))⟩
theorem ek_v {α : Sort _} {P : α → Prop} {a b : α} (e : a = b) (h : P b) : P a := e ▸ h
theorem co_some {x : Option Nat} {A : Prop} {B : Nat → Prop} (i : Nat) (h : B i) (hx : x = some i := by rfl) : (x = none → A) ∧ (∀ y : Nat, x = some y → B y) := by
  subst hx
  exact ⟨fun e => (nomatch e), fun y e => Option.some.inj e ▸ h⟩
theorem co_none {x : Option Nat} {A : Prop} {B : Nat → Prop} (h : A) (hx : x = none := by rfl) : (x = none → A) ∧ (∀ y : Nat, x = some y → B y) := by
  subst hx
  exact ⟨fun _ => h, fun y e => (nomatch e)⟩
theorem co_any {x : Option Nat} {A : Prop} {B : Nat → Prop} (hn : x = none → A) (hs : ∀ i : Nat, x = some i → B i) : (x = none → A) ∧ (∀ y : Nat, x = some y → B y) := ⟨hn, hs⟩
theorem co_2 {P : Nat → Prop} (h0 : P 0) (h1 : P 1) {i : Nat} (hi : i < 2) : P i :=
  match i, hi with
  | 0, _ => h0
  | 1, _ => h1
theorem co_3 {P : Nat → Prop} (h0 : P 0) (h1 : P 1) (h2 : P 2) {i : Nat} (hi : i < 3) : P i :=
  match i, hi with
  | 0, _ => h0
  | 1, _ => h1
  | 2, _ => h2
theorem co_4 {P : Nat → Prop} (h0 : P 0) (h1 : P 1) (h2 : P 2) (h3 : P 3) {i : Nat} (hi : i < 4) : P i :=
  match i, hi with
  | 0, _ => h0
  | 1, _ => h1
  | 2, _ => h2
  | 3, _ => h3
theorem co_dec {N : Nat} {P : Nat → Prop} [DecidablePred P] (h : (List.range N).all (fun i => decide (P i)) = true) {i : Nat} (hi : i < N) : P i := by
  have := List.all_eq_true.mp h i (List.mem_range.mpr hi)
  exact of_decide_eq_true this
theorem co_tab {α : Type} {l : List α} {d : α} {P : α → Prop} (h : ∀ a, a ∈ l → P a) {i : Nat} (hi : i < l.length) : P (l.getD i d) := by
  rw [List.getD_eq_getElem?_getD, List.getElem?_eq_getElem hi]
  exact h _ (List.getElem_mem hi)
theorem pk_mu {x : Int32} {L : Nat} (h0 : ¬ x < 0) (h : ¬ nI L ≤ x) (hL : L < 2 ^ 31) : ∃ j : Nat, j < L ∧ x = nI j ∧ x + 1 = nI (j + 1) ∧ x.toNatClampNeg = j ∧ L - (x + 1).toNatClampNeg < L - x.toNatClampNeg := by
  obtain ⟨j, hj, rfl⟩ := nI_of h0
  have hl : j < L := Nat.not_le.mp fun q => h (nI_le q hj)
  refine ⟨j, hl, rfl, nI_1 j, nI_clamp hj, ?_⟩
  rw [nI_1, nI_clamp (by omega), nI_clamp hj]
  omega
theorem op_s {α : Type} {r : Option α} {A : Prop} {B : α → Prop} {y : α} (h : r = some y) (b : B y) : (r = none → A) ∧ ∀ z, r = some z → B z :=
  ⟨fun e => (by rw [h] at e; cases e), fun z e => (by rw [h] at e; cases e; exact b)⟩
def l_holds {α : Type} (a : Nat → Option Nat) (LP : List Nat) (p : Nat → α) (c : Nat) (b : Nat → α) : Prop :=
  ∀ j, j < c → ∃ y, a j = some y ∧ y ∈ LP ∧ p y = b j
theorem l_holds_0 {α : Type} {a : Nat → Option Nat} {LP : List Nat} {p b : Nat → α} : l_holds a LP p 0 b := fun j h => absurd h (Nat.not_lt_zero j)
theorem l_in_new (LP : List Nat) (q : Nat) : q ∈ LP ++ [q] := List.mem_append.mpr (Or.inr (List.mem_singleton.mpr rfl))
def l_sum (b : Nat → Int32) : Nat → Int32
  | 0 => 0
  | k + 1 => l_sum b k + b k
theorem sb_shr0 (x : Int32) : x >>> ((0 : Int32) &&& 31) = x := by
  rw [show ((0 : Int32) &&& 31) = 0 by decide]
  simp
theorem sb_shl0 (x : Int32) : x <<< ((0 : Int32) &&& 31) = x := by
  rw [show ((0 : Int32) &&& 31) = 0 by decide]
  simp
theorem sb_cl0 : (0 : Int32).toNatClampNeg = 0 := by decide
theorem sb_m1 {p : Nat} (h : 0 < p) : nI p + (-1) = nI (p - 1) := by
  obtain ⟨q, rfl⟩ : ∃ q, p = q + 1 := ⟨p - 1, by omega⟩
  exact pk_m1 q
def sb_b (c : Nat) : Int32 := (nI c).toInt8.toInt32
theorem sb_byte : ∀ c, c < 256 → sb_b c &&& 255 = nI c ∧ ((nI c).toUInt32 % 65536).toInt32 = nI c ∧ nI c ≤ 255 := by decide +kernel
def sb_Fit (a : Nat → Int32) : Prop := ∀ j, fits .byte (.int (a j)) = true
def sb_Lat (t : Nat → Nat) (n : Nat) (a : Nat → Int32) : Prop := ∀ j, j < n → t j < 256 ∧ a j = sb_b (t j)
theorem sb_fitB (c : Nat) : fits .byte (.int (sb_b c)) = true := pk_fb _
theorem sb_fit0 : sb_Fit (fun _ => 0) := fun _ => by
  show fits .byte (.int 0) = true
  decide
theorem sb_fitU {a : Nat → Int32} {k : Nat} {x : Int32} (h : sb_Fit a) (hx : fits .byte (.int x) = true) : sb_Fit (upd a k x) := by
  intro j
  by_cases e : j = k
  · subst e
    rw [pk_us]
    exact hx
  · rw [pk_un e]
    exact h j
def sb_cat (t : Nat → Nat) (n : Nat) (s : Nat → Nat) : Nat → Nat := fun j => if j < n then t j else s (j - n)
theorem sb_cat_lo {t s : Nat → Nat} {n j : Nat} (h : j < n) : sb_cat t n s j = t j := if_pos h
theorem sb_cat_hi {t s : Nat → Nat} {n j : Nat} : sb_cat t n s (n + j) = s j := by
  show (if n + j < n then t (n + j) else s (n + j - n)) = s j
  rw [if_neg (by omega), Nat.add_sub_cancel_left]
theorem sb_latPut {t s : Nat → Nat} {n w : Nat} {a a' : Nat → Int32} (h : sb_Lat t n a) (hk : ∀ j, j < n → a' j = a j) (hs : ∀ i, i < w → s i < 256 ∧ a' (n + i) = sb_b (s i)) : sb_Lat (sb_cat t n s) (n + w) a' := by
  intro j hj
  by_cases e : j < n
  · rw [sb_cat_lo e, hk j e]
    exact h j e
  · obtain ⟨i, rfl⟩ : ∃ i, j = n + i := ⟨j - n, by omega⟩
    rw [sb_cat_hi]
    exact hs i (by omega)
theorem sb_latKeep {t : Nat → Nat} {n : Nat} {a a' : Nat → Int32} (h : sb_Lat t n a) (hk : ∀ j, j < n → a' j = a j) : sb_Lat t n a' := fun j hj => by
  rw [hk j hj]
  exact h j hj
def sb_cap (q m : Nat) : Nat := if q ≤ m then m else if 2 * m + 2 < q then q else 2 * m + 2
def sb_Room (q m mc ms : Nat) : Prop := q ≤ m ∨ (1 ≤ mc ∧ sb_cap q m ≤ ms ∧ sb_cap q m ≤ 65536)
theorem sb_cap_ge (q m : Nat) : q ≤ sb_cap q m := by
  unfold sb_cap
  split
  · omega
  · split <;> omega
theorem sb_cap_gem (q m : Nat) : m ≤ sb_cap q m := by
  unfold sb_cap
  split
  · omega
  · split <;> omega
theorem sb_cap_le {q m mc ms : Nat} (hm : m ≤ 65536) (hr : sb_Room q m mc ms) : sb_cap q m ≤ 65536 := by
  rcases hr with h | h
  · rw [sb_cap, if_pos h]
    exact hm
  · exact h.2.2
theorem sb_at {P : Int32 → Prop} {x y : Int32} (e : x = y) (h : P y) : P x := e ▸ h
def sb_dg (w : Nat) : Nat := if w < 10 then 1 else if w < 100 then 2 else if w < 1000 then 3 else if w < 10000 then 4 else if w < 100000 then 5 else if w < 1000000 then 6 else if w < 10000000 then 7 else if w < 100000000 then 8 else if w < 1000000000 then 9 else 10
def sb_dec (v : Nat) : Nat → Nat := fun i => 48 + v / 10 ^ (sb_dg v - 1 - i) % 10
theorem sb_dg_in (w : Nat) : 1 ≤ sb_dg w ∧ sb_dg w ≤ 10 := by
  unfold sb_dg
  constructor <;> (repeat' split) <;> omega
theorem sb_dg100 {w : Nat} (h : 100 ≤ w) (hw : w < 2 ^ 31) : sb_dg w = sb_dg (w / 100) + 2 := by
  rw [sb_dg, sb_dg, if_neg (show ¬ w < 10 by omega), if_neg (show ¬ w < 100 by omega)]
  by_cases h3 : w < 1000
  · rw [if_pos h3, if_pos (show w / 100 < 10 by omega)]
  rw [if_neg h3, if_neg (show ¬ w / 100 < 10 by omega)]
  by_cases h4 : w < 10000
  · rw [if_pos h4, if_pos (show w / 100 < 100 by omega)]
  rw [if_neg h4, if_neg (show ¬ w / 100 < 100 by omega)]
  by_cases h5 : w < 100000
  · rw [if_pos h5, if_pos (show w / 100 < 1000 by omega)]
  rw [if_neg h5, if_neg (show ¬ w / 100 < 1000 by omega)]
  by_cases h6 : w < 1000000
  · rw [if_pos h6, if_pos (show w / 100 < 10000 by omega)]
  rw [if_neg h6, if_neg (show ¬ w / 100 < 10000 by omega)]
  by_cases h7 : w < 10000000
  · rw [if_pos h7, if_pos (show w / 100 < 100000 by omega)]
  rw [if_neg h7, if_neg (show ¬ w / 100 < 100000 by omega)]
  by_cases h8 : w < 100000000
  · rw [if_pos h8, if_pos (show w / 100 < 1000000 by omega)]
  rw [if_neg h8, if_neg (show ¬ w / 100 < 1000000 by omega)]
  by_cases h9 : w < 1000000000
  · rw [if_pos h9, if_pos (show w / 100 < 10000000 by omega)]
  rw [if_neg h9, if_neg (show ¬ w / 100 < 10000000 by omega)]
  rw [if_pos (show w / 100 < 100000000 by omega)]
theorem sb_negT {w : Nat} (h : w < 2 ^ 31) : (-nI w).toInt = -(w : Int) := by
  rw [Int32.toInt_neg, nI_toInt h]
  exact Int.bmod_eq_of_le (by omega) (by omega)
theorem sb_nle {a b : Nat} (ha : a < 2 ^ 31) (hb : b < 2 ^ 31) : -nI a ≤ -nI b ↔ b ≤ a := by
  rw [Int32.le_iff_toInt_le, sb_negT ha, sb_negT hb]
  omega
theorem sb_nlt {a b : Nat} (ha : a < 2 ^ 31) (hb : b < 2 ^ 31) : -nI a < -nI b ↔ b < a := by
  rw [Int32.lt_iff_toInt_lt, sb_negT ha, sb_negT hb]
  omega
theorem sb_cmp {A B : Prop} {x : Int32} (v c : Nat) (f : c ≤ v → A) (g : v < c → B) (hv : v < 2 ^ 31) (hx : x = -nI c := by rfl) (hc : c < 2 ^ 31 := by omega) : (-nI v ≤ x → A) ∧ (¬ -nI v ≤ x → B) := by
  subst hx
  rw [sb_nle hv hc]
  exact ⟨f, fun z => g (by omega)⟩
theorem sb_ndiv {w : Nat} (hw : w < 2 ^ 31) : (-nI w) / 100 = -nI (w / 100) := by
  apply Int32.toInt_inj.mp
  have h100 : (100 : Int32).toInt = 100 := by decide
  rw [Int32.toInt_div, sb_negT hw, h100, sb_negT (by omega), Int.neg_tdiv, Int.tdiv_eq_ediv_of_nonneg (by omega), Int.bmod_eq_of_le (by omega) (by omega)]
  omega
theorem sb_nrem {w : Nat} (hw : w < 2 ^ 31) : (-nI (w / 100)) * 100 - (-nI w) = nI (w % 100) := by
  have h := pk_rem (a := w) (d := 100) hw (by decide) (by decide)
  rw [pk_div hw (by decide) (by decide)] at h
  rw [← h]
  show (-nI (w / 100)) * nI 100 - (-nI w) = nI w - nI (w / 100) * nI 100
  rw [Int32.neg_mul, Int32.sub_neg, Int32.add_comm, ← Int32.sub_eq_add_neg]
end
section
/-! rows on bits, shifts and unsigned numbers, to paste: each family out of a closed proof of our own, whole with what it rests on; each by itself clean at Lean in its own claim (generation 39, form 5). Take a family whole -/
/-! ===== Int32 by its bits: bt x i ===== -/
def bt (x : Int32) (i : Nat) : Bool := x.toBitVec.getLsbD i
theorem b_ext {x y : Int32} (h : ∀ i, i < 32 → bt x i = bt y i) : x = y := Int32.toBitVec_inj.mp (BitVec.eq_of_getLsbD_eq (fun i hi => h i hi))
theorem b_or (x y : Int32) (i : Nat) : bt (x ||| y) i = (bt x i || bt y i) := by unfold bt; rw [Int32.toBitVec_or, BitVec.getLsbD_or]
theorem b_and (x y : Int32) (i : Nat) : bt (x &&& y) i = (bt x i && bt y i) := by unfold bt; rw [Int32.toBitVec_and, BitVec.getLsbD_and]
theorem b_xor (x y : Int32) (i : Nat) : bt (x ^^^ y) i = (bt x i ^^ bt y i) := by unfold bt; rw [Int32.toBitVec_xor, BitVec.getLsbD_xor]
theorem b_big {x : Int32} {i : Nat} (h : 32 ≤ i) : bt x i = false := BitVec.getLsbD_of_ge _ _ h
theorem b_255 (i : Nat) : bt 255 i = decide (i < 8) := by
  rcases Nat.lt_or_ge i 32 with h | h
  · exact (by decide +kernel : ∀ i, i < 32 → bt 255 i = decide (i < 8)) i h
  · rw [b_big h, decide_eq_false (by omega)]
theorem b_65535 (i : Nat) : bt 65535 i = decide (i < 16) := by
  rcases Nat.lt_or_ge i 32 with h | h
  · exact (by decide +kernel : ∀ i, i < 32 → bt 65535 i = decide (i < 16)) i h
  · rw [b_big h, decide_eq_false (by omega)]
theorem b_m1 : ∀ i, i < 32 → bt (-1) i = true := by decide +kernel
theorem b_0 (i : Nat) : bt 0 i = false := BitVec.getLsbD_zero
theorem s_l : ∀ n, n < 32 → ((nI n &&& 31).toBitVec.smod 32).toNat = n := by decide +kernel
theorem s_u : ∀ n, n < 32 → (((nI n).toUInt32 &&& Int32.toUInt32 31).toBitVec % 32).toNat = n := by decide +kernel
theorem b_shl (n : Nat) (hn : n < 32) (x : Int32) {i : Nat} (hi : i < 32) : bt (x <<< (nI n &&& 31)) i = (decide (n ≤ i) && bt x (i - n)) := by
  unfold bt
  rw [Int32.toBitVec_shiftLeft]
  show (x.toBitVec <<< ((nI n &&& 31).toBitVec.smod 32).toNat).getLsbD i = _
  rw [s_l n hn, BitVec.getLsbD_shiftLeft]
  rcases Nat.lt_or_ge i n with h | h
  · simp [h, Nat.not_le.mpr h]
  · simp [hi, h, Nat.not_lt.mpr h]
theorem b_ushr (n : Nat) (hn : n < 32) (x : Int32) (i : Nat) : bt ((x.toUInt32 >>> ((nI n).toUInt32 &&& Int32.toUInt32 31)).toInt32) i = bt x (n + i) := by
  show (x.toUInt32 >>> ((nI n).toUInt32 &&& Int32.toUInt32 31)).toBitVec.getLsbD i = x.toUInt32.toBitVec.getLsbD (n + i)
  rw [UInt32.toBitVec_shiftRight]
  show (x.toUInt32.toBitVec >>> (((nI n).toUInt32 &&& Int32.toUInt32 31).toBitVec % 32).toNat).getLsbD i = _
  rw [s_u n hn, BitVec.getLsbD_ushiftRight]
theorem b_sshr (n : Nat) (hn : n < 32) (x : Int32) {i : Nat} (hi : i < 32) : bt (x >>> (nI n &&& 31)) i = if n + i < 32 then bt x (n + i) else bt x 31 := by
  unfold bt
  rw [Int32.toBitVec_shiftRight]
  show (x.toBitVec.sshiftRight ((nI n &&& 31).toBitVec.smod 32).toNat).getLsbD i = _
  rw [s_l n hn, BitVec.getLsbD_sshiftRight, BitVec.msb_eq_getLsbD_last]
  simp [hi]
theorem b_shl8 (x : Int32) {i : Nat} (hi : i < 32) : bt (x <<< ((8 : Int32) &&& 31)) i = (decide (8 ≤ i) && bt x (i - 8)) := b_shl 8 (by omega) x hi
theorem b_shl16 (x : Int32) {i : Nat} (hi : i < 32) : bt (x <<< ((16 : Int32) &&& 31)) i = (decide (16 ≤ i) && bt x (i - 16)) := b_shl 16 (by omega) x hi
theorem b_shl24 (x : Int32) {i : Nat} (hi : i < 32) : bt (x <<< ((24 : Int32) &&& 31)) i = (decide (24 ≤ i) && bt x (i - 24)) := b_shl 24 (by omega) x hi
theorem b_sshr8 (x : Int32) {i : Nat} (hi : i < 32) : bt (x >>> ((8 : Int32) &&& 31)) i = if 8 + i < 32 then bt x (8 + i) else bt x 31 := b_sshr 8 (by omega) x hi
/-! ===== nI under and, xor, >>>, one bit, 65535 ===== -/
theorem nx_and (a b : Nat) : nI a &&& nI b = nI (a &&& b) := by
  apply Int32.toBitVec_inj.1
  show BitVec.ofNat 32 a &&& BitVec.ofNat 32 b = BitVec.ofNat 32 (a &&& b)
  apply BitVec.eq_of_getLsbD_eq
  intro i hi
  simp [hi]
theorem nx_xor (a b : Nat) : nI a ^^^ nI b = nI (a ^^^ b) := by
  apply Int32.toBitVec_inj.1
  show BitVec.ofNat 32 a ^^^ BitVec.ofNat 32 b = BitVec.ofNat 32 (a ^^^ b)
  apply BitVec.eq_of_getLsbD_eq
  intro i hi
  simp [hi]
theorem nx_cnt : ∀ j : Fin 32, (UInt32.ofNat j.val &&& Int32.toUInt32 31).toNat % 32 = j.val := by decide +kernel
theorem nx_ush {k j : Nat} (hk : k < 65536) (hj : j < 32) : ((nI k).toUInt32 >>> ((nI j).toUInt32 &&& Int32.toUInt32 31)).toInt32 = nI (k >>> j) := by
  have hs : k >>> j ≤ k := by
    rw [Nat.shiftRight_eq_div_pow]
    exact Nat.div_le_self _ _
  have e2 : UInt32.ofNat k >>> (UInt32.ofNat j &&& Int32.toUInt32 31) = UInt32.ofNat (k >>> j) := by
    apply UInt32.toNat_inj.1
    have h1 : (UInt32.ofNat k).toNat = k := Nat.mod_eq_of_lt (by omega)
    have h2 : (UInt32.ofNat (k >>> j)).toNat = k >>> j := Nat.mod_eq_of_lt (by omega)
    rw [UInt32.toNat_shiftRight, nx_cnt ⟨j, hj⟩, h1, h2]
  show (UInt32.ofNat k >>> (UInt32.ofNat j &&& Int32.toUInt32 31)).toInt32 = _
  rw [e2]
  rfl
theorem nx_bit {k j : Nat} (hk : k < 65536) (hj : j < 16) : (((nI k).toUInt32 >>> ((nI j).toUInt32 &&& Int32.toUInt32 31)).toInt32 &&& 1) = 0 ↔ k.testBit j = false := by
  rw [nx_ush hk (by omega)]
  show nI (k >>> j) &&& nI 1 = 0 ↔ _
  rw [nx_and, Nat.and_one_is_mod, ← nI_0, nI_eq (by omega) (by omega), Nat.testBit_eq_decide_div_mod_eq, Nat.shiftRight_eq_div_pow, decide_eq_false_iff_not]
  generalize k / 2 ^ j = z
  omega
theorem nx_mod (k : Nat) : nI k &&& 65535 = nI (k % 65536) := by
  show nI k &&& nI 65535 = _
  rw [nx_and, show (65535 : Nat) = 2 ^ 16 - 1 from rfl, Nat.and_two_pow_sub_one_eq_mod]
theorem nx_m16 {k : Nat} (h : k < 65536) : nI k &&& 65535 = nI k := by rw [nx_mod, Nat.mod_eq_of_lt h]
theorem nx_mask (x : Int32) : ∃ k, k < 65536 ∧ x &&& 65535 = nI k := by
  have e : x = nI x.toBitVec.toNat := by
    apply Int32.toBitVec_inj.1
    show x.toBitVec = BitVec.ofNat 32 x.toBitVec.toNat
    simp
  refine ⟨x.toBitVec.toNat % 65536, Nat.mod_lt _ (by omega), ?_⟩
  rw [← nx_mod, ← e]
/-! ===== Int32 as a set of bits: test, set ===== -/
def nf_M (m : Int32) : Nat := 4294967296 - m.toBitVec.toNat
theorem nf_sh : ∀ l, l < 32 → ((1 : Int32) <<< (nI l &&& 31)).toBitVec = BitVec.twoPow 32 l := by decide +kernel
theorem nf_sl : ∀ l, l < 32 → (((nI l).toUInt32 &&& Int32.toUInt32 31).toBitVec % 32).toNat = l := by decide +kernel
theorem nf_tp : ∀ l, l < 32 → BitVec.twoPow 32 l ≠ 0#32 := by decide +kernel
theorem nf_bit (m : Int32) (l : Nat) (hl : l < 32) : ((m.toUInt32 >>> ((nI l).toUInt32 &&& Int32.toUInt32 31)).toInt32 &&& 1) = 0 ↔ (m &&& ((1 : Int32) <<< (nI l &&& 31))) = 0 := by
  have e : ((m.toUInt32 >>> ((nI l).toUInt32 &&& Int32.toUInt32 31)).toInt32).toBitVec = m.toBitVec >>> l := by
    show m.toBitVec >>> (((nI l).toUInt32 &&& Int32.toUInt32 31).toBitVec % 32) = m.toBitVec >>> l
    rw [BitVec.ushiftRight_eq', nf_sl l hl]
  rw [← Int32.toBitVec_inj, ← Int32.toBitVec_inj, Int32.toBitVec_and, Int32.toBitVec_and, nf_sh l hl, e, BitVec.and_twoPow]
  show (m.toBitVec >>> l &&& 1#32) = 0#32 ↔ _ = 0#32
  rw [BitVec.and_one_eq_setWidth_ofBool_getLsbD, BitVec.getLsbD_ushiftRight, Nat.add_zero]
  cases hb : m.toBitVec.getLsbD l
  · exact ⟨fun _ => by simp, fun _ => by decide⟩
  · exact ⟨fun z => absurd z (by decide), fun z => absurd ((if_pos rfl).symm.trans z) (nf_tp l hl)⟩
theorem nf_gr (m k : Int32) (h : m &&& k = 0) (hk : k ≠ 0) : nf_M (m ||| k) < nf_M m := by
  have hm := m.toBitVec.isLt
  have hm' := (m ||| k).toBitVec.isLt
  have h1 : m.toBitVec.toNat ≤ (m ||| k).toBitVec.toNat := by
    rw [Int32.toBitVec_or, BitVec.toNat_or]
    exact Nat.left_le_or
  have h2 : m.toBitVec.toNat ≠ (m ||| k).toBitVec.toNat := by
    intro e
    have e2 : m = m ||| k := Int32.toBitVec_inj.mp (BitVec.eq_of_toNat_eq e)
    apply hk
    apply Int32.toBitVec_inj.mp
    show k.toBitVec = 0#32
    apply BitVec.eq_of_getLsbD_eq
    intro i hi
    have a : m.toBitVec.getLsbD i = (m.toBitVec.getLsbD i || k.toBitVec.getLsbD i) := by rw [← BitVec.getLsbD_or, ← Int32.toBitVec_or, ← e2]
    have b : (m.toBitVec.getLsbD i && k.toBitVec.getLsbD i) = false := by
      rw [← BitVec.getLsbD_and, ← Int32.toBitVec_and, h]
      exact BitVec.getLsbD_zero
    rw [BitVec.getLsbD_zero]
    revert a b
    cases m.toBitVec.getLsbD i <;> cases k.toBitVec.getLsbD i <;> simp
  unfold nf_M
  omega
/-! ===== a byte read unsigned ===== -/
theorem bp_b (x : Int32) : x.toInt8.toInt32 &&& 255 = x &&& 255 := by
  apply Int32.toBitVec_inj.mp
  rw [Int32.toBitVec_and, Int32.toBitVec_and, Int8.toBitVec_toInt32, Int32.toBitVec_toInt8]
  apply BitVec.eq_of_getLsbD_eq
  intro i hi
  rw [BitVec.getLsbD_and, BitVec.getLsbD_and]
  have hm : ∀ i < 32, 8 ≤ i → (255 : Int32).toBitVec.getLsbD i = false := by decide
  rcases Nat.lt_or_ge i 8 with z | z
  · rw [BitVec.getLsbD_signExtend, BitVec.getLsbD_signExtend, if_pos z, if_pos hi]
    simp only [z, hi, decide_true, Bool.true_and]
  · rw [hm i hi z]; simp
/-! ===== the char cast and 65535 ===== -/
theorem em_w (v : Int32) : ∃ w : Nat, w < 65536 ∧ (v.toUInt32 % 65536).toInt32 = nI w ∧ v &&& 65535 = nI w := by
  have hr := lw_u16_r v
  have h0 : (0 : Int32).toInt = 0 := by decide
  obtain ⟨w, h1, h2⟩ := nI_of (x := lw_u16 v) (by rw [Int32.lt_iff_toInt_lt]; omega)
  have h3 : (v.toUInt32 % 65536).toInt32 = nI w := h2
  rw [h2, nI_toInt h1] at hr
  exact ⟨w, by omega, h3, by rw [← lg_i2c_mask, ← lg_i2c_nf, h3]⟩
/-! ===== Int64 as a set of bits: test, set, clear ===== -/
theorem ts_nf {x : Bool} (h : ¬ x = false) : x = true := by cases x <;> first | rfl | exact absurd rfl h
theorem ts_nt {x : Bool} (h : ¬ x = true) : x = false := by cases x <;> first | rfl | exact absurd rfl h
theorem ts_bit {w : Int64} {s : UInt64} {j : Nat} (hj : j < 64) (hs : s.toNat = j) : ((w.toUInt64 >>> s).toInt64 &&& 1) = 0 ↔ w.toBitVec.getLsbD j = false := by
  have e : (w.toUInt64 >>> s).toInt64.toBitVec = w.toBitVec >>> j := by
    apply BitVec.eq_of_toNat_eq
    show (w.toUInt64 >>> s).toNat = _
    rw [UInt64.toNat_shiftRight, hs, Nat.mod_eq_of_lt hj, BitVec.toNat_ushiftRight]
    rfl
  rw [← Int64.toBitVec_inj, Int64.toBitVec_and, e]
  show w.toBitVec >>> j &&& 1#64 = 0#64 ↔ _
  constructor
  · intro h
    have t := congrArg (fun x => x.getLsbD 0) h
    simpa using t
  · intro h
    apply BitVec.eq_of_getLsbD_eq
    intro i hi
    cases i with
    | zero => simp [h]
    | succ i => simp
theorem ts_or {w m : Int64} {j : Nat} (hj : j < 64) (hm : m.toBitVec = BitVec.twoPow 64 j) : (w ||| m) = w ↔ w.toBitVec.getLsbD j = true := by
  rw [← Int64.toBitVec_inj, Int64.toBitVec_or, hm]
  constructor
  · intro h
    have t := congrArg (fun x => x.getLsbD j) h
    simp only [BitVec.getLsbD_or, BitVec.getLsbD_twoPow] at t
    simpa [hj] using t.symm
  · intro h
    apply BitVec.eq_of_getLsbD_eq
    intro i hi
    rw [BitVec.getLsbD_or, BitVec.getLsbD_twoPow]
    by_cases e : j = i
    · subst e; rw [h, Bool.true_or]
    · simp [e]
theorem ts_and {w m : Int64} {j : Nat} (hj : j < 64) (hm : m.toBitVec = BitVec.twoPow 64 j) : (w &&& (m ^^^ (-1))) = w ↔ w.toBitVec.getLsbD j = false := by
  have ha : (-1 : Int64).toBitVec = BitVec.allOnes 64 := by decide
  rw [← Int64.toBitVec_inj, Int64.toBitVec_and, Int64.toBitVec_xor, hm, ha]
  constructor
  · intro h
    have t := congrArg (fun x => x.getLsbD j) h
    simp only [BitVec.getLsbD_and, BitVec.getLsbD_xor, BitVec.getLsbD_twoPow, BitVec.getLsbD_allOnes] at t
    simpa [hj] using t.symm
  · intro h
    apply BitVec.eq_of_getLsbD_eq
    intro i hi
    rw [BitVec.getLsbD_and, BitVec.getLsbD_xor, BitVec.getLsbD_twoPow, BitVec.getLsbD_allOnes]
    by_cases e : j = i
    · subst e; rw [h, Bool.false_and]
    · simp [e, hi]
/-! ===== lN n to 2^64: shifts, and, or, masks, one bit ===== -/
theorem wb_tb (n : Nat) : (lN n).toBitVec = BitVec.ofNat 64 n := rfl
theorem wb_inj {a b : Int64} (h : a.toBitVec = b.toBitVec) : a = b := Int64.toBitVec_inj.mp h
theorem wb_tn {n : Nat} (h : n < 2 ^ 64) : (lN n).toBitVec.toNat = n := by rw [wb_tb, BitVec.toNat_ofNat, Nat.mod_eq_of_lt h]
theorem wb_of (x : Int64) : ∃ n, n < 2 ^ 64 ∧ x = lN n := ⟨x.toBitVec.toNat, x.toBitVec.isLt, wb_inj (by rw [wb_tb]; simp)⟩
theorem wb_of32 (x : Int32) : ∃ n, n < 2 ^ 32 ∧ x = nI n := ⟨x.toBitVec.toNat, x.toBitVec.isLt, Int32.toBitVec_inj.mp (by show _ = BitVec.ofNat 32 _; simp)⟩
theorem wb_c : ∀ k, k < 64 → ((nI k).toInt64 &&& 63) = lN k := by decide +kernel
theorem wb_cu : ∀ k, k < 64 → ((nI k).toInt64.toUInt64 &&& Int64.toUInt64 63) = UInt64.ofNat k := by decide +kernel
theorem wb_sm : ∀ k, k < 64 → (BitVec.ofNat 64 k).smod 64 = BitVec.ofNat 64 k := by decide +kernel
theorem wb_pw {a b : Nat} (h : a ≤ b) : 2 ^ b = 2 ^ a * 2 ^ (b - a) := by rw [← Nat.pow_add]; congr 1; omega
theorem wb_lt2 {a b : Nat} (h : a < b) : 2 ^ a < 2 ^ b := Nat.pow_lt_pow_right (by decide) h
theorem wb_mod (n : Nat) : lN n = lN (n % 2 ^ 64) := wb_inj (by rw [wb_tb, wb_tb]; apply BitVec.eq_of_toNat_eq; rw [BitVec.toNat_ofNat, BitVec.toNat_ofNat, Nat.mod_mod])
theorem wb_shr {n k : Nat} (hn : n < 2 ^ 64) (hk : k < 64) : ((lN n).toUInt64 >>> ((nI k).toInt64.toUInt64 &&& Int64.toUInt64 63)).toInt64 = lN (n / 2 ^ k) := by
  rw [wb_cu k hk]
  apply wb_inj
  apply BitVec.eq_of_toNat_eq
  show ((lN n).toUInt64 >>> UInt64.ofNat k).toNat = (BitVec.ofNat 64 _).toNat
  have h1 : (UInt64.ofNat k).toNat = k := by
    show (BitVec.ofNat 64 k).toNat = k
    rw [BitVec.toNat_ofNat, Nat.mod_eq_of_lt (by omega)]
  have h2 : (lN n).toUInt64.toNat = n := wb_tn hn
  rw [UInt64.toNat_shiftRight, h1, h2, Nat.mod_eq_of_lt hk, Nat.shiftRight_eq_div_pow, BitVec.toNat_ofNat, Nat.mod_eq_of_lt (Nat.lt_of_le_of_lt (Nat.div_le_self _ _) hn)]
theorem wb_shl (n : Nat) {k : Nat} (hk : k < 64) : lN n <<< ((nI k).toInt64 &&& 63) = lN (n * 2 ^ k) := by
  rw [wb_c k hk]
  apply wb_inj
  rw [Int64.toBitVec_shiftLeft, wb_tb, wb_tb, wb_tb, wb_sm k hk]
  apply BitVec.eq_of_toNat_eq
  rw [BitVec.shiftLeft_eq', BitVec.toNat_shiftLeft, BitVec.toNat_ofNat, BitVec.toNat_ofNat, BitVec.toNat_ofNat, Nat.mod_eq_of_lt (show k < 2 ^ 64 by omega), Nat.shiftLeft_eq, Nat.mul_mod, Nat.mod_mod, ← Nat.mul_mod]
theorem wb_and {a b : Nat} (ha : a < 2 ^ 64) (hb : b < 2 ^ 64) : lN a &&& lN b = lN (a &&& b) := by
  apply wb_inj
  rw [Int64.toBitVec_and, wb_tb, wb_tb, wb_tb]
  apply BitVec.eq_of_toNat_eq
  rw [BitVec.toNat_and, BitVec.toNat_ofNat, BitVec.toNat_ofNat, BitVec.toNat_ofNat, Nat.mod_eq_of_lt ha, Nat.mod_eq_of_lt hb, Nat.mod_eq_of_lt (Nat.and_lt_two_pow _ hb)]
theorem wb_or {a b : Nat} (ha : a < 2 ^ 64) (hb : b < 2 ^ 64) : lN a ||| lN b = lN (a ||| b) := by
  apply wb_inj
  rw [Int64.toBitVec_or, wb_tb, wb_tb, wb_tb]
  apply BitVec.eq_of_toNat_eq
  rw [BitVec.toNat_or, BitVec.toNat_ofNat, BitVec.toNat_ofNat, BitVec.toNat_ofNat, Nat.mod_eq_of_lt ha, Nat.mod_eq_of_lt hb, Nat.mod_eq_of_lt (Nat.or_lt_two_pow ha hb)]
theorem wb_mask {n k : Nat} (hn : n < 2 ^ 64) (hk : k < 64) : lN n &&& lN (2 ^ k - 1) = lN (n % 2 ^ k) := by
  rw [wb_and hn (by have := wb_lt2 hk; omega), Nat.and_two_pow_sub_one_eq_mod]
theorem wb_a1 {n : Nat} (hn : n < 2 ^ 64) : lN n &&& 1 = lN (n % 2) := wb_mask (k := 1) hn (by decide)
theorem wb_bit {n k : Nat} (hn : n < 2 ^ 64) (hk : k < 64) : ((lN n).toUInt64 >>> ((nI k).toInt64.toUInt64 &&& Int64.toUInt64 63)).toInt64 &&& 1 = lN (n / 2 ^ k % 2) := by
  rw [wb_shr hn hk, wb_a1 (Nat.lt_of_le_of_lt (Nat.div_le_self _ _) hn)]
theorem wb_xor {q k : Nat} (hk : k < 63) (h : 2 ^ k ≤ q) (h2 : q < 2 ^ (k + 1)) : lN q ^^^ lN (2 ^ k) = lN (q - 2 ^ k) := by
  obtain ⟨r, rfl⟩ : ∃ r, q = 2 ^ k + r := ⟨q - 2 ^ k, by omega⟩
  have hr : r < 2 ^ k := by rw [Nat.pow_succ] at h2; omega
  have hx : (2 ^ k + r) ^^^ 2 ^ k = r := by
    apply Nat.eq_of_testBit_eq
    intro i
    rw [Nat.testBit_xor, Nat.testBit_two_pow]
    rcases Nat.lt_trichotomy i k with h | h | h
    · rw [Nat.testBit_two_pow_add_gt h]
      simp [show ¬ k = i by omega]
    · subst h
      rw [Nat.testBit_two_pow_add_eq]
      simp
    · have a1 : 2 ^ (k + 1) ≤ 2 ^ i := Nat.pow_le_pow_right (by decide) h
      rw [Nat.testBit_lt_two_pow (show 2 ^ k + r < 2 ^ i by omega), Nat.testBit_lt_two_pow (show r < 2 ^ i by omega)]
      simp [show ¬ k = i by omega]
  have b1 := wb_lt2 (show k + 1 < 64 by omega)
  have b2 := wb_lt2 (show k < 64 by omega)
  apply wb_inj
  rw [Int64.toBitVec_xor, wb_tb, wb_tb, wb_tb]
  apply BitVec.eq_of_toNat_eq
  rw [BitVec.toNat_xor, BitVec.toNat_ofNat, BitVec.toNat_ofNat, BitVec.toNat_ofNat, Nat.mod_eq_of_lt (by omega : 2 ^ k + r < 2 ^ 64), Nat.mod_eq_of_lt b2, hx, Nat.add_sub_cancel_left, Nat.mod_eq_of_lt (by omega)]
/-! ===== lN: masks, 'or' of parts that don't overlap is a sum ===== -/
theorem u_tn {n : Nat} (h : n < 2 ^ 64) : (UInt64.ofNat n).toNat = n := Nat.mod_eq_of_lt h
theorem g_and {a b c : Nat} (ha : a < 2 ^ 64) (hb : b < 2 ^ 64) (hc : a &&& b = c) : lN a &&& lN b = lN c := by
  subst hc
  have h : UInt64.ofNat a &&& UInt64.ofNat b = UInt64.ofNat (a &&& b) := UInt64.toNat_inj.mp (by rw [UInt64.toNat_and, u_tn ha, u_tn hb, u_tn (Nat.and_lt_two_pow a hb)])
  have h2 := congrArg UInt64.toInt64 h
  exact h2
theorem g_and1 {a : Nat} (ha : a < 2 ^ 64) : lN a &&& 1 = lN (a % 2) := g_and (b := 1) ha (by decide) (Nat.and_two_pow_sub_one_eq_mod a 1)
theorem g_mask {a s p : Nat} (hp : 2 ^ s = p) (hs : s < 64) (ha : a < 2 ^ 64) : lN a &&& lN (p - 1) = lN (a % p) := by
  subst hp
  have := Nat.pow_lt_pow_right (show 1 < 2 by decide) hs
  exact g_and ha (by omega) (Nat.and_two_pow_sub_one_eq_mod a s)
theorem g_or {k p a b : Nat} (hp : 2 ^ k = p) (ha : a < p) (h : b * p + a < 2 ^ 64) : lN (b * p) ||| lN a = lN (b * p + a) := by
  subst hp
  have h1 : b * 2 ^ k ||| a = b * 2 ^ k + a := by rw [← Nat.shiftLeft_eq, Nat.shiftLeft_add_eq_or_of_lt ha]
  have h3 : UInt64.ofNat (b * 2 ^ k) ||| UInt64.ofNat a = UInt64.ofNat (b * 2 ^ k + a) := UInt64.toNat_inj.mp (by rw [UInt64.toNat_or, u_tn (by omega), u_tn (by omega), u_tn h, h1])
  have h2 := congrArg UInt64.toInt64 h3
  exact h2
theorem g_or' {k p a b : Nat} (hp : 2 ^ k = p) (ha : a < p) (h : a + b * p < 2 ^ 64) : lN a ||| lN (b * p) = lN (a + b * p) := by
  rw [Int64.or_comm, g_or hp ha (by omega), Nat.add_comm]
theorem g_ushr {a k p : Nat} {y : UInt64} (hy : y = UInt64.ofNat k) (hk : k < 64) (hp : 2 ^ k = p) (ha : a < 2 ^ 64) : ((lN a).toUInt64 >>> y).toInt64 = lN (a / p) := by
  subst hy hp
  have h : UInt64.ofNat a >>> UInt64.ofNat k = UInt64.ofNat (a / 2 ^ k) := UInt64.toNat_inj.mp (by rw [UInt64.toNat_shiftRight, u_tn ha, u_tn (by omega), u_tn (Nat.lt_of_le_of_lt (Nat.div_le_self _ _) ha), Nat.mod_eq_of_lt hk, Nat.shiftRight_eq_div_pow])
  have h2 := congrArg UInt64.toInt64 h
  exact h2
theorem g_shl {a k p : Nat} {y : Int64} (hy : y.toBitVec.smod 64 = BitVec.ofNat 64 k) (hk : k < 64) (hp : 2 ^ k = p) (ha : a < 2 ^ 64) : lN a <<< y = lN (a * p) := by
  subst hp
  apply Int64.toBitVec_inj.mp
  rw [Int64.toBitVec_shiftLeft, hy]
  apply BitVec.eq_of_toNat_eq
  have hb : (lN a).toBitVec.toNat = a := Nat.mod_eq_of_lt ha
  have hk' : (BitVec.ofNat 64 k).toNat = k := Nat.mod_eq_of_lt (by omega)
  have h : ((lN a).toBitVec <<< BitVec.ofNat 64 k).toNat = (a * 2 ^ k) % 2 ^ 64 := by simp only [BitVec.shiftLeft_eq', BitVec.toNat_shiftLeft, hb, hk', Nat.shiftLeft_eq]
  exact h
/-! ===== lN to 2^62 under >> and >>> ===== -/
theorem pf_lI {a : Nat} (h : a < 2 ^ 63) : (lN a).toInt = (a : Int) := lg_ofNat_toInt h
theorem pf_shr {a d : Nat} {D : Int64} (hD : (D.toBitVec.smod 64).toNat = d) (h : a < 2 ^ 62) : lN a >>> D = lN (a / 2 ^ d) := by
  have hd : a / 2 ^ d ≤ a := Nat.div_le_self _ _
  apply Int64.toInt_inj.mp
  have e : (lN a >>> D).toInt = (lN a).toInt >>> d := by
    rw [← hD]
    exact BitVec.toInt_sshiftRight ..
  rw [e, Int.shiftRight_eq_div_pow, pf_lI (by omega), pf_lI (by omega)]
  rfl
theorem pf_ushr {a d : Nat} {D : UInt64} (hD : D.toNat % 64 = d) (h : a < 2 ^ 62) : ((lN a).toUInt64 >>> D).toInt64 = lN (a / 2 ^ d) := by
  have hd : a / 2 ^ d ≤ a := Nat.div_le_self _ _
  have e : (lN a).toUInt64 >>> D = UInt64.ofNat (a / 2 ^ d) := UInt64.toNat_inj.mp (by
    rw [UInt64.toNat_shiftRight, hD, Nat.shiftRight_eq_div_pow, UInt64.toNat_ofNat']
    show (UInt64.ofNat a).toNat / 2 ^ d = _
    rw [UInt64.toNat_ofNat', Nat.mod_eq_of_lt (by omega), Nat.mod_eq_of_lt (by omega)])
  rw [e]
  rfl
theorem pf_andw (x : Int64) : ∃ m, m < 2 ^ 32 ∧ x &&& 4294967295 = lN m := ⟨x.toBitVec.toNat % 2 ^ 32, Nat.mod_lt _ (by decide), Int64.toBitVec_inj.mp (BitVec.eq_of_toNat_eq (by
  show (x.toBitVec &&& 4294967295#64).toNat = (BitVec.ofNat 64 (x.toBitVec.toNat % 2 ^ 32)).toNat
  rw [BitVec.toNat_and, show (4294967295#64).toNat = 2 ^ 32 - 1 from by decide, Nat.and_two_pow_sub_one_eq_mod, BitVec.toNat_ofNat]
  omega))⟩
/-! ===== Int64 as an unsigned number: uN x ===== -/
def uN (x : Int64) : Nat := x.toUInt64.toNat
theorem uN_lt (x : Int64) : uN x < 18446744073709551616 := x.toUInt64.toNat_lt
theorem uN_inj {x y : Int64} (h : uN x = uN y) : x = y := congrArg UInt64.toInt64 (UInt64.toNat_inj.mp h)
theorem uN_add (x y : Int64) : uN (x + y) = (uN x + uN y) % 18446744073709551616 := by
  show (x.toUInt64 + y.toUInt64).toNat = _
  exact UInt64.toNat_add _ _
theorem uN_mul (x y : Int64) : uN (x * y) = (uN x * uN y) % 18446744073709551616 := by
  show (x.toUInt64 * y.toUInt64).toNat = _
  exact UInt64.toNat_mul _ _
theorem uN_shl (x : Int64) : uN (x <<< ((1 : Int32).toInt64 &&& 63)) = (2 * uN x) % 18446744073709551616 := by
  have h : (((1 : Int32).toInt64 &&& 63).toBitVec.smod 64).toNat = 1 := by decide
  show (x.toBitVec <<< (((1 : Int32).toInt64 &&& 63).toBitVec.smod 64).toNat).toNat = _
  rw [h, BitVec.toNat_shiftLeft, Nat.shiftLeft_eq, Nat.mul_comm]
  rfl
theorem uN_shr (x : Int64) (s : UInt64) : uN (x.toUInt64 >>> s).toInt64 = uN x / 2 ^ (s.toNat % 64) := by
  show (x.toUInt64 >>> s).toNat = _
  rw [UInt64.toNat_shiftRight, Nat.shiftRight_eq_div_pow]
  rfl
theorem uN_s32 (x : Int64) : uN (x.toUInt64 >>> ((32 : Int32).toInt64.toUInt64 &&& Int64.toUInt64 63)).toInt64 = uN x / 4294967296 := by
  have h : ((32 : Int32).toInt64.toUInt64 &&& Int64.toUInt64 63).toNat % 64 = 32 := by decide
  rw [uN_shr, h]
theorem uN_s63 (x : Int64) : uN (x.toUInt64 >>> ((63 : Int32).toInt64.toUInt64 &&& Int64.toUInt64 63)).toInt64 = uN x / 9223372036854775808 := by
  have h : ((63 : Int32).toInt64.toUInt64 &&& Int64.toUInt64 63).toNat % 64 = 63 := by decide
  rw [uN_shr, h]
theorem uN_lo (x : Int64) : uN (x &&& 4294967295) = uN x % 4294967296 := by
  show (x.toUInt64 &&& Int64.toUInt64 4294967295).toNat = _
  rw [UInt64.toNat_and]
  exact Nat.and_two_pow_sub_one_eq_mod _ 32
theorem uN_bit (x : Int64) : (x &&& 1) = 0 ↔ uN x % 2 = 0 := by
  have h : uN (x &&& 1) = uN x % 2 := by
    show (x.toUInt64 &&& Int64.toUInt64 1).toNat = _
    rw [UInt64.toNat_and]
    exact Nat.and_two_pow_sub_one_eq_mod _ 1
  rw [← h]
  exact ⟨fun z => by rw [z]; rfl, fun z => uN_inj (z.trans rfl)⟩
theorem uN_or {x y : Int64} (hy : uN y < 2) : uN ((x <<< ((1 : Int32).toInt64 &&& 63)) ||| y) = (2 * uN x) % 18446744073709551616 + uN y := by
  have h1 : uN ((x <<< ((1 : Int32).toInt64 &&& 63)) ||| y) = uN (x <<< ((1 : Int32).toInt64 &&& 63)) ||| uN y := UInt64.toNat_or _ _
  have h2 : (2 * uN x) % 18446744073709551616 = 2 ^ 1 * (uN x % 9223372036854775808) := by omega
  rw [h1, uN_shl, h2]
  exact (Nat.two_pow_add_eq_or_of_lt (i := 1) hy _).symm
theorem nat_xor {a : Nat} (h : a < 18446744073709551616) : a ^^^ 2 ^ 63 = (a + 9223372036854775808) % 18446744073709551616 := by
  have h1 : (a ^^^ 2 ^ 63) % 2 ^ 63 = a % 2 ^ 63 := by rw [Nat.xor_mod_two_pow, Nat.mod_self, Nat.xor_zero]
  have h2 : (a ^^^ 2 ^ 63) / 2 ^ 63 = (a / 2 ^ 63) ^^^ 1 := by rw [Nat.xor_div_two_pow, Nat.div_self (Nat.two_pow_pos 63)]
  have h3 : a / 2 ^ 63 = 0 ∨ a / 2 ^ 63 = 1 := by omega
  generalize a ^^^ 2 ^ 63 = t at h1 h2
  rcases h3 with h3 | h3
  · rw [h3] at h2
    have h2 : t / 2 ^ 63 = 1 := h2
    omega
  · rw [h3] at h2
    have h2 : t / 2 ^ 63 = 0 := h2
    omega
theorem uN_xor (x : Int64) : uN (x ^^^ (-9223372036854775808)) = (uN x + 9223372036854775808) % 18446744073709551616 := by
  rw [← nat_xor (uN_lt x)]
  exact UInt64.toNat_xor _ _
theorem uN_int (x : Int64) : x.toInt = if 2 * uN x < 18446744073709551616 then (uN x : Int) else (uN x : Int) - 18446744073709551616 := BitVec.toInt_eq_toNat_cond _
theorem uN_le (x y : Int64) : (x ^^^ (-9223372036854775808)) ≤ (y ^^^ (-9223372036854775808)) ↔ uN x ≤ uN y := by
  have hx := uN_lt x
  have hy := uN_lt y
  rw [Int64.le_iff_toInt_le, uN_int, uN_int, uN_xor, uN_xor]
  omega
theorem uN_sk (x : Int64) {k : Nat} (hk : k < 64) : uN (x.toUInt64 >>> ((nI k).toInt64.toUInt64 &&& Int64.toUInt64 63)).toInt64 = uN x / 2 ^ k := by
  have h : ((nI k).toInt64.toUInt64 &&& Int64.toUInt64 63).toNat % 64 = k := by
    rw [nI_l (by omega), UInt64.toNat_and]
    have e : (lN k).toUInt64.toNat = k % 2 ^ 64 := rfl
    have e2 : (Int64.toUInt64 63).toNat = 2 ^ 6 - 1 := by decide
    rw [e, e2, Nat.and_two_pow_sub_one_eq_mod]
    omega
  rw [uN_shr, h]
/-! ===== unsigned comparison by xor with the least ===== -/
theorem lN_bv (n : Nat) : (lN n).toBitVec = BitVec.ofNat 64 n := rfl
theorem lN_nat {n : Nat} (h : n < 2 ^ 64) : (lN n).toBitVec.toNat = n := by rw [lN_bv, BitVec.toNat_ofNat]; exact Nat.mod_eq_of_lt h
theorem lN_xor (a b : Nat) : lN a ^^^ lN b = lN (a ^^^ b) := by
  apply Int64.toBitVec_inj.mp; rw [Int64.toBitVec_xor, lN_bv, lN_bv, lN_bv]; apply BitVec.eq_of_getLsbD_eq; intro i hi; simp [BitVec.getLsbD_ofNat, Nat.testBit_xor, hi]
theorem lN_ti {m : Nat} (h : m < 2 ^ 64) : (lN m).toInt = if m < 2 ^ 63 then (m : Int) else (m : Int) - 2 ^ 64 := by
  have c := BitVec.toInt_eq_toNat_cond (lN m).toBitVec
  rw [lN_nat h] at c
  show (lN m).toBitVec.toInt = _
  rw [c]
  split <;> split <;> omega
theorem xor63 {x : Nat} (h : x < 2 ^ 63) : x ^^^ 2 ^ 63 = 2 ^ 63 + x := by
  apply Nat.eq_of_testBit_eq
  intro i
  rw [Nat.testBit_xor, Nat.testBit_two_pow]
  rcases Nat.lt_trichotomy i 63 with z | z | z
  · rw [Nat.testBit_two_pow_add_gt z, decide_eq_false (by omega)]; simp
  · subst z; rw [Nat.testBit_two_pow_add_eq]; simp
  · have hp : 2 ^ 64 ≤ 2 ^ i := Nat.pow_le_pow_right (by decide) z
    rw [Nat.testBit_lt_two_pow (show x < 2 ^ i by omega), Nat.testBit_lt_two_pow (show 2 ^ 63 + x < 2 ^ i by omega), decide_eq_false (by omega)]; rfl
theorem xorS {a : Nat} (h : a < 2 ^ 64) : (lN a ^^^ (-9223372036854775808)).toInt = (a : Int) - 2 ^ 63 := by
  rw [show (-9223372036854775808 : Int64) = lN (2 ^ 63) from by decide +kernel, lN_xor]
  rcases Nat.lt_or_ge a (2 ^ 63) with z | z
  · rw [xor63 z, lN_ti (by omega), if_neg (by omega)]; omega
  · obtain ⟨x, rfl⟩ : ∃ x, a = 2 ^ 63 + x := ⟨a - 2 ^ 63, by omega⟩
    rw [← xor63 (by omega), Nat.xor_assoc, Nat.xor_self, Nat.xor_zero, lN_ti (by omega), if_pos (by omega), xor63 (by omega)]; omega
theorem ultL {a b : Nat} (ha : a < 2 ^ 64) (hb : b < 2 ^ 64) : ((lN b ^^^ (-9223372036854775808)) ≤ (lN a ^^^ (-9223372036854775808))) ↔ b ≤ a := by
  rw [Int64.le_iff_toInt_le, xorS ha, xorS hb]; omega
/-! ===== Int64 masks of n low bits ===== -/
theorem cr_bits (W U M : BitVec 64) : ((W &&& U) &&& (U &&& (M ^^^ BitVec.allOnes 64))) = 0#64 ↔ (W &&& U) &&& M = W &&& U := by
  constructor
  · intro h
    apply BitVec.eq_of_getLsbD_eq
    intro i hi
    have e := congrArg (fun x => BitVec.getLsbD x i) h
    simp only [BitVec.getLsbD_and, BitVec.getLsbD_xor, BitVec.getLsbD_allOnes, BitVec.getLsbD_zero, hi, decide_true] at e ⊢
    revert e
    cases W.getLsbD i <;> cases U.getLsbD i <;> cases M.getLsbD i <;> decide
  · intro h
    apply BitVec.eq_of_getLsbD_eq
    intro i hi
    have e := congrArg (fun x => BitVec.getLsbD x i) h
    simp only [BitVec.getLsbD_and, BitVec.getLsbD_xor, BitVec.getLsbD_allOnes, BitVec.getLsbD_zero, hi, decide_true] at e ⊢
    revert e
    cases W.getLsbD i <;> cases U.getLsbD i <;> cases M.getLsbD i <;> decide
theorem cr_mask (w U m : Int64) (n : Nat) (hm : m.toBitVec.toNat = 2 ^ n - 1) : ((w &&& U) &&& (U &&& (m ^^^ (-1)))) = 0 ↔ (w &&& U).toBitVec.toNat < 2 ^ n := by
  have e0 : (-1 : Int64).toBitVec = BitVec.allOnes 64 := by decide
  have z0 : (0 : Int64).toBitVec = 0#64 := by decide
  rw [← Int64.toBitVec_inj, z0, Int64.toBitVec_and, Int64.toBitVec_and, Int64.toBitVec_and, Int64.toBitVec_xor, e0, cr_bits]
  generalize w.toBitVec &&& U.toBitVec = T
  rw [← BitVec.toNat_inj, BitVec.toNat_and, hm, Nat.and_two_pow_sub_one_eq_mod]
  constructor
  · intro h
    have t := Nat.mod_lt T.toNat (Nat.two_pow_pos n)
    rw [h] at t
    exact t
  · exact Nat.mod_eq_of_lt
theorem cr_shr (t : Int64) (x : UInt64) (n : Nat) (hx : x.toNat % 64 = n) : (t.toUInt64 >>> x).toInt64 = 0 ↔ t.toBitVec.toNat < 2 ^ n := by
  rw [← Int64.toBitVec_inj, ← BitVec.toNat_inj]
  show (t.toUInt64 >>> x).toNat = 0 ↔ t.toUInt64.toNat < 2 ^ n
  rw [UInt64.toNat_shiftRight, hx, Nat.shiftRight_eq_div_pow]
  constructor
  · intro h
    have d : t.toUInt64.toNat / 2 ^ n < 1 := by
      rw [h]
      decide
    have e := (Nat.div_lt_iff_lt_mul (Nat.two_pow_pos n)).mp d
    rw [Nat.one_mul] at e
    exact e
  · exact Nat.div_eq_of_lt
theorem cr_amt (s : Int64) : ∃ n, n < 64 ∧ s &&& 63 = lN n ∧ (s.toUInt64 &&& Int64.toUInt64 63).toNat % 64 = n := by
  have e : (s.toUInt64 &&& Int64.toUInt64 63).toNat = s.toUInt64.toNat % 2 ^ 6 := by
    rw [UInt64.toNat_and, show (Int64.toUInt64 63).toNat = 2 ^ 6 - 1 from by decide, Nat.and_two_pow_sub_one_eq_mod]
  refine ⟨s.toUInt64.toNat % 2 ^ 6, by omega, ?_, by omega⟩
  rw [← Int64.toBitVec_inj, ← BitVec.toNat_inj]
  show (s.toUInt64 &&& Int64.toUInt64 63).toNat = (BitVec.ofNat 64 (s.toUInt64.toNat % 2 ^ 6)).toNat
  rw [e, BitVec.toNat_ofNat]
  omega
end
section
/-! sums over naturals below a bound -/
def tc_s : Nat → (Nat → Int) → Int
  | 0, _ => 0
  | n + 1, f => tc_s n f + f n
theorem tc_s_c {n : Nat} {f g : Nat → Int} (h : ∀ i, i < n → f i = g i) : tc_s n f = tc_s n g := by
  induction n with
  | zero => rfl
  | succ n ih =>
    show tc_s n f + f n = tc_s n g + g n
    rw [ih (fun i hi => h i (by omega)), h n (by omega)]
theorem tc_s_add (n : Nat) (f g : Nat → Int) : tc_s n (fun i => f i + g i) = tc_s n f + tc_s n g := by
  induction n with
  | zero => rfl
  | succ n ih =>
    show tc_s n (fun i => f i + g i) + (f n + g n) = (tc_s n f + f n) + (tc_s n g + g n)
    rw [ih]; omega
theorem tc_s_mul (n : Nat) (c : Int) (f : Nat → Int) : tc_s n (fun i => c * f i) = c * tc_s n f := by
  induction n with
  | zero => exact (Int.mul_zero c).symm
  | succ n ih =>
    show tc_s n (fun i => c * f i) + c * f n = c * (tc_s n f + f n)
    rw [ih, Int.mul_add]
theorem tc_s_0 {n : Nat} {f : Nat → Int} (h : ∀ i, i < n → f i = 0) : tc_s n f = 0 := by
  induction n with
  | zero => rfl
  | succ n ih =>
    show tc_s n f + f n = 0
    rw [ih (fun i hi => h i (by omega)), h n (by omega)]; rfl
theorem tc_s_comm (n m : Nat) (f : Nat → Nat → Int) : tc_s n (fun i => tc_s m (fun j => f i j)) = tc_s m (fun j => tc_s n (fun i => f i j)) := by
  induction n with
  | zero => exact (tc_s_0 (fun i _ => rfl)).symm
  | succ n ih =>
    show tc_s n (fun i => tc_s m (fun j => f i j)) + tc_s m (fun j => f n j) = tc_s m (fun j => tc_s n (fun i => f i j) + f n j)
    rw [ih, tc_s_add]
theorem tc_s_one {n a : Nat} (h : a < n) {f : Nat → Int} (h0 : ∀ i, i < n → i ≠ a → f i = 0) : tc_s n f = f a := by
  induction n with
  | zero => omega
  | succ n ih =>
    show tc_s n f + f n = f a
    by_cases e : a = n
    · subst e; rw [tc_s_0 (fun i hi => h0 i (by omega) (by omega))]; omega
    · rw [ih (by omega) (fun i hi hn => h0 i (by omega) hn), h0 n (by omega) (by omega)]; omega
theorem tc_s_two {n a b : Nat} (ha : a < n) (hb : b < n) (hab : a ≠ b) {f : Nat → Int} (h0 : ∀ i, i < n → i ≠ a → i ≠ b → f i = 0) : tc_s n f = f a + f b := by
  have e : tc_s n f = tc_s n (fun i => (if i = a then f a else 0) + (if i = b then f b else 0)) := by
    refine tc_s_c (fun i hi => ?_)
    by_cases h1 : i = a
    · subst h1; rw [if_pos rfl, if_neg hab]; omega
    · by_cases h2 : i = b
      · subst h2; rw [if_neg h1, if_pos rfl]; omega
      · rw [if_neg h1, if_neg h2, h0 i hi h1 h2]; rfl
  rw [e, tc_s_add, tc_s_one ha (fun i _ hn => if_neg hn), tc_s_one hb (fun i _ hn => if_neg hn), if_pos rfl, if_pos rfl]
theorem tc_s_head (n : Nat) (f : Nat → Int) : tc_s (n + 1) f = f 0 + tc_s n (fun i => f (i + 1)) := by
  induction n with
  | zero => show 0 + f 0 = f 0 + 0; omega
  | succ n ih =>
    show tc_s (n + 1) f + f (n + 1) = f 0 + (tc_s n (fun i => f (i + 1)) + f (n + 1))
    rw [ih]; omega
/-- the numbers but a, in order -/
def tc_k (a i : Nat) : Nat := if i < a then i else i + 1
theorem tc_k_lt {a i : Nat} (h : i < a) : tc_k a i = i := if_pos h
theorem tc_k_ge {a i : Nat} (h : a ≤ i) : tc_k a i = i + 1 := if_neg (by omega)
theorem tc_k_ne (a i : Nat) : tc_k a i ≠ a := by unfold tc_k; split <;> omega
theorem tc_k_b {a i n : Nat} (h : i < n) : tc_k a i < n + 1 := by unfold tc_k; split <;> omega
theorem tc_s_k {n a : Nat} (h : a < n + 1) (f : Nat → Int) : tc_s (n + 1) f = f a + tc_s n (fun i => f (tc_k a i)) := by
  induction n with
  | zero =>
    have : a = 0 := by omega
    subst this; show 0 + f 0 = f 0 + 0; omega
  | succ n ih =>
    show tc_s (n + 1) f + f (n + 1) = f a + (tc_s n (fun i => f (tc_k a i)) + f (tc_k a n))
    by_cases e : a = n + 1
    · subst e
      rw [tc_k_lt (show n < n + 1 by omega)]
      have : tc_s n (fun i => f (tc_k (n + 1) i)) = tc_s n f := tc_s_c (fun i hi => by rw [tc_k_lt (show i < n + 1 by omega)])
      rw [this]; show tc_s n f + f n + f (n + 1) = _; omega
    · rw [ih (by omega), tc_k_ge (show a ≤ n by omega)]; omega
/-- the sign -/
def tc_g (i : Nat) : Int := if i % 2 = 0 then 1 else -1
theorem tc_g_0 : tc_g 0 = 1 := rfl
theorem tc_g_s (i : Nat) : tc_g (i + 1) = - tc_g i := by
  unfold tc_g
  by_cases h : i % 2 = 0
  · rw [if_pos h, if_neg (by omega)]
  · rw [if_neg h, if_pos (by omega)]; rfl
theorem tc_g_m (i j : Nat) : tc_g i * tc_g j = tc_g (i + j) := by
  induction j with
  | zero => rw [tc_g_0, Int.mul_one]; rfl
  | succ j ih => rw [tc_g_s, show i + (j + 1) = (i + j) + 1 from rfl, tc_g_s, ← ih, Int.mul_neg]
theorem tc_g_sq (i : Nat) : tc_g i * tc_g i = 1 := by
  unfold tc_g; split <;> rfl
/-- determinants, by the first column -/
def tc_d : Nat → (Nat → Nat → Int) → Int
  | 0, _ => 1
  | n + 1, B => tc_s (n + 1) (fun i => tc_g i * B i 0 * tc_d n (fun x y => B (tc_k i x) (y + 1)))
theorem tc_d_s (n : Nat) (B : Nat → Nat → Int) : tc_d (n + 1) B = tc_s (n + 1) (fun i => tc_g i * B i 0 * tc_d n (fun x y => B (tc_k i x) (y + 1))) := rfl
theorem tc_d_c {n : Nat} : ∀ {A B : Nat → Nat → Int}, (∀ x y, x < n → y < n → A x y = B x y) → tc_d n A = tc_d n B := by
  induction n with
  | zero => intro A B _; rfl
  | succ n ih =>
    intro A B h
    rw [tc_d_s, tc_d_s]
    refine tc_s_c (fun i hi => ?_)
    rw [h i 0 hi (by omega), ih (A := fun x y => A (tc_k i x) (y + 1)) (B := fun x y => B (tc_k i x) (y + 1)) (fun x y hx hy => h _ _ (tc_k_b hx) (by omega))]
/-- the matrix with another row a -/
def tc_sr (B : Nat → Nat → Int) (a : Nat) (v : Nat → Int) : Nat → Nat → Int := fun x y => if x = a then v y else B x y
theorem tc_sr_s {B : Nat → Nat → Int} {a : Nat} {v : Nat → Int} {y : Nat} : tc_sr B a v a y = v y := if_pos rfl
theorem tc_sr_n {B : Nat → Nat → Int} {a x : Nat} {v : Nat → Int} {y : Nat} (h : x ≠ a) : tc_sr B a v x y = B x y := if_neg h
/-- where row a lies when row i is taken away -/
def tc_a (i a : Nat) : Nat := if a < i then a else a - 1
theorem tc_a_k {i a x : Nat} (h : i ≠ a) : tc_k i x = a ↔ x = tc_a i a := by
  unfold tc_k tc_a; split <;> split <;> omega
theorem tc_a_b {i a n : Nat} (h : i ≠ a) (ha : a < n + 1) (hi : i < n + 1) : tc_a i a < n := by
  unfold tc_a; split <;> omega
theorem tc_mn {B : Nat → Nat → Int} {i a : Nat} {z : Nat → Int} (h : i ≠ a) : (fun x y => tc_sr B a z (tc_k i x) (y + 1)) = tc_sr (fun x y => B (tc_k i x) (y + 1)) (tc_a i a) (fun y => z (y + 1)) := by
  funext x y
  unfold tc_sr
  by_cases e : tc_k i x = a
  · rw [if_pos e, if_pos ((tc_a_k h).mp e)]
  · rw [if_neg e, if_neg (fun q => e ((tc_a_k h).mpr q))]
theorem tc_mn0 {B : Nat → Nat → Int} {a : Nat} {z : Nat → Int} : (fun x y => tc_sr B a z (tc_k a x) (y + 1)) = (fun x y => B (tc_k a x) (y + 1)) := by
  funext x y
  exact tc_sr_n (tc_k_ne a x)
theorem tc_d_lin {n : Nat} : ∀ {a : Nat} (_ : a < n) (B : Nat → Nat → Int) (u v : Nat → Int) (c : Int), tc_d n (tc_sr B a (fun y => u y + c * v y)) = tc_d n (tc_sr B a u) + c * tc_d n (tc_sr B a v) := by
  induction n with
  | zero => intro a h; omega
  | succ n ih =>
    intro a ha B u v c
    rw [tc_d_s, tc_d_s, tc_d_s, ← tc_s_mul, ← tc_s_add]
    refine tc_s_c (fun i hi => ?_)
    by_cases e : i = a
    · subst e
      rw [tc_mn0, tc_mn0, tc_mn0, tc_sr_s, tc_sr_s, tc_sr_s]
      generalize tc_d n _ = D
      grind
    · rw [tc_mn e, tc_mn e, tc_mn e, tc_sr_n e, tc_sr_n e, tc_sr_n e]
      have q := ih (tc_a_b e ha hi) (fun x y => B (tc_k i x) (y + 1)) (fun y => u (y + 1)) (fun y => v (y + 1)) c
      rw [q]
      generalize tc_d n _ = D1
      generalize tc_d n _ = D2
      grind
theorem tc_sr_self (B : Nat → Nat → Int) (a : Nat) : tc_sr B a (B a) = B := by
  funext x y
  unfold tc_sr
  by_cases e : x = a
  · rw [if_pos e, e]
  · rw [if_neg e]
theorem tc_sr_comm (B : Nat → Nat → Int) {a b : Nat} (h : a ≠ b) (u v : Nat → Int) : tc_sr (tc_sr B a u) b v = tc_sr (tc_sr B b v) a u := by
  funext x y
  unfold tc_sr
  by_cases e : x = b
  · rw [if_pos e, if_neg (by omega), if_pos e]
  · rw [if_neg e, if_neg e]
theorem tc_d_zr {n a : Nat} (ha : a < n) (B : Nat → Nat → Int) : tc_d n (tc_sr B a (fun _ => 0)) = 0 := by
  have q := tc_d_lin ha B (fun _ => 0) (fun _ => 0) (-1)
  have e : (fun _ : Nat => (0 : Int) + -1 * 0) = (fun _ => 0) := by funext _; rfl
  rw [e] at q
  omega
theorem tc_d_row0 {n a : Nat} (ha : a < n) {B : Nat → Nat → Int} (h : ∀ y, y < n → B a y = 0) : tc_d n B = 0 := by
  rw [← tc_d_zr ha B]
  refine tc_d_c (fun x y hx hy => ?_)
  by_cases e : x = a
  · rw [e, h y hy, tc_sr_s]
  · rw [tc_sr_n e]
theorem tc_d_col0 {n : Nat} (hn : 0 < n) {B : Nat → Nat → Int} (h : ∀ x, x < n → B x 0 = 0) : tc_d n B = 0 := by
  obtain ⟨m, rfl⟩ : ∃ m, n = m + 1 := ⟨n - 1, by omega⟩
  rw [tc_d_s]
  refine tc_s_0 (fun i hi => ?_)
  rw [h i hi, Int.mul_zero, Int.zero_mul]
theorem tc_d_adj {n : Nat} : ∀ {a : Nat} (_ : a + 1 < n) {B : Nat → Nat → Int} (_ : ∀ y, y < n → B a y = B (a + 1) y), tc_d n B = 0 := by
  induction n with
  | zero => intro a h; omega
  | succ n ih =>
    intro a ha B h
    rw [tc_d_s, tc_s_two (a := a) (b := a + 1) (by omega) ha (by omega)]
    · have e : tc_d n (fun x y => B (tc_k a x) (y + 1)) = tc_d n (fun x y => B (tc_k (a + 1) x) (y + 1)) := by
        refine tc_d_c (fun x y hx hy => ?_)
        show B (tc_k a x) (y + 1) = B (tc_k (a + 1) x) (y + 1)
        by_cases e1 : x < a
        · rw [tc_k_lt e1, tc_k_lt (by omega)]
        · by_cases e2 : x = a
          · subst e2
            rw [tc_k_ge (by omega), tc_k_lt (by omega)]
            exact (h (y + 1) (by omega)).symm
          · rw [tc_k_ge (by omega), tc_k_ge (by omega)]
      rw [e, tc_g_s, h 0 (by omega)]
      generalize tc_d n _ = D
      grind
    · intro i hi h1 h2
      have z : tc_d n (fun x y => B (tc_k i x) (y + 1)) = 0 := by
        refine ih (a := tc_a i a) ?_ (fun y hy => ?_)
        · unfold tc_a; split <;> omega
        · show B (tc_k i (tc_a i a)) (y + 1) = B (tc_k i (tc_a i a + 1)) (y + 1)
          have e1 : tc_k i (tc_a i a) = a := (tc_a_k h1).mpr rfl
          have e2 : tc_k i (tc_a i a + 1) = a + 1 := by
            unfold tc_k tc_a; split <;> split <;> omega
          rw [e1, e2]
          exact h (y + 1) (by omega)
      rw [z, Int.mul_zero]
theorem tc_d_pol {n a b : Nat} (ha : a < n) (hb : b < n) (hab : a ≠ b) (hz : ∀ C : Nat → Nat → Int, (∀ y, C a y = C b y) → tc_d n C = 0) (B : Nat → Nat → Int) : tc_d n (tc_sr (tc_sr B a (B b)) b (B a)) = - tc_d n B := by
  have h0 : ∀ u v : Nat → Int, (∀ y, u y = v y) → tc_d n (tc_sr (tc_sr B a u) b v) = 0 := by
    intro u v h
    refine hz _ (fun y => ?_)
    rw [tc_sr_n hab, tc_sr_s, tc_sr_s]; exact h y
  have q := h0 (fun y => B a y + 1 * B b y) (fun y => B a y + 1 * B b y) (fun y => rfl)
  rw [tc_d_lin hb, tc_sr_comm _ hab, tc_sr_comm _ hab, tc_d_lin ha, tc_d_lin ha, tc_sr_comm _ (Ne.symm hab), tc_sr_comm _ (Ne.symm hab), tc_sr_comm _ (Ne.symm hab), tc_sr_comm _ (Ne.symm hab)] at q
  have z1 := h0 (B a) (B a) (fun y => rfl)
  have z2 := h0 (B b) (B b) (fun y => rfl)
  have s : tc_sr (tc_sr B a (B a)) b (B b) = B := by rw [tc_sr_self, tc_sr_self]
  have q' : tc_d n (tc_sr (tc_sr B a (B a)) b (B a)) + 1 * tc_d n (tc_sr (tc_sr B a (B b)) b (B a)) + 1 * (tc_d n (tc_sr (tc_sr B a (B a)) b (B b)) + 1 * tc_d n (tc_sr (tc_sr B a (B b)) b (B b))) = 0 := q
  rw [z1, z2, s] at q'
  omega
theorem tc_d_eqd : ∀ (d n i : Nat) (_ : i + d + 1 < n) (B : Nat → Nat → Int) (_ : ∀ y, B i y = B (i + d + 1) y), tc_d n B = 0 := by
  intro d
  induction d with
  | zero => intro n i hi B h; exact tc_d_adj hi (fun y _ => h y)
  | succ d ih =>
    intro n i hi B h
    have q := tc_d_pol (n := n) (a := i + d + 1) (b := i + d + 2) (by omega) (by omega) (by omega) (fun C hC => tc_d_adj (by omega) (fun y _ => hC y)) B
    have z := ih n i (by omega) (tc_sr (tc_sr B (i + d + 1) (B (i + d + 2))) (i + d + 2) (B (i + d + 1))) (fun y => by
      rw [tc_sr_n (by omega), tc_sr_n (by omega), tc_sr_n (by omega), tc_sr_s]
      exact h y)
    omega
theorem tc_d_eq {n a b : Nat} (ha : a < n) (hb : b < n) (hab : a ≠ b) {B : Nat → Nat → Int} (h : ∀ y, B a y = B b y) : tc_d n B = 0 := by
  by_cases l : a < b
  · refine tc_d_eqd (b - a - 1) n a (by omega) B (fun y => ?_)
    rw [show a + (b - a - 1) + 1 = b by omega]; exact h y
  · refine tc_d_eqd (a - b - 1) n b (by omega) B (fun y => ?_)
    rw [show b + (a - b - 1) + 1 = a by omega]; exact (h y).symm
/-- a and b in each other's place -/
def tc_w (a b x : Nat) : Nat := if x = a then b else if x = b then a else x
theorem tc_d_swap {n a b : Nat} (ha : a < n) (hb : b < n) (hab : a ≠ b) (B : Nat → Nat → Int) : tc_d n (fun x y => B (tc_w a b x) y) = - tc_d n B := by
  rw [← tc_d_pol ha hb hab (fun C hC => tc_d_eq ha hb hab hC) B]
  refine tc_d_c (fun x y _ _ => ?_)
  show B (tc_w a b x) y = _
  unfold tc_w tc_sr
  by_cases e : x = a
  · subst e; rw [if_pos rfl, if_neg hab, if_pos rfl]
  · by_cases e2 : x = b
    · subst e2; rw [if_neg e, if_pos rfl, if_pos rfl]
    · rw [if_neg e, if_neg e2, if_neg e2, if_neg e]
theorem tc_d_radd {n a b : Nat} (ha : a < n) (hb : b < n) (hab : a ≠ b) (c : Int) (B : Nat → Nat → Int) : tc_d n (fun x y => if x = a then B a y + c * B b y else B x y) = tc_d n B := by
  have q := tc_d_lin ha B (B a) (B b) c
  rw [tc_sr_self, tc_d_eq ha hb hab (B := tc_sr B a (B b)) (fun y => by rw [tc_sr_s, tc_sr_n (Ne.symm hab)]), Int.mul_zero, Int.add_zero] at q
  exact q
/-- a row of combined rows -/
theorem tc_d_comb {n j : Nat} (hj : j < n) (c : Nat → Int) (B : Nat → Nat → Int) : ∀ m, m ≤ n → tc_d n (tc_sr B j (fun y => tc_s m (fun x => c x * B x y))) = (if j < m then c j else 0) * tc_d n B := by
  intro m
  induction m with
  | zero => intro _; rw [if_neg (by omega), Int.zero_mul]; exact tc_d_zr hj B
  | succ m ih =>
    intro hm
    have q := tc_d_lin hj B (fun y => tc_s m (fun x => c x * B x y)) (B m) (c m)
    rw [ih (by omega)] at q
    refine Eq.trans q ?_
    by_cases e : j = m
    · subst e
      rw [if_neg (by omega), if_pos (by omega), tc_sr_self]; omega
    · rw [tc_d_eq hj (show m < n by omega) e (B := tc_sr B j (B m)) (fun y => by rw [tc_sr_s, tc_sr_n (Ne.symm e)])]
      by_cases l : j < m
      · rw [if_pos l, if_pos (by omega)]; omega
      · rw [if_neg l, if_neg (by omega)]; omega
/-- transposition -/
theorem tc_k_ss (i x : Nat) : tc_k (i + 1) (x + 1) = tc_k i x + 1 := by unfold tc_k; split <;> split <;> omega
theorem tc_k_s0 (i : Nat) : tc_k (i + 1) 0 = 0 := if_pos (by omega)
theorem tc_k_0 (x : Nat) : tc_k 0 x = x + 1 := if_neg (by omega)
theorem tc_d_exp {n : Nat} (h1 : ∀ C : Nat → Nat → Int, tc_d (n + 1) (fun x y => C y x) = tc_d (n + 1) C) (h0 : ∀ C : Nat → Nat → Int, tc_d n (fun x y => C y x) = tc_d n C) (B : Nat → Nat → Int) :
    tc_d (n + 2) B = B 0 0 * tc_d (n + 1) (fun x y => B (x + 1) (y + 1)) + tc_s (n + 1) (fun i => tc_s (n + 1) (fun j => - (tc_g i * tc_g j) * (B (i + 1) 0 * B 0 (j + 1)) * tc_d n (fun x y => B (tc_k i x + 1) (tc_k j y + 1)))) := by
  rw [tc_d_s, tc_s_head]
  have a0 : tc_g 0 * B 0 0 * tc_d (n + 1) (fun x y => B (tc_k 0 x) (y + 1)) = B 0 0 * tc_d (n + 1) (fun x y => B (x + 1) (y + 1)) := by
    rw [tc_g_0, Int.one_mul]
    have : (fun x y => B (tc_k 0 x) (y + 1)) = (fun x y => B (x + 1) (y + 1)) := by funext x y; rw [tc_k_0]
    rw [this]
  rw [a0]
  congr 1
  refine tc_s_c (fun i hi => ?_)
  rw [← h1 (fun x y => B (tc_k (i + 1) x) (y + 1)), tc_d_s, ← tc_s_mul]
  refine tc_s_c (fun j hj => ?_)
  have e : tc_d n (fun x y => B (tc_k (i + 1) (y + 1)) (tc_k j x + 1)) = tc_d n (fun x y => B (tc_k i x + 1) (tc_k j y + 1)) := by
    rw [← h0 (fun x y => B (tc_k i x + 1) (tc_k j y + 1))]
    refine tc_d_c (fun x y _ _ => ?_)
    show B (tc_k (i + 1) (y + 1)) (tc_k j x + 1) = B (tc_k i y + 1) (tc_k j x + 1)
    rw [tc_k_ss]
  show tc_g (i + 1) * B (i + 1) 0 * (tc_g j * B (tc_k (i + 1) 0) (j + 1) * tc_d n (fun x y => B (tc_k (i + 1) (y + 1)) (tc_k j x + 1))) = _
  rw [e, tc_k_s0, tc_g_s]
  generalize tc_d n _ = D
  grind
theorem tc_d_t2 : ∀ n : Nat, (∀ C : Nat → Nat → Int, tc_d n (fun x y => C y x) = tc_d n C) ∧ (∀ C : Nat → Nat → Int, tc_d (n + 1) (fun x y => C y x) = tc_d (n + 1) C) := by
  intro n
  induction n with
  | zero => exact ⟨fun C => rfl, fun C => rfl⟩
  | succ n ih =>
    refine ⟨ih.2, fun C => ?_⟩
    rw [tc_d_exp ih.2 ih.1, tc_d_exp ih.2 ih.1, tc_s_comm]
    have e1 : tc_d (n + 1) (fun x y => C (y + 1) (x + 1)) = tc_d (n + 1) (fun x y => C (x + 1) (y + 1)) := ih.2 (fun x y => C (x + 1) (y + 1))
    show C 0 0 * tc_d (n + 1) (fun x y => C (y + 1) (x + 1)) + _ = _
    rw [e1]
    congr 1
    refine tc_s_c (fun i _ => tc_s_c (fun j _ => ?_))
    have e0 : tc_d n (fun x y => C (tc_k i y + 1) (tc_k j x + 1)) = tc_d n (fun x y => C (tc_k i x + 1) (tc_k j y + 1)) := ih.1 (fun x y => C (tc_k i x + 1) (tc_k j y + 1))
    show - (tc_g j * tc_g i) * (C 0 (j + 1) * C (i + 1) 0) * tc_d n (fun x y => C (tc_k i y + 1) (tc_k j x + 1)) = _
    rw [e0]
    generalize tc_d n _ = D
    grind
theorem tc_d_t (n : Nat) (C : Nat → Nat → Int) : tc_d n (fun x y => C y x) = tc_d n C := (tc_d_t2 n).1 C
theorem tc_d_cadd {n a b : Nat} (ha : a < n) (hb : b < n) (hab : a ≠ b) (c : Int) (B : Nat → Nat → Int) : tc_d n (fun x y => if y = a then B x a + c * B x b else B x y) = tc_d n B := by
  have q := tc_d_radd ha hb hab c (fun x y => B y x)
  rw [tc_d_t n B] at q
  rw [← q, ← tc_d_t n (fun x y => if y = a then B x a + c * B x b else B x y)]
/-- a unit row -/
theorem tc_d_unit : ∀ (n a b : Nat) (_ : a < n + 1) (_ : b < n + 1) (B : Nat → Nat → Int), tc_d (n + 1) (tc_sr B a (fun y => if y = b then 1 else 0)) = tc_g (a + b) * tc_d n (fun x y => B (tc_k a x) (tc_k b y)) := by
  intro n
  induction n with
  | zero =>
    intro a b ha hb B
    have e1 : a = 0 := by omega
    have e2 : b = 0 := by omega
    subst e1; subst e2; rfl
  | succ n ih =>
    intro a b ha hb B
    cases b with
    | zero =>
      rw [tc_d_s, tc_s_one ha]
      · rw [tc_mn0, tc_sr_s, if_pos rfl]
        have : (fun x y => B (tc_k a x) (tc_k 0 y)) = (fun x y => B (tc_k a x) (y + 1)) := by funext x y; rw [tc_k_0]
        rw [this]; simp
      · intro i hi hn
        rw [tc_mn hn]
        have e : (fun y : Nat => if y + 1 = 0 then (1 : Int) else 0) = (fun _ => 0) := by funext y; exact if_neg (by omega)
        have z : tc_d (n + 1) (tc_sr (fun x y => B (tc_k i x) (y + 1)) (tc_a i a) (fun y => if y + 1 = 0 then (1 : Int) else 0)) = 0 := by
          rw [e]; exact tc_d_zr (tc_a_b hn ha hi) _
        rw [z, Int.mul_zero]
    | succ b =>
      rw [tc_d_s, tc_s_k ha]
      have z : tc_g a * tc_sr B a (fun y => if y = b + 1 then (1 : Int) else 0) a 0 * tc_d (n + 1) (fun x y => tc_sr B a (fun y => if y = b + 1 then (1 : Int) else 0) (tc_k a x) (y + 1)) = 0 := by
        rw [tc_sr_s, if_neg (by omega), Int.mul_zero, Int.zero_mul]
      rw [z, Int.zero_add, tc_d_s n (fun x y => B (tc_k a x) (tc_k (b + 1) y)), ← tc_s_mul]
      refine tc_s_c (fun i hi => ?_)
      rw [tc_mn (tc_k_ne a i), tc_sr_n (tc_k_ne a i)]
      have e : (fun y : Nat => if y + 1 = b + 1 then (1 : Int) else 0) = (fun y => if y = b then 1 else 0) := by
        funext y
        by_cases h : y = b
        · rw [if_pos h, if_pos (by omega)]
        · rw [if_neg h, if_neg (by omega)]
      have q := ih (tc_a (tc_k a i) a) b (tc_a_b (tc_k_ne a i) ha (tc_k_b hi)) (by omega) (fun x y => B (tc_k (tc_k a i) x) (y + 1))
      have r : tc_d n (fun x y => B (tc_k (tc_k a i) (tc_k (tc_a (tc_k a i) a) x)) (tc_k b y + 1)) = tc_d n (fun x y => B (tc_k a (tc_k i x)) (tc_k (b + 1) (y + 1))) := by
        refine tc_d_c (fun x y _ _ => ?_)
        show B (tc_k (tc_k a i) (tc_k (tc_a (tc_k a i) a) x)) (tc_k b y + 1) = B (tc_k a (tc_k i x)) (tc_k (b + 1) (y + 1))
        rw [tc_k_ss]
        congr 1
        unfold tc_a tc_k
        repeat' split
        all_goals omega
      have s : tc_g (tc_k a i) * tc_g (tc_a (tc_k a i) a + b) = tc_g (a + (b + 1)) * tc_g i := by
        rw [tc_g_m, tc_g_m]
        have : (tc_k a i + (tc_a (tc_k a i) a + b)) % 2 = (a + (b + 1) + i) % 2 := by
          unfold tc_a tc_k
          repeat' split
          all_goals omega
        unfold tc_g
        rw [this]
      show tc_g (tc_k a i) * B (tc_k a i) 0 * tc_d (n + 1) (tc_sr (fun x y => B (tc_k (tc_k a i) x) (y + 1)) (tc_a (tc_k a i) a) (fun y => if y + 1 = b + 1 then (1 : Int) else 0)) = tc_g (a + (b + 1)) * (tc_g i * B (tc_k a i) (tc_k (b + 1) 0) * tc_d n (fun x y => B (tc_k a (tc_k i x)) (tc_k (b + 1) (y + 1))))
      rw [e, q, tc_k_s0, ← r]
      generalize tc_d n _ = D
      generalize B (tc_k a i) 0 = W
      grind
end
section
/-! what the determinants of the two programs need -/
theorem tc_g_d (b : Nat) : tc_g (b + b) = 1 := by rw [← tc_g_m, tc_g_sq]
/-- row and column b those of a unit matrix -/
def tc_u (B : Nat → Nat → Int) (b : Nat) : Nat → Nat → Int := fun x y => if x = b ∨ y = b then (if x = y then 1 else 0) else B x y
theorem tc_u_n {B : Nat → Nat → Int} {b x y : Nat} (hx : x ≠ b) (hy : y ≠ b) : tc_u B b x y = B x y := if_neg (by omega)
theorem tc_u_p {B : Nat → Nat → Int} {b x y : Nat} (h : x = b ∨ y = b) : tc_u B b x y = if x = y then 1 else 0 := if_pos h
theorem tc_d_u {n b : Nat} (hb : b < n + 1) (B : Nat → Nat → Int) : tc_d (n + 1) (tc_u B b) = tc_d n (fun x y => B (tc_k b x) (tc_k b y)) := by
  have q := tc_d_unit n b b hb hb (tc_u B b)
  have e : tc_sr (tc_u B b) b (fun y => if y = b then 1 else 0) = tc_u B b := by
    funext x y
    by_cases h : x = b
    · subst h
      rw [tc_sr_s, tc_u_p (Or.inl rfl)]
      by_cases h2 : y = x
      · rw [if_pos h2, if_pos h2.symm]
      · rw [if_neg h2, if_neg (fun z => h2 z.symm)]
    · rw [tc_sr_n h]
  rw [e, tc_g_d, Int.one_mul] at q
  rw [q]
  exact tc_d_c (fun x y _ _ => tc_u_n (tc_k_ne _ _) (tc_k_ne _ _))
theorem tc_d_ue {n b : Nat} (hb : b < n) (B : Nat → Nat → Int) : tc_d n (tc_sr B b (fun y => if y = b then 1 else 0)) = tc_d n (tc_u B b) := by
  obtain ⟨m, rfl⟩ : ∃ m, n = m + 1 := ⟨n - 1, by omega⟩
  rw [tc_d_unit m b b hb hb B, tc_g_d, Int.one_mul, tc_d_u hb]
def tc_i (x y : Nat) : Int := if x = y then 1 else 0
theorem tc_i_s (x : Nat) : tc_i x x = 1 := if_pos rfl
theorem tc_i_n {x y : Nat} (h : x ≠ y) : tc_i x y = 0 := if_neg h
theorem tc_d_dg {n b : Nat} (hb : b < n) (c : Int) (B : Nat → Nat → Int) : tc_d n (fun x y => B x y + c * (tc_i x b * tc_i y b)) = tc_d n B + c * tc_d n (tc_u B b) := by
  have q := tc_d_lin hb B (B b) (fun y => if y = b then 1 else 0) c
  rw [tc_sr_self, tc_d_ue hb] at q
  rw [← q]
  refine tc_d_c (fun x y _ _ => ?_)
  show B x y + c * (tc_i x b * tc_i y b) = _
  by_cases h : x = b
  · subst h; rw [tc_sr_s, tc_i_s, Int.one_mul]; rfl
  · rw [tc_sr_n h, tc_i_n h, Int.zero_mul, Int.mul_zero, Int.add_zero]
/-- row b added to row a, column b to column a -/
def tc_op (a b : Nat) (B : Nat → Nat → Int) : Nat → Nat → Int := fun x y => B x y + tc_i x a * B b y + tc_i y a * B x b + tc_i x a * tc_i y a * B b b
theorem tc_d_op {n a b : Nat} (ha : a < n) (hb : b < n) (hab : a ≠ b) (B : Nat → Nat → Int) : tc_d n (tc_op a b B) = tc_d n B := by
  rw [← tc_d_radd ha hb hab 1 B, ← tc_d_cadd ha hb hab 1 (fun x y => if x = a then B a y + 1 * B b y else B x y)]
  refine tc_d_c (fun x y _ _ => ?_)
  show B x y + tc_i x a * B b y + tc_i y a * B x b + tc_i x a * tc_i y a * B b b = if y = a then (if x = a then B a a + 1 * B b a else B x a) + 1 * (if x = a then B a b + 1 * B b b else B x b) else (if x = a then B a y + 1 * B b y else B x y)
  by_cases h1 : x = a
  · subst h1
    rw [tc_i_s, if_pos rfl, if_pos rfl, if_pos rfl]
    by_cases h2 : y = x
    · subst h2; rw [tc_i_s, if_pos rfl]; grind
    · rw [tc_i_n h2, if_neg h2]; grind
  · rw [tc_i_n h1, if_neg h1, if_neg h1, if_neg h1]
    by_cases h2 : y = a
    · subst h2; rw [tc_i_s, if_pos rfl]; grind
    · rw [tc_i_n h2, if_neg h2]; grind
theorem tc_d_rk {n a b : Nat} (ha : a < n) (hb : b < n) (hab : a ≠ b) (c : Int) (B : Nat → Nat → Int) : tc_d n (fun x y => B x y + c * ((tc_i x a - tc_i x b) * (tc_i y a - tc_i y b))) = tc_d n B + c * tc_d n (tc_u (tc_op a b B) b) := by
  rw [← tc_d_op ha hb hab (fun x y => B x y + c * ((tc_i x a - tc_i x b) * (tc_i y a - tc_i y b))), ← tc_d_op ha hb hab B, ← tc_d_dg hb c (tc_op a b B)]
  refine tc_d_c (fun x y _ _ => ?_)
  show B x y + c * ((tc_i x a - tc_i x b) * (tc_i y a - tc_i y b)) + tc_i x a * (B b y + c * ((tc_i b a - tc_i b b) * (tc_i y a - tc_i y b))) + tc_i y a * (B x b + c * ((tc_i x a - tc_i x b) * (tc_i b a - tc_i b b))) + tc_i x a * tc_i y a * (B b b + c * ((tc_i b a - tc_i b b) * (tc_i b a - tc_i b b))) = (B x y + tc_i x a * B b y + tc_i y a * B x b + tc_i x a * tc_i y a * B b b) + c * (tc_i x b * tc_i y b)
  rw [tc_i_n (Ne.symm hab), tc_i_s]
  grind
/-- cofactors of a matrix whose rows and columns sum to nothing -/
theorem tc_cof1 {n i j : Nat} (hi : i < n + 1) (hj : j < n + 1) (c : Nat → Int) (ci : c i = 1) (cj : c j = 1) (H : Nat → Nat → Int) (hs : ∀ y, y < n + 1 → y ≠ j → tc_s (n + 1) (fun x => c x * H y x) = 0) :
    tc_d (n + 1) (tc_sr H j (fun y => if y = i then 1 else 0)) = tc_d (n + 1) (tc_sr H j (fun y => if y = j then 1 else 0)) := by
  have q := tc_d_lin hj H (fun y => if y = i then 1 else 0) (fun y => if y = j then 1 else 0) (-1)
  have z : tc_d (n + 1) (tc_sr H j (fun y => (if y = i then 1 else 0) + -1 * (if y = j then 1 else 0))) = 0 := by
    have q2 := tc_d_comb hj c (fun x y => tc_sr H j (fun y => (if y = i then 1 else 0) + -1 * (if y = j then 1 else 0)) y x) (n + 1) (by omega)
    rw [if_pos hj, cj, Int.one_mul] at q2
    refine (tc_d_t (n + 1) _).symm.trans (q2.symm.trans ?_)
    refine tc_d_row0 hj (fun y hy => ?_)
    rw [tc_sr_s]
    by_cases e : y = j
    · subst e
      have e1 : tc_s (n + 1) (fun x => c x * tc_sr H y (fun y_1 => (if y_1 = i then 1 else 0) + -1 * (if y_1 = y then 1 else 0)) y x) = tc_s (n + 1) (fun x => (if x = i then 1 else 0) + -1 * (if x = y then 1 else 0)) := by
        refine tc_s_c (fun x _ => ?_)
        rw [tc_sr_s]
        by_cases h1 : x = i
        · by_cases h2 : x = y
          · rw [if_pos h1, if_pos h2, h1, ci]; rfl
          · rw [if_pos h1, if_neg h2, h1, ci]; rfl
        · by_cases h2 : x = y
          · rw [if_neg h1, if_pos h2, h2, cj]; rfl
          · rw [if_neg h1, if_neg h2]; omega
      rw [e1, tc_s_add, tc_s_mul, tc_s_one hi (fun x _ hx => if_neg hx), tc_s_one hj (fun x _ hx => if_neg hx), if_pos rfl, if_pos rfl]; rfl
    · have e1 : tc_s (n + 1) (fun x => c x * tc_sr H j (fun y => (if y = i then 1 else 0) + -1 * (if y = j then 1 else 0)) y x) = tc_s (n + 1) (fun x => c x * H y x) := by
        refine tc_s_c (fun x _ => ?_)
        rw [tc_sr_n e]
      rw [e1]; exact hs y hy e
  rw [z] at q
  omega
theorem tc_cof {n i j : Nat} (hi : i < n) (hj : j < n) (c : Nat → Int) (ci : c i = 1) (cj : c j = 1) (H : Nat → Nat → Int) (hr : ∀ y, y < n → tc_s n (fun x => c x * H y x) = 0) (hc : ∀ y, y < n → tc_s n (fun x => c x * H x y) = 0) :
    tc_d n (tc_u H i) = tc_d n (tc_u H j) := by
  obtain ⟨m, rfl⟩ : ∃ m, n = m + 1 := ⟨n - 1, by omega⟩
  have q1 := tc_cof1 hi hj c ci cj H (fun y hy _ => hr y hy)
  have q2 := tc_cof1 hj hi c cj ci (fun x y => H y x) (fun y hy _ => hc y hy)
  rw [tc_d_unit m j i hj hi, tc_d_ue hj] at q1
  rw [tc_d_unit m i j hi hj, tc_d_ue hi, tc_d_t m (fun x y => H (tc_k j x) (tc_k i y))] at q2
  have e : tc_d (m + 1) (tc_u (fun x y => H y x) i) = tc_d (m + 1) (tc_u H i) := by
    rw [tc_d_u hi, tc_d_u hi, tc_d_t m (fun x y => H (tc_k i x) (tc_k i y))]
  rw [e, Nat.add_comm i j] at q2
  rw [← q1, ← q2]
/-- one step of the elimination -/
theorem tc_d_sc (q : Int) : ∀ (r : Nat) (M : Nat → Nat → Int), tc_d r (fun x y => q * M x y) = q ^ r * tc_d r M := by
  intro r
  induction r with
  | zero => intro M; show (1 : Int) = q ^ 0 * 1; rw [Int.pow_zero]; rfl
  | succ r ih =>
    intro M
    rw [tc_d_s, tc_d_s, ← tc_s_mul]
    refine tc_s_c (fun i _ => ?_)
    rw [ih (fun x y => M (tc_k i x) (y + 1)), Int.pow_succ]
    generalize tc_d r _ = D
    grind
theorem tc_chio_m (r : Nat) (M : Nat → Nat → Int) : ∀ m, m ≤ r → tc_d (r + 1) (fun x y => if 1 ≤ x ∧ x ≤ m then M 0 0 * M x y - M x 0 * M 0 y else M x y) = M 0 0 ^ m * tc_d (r + 1) M := by
  intro m
  induction m with
  | zero =>
    intro _
    rw [Int.pow_zero, Int.one_mul]
    exact tc_d_c (fun x y _ _ => if_neg (by omega))
  | succ m ih =>
    intro hm
    generalize hN : (fun x y => if 1 ≤ x ∧ x ≤ m then M 0 0 * M x y - M x 0 * M 0 y else M x y) = N at ih
    have n0 : N 0 = M 0 := by rw [← hN]; funext y; exact if_neg (by omega)
    have n1 : N (m + 1) = M (m + 1) := by rw [← hN]; funext y; exact if_neg (by omega)
    have l1 := tc_d_lin (n := r + 1) (a := m + 1) (by omega) N (fun y => M 0 0 * M (m + 1) y) (M 0) (- M (m + 1) 0)
    have l2 := tc_d_lin (n := r + 1) (a := m + 1) (by omega) N (fun _ => 0) (M (m + 1)) (M 0 0)
    have z : tc_d (r + 1) (tc_sr N (m + 1) (M 0)) = 0 := by
      refine tc_d_eq (a := 0) (b := m + 1) (by omega) (by omega) (by omega) (fun y => ?_)
      rw [tc_sr_n (by omega), tc_sr_s, n0]
    have s : tc_sr N (m + 1) (M (m + 1)) = N := by rw [← n1, tc_sr_self]
    rw [tc_d_zr (by omega), s, ih (by omega)] at l2
    have e2 : (fun y => (0 : Int) + M 0 0 * M (m + 1) y) = (fun y => M 0 0 * M (m + 1) y) := by funext y; omega
    rw [e2] at l2
    rw [z, l2] at l1
    have e1 : tc_d (r + 1) (fun x y => if 1 ≤ x ∧ x ≤ m + 1 then M 0 0 * M x y - M x 0 * M 0 y else M x y) = tc_d (r + 1) (tc_sr N (m + 1) (fun y => M 0 0 * M (m + 1) y + - M (m + 1) 0 * M 0 y)) := by
      refine tc_d_c (fun x y _ _ => ?_)
      by_cases h : x = m + 1
      · subst h
        rw [tc_sr_s]
        show (if 1 ≤ m + 1 ∧ m + 1 ≤ m + 1 then _ else _) = _
        rw [if_pos (by omega)]
        grind
      · rw [tc_sr_n h, ← hN]
        show (if 1 ≤ x ∧ x ≤ m + 1 then _ else _) = (if 1 ≤ x ∧ x ≤ m then _ else _)
        by_cases h2 : 1 ≤ x ∧ x ≤ m
        · rw [if_pos h2, if_pos (by omega)]
        · rw [if_neg h2, if_neg (by omega)]
    rw [e1, l1, Int.pow_succ]
    generalize tc_d (r + 1) M = D
    grind
theorem tc_chio (r : Nat) (M : Nat → Nat → Int) : M 0 0 * tc_d r (fun x y => M 0 0 * M (x + 1) (y + 1) - M (x + 1) 0 * M 0 (y + 1)) = M 0 0 ^ r * tc_d (r + 1) M := by
  rw [← tc_chio_m r M r (by omega), tc_d_s, tc_s_one (a := 0) (by omega)]
  · have e : tc_d r (fun x y => if 1 ≤ tc_k 0 x ∧ tc_k 0 x ≤ r then M 0 0 * M (tc_k 0 x) (y + 1) - M (tc_k 0 x) 0 * M 0 (y + 1) else M (tc_k 0 x) (y + 1)) = tc_d r (fun x y => M 0 0 * M (x + 1) (y + 1) - M (x + 1) 0 * M 0 (y + 1)) := by
      refine tc_d_c (fun x y hx _ => ?_)
      rw [tc_k_0]
      exact if_pos (by omega)
    rw [e, tc_g_0, if_neg (by omega), Int.one_mul]
  · intro i hi hn
    rw [if_pos (by omega), Int.mul_comm (M 0 0), Int.sub_self, Int.mul_zero, Int.zero_mul]
/-- how great a determinant can be -/
def tc_f : Nat → Nat
  | 0 => 1
  | n + 1 => (n + 1) * tc_f n
theorem tc_s_abs {n B : Nat} {f : Nat → Int} (h : ∀ i, i < n → (f i).natAbs ≤ B) : (tc_s n f).natAbs ≤ n * B := by
  induction n with
  | zero => exact Nat.zero_le _
  | succ n ih =>
    show (tc_s n f + f n).natAbs ≤ (n + 1) * B
    have h1 := Int.natAbs_add_le (tc_s n f) (f n)
    have h2 := ih (fun i hi => h i (by omega))
    have h3 := h n (by omega)
    rw [Nat.add_mul, Nat.one_mul]
    omega
theorem tc_g_abs (i : Nat) : (tc_g i).natAbs = 1 := by unfold tc_g; split <;> rfl
theorem tc_d_abs {b : Nat} : ∀ {n : Nat} {A : Nat → Nat → Int}, (∀ x y, x < n → y < n → (A x y).natAbs ≤ b) → (tc_d n A).natAbs ≤ tc_f n * b ^ n := by
  intro n
  induction n with
  | zero => intro A _; exact Nat.le_refl _
  | succ n ih =>
    intro A h
    rw [tc_d_s]
    have q : (tc_s (n + 1) (fun i => tc_g i * A i 0 * tc_d n (fun x y => A (tc_k i x) (y + 1)))).natAbs ≤ (n + 1) * (b * (tc_f n * b ^ n)) := by
      refine tc_s_abs (fun i hi => ?_)
      rw [Int.natAbs_mul, Int.natAbs_mul, tc_g_abs, Nat.one_mul]
      exact Nat.mul_le_mul (h i 0 hi (by omega)) (ih (fun x y hx hy => h _ _ (tc_k_b hx) (by omega)))
    refine Nat.le_trans q (Nat.le_of_eq ?_)
    show (n + 1) * (b * (tc_f n * b ^ n)) = (n + 1) * tc_f n * b ^ (n + 1)
    rw [Nat.pow_succ]
    generalize b ^ n = X
    grind
/-- the invariant of the elimination -/
def tc_e (k : Nat) (ρ : Nat → Nat) (i : Nat) : Nat := if i < k then i else ρ (i - k)
theorem tc_pow_ne {q : Int} (h : q ≠ 0) : ∀ r : Nat, q ^ r ≠ 0 := by
  intro r
  induction r with
  | zero => rw [Int.pow_zero]; decide
  | succ r ih => rw [Int.pow_succ]; exact Int.mul_ne_zero ih h
def tc_BI (s k : Nat) (q : Int) (M A : Nat → Nat → Int) : Prop :=
  q = tc_d k A ∧ q ≠ 0 ∧ ∀ r, 1 ≤ r → ∀ ρ κ : Nat → Nat, (∀ i, k ≤ ρ i ∧ ρ i < s) → (∀ i, k ≤ κ i ∧ κ i < s) → tc_d r (fun i j => M (ρ i) (κ j)) = q ^ (r - 1) * tc_d (k + r) (fun i j => A (tc_e k ρ i) (tc_e k κ j))
theorem tc_BI_0 {s : Nat} (M : Nat → Nat → Int) : tc_BI s 0 1 M M := by
  refine ⟨rfl, by decide, fun r _ ρ κ _ _ => ?_⟩
  rw [Int.one_pow, Int.one_mul, Nat.zero_add]
  refine tc_d_c (fun x y _ _ => ?_)
  show M (ρ x) (κ y) = M (tc_e 0 ρ x) (tc_e 0 κ y)
  unfold tc_e
  rw [if_neg (by omega), if_neg (by omega)]; rfl
theorem tc_BI_1 {s k : Nat} {q : Int} {M A : Nat → Nat → Int} (h : tc_BI s k q M A) {i j : Nat} (hi : k ≤ i ∧ i < s) (hj : k ≤ j ∧ j < s) : M i j = tc_d (k + 1) (fun x y => A (tc_e k (fun _ => i) x) (tc_e k (fun _ => j) y)) := by
  have q := h.2.2 1 (by omega) (fun _ => i) (fun _ => j) (fun _ => hi) (fun _ => hj)
  rw [Int.pow_zero, Int.one_mul] at q
  rw [← q]
  show M i j = 0 + tc_g 0 * M i j * 1
  rw [tc_g_0]; omega
theorem tc_BI_b {s k b : Nat} {q : Int} {M A : Nat → Nat → Int} (h : tc_BI s k q M A) (hA : ∀ x y, x < s → y < s → (A x y).natAbs ≤ b) {i j : Nat} (hi : k ≤ i ∧ i < s) (hj : k ≤ j ∧ j < s) : (M i j).natAbs ≤ tc_f (k + 1) * b ^ (k + 1) := by
  rw [tc_BI_1 h hi hj]
  refine tc_d_abs (fun x y hx hy => hA _ _ ?_ ?_)
  · unfold tc_e; split
    · omega
    · exact hi.2
  · unfold tc_e; split
    · omega
    · exact hj.2
theorem tc_BI_q {s k b : Nat} {q : Int} {M A : Nat → Nat → Int} (h : tc_BI s k q M A) (hk : k ≤ s) (hA : ∀ x y, x < s → y < s → (A x y).natAbs ≤ b) : q.natAbs ≤ tc_f k * b ^ k := by
  rw [h.1]
  exact tc_d_abs (fun x y hx hy => hA _ _ (by omega) (by omega))
theorem tc_BI_z {s k : Nat} {q : Int} {M A : Nat → Nat → Int} (h : tc_BI s k q M A) (hk : k < s) (hz : ∀ i, k ≤ i → i < s → M i k = 0) : tc_d s A = 0 := by
  have w : ∀ i, k ≤ (if k + i < s then k + i else k) ∧ (if k + i < s then k + i else k) < s := by intro i; split <;> omega
  have e := h.2.2 (s - k) (by omega) (fun i => if k + i < s then k + i else k) (fun i => if k + i < s then k + i else k) w w
  have z : tc_d (s - k) (fun i j => M (if k + i < s then k + i else k) (if k + j < s then k + j else k)) = 0 := by
    refine tc_d_col0 (by omega) (fun x _ => ?_)
    rw [if_pos (show k + 0 < s by omega)]
    exact hz _ (w x).1 (w x).2
  rw [z, show k + (s - k) = s by omega] at e
  have e2 : tc_d s (fun i j => A (tc_e k (fun i => if k + i < s then k + i else k) i) (tc_e k (fun i => if k + i < s then k + i else k) j)) = tc_d s A := by
    refine tc_d_c (fun x y hx hy => ?_)
    have t : ∀ x, x < s → tc_e k (fun i => if k + i < s then k + i else k) x = x := by
      intro x hx
      unfold tc_e
      by_cases l : x < k
      · rw [if_pos l]
      · rw [if_neg l]
        show (if k + (x - k) < s then k + (x - k) else k) = x
        rw [if_pos (by omega)]; omega
    rw [t x hx, t y hy]
  rw [e2] at e
  rcases Int.mul_eq_zero.mp e.symm with e3 | e3
  · exact absurd e3 (tc_pow_ne h.2.1 _)
  · exact e3
theorem tc_BI_w {s k r0 : Nat} {q : Int} {M M' A : Nat → Nat → Int} (h : tc_BI s k q M A) (hr : k ≤ r0 ∧ r0 < s) (hM : ∀ i j, i < s → j < s → M' i j = M (tc_w r0 k i) j) : tc_BI s k q M' (fun x y => A (tc_w r0 k x) y) := by
  have t : ∀ x, x < k → tc_w r0 k x = x := by
    intro x hx; unfold tc_w; rw [if_neg (by omega), if_neg (by omega)]
  have wb : ∀ x, k ≤ x ∧ x < s → k ≤ tc_w r0 k x ∧ tc_w r0 k x < s := by
    intro x hx; unfold tc_w; split
    · omega
    · split <;> omega
  refine ⟨?_, h.2.1, fun r hr1 ρ κ hρ hκ => ?_⟩
  · rw [h.1]
    exact tc_d_c (fun x y hx _ => by rw [t x hx])
  · have e := h.2.2 r hr1 (fun i => tc_w r0 k (ρ i)) κ (fun i => wb _ (hρ i)) hκ
    have e1 : tc_d r (fun i j => M' (ρ i) (κ j)) = tc_d r (fun i j => M (tc_w r0 k (ρ i)) (κ j)) := by
      exact tc_d_c (fun x y _ _ => hM _ _ (hρ x).2 (hκ y).2)
    rw [e1, e]
    congr 1
    refine tc_d_c (fun x y _ _ => ?_)
    show A (tc_e k (fun i => tc_w r0 k (ρ i)) x) (tc_e k κ y) = A (tc_w r0 k (tc_e k ρ x)) (tc_e k κ y)
    congr 1
    unfold tc_e
    by_cases l : x < k
    · rw [if_pos l, if_pos l, t x l]
    · rw [if_neg l, if_neg l]
theorem tc_BI_dv {s k : Nat} {q : Int} {M A : Nat → Nat → Int} (h : tc_BI s k q M A) (hk : k < s) {i j : Nat} (hi : k < i ∧ i < s) (hj : k < j ∧ j < s) : ∃ X : Int, M i j * M k k - M i k * M k j = q * X := by
  have e := h.2.2 2 (by omega) (fun x => if x = 0 then k else i) (fun x => if x = 0 then k else j) (fun x => by split <;> omega) (fun x => by split <;> omega)
  refine ⟨_, Eq.trans ?_ (Eq.trans e (by rw [show 2 - 1 = 1 from rfl, Int.pow_succ, Int.pow_zero, Int.one_mul]))⟩
  show M i j * M k k - M i k * M k j = 0 + tc_g 0 * M k k * (0 + tc_g 0 * M i j * 1) + tc_g 1 * M i k * (0 + tc_g 0 * M k j * 1)
  rw [tc_g_0, show tc_g 1 = -1 from rfl]
  grind
theorem tc_BI_s {s k : Nat} {q : Int} {M M' A : Nat → Nat → Int} (h : tc_BI s k q M A) (hk : k < s) (hp : M k k ≠ 0) (hM : ∀ i j, k < i → i < s → k < j → j < s → q * M' i j = M i j * M k k - M i k * M k j) : tc_BI s (k + 1) (M k k) M' A := by
  refine ⟨?_, hp, fun r hr ρ κ hρ hκ => ?_⟩
  · rw [tc_BI_1 h ⟨Nat.le_refl k, hk⟩ ⟨Nat.le_refl k, hk⟩]
    have t : ∀ x, x < k + 1 → tc_e k (fun _ => k) x = x := by
      intro x hx; unfold tc_e; split
      · rfl
      · show k = x; omega
    exact tc_d_c (fun x y hx hy => by rw [t x hx, t y hy])
  · have wb : ∀ σ : Nat → Nat, (∀ i, k + 1 ≤ σ i ∧ σ i < s) → ∀ i, k ≤ (if i = 0 then k else σ (i - 1)) ∧ (if i = 0 then k else σ (i - 1)) < s := by
      intro σ hσ i
      have := hσ (i - 1)
      split <;> omega
    have e := h.2.2 (r + 1) (by omega) (fun i => if i = 0 then k else ρ (i - 1)) (fun i => if i = 0 then k else κ (i - 1)) (wb ρ hρ) (wb κ hκ)
    have c := tc_chio r (fun i j => M (if i = 0 then k else ρ (i - 1)) (if j = 0 then k else κ (j - 1)))
    have e1 : tc_d r (fun x y => M k k * M (ρ x) (κ y) - M (ρ x) k * M k (κ y)) = q ^ r * tc_d r (fun i j => M' (ρ i) (κ j)) := by
      rw [← tc_d_sc]
      refine tc_d_c (fun x y _ _ => ?_)
      show M k k * M (ρ x) (κ y) - M (ρ x) k * M k (κ y) = q * M' (ρ x) (κ y)
      rw [hM _ _ (hρ x).1 (hρ x).2 (hκ y).1 (hκ y).2, Int.mul_comm (M k k)]
    have e2 : tc_d (k + (r + 1)) (fun i j => A (tc_e k (fun i => if i = 0 then k else ρ (i - 1)) i) (tc_e k (fun i => if i = 0 then k else κ (i - 1)) j)) = tc_d (k + 1 + r) (fun i j => A (tc_e (k + 1) ρ i) (tc_e (k + 1) κ j)) := by
      rw [show k + (r + 1) = k + 1 + r by omega]
      have t : ∀ (σ : Nat → Nat) (x : Nat), tc_e k (fun i => if i = 0 then k else σ (i - 1)) x = tc_e (k + 1) σ x := by
        intro σ x
        unfold tc_e
        by_cases l : x < k
        · rw [if_pos l, if_pos (by omega)]
        · rw [if_neg l]
          show (if x - k = 0 then k else σ (x - k - 1)) = _
          by_cases l2 : x = k
          · rw [if_pos (by omega), if_pos (by omega)]; omega
          · rw [if_neg (by omega), if_neg (by omega), show x - k - 1 = x - (k + 1) by omega]
      exact tc_d_c (fun x y _ _ => by rw [t, t])
    rw [e2, show r + 1 - 1 = r from rfl] at e
    have c' : M k k * tc_d r (fun x y => M k k * M (ρ x) (κ y) - M (ρ x) k * M k (κ y)) = M k k ^ r * tc_d (r + 1) (fun i j => M (if i = 0 then k else ρ (i - 1)) (if j = 0 then k else κ (j - 1))) := c
    rw [e1, e] at c'
    obtain ⟨m, rfl⟩ : ∃ m, r = m + 1 := ⟨r - 1, by omega⟩
    show _ = M k k ^ m * _
    generalize tc_d (m + 1) (fun i j => M' (ρ i) (κ j)) = D at c'
    generalize tc_d (k + 1 + (m + 1)) (fun i j => A (tc_e (k + 1) ρ i) (tc_e (k + 1) κ j)) = X at c'
    generalize M k k = p at c' hp
    have hq : p * q ^ (m + 1) ≠ 0 := Int.mul_ne_zero hp (tc_pow_ne h.2.1 _)
    refine Int.eq_of_mul_eq_mul_left hq ?_
    rw [Int.pow_succ p m] at c'
    grind
end
section
/-! degree matrices of groupings -/
def tc_s2 (n : Nat) (F : Nat → Nat → Int) : Int := tc_s n (fun u => tc_s n (fun v => F u v))
theorem tc_s2_c {n : Nat} {F G : Nat → Nat → Int} (h : ∀ u v, u < n → v < n → F u v = G u v) : tc_s2 n F = tc_s2 n G :=
  tc_s_c (fun u hu => tc_s_c (fun v hv => h u v hu hv))
theorem tc_s2_add (n : Nat) (F G : Nat → Nat → Int) : tc_s2 n (fun u v => F u v + G u v) = tc_s2 n F + tc_s2 n G := by
  unfold tc_s2
  rw [← tc_s_add]
  exact tc_s_c (fun u _ => tc_s_add n _ _)
theorem tc_s2_mul (n : Nat) (c : Int) (F : Nat → Nat → Int) : tc_s2 n (fun u v => c * F u v) = c * tc_s2 n F := by
  unfold tc_s2
  rw [← tc_s_mul]
  exact tc_s_c (fun u _ => tc_s_mul n _ _)
theorem tc_i_c (x y : Nat) : tc_i x y = tc_i y x := by
  unfold tc_i
  by_cases h : x = y
  · rw [if_pos h, if_pos h.symm]
  · rw [if_neg h, if_neg (fun z => h z.symm)]
theorem tc_s_i {n a : Nat} (h : a < n) (f : Nat → Int) : tc_s n (fun u => tc_i u a * f u) = f a := by
  rw [tc_s_one h (fun i _ hn => by rw [tc_i_n hn, Int.zero_mul]), tc_i_s, Int.one_mul]
theorem tc_s2_i {n a b : Nat} (ha : a < n) (hb : b < n) (F : Nat → Nat → Int) : tc_s2 n (fun u v => tc_i u a * tc_i v b * F u v) = F a b := by
  unfold tc_s2
  rw [← tc_s_i ha (fun u => F u b)]
  refine tc_s_c (fun u _ => ?_)
  rw [← tc_s_i hb (fun v => F u v), ← tc_s_mul]
  refine tc_s_c (fun v _ => ?_)
  exact Int.mul_assoc _ _ _
def tc_L (n : Nat) (g : Nat → Nat) (W : Nat → Nat → Int) (x y : Nat) : Int :=
  tc_s2 n (fun u v => W u v * (tc_i (g u) x * (tc_i (g u) y - tc_i (g v) y)))
theorem tc_L_c {n : Nat} {g : Nat → Nat} {W W' : Nat → Nat → Int} (h : ∀ u v, u < n → v < n → u ≠ v → W u v = W' u v) (x y : Nat) : tc_L n g W x y = tc_L n g W' x y := by
  refine tc_s2_c (fun u v hu hv => ?_)
  by_cases e : u = v
  · subst e; rw [Int.sub_self, Int.mul_zero, Int.mul_zero, Int.mul_zero]
  · rw [h u v hu hv e]
theorem tc_L_add {n a b : Nat} (ha : a < n) (hb : b < n) (g : Nat → Nat) {W W' : Nat → Nat → Int} {c : Int} (h : ∀ u v, u < n → v < n → u ≠ v → W' u v = W u v + c * (tc_i u a * tc_i v b + tc_i u b * tc_i v a)) (x y : Nat) :
    tc_L n g W' x y = tc_L n g W x y + c * ((tc_i x (g a) - tc_i x (g b)) * (tc_i y (g a) - tc_i y (g b))) := by
  have e := tc_L_c (g := g) h x y
  rw [e]
  unfold tc_L
  have e2 : tc_s2 n (fun u v => (W u v + c * (tc_i u a * tc_i v b + tc_i u b * tc_i v a)) * (tc_i (g u) x * (tc_i (g u) y - tc_i (g v) y))) =
      tc_s2 n (fun u v => W u v * (tc_i (g u) x * (tc_i (g u) y - tc_i (g v) y)) + c * (tc_i u a * tc_i v b * (tc_i (g u) x * (tc_i (g u) y - tc_i (g v) y)) + tc_i u b * tc_i v a * (tc_i (g u) x * (tc_i (g u) y - tc_i (g v) y)))) := by
    refine tc_s2_c (fun u v _ _ => ?_)
    generalize tc_i (g u) x * (tc_i (g u) y - tc_i (g v) y) = F
    grind
  rw [e2, tc_s2_add, tc_s2_mul, tc_s2_add, tc_s2_i ha hb (fun u v => tc_i (g u) x * (tc_i (g u) y - tc_i (g v) y)), tc_s2_i hb ha (fun u v => tc_i (g u) x * (tc_i (g u) y - tc_i (g v) y))]
  rw [tc_i_c x (g a), tc_i_c x (g b), tc_i_c y (g a), tc_i_c y (g b)]
  generalize tc_i (g a) x = p1
  generalize tc_i (g b) x = p2
  generalize tc_i (g a) y = p3
  generalize tc_i (g b) y = p4
  grind
/-- group hi joined to group lo -/
def tc_m (g : Nat → Nat) (lo hi : Nat) : Nat → Nat := fun z => if g z = hi then lo else g z
theorem tc_m_i {g : Nat → Nat} {lo hi u x : Nat} (hx : x ≠ hi) : tc_i (tc_m g lo hi u) x = tc_i (g u) x + tc_i x lo * tc_i (g u) hi := by
  unfold tc_m
  by_cases h : g u = hi
  · rw [if_pos h, h, tc_i_s, tc_i_n (Ne.symm hx), tc_i_c lo x]; omega
  · rw [if_neg h, tc_i_n h, Int.mul_zero, Int.add_zero]
theorem tc_L_m {n : Nat} {g : Nat → Nat} {W : Nat → Nat → Int} {lo hi x y : Nat} (hx : x ≠ hi) (hy : y ≠ hi) : tc_L n (tc_m g lo hi) W x y = tc_op lo hi (tc_L n g W) x y := by
  unfold tc_L tc_op
  rw [← tc_s2_mul, ← tc_s2_mul, ← tc_s2_mul, ← tc_s2_add, ← tc_s2_add, ← tc_s2_add]
  refine tc_s2_c (fun u v _ _ => ?_)
  rw [tc_m_i hx, tc_m_i hy, tc_m_i hy]
  generalize tc_i (g u) x = p1
  generalize tc_i (g u) y = p2
  generalize tc_i (g v) y = p3
  generalize tc_i (g u) hi = p4
  generalize tc_i (g v) hi = p5
  generalize tc_i x lo = p6
  generalize tc_i y lo = p7
  generalize W u v = p8
  grind
/-- the matrix on the rows and columns that are kept, a unit matrix elsewhere -/
def tc_h (kp : Nat → Bool) (A : Nat → Nat → Int) : Nat → Nat → Int := fun x y => if kp x = true ∧ kp y = true then A x y else tc_i x y
theorem tc_h_p {kp : Nat → Bool} {A : Nat → Nat → Int} {x y : Nat} (hx : kp x = true) (hy : kp y = true) : tc_h kp A x y = A x y := if_pos ⟨hx, hy⟩
theorem tc_h_x {kp : Nat → Bool} {A : Nat → Nat → Int} {x y : Nat} (hx : ¬ kp x = true) : tc_h kp A x y = tc_i x y := if_neg (fun z => hx z.1)
theorem tc_h_y {kp : Nat → Bool} {A : Nat → Nat → Int} {x y : Nat} (hy : ¬ kp y = true) : tc_h kp A x y = tc_i x y := if_neg (fun z => hy z.2)
def tc_kp (g : Nat → Nat) (r : Nat) (x : Nat) : Bool := decide (g x = x ∧ x ≠ r)
theorem tc_kp_i {g : Nat → Nat} {r x : Nat} : tc_kp g r x = true ↔ (g x = x ∧ x ≠ r) := decide_eq_true_iff
def tc_P (n : Nat) (g : Nat → Nat) (ρ : Nat) (W : Nat → Nat → Int) : Int := tc_d n (tc_h (tc_kp g (g ρ)) (tc_L n g W))
theorem tc_P_c {n : Nat} {g : Nat → Nat} {ρ : Nat} {W W' : Nat → Nat → Int} (h : ∀ u v, u < n → v < n → u ≠ v → W u v = W' u v) : tc_P n g ρ W = tc_P n g ρ W' := by
  have e : tc_L n g W = tc_L n g W' := by funext x y; exact tc_L_c h x y
  unfold tc_P; rw [e]
/-- a grouping: each number to the least of its group -/
def tc_V (n : Nat) (g : Nat → Nat) : Prop := ∀ x, x < n → g x ≤ x ∧ g (g x) = g x
theorem tc_V_m {n : Nat} {g : Nat → Nat} (hv : tc_V n g) {lo hi : Nat} (h : lo < hi) (glo : g lo = lo) : tc_V n (tc_m g lo hi) := by
  intro x hx
  have q := hv x hx
  unfold tc_m
  by_cases e : g x = hi
  · rw [if_pos e]
    refine ⟨by omega, ?_⟩
    rw [glo, if_neg (by omega)]
  · rw [if_neg e]
    refine ⟨q.1, ?_⟩
    rw [q.2, if_neg e]
/-- the reps that are left -/
theorem tc_m_fix {n : Nat} {g : Nat → Nat} (hv : tc_V n g) {lo hi x : Nat} (h : lo < hi) (hx : x < n) (hxh : x ≠ hi) : tc_m g lo hi x = x ↔ g x = x := by
  have q := hv x hx
  unfold tc_m
  by_cases e : g x = hi
  · rw [if_pos e]; omega
  · rw [if_neg e]
theorem tc_kp_m {n : Nat} {g : Nat → Nat} (hv : tc_V n g) {lo hi x r r' : Nat} (h : lo < hi) (hx : x < n) (hxh : x ≠ hi) (hr : x ≠ r ↔ x ≠ r') : tc_kp (tc_m g lo hi) r' x = true ↔ tc_kp g r x = true := by
  rw [tc_kp_i, tc_kp_i, tc_m_fix hv h hx hxh, hr]
theorem tc_h_m {n : Nat} {kp kp' : Nat → Bool} {A A' : Nat → Nat → Int} {b : Nat} (hb : ¬ kp' b = true) (hk : ∀ x, x < n → x ≠ b → (kp' x = true ↔ kp x = true)) (hA : ∀ x y, x < n → y < n → x ≠ b → y ≠ b → kp x = true → kp y = true → A x y = A' x y) : tc_d n (tc_u (tc_h kp A) b) = tc_d n (tc_h kp' A') := by
  refine tc_d_c (fun x y hx hy => ?_)
  by_cases h1 : x = b
  · subst h1; rw [tc_u_p (Or.inl rfl), tc_h_x hb]; rfl
  · by_cases h2 : y = b
    · subst h2; rw [tc_u_p (Or.inr rfl), tc_h_y hb]; rfl
    · rw [tc_u_n h1 h2]
      by_cases k1 : kp x = true
      · by_cases k2 : kp y = true
        · rw [tc_h_p k1 k2, tc_h_p ((hk x hx h1).mpr k1) ((hk y hy h2).mpr k2)]
          exact hA x y hx hy h1 h2 k1 k2
        · rw [tc_h_y k2, tc_h_y (fun z => k2 ((hk y hy h2).mp z))]
      · rw [tc_h_x k1, tc_h_x (fun z => k1 ((hk x hx h1).mp z))]
theorem tc_op_n {lo hi x y : Nat} {A : Nat → Nat → Int} (hx : x ≠ lo) (hy : y ≠ lo) : tc_op lo hi A x y = A x y := by
  unfold tc_op; rw [tc_i_n hx, tc_i_n hy]; omega
/-- the weight of one pair grows -/
theorem tc_SL {n : Nat} {g : Nat → Nat} (hv : tc_V n g) {lo hi ρ : Nat} (hl : lo < hi) (hh : hi < n) (glo : g lo = lo) (ghi : g hi = hi) (c : Int) {W W' : Nat → Nat → Int}
    (hW : ∀ x y, tc_L n g W' x y = tc_L n g W x y + c * ((tc_i x lo - tc_i x hi) * (tc_i y lo - tc_i y hi))) : tc_P n g ρ W' = tc_P n g ρ W + c * tc_P n (tc_m g lo hi) ρ W := by
  unfold tc_P
  have mhi : tc_m g lo hi hi = lo := if_pos ghi
  by_cases r1 : g ρ = lo
  · have e1 : tc_d n (tc_h (tc_kp g (g ρ)) (tc_L n g W')) = tc_d n (fun x y => tc_h (tc_kp g (g ρ)) (tc_L n g W) x y + c * (tc_i x hi * tc_i y hi)) := by
      refine tc_d_c (fun x y _ _ => ?_)
      have kh : tc_kp g (g ρ) hi = true := tc_kp_i.mpr ⟨ghi, by omega⟩
      by_cases k1 : tc_kp g (g ρ) x = true
      · by_cases k2 : tc_kp g (g ρ) y = true
        · rw [tc_h_p k1 k2, tc_h_p k1 k2, hW]
          have a1 : x ≠ lo := by have := (tc_kp_i.mp k1).2; omega
          have a2 : y ≠ lo := by have := (tc_kp_i.mp k2).2; omega
          rw [tc_i_n a1, tc_i_n a2]; grind
        · have a : y ≠ hi := fun z => k2 (by rw [z]; exact kh)
          rw [tc_h_y k2, tc_h_y k2, tc_i_n a, Int.mul_zero, Int.mul_zero, Int.add_zero]
      · have a : x ≠ hi := fun z => k1 (by rw [z]; exact kh)
        rw [tc_h_x k1, tc_h_x k1, tc_i_n a, Int.zero_mul, Int.mul_zero, Int.add_zero]
    have r' : tc_m g lo hi ρ = lo := by unfold tc_m; rw [r1, if_neg (by omega)]
    rw [e1, tc_d_dg hh, r', r1]
    rw [tc_h_m (n := n) (kp := tc_kp g lo) (kp' := tc_kp (tc_m g lo hi) lo) (A := tc_L n g W) (A' := tc_L n (tc_m g lo hi) W) (b := hi)]
    · intro z; have := (tc_kp_i.mp z).1; omega
    · intro x hx hb; exact tc_kp_m hv hl hx hb Iff.rfl
    · intro x y hx hy h1 h2 k1 k2
      rw [tc_L_m h1 h2, tc_op_n (tc_kp_i.mp k1).2 (tc_kp_i.mp k2).2]
  · by_cases r2 : g ρ = hi
    · have e1 : tc_d n (tc_h (tc_kp g (g ρ)) (tc_L n g W')) = tc_d n (fun x y => tc_h (tc_kp g (g ρ)) (tc_L n g W) x y + c * (tc_i x lo * tc_i y lo)) := by
        refine tc_d_c (fun x y _ _ => ?_)
        have kh : tc_kp g (g ρ) lo = true := tc_kp_i.mpr ⟨glo, by omega⟩
        by_cases k1 : tc_kp g (g ρ) x = true
        · by_cases k2 : tc_kp g (g ρ) y = true
          · rw [tc_h_p k1 k2, tc_h_p k1 k2, hW]
            have a1 : x ≠ hi := by have := (tc_kp_i.mp k1).2; omega
            have a2 : y ≠ hi := by have := (tc_kp_i.mp k2).2; omega
            rw [tc_i_n a1, tc_i_n a2]; grind
          · have a : y ≠ lo := fun z => k2 (by rw [z]; exact kh)
            rw [tc_h_y k2, tc_h_y k2, tc_i_n a, Int.mul_zero, Int.mul_zero, Int.add_zero]
        · have a : x ≠ lo := fun z => k1 (by rw [z]; exact kh)
          rw [tc_h_x k1, tc_h_x k1, tc_i_n a, Int.zero_mul, Int.mul_zero, Int.add_zero]
      have r' : tc_m g lo hi ρ = lo := by unfold tc_m; rw [r2, if_pos rfl]
      rw [e1, tc_d_dg (by omega), r', r2]
      rw [tc_h_m (n := n) (kp := tc_kp g hi) (kp' := tc_kp (tc_m g lo hi) lo) (A := tc_L n g W) (A' := tc_L n (tc_m g lo hi) W) (b := lo)]
      · intro z; exact (tc_kp_i.mp z).2 rfl
      · intro x hx hb
        by_cases xh : x = hi
        · subst xh
          refine ⟨fun z => ?_, fun z => absurd rfl (tc_kp_i.mp z).2⟩
          have := (tc_kp_i.mp z).1; omega
        · exact tc_kp_m hv hl hx xh ⟨fun _ => hb, fun _ => xh⟩
      · intro x y hx hy h1 h2 k1 k2
        rw [tc_L_m (tc_kp_i.mp k1).2 (tc_kp_i.mp k2).2, tc_op_n h1 h2]
    · have klo : tc_kp g (g ρ) lo = true := tc_kp_i.mpr ⟨glo, by omega⟩
      have khi : tc_kp g (g ρ) hi = true := tc_kp_i.mpr ⟨ghi, by omega⟩
      have e1 : tc_d n (tc_h (tc_kp g (g ρ)) (tc_L n g W')) = tc_d n (fun x y => tc_h (tc_kp g (g ρ)) (tc_L n g W) x y + c * ((tc_i x lo - tc_i x hi) * (tc_i y lo - tc_i y hi))) := by
        refine tc_d_c (fun x y _ _ => ?_)
        by_cases k1 : tc_kp g (g ρ) x = true
        · by_cases k2 : tc_kp g (g ρ) y = true
          · rw [tc_h_p k1 k2, tc_h_p k1 k2, hW]
          · have a1 : y ≠ lo := fun z => k2 (by rw [z]; exact klo)
            have a2 : y ≠ hi := fun z => k2 (by rw [z]; exact khi)
            rw [tc_h_y k2, tc_h_y k2, tc_i_n a1, tc_i_n a2, Int.sub_self, Int.mul_zero, Int.mul_zero, Int.add_zero]
        · have a1 : x ≠ lo := fun z => k1 (by rw [z]; exact klo)
          have a2 : x ≠ hi := fun z => k1 (by rw [z]; exact khi)
          rw [tc_h_x k1, tc_h_x k1, tc_i_n a1, tc_i_n a2, Int.sub_self, Int.zero_mul, Int.mul_zero, Int.add_zero]
      have r' : tc_m g lo hi ρ = g ρ := if_neg r2
      rw [e1, tc_d_rk (show lo < n by omega) hh (by omega), r']
      congr 2
      have kiff : ∀ x, x < n → x ≠ hi → (tc_kp (tc_m g lo hi) (g ρ) x = true ↔ tc_kp g (g ρ) x = true) := fun x hx hb => tc_kp_m hv hl hx hb Iff.rfl
      have kb : ¬ tc_kp (tc_m g lo hi) (g ρ) hi = true := by intro z; have := (tc_kp_i.mp z).1; omega
      refine tc_d_c (fun x y hx hy => ?_)
      by_cases h1 : x = hi
      · subst h1; rw [tc_u_p (Or.inl rfl), tc_h_x kb]; rfl
      · by_cases h2 : y = hi
        · subst h2; rw [tc_u_p (Or.inr rfl), tc_h_y kb]; rfl
        · rw [tc_u_n h1 h2]
          by_cases k1 : tc_kp g (g ρ) x = true
          · by_cases k2 : tc_kp g (g ρ) y = true
            · rw [tc_h_p ((kiff x hx h1).mpr k1) ((kiff y hy h2).mpr k2), tc_L_m h1 h2]
              unfold tc_op
              rw [tc_h_p k1 k2, tc_h_p khi k2, tc_h_p k1 khi, tc_h_p khi khi]
            · have a1 : y ≠ lo := fun z => k2 (by rw [z]; exact klo)
              rw [tc_h_y (fun z => k2 ((kiff y hy h2).mp z))]
              unfold tc_op
              rw [tc_h_y k2, tc_h_y k2, tc_i_n a1, tc_i_n (Ne.symm h2)]; omega
          · have a1 : x ≠ lo := fun z => k1 (by rw [z]; exact klo)
            rw [tc_h_x (fun z => k1 ((kiff x hx h1).mp z))]
            unfold tc_op
            rw [tc_h_x k1, tc_h_x k1, tc_i_n a1, tc_i_n h1]; omega
/-- no weights at all -/
theorem tc_L_0 {n : Nat} {g : Nat → Nat} {W : Nat → Nat → Int} (h : ∀ u v, u < n → v < n → u ≠ v → W u v = 0) (x y : Nat) : tc_L n g W x y = 0 := by
  rw [tc_L_c (W' := fun _ _ => 0) h]
  unfold tc_L tc_s2
  exact tc_s_0 (fun u _ => tc_s_0 (fun v _ => Int.zero_mul _))
theorem tc_d_id : ∀ n : Nat, tc_d n tc_i = 1 := by
  intro n
  induction n with
  | zero => rfl
  | succ n ih =>
    have q := tc_d_u (n := n) (b := 0) (by omega) tc_i
    have e : tc_u tc_i 0 = tc_i := by
      funext x y; unfold tc_u tc_i; split <;> rfl
    rw [e] at q
    rw [q, ← ih]
    refine tc_d_c (fun x y _ _ => ?_)
    show tc_i (tc_k 0 x) (tc_k 0 y) = tc_i x y
    rw [tc_k_0, tc_k_0]
    unfold tc_i
    by_cases h : x = y
    · rw [if_pos h, if_pos (by omega)]
    · rw [if_neg h, if_neg (by omega)]
theorem tc_P_1 {n : Nat} {g : Nat → Nat} {ρ : Nat} {W : Nat → Nat → Int} (h : ∀ x, x < n → g x = g ρ) : tc_P n g ρ W = 1 := by
  unfold tc_P
  rw [← tc_d_id n]
  refine tc_d_c (fun x y hx _ => ?_)
  refine tc_h_x (fun z => ?_)
  have z1 := tc_kp_i.mp z
  have := h x hx
  omega
theorem tc_P_0 {n : Nat} {g : Nat → Nat} (hv : tc_V n g) {ρ x : Nat} {W : Nat → Nat → Int} (hW : ∀ u v, u < n → v < n → u ≠ v → W u v = 0) (hx : x < n) (h : g x ≠ g ρ) : tc_P n g ρ W = 0 := by
  unfold tc_P
  have q := hv x hx
  have k : tc_kp g (g ρ) (g x) = true := tc_kp_i.mpr ⟨q.2, h⟩
  refine tc_d_row0 (a := g x) (by omega) (fun y _ => ?_)
  by_cases k2 : tc_kp g (g ρ) y = true
  · rw [tc_h_p k k2, tc_L_0 hW]
  · rw [tc_h_y k2]
    refine tc_i_n (fun z => k2 ?_)
    rw [← z]; exact k
end
section
/-! pairs, sets of pairs, products over them -/
def tc_t (n : Nat) : Nat := n * (n - 1) / 2
def tc_pr (u v : Nat) : Nat := if u < v then v * (v - 1) / 2 + u else u * (u - 1) / 2 + v
def tc_pb (p : Nat) : Nat := if p < 1 then 1 else if p < 3 then 2 else if p < 6 then 3 else if p < 10 then 4 else 5
def tc_pa (p : Nat) : Nat := p - tc_pb p * (tc_pb p - 1) / 2
theorem tc_pr_0 : ∀ u, u < 6 → ∀ v, v < 6 → u ≠ v → (tc_pr u v < 15 ∧ tc_pr v u = tc_pr u v ∧ tc_pa (tc_pr u v) = min u v ∧ tc_pb (tc_pr u v) = max u v) := by decide +kernel
theorem tc_pr_1 : ∀ n, n < 7 → ∀ u, u < n → ∀ v, v < n → u ≠ v → tc_pr u v < tc_t n := by decide +kernel
theorem tc_pr_2 : ∀ p, p < 15 → tc_pa p < tc_pb p ∧ tc_pb p < 6 ∧ tc_pr (tc_pa p) (tc_pb p) = p := by decide +kernel
theorem tc_pr_3 : ∀ n, n < 7 → ∀ p, p < 15 → p < tc_t n → tc_pb p < n := by decide +kernel
theorem tc_t_b : ∀ n, n < 7 → tc_t n < 16 := by decide +kernel
theorem tc_t_p {n p : Nat} (hn : n < 7) (hp : p < tc_t n) : tc_pa p < tc_pb p ∧ tc_pb p < n ∧ tc_pr (tc_pa p) (tc_pb p) = p := by
  have := tc_t_b n hn
  have q := tc_pr_2 p (by omega)
  exact ⟨q.1, tc_pr_3 n hn p (by omega) hp, q.2.2⟩
theorem tc_pr_e {n u v p : Nat} (hn : n < 7) (hp : p < tc_t n) (hu : u < n) (hv : v < n) (h : u ≠ v) : tc_pr u v = p ↔ (u = tc_pa p ∧ v = tc_pb p) ∨ (u = tc_pb p ∧ v = tc_pa p) := by
  have q := tc_t_p hn hp
  have r := tc_pr_0 u (by omega) v (by omega) h
  have s := tc_pr_0 (tc_pa p) (by omega) (tc_pb p) (by omega) (by omega)
  constructor
  · intro e
    rw [e] at r
    omega
  · rintro (⟨e1, e2⟩ | ⟨e1, e2⟩)
    · rw [e1, e2]; exact q.2.2
    · rw [e1, e2, s.2.1]; exact q.2.2
def tc_W (w : Nat → Int) (u v : Nat) : Int := w (tc_pr u v)
theorem tc_W_add {n p : Nat} (hn : n < 7) (hp : p < tc_t n) {w w' : Nat → Int} {c : Int} (h : ∀ q, q < tc_t n → w' q = w q + (if q = p then c else 0)) : ∀ u v, u < n → v < n → u ≠ v → tc_W w' u v = tc_W w u v + c * (tc_i u (tc_pa p) * tc_i v (tc_pb p) + tc_i u (tc_pb p) * tc_i v (tc_pa p)) := by
  intro u v hu hv huv
  unfold tc_W
  rw [h _ (tc_pr_1 n hn u hu v hv huv)]
  have e := tc_pr_e hn hp hu hv huv
  have q := tc_t_p hn hp
  congr 1
  by_cases k : tc_pr u v = p
  · rw [if_pos k]
    rcases e.mp k with ⟨e1, e2⟩ | ⟨e1, e2⟩
    · rw [e1, e2, tc_i_s, tc_i_s, tc_i_n (show tc_pa p ≠ tc_pb p by omega)]; omega
    · rw [e1, e2, tc_i_s, tc_i_s, tc_i_n (show tc_pb p ≠ tc_pa p by omega)]; omega
  · rw [if_neg k]
    have z1 : tc_i u (tc_pa p) * tc_i v (tc_pb p) = 0 := by
      by_cases a : u = tc_pa p
      · by_cases b : v = tc_pb p
        · exact absurd (e.mpr (Or.inl ⟨a, b⟩)) k
        · rw [tc_i_n b, Int.mul_zero]
      · rw [tc_i_n a, Int.zero_mul]
    have z2 : tc_i u (tc_pb p) * tc_i v (tc_pa p) = 0 := by
      by_cases a : u = tc_pb p
      · by_cases b : v = tc_pa p
        · exact absurd (e.mpr (Or.inr ⟨a, b⟩)) k
        · rw [tc_i_n b, Int.mul_zero]
      · rw [tc_i_n a, Int.zero_mul]
    rw [z1, z2]; omega
/-- the groups of the ends of pair p joined -/
def tc_j (g : Nat → Nat) (a b : Nat) : Nat → Nat := tc_m g (min (g a) (g b)) (max (g a) (g b))
theorem tc_min_fix {n : Nat} {g : Nat → Nat} (hv : tc_V n g) {a b : Nat} (ha : a < n) (hb : b < n) : g (min (g a) (g b)) = min (g a) (g b) ∧ g (max (g a) (g b)) = max (g a) (g b) := by
  have q1 := (hv a ha).2
  have q2 := (hv b hb).2
  by_cases h : g a ≤ g b
  · rw [Nat.min_eq_left h, Nat.max_eq_right h]; exact ⟨q1, q2⟩
  · rw [Nat.min_eq_right (by omega), Nat.max_eq_left (by omega)]; exact ⟨q2, q1⟩
theorem tc_V_j {n : Nat} {g : Nat → Nat} (hv : tc_V n g) {a b : Nat} (ha : a < n) (hb : b < n) : tc_V n (tc_j g a b) := by
  by_cases e : g a = g b
  · have z : tc_j g a b = g := by
      unfold tc_j tc_m
      rw [e, Nat.min_self, Nat.max_self]
      funext z
      by_cases h : g z = g b
      · rw [if_pos h, h]
      · rw [if_neg h]
    rw [z]; exact hv
  · exact tc_V_m hv (by omega) (tc_min_fix hv ha hb).1
/-- the slope in the weight of a pair -/
theorem tc_SLp {n p : Nat} (hn : n < 7) (hp : p < tc_t n) {g : Nat → Nat} (hv : tc_V n g) (ρ : Nat) {w w' : Nat → Int} {c : Int} (h : ∀ q, q < tc_t n → w' q = w q + (if q = p then c else 0)) :
    tc_P n g ρ (tc_W w') = tc_P n g ρ (tc_W w) + c * (if g (tc_pa p) = g (tc_pb p) then 0 else tc_P n (tc_j g (tc_pa p) (tc_pb p)) ρ (tc_W w)) := by
  have q := tc_t_p hn hp
  have ha : tc_pa p < n := by omega
  have hb : tc_pb p < n := by omega
  have L := tc_L_add ha hb g (tc_W_add hn hp h)
  by_cases e : g (tc_pa p) = g (tc_pb p)
  · rw [if_pos e, Int.mul_zero, Int.add_zero]
    have e2 : tc_L n g (tc_W w') = tc_L n g (tc_W w) := by
      funext x y
      rw [L x y, e, Int.sub_self, Int.sub_self, Int.mul_zero, Int.mul_zero, Int.add_zero]
    unfold tc_P; rw [e2]
  · rw [if_neg e]
    have f := tc_min_fix hv ha hb
    have ba := (hv _ ha).1
    have bb := (hv _ hb).1
    refine tc_SL hv (by omega) (by omega) f.1 f.2 c (fun x y => ?_)
    rw [L x y]
    by_cases k : g (tc_pa p) ≤ g (tc_pb p)
    · rw [Nat.min_eq_left k, Nat.max_eq_right k]
    · rw [Nat.min_eq_right (by omega), Nat.max_eq_left (by omega)]
      generalize tc_i x (g (tc_pa p)) = p1
      generalize tc_i x (g (tc_pb p)) = p2
      generalize tc_i y (g (tc_pa p)) = p3
      generalize tc_i y (g (tc_pb p)) = p4
      grind
/-- products -/
def tc_p : Nat → (Nat → Int) → Int
  | 0, _ => 1
  | n + 1, f => tc_p n f * f n
theorem tc_p_c {n : Nat} {f g : Nat → Int} (h : ∀ i, i < n → f i = g i) : tc_p n f = tc_p n g := by
  induction n with
  | zero => rfl
  | succ n ih =>
    show tc_p n f * f n = tc_p n g * g n
    rw [ih (fun i hi => h i (by omega)), h n (by omega)]
theorem tc_p_mul (n : Nat) (f g : Nat → Int) : tc_p n (fun i => f i * g i) = tc_p n f * tc_p n g := by
  induction n with
  | zero => rfl
  | succ n ih =>
    show tc_p n (fun i => f i * g i) * (f n * g n) = (tc_p n f * f n) * (tc_p n g * g n)
    rw [ih]; grind
theorem tc_p_lin {n q : Nat} (hq : q < n) {f f1 f2 : Nat → Int} {c : Int} (h1 : ∀ p, p < n → p ≠ q → f p = f1 p) (h2 : ∀ p, p < n → p ≠ q → f p = f2 p) (h : f q = f1 q + c * f2 q) : tc_p n f = tc_p n f1 + c * tc_p n f2 := by
  induction n with
  | zero => omega
  | succ n ih =>
    show tc_p n f * f n = tc_p n f1 * f1 n + c * (tc_p n f2 * f2 n)
    by_cases e : q = n
    · subst e
      rw [← tc_p_c (f := f) (g := f1) (fun i hi => h1 i (by omega) (by omega)), ← tc_p_c (f := f) (g := f2) (fun i hi => h2 i (by omega) (by omega)), h]
      generalize tc_p q f = X
      grind
    · rw [← h1 n (by omega) (by omega), ← h2 n (by omega) (by omega), ih (by omega) (fun p hp => h1 p (by omega)) (fun p hp => h2 p (by omega))]
      grind
theorem tc_p_0 {n q : Nat} (hq : q < n) {f : Nat → Int} (h : f q = 0) : tc_p n f = 0 := by
  induction n with
  | zero => omega
  | succ n ih =>
    show tc_p n f * f n = 0
    by_cases e : q = n
    · subst e; rw [h, Int.mul_zero]
    · rw [ih (by omega), Int.zero_mul]
theorem tc_s_split (a b : Nat) (f : Nat → Int) : tc_s (a + b) f = tc_s a f + tc_s b (fun i => f (a + i)) := by
  induction b with
  | zero => show tc_s a f = tc_s a f + 0; omega
  | succ b ih =>
    show tc_s (a + b) f + f (a + b) = tc_s a f + (tc_s b (fun i => f (a + i)) + f (a + b))
    rw [ih]; omega
/-- the sets that join all to one group and close no way -/
def tc_one (n : Nat) (g : Nat → Nat) : Bool := decide (∀ x, x < n → g x = g 0)
def tc_tr (n : Nat) : Nat → (Nat → Nat) → Nat → Bool
  | 0, g, _ => tc_one n g
  | k + 1, g, S => if S.testBit k = true then (if g (tc_pa k) = g (tc_pb k) then false else tc_tr n k (tc_j g (tc_pa k) (tc_pb k)) S) else tc_tr n k g S
theorem tc_tr_c {n : Nat} : ∀ {k : Nat} {g : Nat → Nat} {S S' : Nat}, (∀ p, p < k → S.testBit p = S'.testBit p) → tc_tr n k g S = tc_tr n k g S' := by
  intro k
  induction k with
  | zero => intro g S S' _; rfl
  | succ k ih =>
    intro g S S' h
    unfold tc_tr
    rw [h k (by omega), ih (fun p hp => h p (by omega)), ih (fun p hp => h p (by omega))]
theorem tc_DC {n : Nat} (hn : n < 7) (h0 : 0 < n) {ρ : Nat} (hρ : ρ < n) (w : Nat → Int) : ∀ k, k ≤ tc_t n → ∀ g, tc_V n g → tc_P n g ρ (tc_W (fun p => if p < k then w p else 0)) = tc_s (2 ^ k) (fun S => if tc_tr n k g S = true then tc_p k (fun p => if S.testBit p = true then w p else 1) else 0) := by
  intro k
  induction k with
  | zero =>
    intro _ g hv
    show _ = 0 + (if tc_one n g = true then 1 else 0)
    by_cases h : ∀ x, x < n → g x = g 0
    · rw [tc_P_1 (fun x hx => by rw [h x hx, h ρ hρ]), if_pos (show tc_one n g = true from decide_eq_true h)]; rfl
    · rw [if_neg (show ¬ tc_one n g = true from fun z => h (of_decide_eq_true z))]
      have ⟨x, hx, he⟩ : ∃ x, x < n ∧ g x ≠ g ρ := by
        refine Classical.byContradiction (fun z => h (fun x hx => ?_))
        have a1 : g x = g ρ := Classical.byContradiction (fun y => z ⟨x, hx, y⟩)
        have a2 : g 0 = g ρ := Classical.byContradiction (fun y => z ⟨0, h0, y⟩)
        rw [a1, a2]
      exact tc_P_0 hv (W := tc_W (fun p => if p < 0 then w p else 0)) (fun u v _ _ _ => if_neg (c := tc_pr u v < 0) (t := w (tc_pr u v)) (e := 0) (Nat.not_lt_zero _)) hx he
  | succ k ih =>
    intro hk g hv
    have q := tc_t_p hn (show k < tc_t n by omega)
    rw [tc_SLp hn (show k < tc_t n by omega) hv ρ (w := fun p => if p < k then w p else 0) (c := w k) (fun p hp => by
      by_cases e : p = k
      · subst e; rw [if_pos (by omega), if_neg (by omega), if_pos rfl]; omega
      · by_cases l : p < k
        · rw [if_pos l, if_pos (by omega), if_neg e]; omega
        · rw [if_neg l, if_neg (by omega), if_neg e]; rfl)]
    rw [ih (by omega) g hv, Nat.pow_succ, Nat.mul_two, tc_s_split]
    congr 1
    · refine tc_s_c (fun S hS => ?_)
      have b : S.testBit k = false := Nat.testBit_lt_two_pow hS
      show _ = if (if S.testBit k = true then _ else tc_tr n k g S) = true then tc_p k (fun p => if S.testBit p = true then w p else 1) * (if S.testBit k = true then w k else 1) else 0
      have nb : ¬ (S.testBit k = true) := by rw [b]; decide
      rw [if_neg nb, if_neg nb, Int.mul_one]
    · have e : ∀ S, S < 2 ^ k → (if tc_tr n (k + 1) g (2 ^ k + S) = true then tc_p (k + 1) (fun p => if (2 ^ k + S).testBit p = true then w p else 1) else 0) = w k * (if g (tc_pa k) = g (tc_pb k) then 0 else (if tc_tr n k (tc_j g (tc_pa k) (tc_pb k)) S = true then tc_p k (fun p => if S.testBit p = true then w p else 1) else 0)) := by
        intro S hS
        have b : (2 ^ k + S).testBit k = true := by
          rw [Nat.testBit_two_pow_add_eq, Nat.testBit_lt_two_pow hS]; rfl
        have bl : ∀ p, p < k → (2 ^ k + S).testBit p = S.testBit p := fun p hp => Nat.testBit_two_pow_add_gt hp S
        have pe : tc_p k (fun p => if (2 ^ k + S).testBit p = true then w p else 1) = tc_p k (fun p => if S.testBit p = true then w p else 1) := tc_p_c (fun p hp => by rw [bl p hp])
        show (if (if (2 ^ k + S).testBit k = true then (if g (tc_pa k) = g (tc_pb k) then false else tc_tr n k (tc_j g (tc_pa k) (tc_pb k)) (2 ^ k + S)) else _) = true then tc_p k (fun p => if (2 ^ k + S).testBit p = true then w p else 1) * (if (2 ^ k + S).testBit k = true then w k else 1) else 0) = _
        rw [if_pos b, if_pos b, pe, tc_tr_c bl]
        by_cases d : g (tc_pa k) = g (tc_pb k)
        · rw [if_pos d, if_pos d, if_neg (by decide), Int.mul_zero]
        · rw [if_neg d, if_neg d]
          by_cases t : tc_tr n k (tc_j g (tc_pa k) (tc_pb k)) S = true
          · rw [if_pos t, if_pos t, Int.mul_comm]
          · rw [if_neg t, if_neg t, Int.mul_zero]
      rw [tc_s_c e, tc_s_mul]
      congr 1
      by_cases d : g (tc_pa k) = g (tc_pb k)
      · rw [if_pos d]
        exact (tc_s_0 (fun S _ => if_pos d)).symm
      · rw [if_neg d, ih (by omega) _ (tc_V_j hv (by omega) (by omega))]
        exact tc_s_c (fun S _ => (if_neg d).symm)
theorem tc_MT {n : Nat} (hn : n < 7) (h0 : 0 < n) {ρ : Nat} (hρ : ρ < n) (w : Nat → Int) : tc_P n (fun x => x) ρ (tc_W w) = tc_s (2 ^ tc_t n) (fun S => if tc_tr n (tc_t n) (fun x => x) S = true then tc_p (tc_t n) (fun p => if S.testBit p = true then w p else 1) else 0) := by
  rw [← tc_DC hn h0 hρ w (tc_t n) (Nat.le_refl _) (fun x => x) (fun x _ => ⟨Nat.le_refl _, rfl⟩)]
  refine tc_P_c (fun u v hu hv h => ?_)
  show w (tc_pr u v) = if tc_pr u v < tc_t n then w (tc_pr u v) else 0
  rw [if_pos (tc_pr_1 n hn u hu v hv h)]
end
section
/-! the sets that the reference lists -/
def tc_pc : Nat → Nat → Nat
  | 0, _ => 0
  | f + 1, x => if x = 0 then 0 else 1 + tc_pc f (x &&& (x - 1))
def tc_st (S p v u o : Nat) : Nat := if (S.testBit (p + u) && (o.testBit u || o.testBit v)) = true then (o ||| 2 ^ u) ||| 2 ^ v else o
def tc_mo (S p v o : Nat) : Nat → Nat
  | 0 => o
  | u + 1 => tc_st S p v u (tc_mo S p v o u)
def tc_ps (S o : Nat) : Nat → Nat
  | 0 => o
  | j + 1 => tc_mo S (tc_t (j + 1)) (j + 1) (tc_ps S o j) (j + 1)
def tc_cp (S n : Nat) : Nat → Nat
  | 0 => 1
  | k + 1 => tc_ps S (tc_cp S n k) (n - 1)
def tc_co (n S : Nat) : Bool := Nat.beq (tc_cp S n n) (2 ^ n - 1)
def tc_isT (n S : Nat) : Bool := Nat.beq (tc_pc S S) (n - 1) && tc_co n S
/-- the number of pairs of a set -/
def tc_bn (S : Nat) : Nat → Nat
  | 0 => 0
  | k + 1 => tc_bn S k + (if S.testBit k = true then 1 else 0)
def tc_al : Nat → (Nat → Bool) → Nat → Bool
  | 0, f, s => f s
  | k + 1, f, s => tc_al k f s && tc_al k f (s + 2 ^ k)
theorem tc_al_i {f : Nat → Bool} : ∀ {k s : Nat}, tc_al k f s = true → ∀ S, S < 2 ^ k → f (s + S) = true := by
  intro k
  induction k with
  | zero => intro s h S hS; have : S = 0 := by omega
            subst this; exact h
  | succ k ih =>
    intro s h S hS
    have h' := Bool.and_eq_true_iff.mp h
    by_cases l : S < 2 ^ k
    · exact ih h'.1 S l
    · have := ih h'.2 (S - 2 ^ k) (by rw [Nat.pow_succ] at hS; omega)
      rw [show s + 2 ^ k + (S - 2 ^ k) = s + S by omega] at this
      exact this
theorem tc_bn_c {S S' : Nat} : ∀ {k : Nat}, (∀ p, p < k → S.testBit p = S'.testBit p) → tc_bn S k = tc_bn S' k := by
  intro k
  induction k with
  | zero => intro _; rfl
  | succ k ih =>
    intro h
    show tc_bn S k + _ = tc_bn S' k + _
    rw [ih (fun p hp => h p (by omega)), h k (by omega)]
/-- all sets with c pairs -/
def tc_ac : Nat → Nat → (Nat → Bool) → Nat → Bool
  | 0, c, f, s => if c = 0 then f s else true
  | k + 1, c, f, s => tc_ac k c f s && (if c = 0 then true else tc_ac k (c - 1) f (s + 2 ^ k))
theorem tc_ac_i {f : Nat → Bool} : ∀ {k c s : Nat}, tc_ac k c f s = true → ∀ S, S < 2 ^ k → tc_bn S k = c → f (s + S) = true := by
  intro k
  induction k with
  | zero =>
    intro c s h S hS hc
    have e : S = 0 := by omega
    subst e
    have hc0 : 0 = c := hc
    subst hc0; exact h
  | succ k ih =>
    intro c s h S hS hc
    have h' := Bool.and_eq_true_iff.mp h
    have hc' : tc_bn S k + (if S.testBit k = true then 1 else 0) = c := hc
    by_cases l : S < 2 ^ k
    · rw [Nat.testBit_lt_two_pow l, if_neg (by decide)] at hc'
      exact ih h'.1 S l hc'
    · obtain ⟨S', rfl⟩ : ∃ S', S = 2 ^ k + S' := ⟨S - 2 ^ k, by omega⟩
      have hS' : S' < 2 ^ k := by rw [Nat.pow_succ] at hS; omega
      have b : (2 ^ k + S').testBit k = true := by
        rw [Nat.testBit_two_pow_add_eq, Nat.testBit_lt_two_pow hS']; rfl
      rw [b, if_pos rfl, tc_bn_c (S' := S') (fun p hp => Nat.testBit_two_pow_add_gt hp S')] at hc'
      have h2 := h'.2
      rw [if_neg (by omega)] at h2
      have := ih h2 S' hS' (by omega)
      rw [show s + 2 ^ k + S' = s + (2 ^ k + S') by omega] at this
      exact this
theorem tc_bn_h (S : Nat) : ∀ k : Nat, tc_bn S (k + 1) = S % 2 + tc_bn (S / 2) k := by
  intro k
  induction k with
  | zero =>
    show 0 + (if S.testBit 0 = true then 1 else 0) = S % 2 + 0
    rw [Nat.testBit_zero]
    have := Nat.mod_two_eq_zero_or_one S
    rcases this with h | h
    · rw [h]; rfl
    · rw [h]; rfl
  | succ k ih =>
    show tc_bn S (k + 1) + (if S.testBit (k + 1) = true then 1 else 0) = S % 2 + (tc_bn (S / 2) k + (if (S / 2).testBit k = true then 1 else 0))
    rw [ih, Nat.testBit_succ]; omega
theorem tc_bn_k : ∀ (k x : Nat), x < 2 ^ k → 0 < x → tc_bn (x &&& (x - 1)) k + 1 = tc_bn x k := by
  intro k
  induction k with
  | zero => intro x h h0; have : x < 1 := h
            omega
  | succ k ih =>
    intro x h h0
    rw [tc_bn_h, tc_bn_h, Nat.and_div_two]
    rw [Nat.pow_succ] at h
    have m : (x &&& (x - 1)) % 2 = 0 := by
      have q := Nat.and_mod_two_eq_one (a := x) (b := x - 1)
      have := Nat.mod_two_eq_zero_or_one (x &&& (x - 1))
      omega
    rw [m]
    by_cases o : x % 2 = 1
    · rw [show (x - 1) / 2 = x / 2 by omega, Nat.and_self, o]; omega
    · rw [show (x - 1) / 2 = x / 2 - 1 by omega]
      have := ih (x / 2) (by omega) (by omega)
      omega
theorem tc_bn_0 : ∀ k : Nat, tc_bn 0 k = 0 := by
  intro k
  induction k with
  | zero => rfl
  | succ k ih => show tc_bn 0 k + (if Nat.testBit 0 k = true then 1 else 0) = 0; rw [ih, Nat.zero_testBit]; rfl
theorem tc_and_p {x : Nat} (h : x ≠ 0) : x &&& (x - 1) < x := by
  have := Nat.and_le_right (n := x) (m := x - 1)
  omega
theorem tc_pc_bn {k : Nat} : ∀ (f x : Nat), x ≤ f → x < 2 ^ k → tc_pc f x = tc_bn x k := by
  intro f
  induction f with
  | zero =>
    intro x hx _
    have : x = 0 := by omega
    subst this; rw [tc_bn_0]; rfl
  | succ f ih =>
    intro x hx hk
    show (if x = 0 then 0 else 1 + tc_pc f (x &&& (x - 1))) = tc_bn x k
    by_cases h : x = 0
    · rw [if_pos h, h, tc_bn_0]
    · have l := tc_and_p h
      rw [if_neg h, ih _ (by omega) (by omega), ← tc_bn_k k x hk (by omega)]; omega
def tc_ck (n S : Nat) : Bool := tc_co n S == tc_tr n (tc_t n) (fun x => x) S
theorem tc_ck2 : tc_ac 1 1 (tc_ck 2) 0 = true := by decide +kernel
theorem tc_ck3 : tc_ac 3 2 (tc_ck 3) 0 = true := by decide +kernel
theorem tc_ck4 : tc_ac 6 3 (tc_ck 4) 0 = true := by decide +kernel
theorem tc_ck5 : tc_ac 10 4 (tc_ck 5) 0 = true := by decide +kernel
theorem tc_ac_s {k c s s' : Nat} {f : Nat → Bool} (h1 : tc_ac k (c + 1) f s = true) (h2 : tc_ac k c f s' = true) (hs : s' = s + 2 ^ k) : tc_ac (k + 1) (c + 1) f s = true := by
  subst hs
  show (tc_ac k (c + 1) f s && (if c + 1 = 0 then true else tc_ac k (c + 1 - 1) f (s + 2 ^ k))) = true
  rw [h1, if_neg (by omega)]
  exact h2
theorem tc_ck6_000 : tc_ac 12 5 (tc_ck 6) 0 = true := by decide +kernel
theorem tc_ck6_001 : tc_ac 12 4 (tc_ck 6) 4096 = true := by decide +kernel
theorem tc_ck6_010 : tc_ac 12 4 (tc_ck 6) 8192 = true := by decide +kernel
theorem tc_ck6_011 : tc_ac 12 3 (tc_ck 6) 12288 = true := by decide +kernel
theorem tc_ck6_100 : tc_ac 12 4 (tc_ck 6) 16384 = true := by decide +kernel
theorem tc_ck6_101 : tc_ac 12 3 (tc_ck 6) 20480 = true := by decide +kernel
theorem tc_ck6_110 : tc_ac 12 3 (tc_ck 6) 24576 = true := by decide +kernel
theorem tc_ck6_111 : tc_ac 12 2 (tc_ck 6) 28672 = true := by decide +kernel
theorem tc_ck6_00 : tc_ac 13 5 (tc_ck 6) 0 = true := tc_ac_s tc_ck6_000 tc_ck6_001 (by decide)
theorem tc_ck6_01 : tc_ac 13 4 (tc_ck 6) 8192 = true := tc_ac_s tc_ck6_010 tc_ck6_011 (by decide)
theorem tc_ck6_10 : tc_ac 13 4 (tc_ck 6) 16384 = true := tc_ac_s tc_ck6_100 tc_ck6_101 (by decide)
theorem tc_ck6_11 : tc_ac 13 3 (tc_ck 6) 24576 = true := tc_ac_s tc_ck6_110 tc_ck6_111 (by decide)
theorem tc_ck6_0 : tc_ac 14 5 (tc_ck 6) 0 = true := tc_ac_s tc_ck6_00 tc_ck6_01 (by decide)
theorem tc_ck6_1 : tc_ac 14 4 (tc_ck 6) 16384 = true := tc_ac_s tc_ck6_10 tc_ck6_11 (by decide)
theorem tc_ck6 : tc_ac 15 5 (tc_ck 6) 0 = true := tc_ac_s tc_ck6_0 tc_ck6_1 (by decide)
end
section
/-! the listed sets are the trees; what is counted -/
theorem tc_gc_m {n : Nat} {g : Nat → Nat} (hv : tc_V n g) {lo hi : Nat} (h : lo < hi) (hh : hi < n) (ghi : g hi = hi) : tc_s n (fun x => tc_i (tc_m g lo hi x) x) = tc_s n (fun x => tc_i (g x) x) + -1 := by
  have e : tc_s n (fun x => tc_i (tc_m g lo hi x) x) = tc_s n (fun x => tc_i (g x) x + -1 * (tc_i x hi * 1)) := by
    refine tc_s_c (fun x hx => ?_)
    by_cases k : x = hi
    · subst k
      have m : tc_m g lo x x = lo := if_pos ghi
      rw [m, ghi, tc_i_s, tc_i_n (by omega)]; rfl
    · rw [tc_i_n k]
      have m := tc_m_fix hv h hx k
      by_cases f : g x = x
      · rw [m.mpr f, f, tc_i_s]; rfl
      · rw [tc_i_n f, tc_i_n (fun z => f (m.mp z))]; rfl
  rw [e, tc_s_add, tc_s_mul, tc_s_i hh (fun _ => 1)]; rfl
theorem tc_gc {n : Nat} (hn : n < 7) (h0 : 0 < n) (S : Nat) : ∀ (k : Nat) (g : Nat → Nat), k ≤ tc_t n → tc_V n g → tc_tr n k g S = true → tc_s n (fun x => tc_i (g x) x) = 1 + (tc_bn S k : Int) := by
  intro k
  induction k with
  | zero =>
    intro g _ hv h
    have h' : ∀ x, x < n → g x = g 0 := of_decide_eq_true h
    have z : g 0 = 0 := by have := (hv 0 h0).1; omega
    show _ = (1 : Int) + 0
    have e : tc_s n (fun x => tc_i (g x) x) = tc_s n (fun x => tc_i x 0 * 1) := by
      refine tc_s_c (fun x hx => ?_)
      rw [h' x hx, z, tc_i_c, Int.mul_one]
    rw [e, tc_s_i h0 (fun _ => 1)]; rfl
  | succ k ih =>
    intro g hk hv h
    have q := tc_t_p hn (show k < tc_t n by omega)
    have h' : (if S.testBit k = true then (if g (tc_pa k) = g (tc_pb k) then false else tc_tr n k (tc_j g (tc_pa k) (tc_pb k)) S) else tc_tr n k g S) = true := h
    have bs : tc_bn S (k + 1) = tc_bn S k + (if S.testBit k = true then 1 else 0) := rfl
    by_cases b : S.testBit k = true
    · rw [if_pos b] at h' bs
      by_cases e : g (tc_pa k) = g (tc_pb k)
      · rw [if_pos e] at h'; exact absurd h' (by decide)
      · rw [if_neg e] at h'
        have i := ih _ (by omega) (tc_V_j hv (show tc_pa k < n by omega) q.2.1) h'
        have f := tc_min_fix hv (show tc_pa k < n by omega) q.2.1
        have ba := (hv _ (show tc_pa k < n by omega)).1
        have bb := (hv _ q.2.1).1
        have r := tc_gc_m hv (lo := min (g (tc_pa k)) (g (tc_pb k))) (hi := max (g (tc_pa k)) (g (tc_pb k))) (by omega) (by omega) f.2
        have i' : tc_s n (fun x => tc_i (tc_m g (min (g (tc_pa k)) (g (tc_pb k))) (max (g (tc_pa k)) (g (tc_pb k))) x) x) = 1 + (tc_bn S k : Int) := i
        rw [bs]; omega
    · rw [if_neg b] at h' bs
      have i := ih g (by omega) hv h'
      rw [bs, i]; omega
theorem tc_ck_all : ∀ n, 2 ≤ n → n < 7 → tc_ac (tc_t n) (n - 1) (tc_ck n) 0 = true := by
  intro n h2 h7
  have : n = 2 ∨ n = 3 ∨ n = 4 ∨ n = 5 ∨ n = 6 := by omega
  rcases this with rfl | rfl | rfl | rfl | rfl
  · exact tc_ck2
  · exact tc_ck3
  · exact tc_ck4
  · exact tc_ck5
  · exact tc_ck6
theorem tc_T_eq {n : Nat} (h2 : 2 ≤ n) (hn : n < 7) {S : Nat} (hS : S < 2 ^ tc_t n) : tc_isT n S = tc_tr n (tc_t n) (fun x => x) S := by
  unfold tc_isT
  rw [tc_pc_bn S S (Nat.le_refl _) hS]
  by_cases e : tc_bn S (tc_t n) = n - 1
  · have c := tc_ac_i (tc_ck_all n h2 hn) S hS e
    rw [Nat.zero_add] at c
    have c' : tc_co n S = tc_tr n (tc_t n) (fun x => x) S := eq_of_beq c
    rw [e, c', Nat.beq_refl]; rfl
  · have b : Nat.beq (tc_bn S (tc_t n)) (n - 1) = false := by
      cases k : Nat.beq (tc_bn S (tc_t n)) (n - 1) with
      | false => rfl
      | true => exact absurd (Nat.eq_of_beq_eq_true k) e
    rw [b, Bool.false_and]
    cases k : tc_tr n (tc_t n) (fun x => x) S with
    | false => rfl
    | true =>
      have g := tc_gc hn (by omega) S (tc_t n) (fun x => x) (Nat.le_refl _) (fun x _ => ⟨Nat.le_refl _, rfl⟩) k
      have s : tc_s n (fun x => tc_i x x) = n := by
        have : ∀ m : Nat, tc_s m (fun x => tc_i x x) = m := by
          intro m
          induction m with
          | zero => rfl
          | succ m ih => show tc_s m (fun x => tc_i x x) + tc_i m m = _; rw [ih, tc_i_s]; omega
        exact this n
      rw [s] at g
      omega
/-- sums over the trees -/
def tc_Z (n : Nat) (F : Nat → Int) : Int := tc_s (2 ^ tc_t n) (fun S => if tc_isT n S = true then F S else 0)
theorem tc_Z_c {n : Nat} {F G : Nat → Int} (h : ∀ S, S < 2 ^ tc_t n → F S = G S) : tc_Z n F = tc_Z n G := by
  unfold tc_Z
  exact tc_s_c (fun S hS => by rw [h S hS])
theorem tc_Z_add (n : Nat) (F G : Nat → Int) : tc_Z n (fun S => F S + G S) = tc_Z n F + tc_Z n G := by
  unfold tc_Z
  rw [← tc_s_add]
  refine tc_s_c (fun S _ => ?_)
  split
  · rfl
  · rfl
theorem tc_Z_mul (n : Nat) (c : Int) (F : Nat → Int) : tc_Z n (fun S => c * F S) = c * tc_Z n F := by
  unfold tc_Z
  rw [← tc_s_mul]
  refine tc_s_c (fun S _ => ?_)
  split
  · rfl
  · rw [Int.mul_zero]
theorem tc_Z_0 {n : Nat} {F : Nat → Int} (h : ∀ S, S < 2 ^ tc_t n → F S = 0) : tc_Z n F = 0 := by
  unfold tc_Z
  refine tc_s_0 (fun S hS => ?_)
  rw [h S hS]; split <;> rfl
theorem tc_Z_s (n m : Nat) (F : Nat → Nat → Int) : tc_Z n (fun S => tc_s m (fun u => F u S)) = tc_s m (fun u => tc_Z n (F u)) := by
  induction m with
  | zero => exact tc_Z_0 (fun _ _ => rfl)
  | succ m ih =>
    show tc_Z n (fun S => tc_s m (fun u => F u S) + F m S) = tc_s m (fun u => tc_Z n (F u)) + tc_Z n (F m)
    rw [tc_Z_add, ih]
/-- the factor of a pair: in F it must be in the set -/
def tc_fa (Fs : Nat → Bool) (w : Nat → Int) (S p : Nat) : Int := if S.testBit p = true then (if Fs p = true then 1 else w p) else (if Fs p = true then 0 else 1)
def tc_T (n : Nat) (Fs : Nat → Bool) (w : Nat → Int) : Int := tc_Z n (fun S => tc_p (tc_t n) (tc_fa Fs w S))
theorem tc_T_c {n : Nat} {Fs Fs' : Nat → Bool} {w w' : Nat → Int} (h : ∀ p, p < tc_t n → Fs p = Fs' p) (h2 : ∀ p, p < tc_t n → w p = w' p) : tc_T n Fs w = tc_T n Fs' w' := by
  refine tc_Z_c (fun S _ => tc_p_c (fun p hp => ?_))
  unfold tc_fa
  rw [h p hp, h2 p hp]
theorem tc_T_0 {n : Nat} (h2 : 2 ≤ n) (hn : n < 7) {ρ : Nat} (hρ : ρ < n) (w : Nat → Int) : tc_T n (fun _ => false) w = tc_P n (fun x => x) ρ (tc_W w) := by
  rw [tc_MT hn (by omega) hρ]
  unfold tc_T tc_Z
  refine tc_s_c (fun S hS => ?_)
  rw [tc_T_eq h2 hn hS]
  rfl
theorem tc_T_sl {n q : Nat} (hq : q < tc_t n) {Fs Fs' : Nat → Bool} {w w' : Nat → Int} {c : Int} (hF : Fs q = false) (hF' : ∀ p, p < tc_t n → Fs' p = (Fs p || decide (p = q))) (hw : ∀ p, p < tc_t n → w' p = w p + (if p = q then c else 0)) : tc_T n Fs w' = tc_T n Fs w + c * tc_T n Fs' w := by
  unfold tc_T
  rw [← tc_Z_mul, ← tc_Z_add]
  refine tc_Z_c (fun S _ => ?_)
  refine tc_p_lin hq (fun p hp hn => ?_) (fun p hp hn => ?_) ?_
  · unfold tc_fa; rw [hw p hp, if_neg hn, Int.add_zero]
  · unfold tc_fa; rw [hw p hp, if_neg hn, Int.add_zero, hF' p hp, decide_eq_false hn, Bool.or_false]
  · unfold tc_fa; rw [hw q hq, if_pos rfl, hF' q hq, hF, decide_eq_true rfl]
    by_cases b : S.testBit q = true
    · rw [if_pos b, if_pos b, if_pos b, if_neg (by decide), if_neg (by decide), if_pos (by decide)]; omega
    · rw [if_neg b, if_neg b, if_neg b, if_neg (by decide), if_pos (by decide)]; omega
theorem tc_T_in {n q : Nat} (hq : q < tc_t n) {Fs : Nat → Bool} {w w' : Nat → Int} (hF : Fs q = true) (hw : ∀ p, p < tc_t n → p ≠ q → w' p = w p) : tc_T n Fs w' = tc_T n Fs w := by
  refine tc_Z_c (fun S _ => tc_p_c (fun p hp => ?_))
  unfold tc_fa
  by_cases e : p = q
  · subst e; simp [hF]
  · rw [hw p hp e]
/-- one more pair that must be used -/
theorem tc_T_st {n a b : Nat} (hn : n < 7) (ha : a < n) (hb : b < n) (hab : a < b) {Fs Fs' : Nat → Bool} {g : Nat → Nat} (hv : tc_V n g) {ρ : Nat} (hT : ∀ w, tc_T n Fs w = tc_P n g ρ (tc_W w)) (hF : Fs (tc_pr a b) = false) (hF' : ∀ p, p < tc_t n → Fs' p = (Fs p || decide (p = tc_pr a b))) (w : Nat → Int) :
    tc_T n Fs' w = if g a = g b then 0 else tc_P n (tc_j g a b) ρ (tc_W w) := by
  have hq := tc_pr_1 n hn a ha b hb (by omega)
  have r := tc_pr_0 a (by omega) b (by omega) (by omega)
  have ea : tc_pa (tc_pr a b) = a := by omega
  have eb : tc_pb (tc_pr a b) = b := by omega
  have s := tc_T_sl hq (w := w) (w' := fun p => w p + (if p = tc_pr a b then 1 else 0)) (c := 1) hF hF' (fun p _ => rfl)
  have t := tc_SLp hn hq hv ρ (w := w) (w' := fun p => w p + (if p = tc_pr a b then 1 else 0)) (c := 1) (fun p _ => rfl)
  rw [ea, eb] at t
  rw [hT, hT] at s
  omega
theorem tc_T_dup {n a b : Nat} (hn : n < 7) (ha : a < n) (hb : b < n) (hab : a < b) {Fs : Nat → Bool} {g : Nat → Nat} (hv : tc_V n g) {ρ : Nat} (hT : ∀ w, tc_T n Fs w = tc_P n g ρ (tc_W w)) (hF : Fs (tc_pr a b) = true) (hg : g a ≠ g b) (w : Nat → Int) : tc_P n (tc_j g a b) ρ (tc_W w) = 0 := by
  have hq := tc_pr_1 n hn a ha b hb (by omega)
  have r := tc_pr_0 a (by omega) b (by omega) (by omega)
  have ea : tc_pa (tc_pr a b) = a := by omega
  have eb : tc_pb (tc_pr a b) = b := by omega
  have s := tc_T_in hq (Fs := Fs) (w := w) (w' := fun p => w p + (if p = tc_pr a b then 1 else 0)) hF (fun p _ hp => by rw [if_neg hp]; omega)
  have t := tc_SLp hn hq hv ρ (w := w) (w' := fun p => w p + (if p = tc_pr a b then 1 else 0)) (c := 1) (fun p _ => rfl)
  rw [ea, eb, if_neg hg] at t
  rw [hT, hT] at s
  omega
/-- what the contraction keeps -/
def tc_IV (n : Nat) (e : Nat → Nat) (Fs : Nat → Bool) (g : Nat → Nat) (ω : Nat) : Prop :=
  tc_V n g ∧ (((ω : Int) = tc_p (tc_t n) (fun p => if Fs p = true then (e p : Int) else 1) ∧ ∀ ρ, ρ < n → ∀ w, tc_T n Fs w = tc_P n g ρ (tc_W w)) ∨ (ω = 0 ∧ ∀ w, tc_T n Fs w = 0))
theorem tc_IV_0 {n : Nat} (h2 : 2 ≤ n) (hn : n < 7) (e : Nat → Nat) {Fs : Nat → Bool} (hF : ∀ p, p < tc_t n → Fs p = false) : tc_IV n e Fs (fun x => x) 1 := by
  refine ⟨fun x _ => ⟨Nat.le_refl _, rfl⟩, Or.inl ⟨?_, fun ρ hρ w => ?_⟩⟩
  · have : ∀ m, m ≤ tc_t n → tc_p m (fun p => if Fs p = true then (e p : Int) else 1) = 1 := by
      intro m
      induction m with
      | zero => intro _; rfl
      | succ m ih =>
        intro hm
        show tc_p m _ * (if Fs m = true then (e m : Int) else 1) = 1
        rw [ih (by omega), hF m (by omega), if_neg (by decide)]; rfl
    exact (this _ (Nat.le_refl _)).symm
  · rw [← tc_T_0 h2 hn hρ]
    exact tc_T_c hF (fun _ _ => rfl)
theorem tc_IV_c {n : Nat} {e : Nat → Nat} {Fs Fs' : Nat → Bool} {g : Nat → Nat} {ω : Nat} (h : ∀ p, p < tc_t n → Fs p = Fs' p) (I : tc_IV n e Fs g ω) : tc_IV n e Fs' g ω := by
  refine ⟨I.1, ?_⟩
  rcases I.2 with ⟨h1, h2⟩ | ⟨h1, h2⟩
  · refine Or.inl ⟨?_, fun ρ hρ w => ?_⟩
    · rw [h1]; exact tc_p_c (fun p hp => by rw [h p hp])
    · rw [← h2 ρ hρ w]; exact (tc_T_c h (fun _ _ => rfl)).symm
  · exact Or.inr ⟨h1, fun w => by rw [← h2 w]; exact (tc_T_c h (fun _ _ => rfl)).symm⟩
theorem tc_IV_s {n a b : Nat} (h0 : 0 < n) (hn : n < 7) (ha : a < n) (hb : b < n) (hab : a < b) {e : Nat → Nat} {Fs Fs' : Nat → Bool} {g : Nat → Nat} {ω : Nat} (I : tc_IV n e Fs g ω) (hF : Fs (tc_pr a b) = false) (hF' : ∀ p, p < tc_t n → Fs' p = (Fs p || decide (p = tc_pr a b))) :
    tc_IV n e Fs' (tc_j g a b) (ω * (if g a = g b then 0 else e (tc_pr a b))) := by
  refine ⟨tc_V_j I.1 ha hb, ?_⟩
  have hq := tc_pr_1 n hn a ha b hb (by omega)
  rcases I.2 with ⟨h1, h2⟩ | ⟨h1, h2⟩
  · by_cases k : g a = g b
    · refine Or.inr ⟨by rw [if_pos k]; omega, fun w => ?_⟩
      rw [tc_T_st hn ha hb hab I.1 (h2 0 h0) hF hF' w, if_pos k]
    · refine Or.inl ⟨?_, fun ρ hρ w => ?_⟩
      · rw [if_neg k]
        have l := tc_p_lin hq (f := fun p => if Fs' p = true then (e p : Int) else 1) (f1 := fun p => if p = tc_pr a b then 0 else (if Fs' p = true then (e p : Int) else 1)) (f2 := fun p => if Fs p = true then (e p : Int) else 1) (c := (e (tc_pr a b) : Int)) (fun p hp hpn => by rw [if_neg hpn]) (fun p hp hpn => by rw [hF' p hp, decide_eq_false hpn, Bool.or_false]) (by
          rw [if_pos rfl, hF' _ hq, hF, decide_eq_true rfl, if_pos (by decide), if_neg (by decide)]; omega)
        rw [tc_p_0 hq (f := fun p => if p = tc_pr a b then 0 else (if Fs' p = true then (e p : Int) else 1)) (if_pos rfl), ← h1] at l
        rw [l, Int.natCast_mul, Int.mul_comm]; omega
      · rw [tc_T_st hn ha hb hab I.1 (h2 ρ hρ) hF hF' w, if_neg k]
  · refine Or.inr ⟨by rw [h1]; omega, fun w => ?_⟩
    have s := tc_T_sl hq (w := w) (w' := fun p => w p + (if p = tc_pr a b then 1 else 0)) (c := 1) hF hF' (fun p _ => rfl)
    rw [h2, h2] at s
    omega
theorem tc_p_b {m B : Nat} {f : Nat → Int} (h : ∀ p, p < m → (f p).natAbs ≤ B) : (tc_p m f).natAbs ≤ B ^ m := by
  induction m with
  | zero => exact Nat.le_refl _
  | succ m ih =>
    show (tc_p m f * f m).natAbs ≤ B ^ (m + 1)
    rw [Int.natAbs_mul, Nat.pow_succ]
    exact Nat.mul_le_mul (ih (fun p hp => h p (by omega))) (h m (by omega))
theorem tc_IV_b {n : Nat} (hn : n < 7) {e : Nat → Nat} {Fs : Nat → Bool} {g : Nat → Nat} {ω : Nat} (I : tc_IV n e Fs g ω) (he : ∀ p, p < tc_t n → e p ≤ 3) : ω ≤ 14348907 := by
  rcases I.2 with ⟨h1, _⟩ | ⟨h1, _⟩
  · have q := tc_p_b (m := tc_t n) (B := 3) (f := fun p => if Fs p = true then (e p : Int) else 1) (fun p hp => by
      have := he p hp
      split
      · omega
      · decide)
    rw [← h1] at q
    have r : 3 ^ tc_t n ≤ 3 ^ 15 := Nat.pow_le_pow_right (by omega) (by have := tc_t_b n hn; omega)
    have r2 : 3 ^ 15 = 14348907 := by decide
    omega
  · omega
end
section
/-! the values of both programs -/
def tc_fc (e md : Nat → Nat) (S p : Nat) : Int := if S.testBit p = true then (if md p = 2 then 0 else (e p : Int)) else (if md p = 1 then 0 else 1)
def tc_wy (n : Nat) (e md : Nat → Nat) (S : Nat) : Int := tc_p (tc_t n) (tc_fc e md S)
def tc_wt (e md : Nat → Nat) (p : Nat) : Int := if md p = 0 then (e p : Int) else 0
def tc_mu (md : Nat → Nat) (p : Nat) : Bool := decide (md p = 1)
def tc_pe (n : Nat) (e : Nat → Nat) (Fs : Nat → Bool) : Int := tc_p (tc_t n) (fun p => if Fs p = true then (e p : Int) else 1)
theorem tc_fc_f {e md : Nat → Nat} {S p : Nat} (hm : md p ≤ 2) : tc_fc e md S p = (if tc_mu md p = true then (e p : Int) else 1) * tc_fa (tc_mu md) (tc_wt e md) S p := by
  unfold tc_fc tc_fa tc_wt tc_mu
  have : md p = 0 ∨ md p = 1 ∨ md p = 2 := by omega
  rcases this with h | h | h
  · rw [h]; by_cases b : S.testBit p = true
    · simp [b]
    · simp [b]
  · rw [h]; by_cases b : S.testBit p = true
    · simp [b]
    · simp [b]
  · rw [h]; by_cases b : S.testBit p = true
    · simp [b]
    · simp [b]
theorem tc_cnt {n : Nat} {e md : Nat → Nat} (hm : ∀ p, p < tc_t n → md p ≤ 2) : tc_Z n (tc_wy n e md) = tc_pe n e (tc_mu md) * tc_T n (tc_mu md) (tc_wt e md) := by
  unfold tc_T tc_pe
  rw [← tc_Z_mul]
  refine tc_Z_c (fun S _ => ?_)
  unfold tc_wy
  rw [← tc_p_mul]
  exact tc_p_c (fun p hp => tc_fc_f (hm p hp))
theorem tc_cnt_x {n : Nat} (h0 : 0 < n) {e md : Nat → Nat} (hm : ∀ p, p < tc_t n → md p ≤ 2) {g : Nat → Nat} {ω : Nat} (I : tc_IV n e (tc_mu md) g ω) : tc_Z n (tc_wy n e md) = if ω = 0 then 0 else (ω : Int) * tc_P n g 0 (tc_W (tc_wt e md)) := by
  rw [tc_cnt hm]
  rcases I.2 with ⟨h1, h2⟩ | ⟨h1, h2⟩
  · have h1' : (ω : Int) = tc_pe n e (tc_mu md) := h1
    rw [← h1', h2 0 h0]
    by_cases z : ω = 0
    · rw [if_pos z, z]; exact Int.zero_mul _
    · rw [if_neg z]
  · rw [h2, Int.mul_zero, if_pos h1]
/-- trees that use a pair -/
def tc_us (n : Nat) (e md : Nat → Nat) (q : Nat) : Int := tc_Z n (fun S => if S.testBit q = true then tc_wy n e md S else 0)
theorem tc_us_2 {n q : Nat} {e md : Nat → Nat} (hq : q < tc_t n) (h : md q = 2) : tc_us n e md q = 0 := by
  refine tc_Z_0 (fun S _ => ?_)
  by_cases b : S.testBit q = true
  · rw [if_pos b]
    refine tc_p_0 hq ?_
    unfold tc_fc; rw [if_pos b, if_pos h]
  · rw [if_neg b]
theorem tc_us_1 {n q : Nat} {e md : Nat → Nat} (hq : q < tc_t n) (h : md q = 1) : tc_us n e md q = tc_Z n (tc_wy n e md) := by
  refine tc_Z_c (fun S _ => ?_)
  by_cases b : S.testBit q = true
  · rw [if_pos b]
  · rw [if_neg b]
    refine (tc_p_0 hq ?_).symm
    unfold tc_fc; rw [if_neg b, if_pos h]
theorem tc_us_0 {n q : Nat} {e md md' : Nat → Nat} (hq : q < tc_t n) (h : md q = 0) (h' : ∀ p, p < tc_t n → md' p = if p = q then 2 else md p) : tc_us n e md q = tc_Z n (tc_wy n e md) - tc_Z n (tc_wy n e md') := by
  have : tc_Z n (tc_wy n e md) = tc_us n e md q + tc_Z n (tc_wy n e md') := by
    unfold tc_us
    rw [← tc_Z_add]
    refine tc_Z_c (fun S _ => ?_)
    by_cases b : S.testBit q = true
    · have z : tc_wy n e md' S = 0 := by
        refine tc_p_0 hq ?_
        unfold tc_fc; rw [if_pos b, h' q hq, if_pos rfl, if_pos rfl]
      rw [if_pos b, z, Int.add_zero]
    · rw [if_neg b, Int.zero_add]
      refine tc_p_c (fun p hp => ?_)
      unfold tc_fc
      rw [h' p hp]
      by_cases k : p = q
      · subst k; rw [if_neg b, if_neg b, if_pos rfl, h]; rfl
      · rw [if_neg k]
  omega
/-- how many pairs of the set are at v -/
def tc_bv (S p : Nat) : Int := if S.testBit p = true then 1 else 0
def tc_dg (n v S : Nat) : Int := tc_s n (fun u => if u = v then 0 else tc_bv S (tc_pr u v))
theorem tc_dgs (n v : Nat) (e md : Nat → Nat) : tc_Z n (fun S => tc_wy n e md S * tc_dg n v S) = tc_s n (fun u => if u = v then 0 else tc_us n e md (tc_pr u v)) := by
  have e1 : tc_Z n (fun S => tc_wy n e md S * tc_dg n v S) = tc_Z n (fun S => tc_s n (fun u => tc_wy n e md S * (if u = v then 0 else tc_bv S (tc_pr u v)))) := by
    refine tc_Z_c (fun S _ => ?_)
    unfold tc_dg
    rw [tc_s_mul]
  rw [e1, tc_Z_s]
  refine tc_s_c (fun u _ => ?_)
  by_cases k : u = v
  · rw [if_pos k]
    exact tc_Z_0 (fun S _ => by rw [if_pos k, Int.mul_zero])
  · rw [if_neg k]
    refine tc_Z_c (fun S _ => ?_)
    rw [if_neg k]
    unfold tc_bv
    by_cases b : S.testBit (tc_pr u v) = true
    · rw [if_pos b, if_pos b, Int.mul_one]
    · rw [if_neg b, if_neg b, Int.mul_zero]
/-- the groups of two numbers are taken away -/
def tc_k2 (g : Nat → Nat) (a b : Nat) (x : Nat) : Bool := decide (g x = x ∧ x ≠ a ∧ x ≠ b)
theorem tc_k2_i {g : Nat → Nat} {a b x : Nat} : tc_k2 g a b x = true ↔ (g x = x ∧ x ≠ a ∧ x ≠ b) := decide_eq_true_iff
theorem tc_h_c {n : Nat} {kp kp' : Nat → Bool} {A A' : Nat → Nat → Int} (hk : ∀ x, x < n → (kp x = true ↔ kp' x = true)) (hA : ∀ x y, x < n → y < n → kp x = true → kp y = true → A x y = A' x y) : tc_d n (tc_h kp A) = tc_d n (tc_h kp' A') := by
  refine tc_d_c (fun x y hx hy => ?_)
  by_cases k1 : kp x = true
  · by_cases k2 : kp y = true
    · rw [tc_h_p k1 k2, tc_h_p ((hk x hx).mp k1) ((hk y hy).mp k2)]
      exact hA x y hx hy k1 k2
    · rw [tc_h_y k2, tc_h_y (fun z => k2 ((hk y hy).mpr z))]
  · rw [tc_h_x k1, tc_h_x (fun z => k1 ((hk x hx).mpr z))]
theorem tc_P_j {n : Nat} {g : Nat → Nat} (hv : tc_V n g) {a b ρ : Nat} (ha : a < n) (hb : b < n) (hg : g a ≠ g b) (hρ : g ρ = g a ∨ g ρ = g b) (W : Nat → Nat → Int) : tc_P n (tc_j g a b) ρ W = tc_d n (tc_h (tc_k2 g (g a) (g b)) (tc_L n g W)) := by
  have f := tc_min_fix hv ha hb
  have e : tc_j g a b ρ = min (g a) (g b) := by
    unfold tc_j tc_m
    split
    · rfl
    · omega
  unfold tc_P
  rw [e]
  have kk : ∀ x, x < n → tc_kp (tc_j g a b) (min (g a) (g b)) x = true → x ≠ max (g a) (g b) := by
    intro x hx h z
    have h1 := (tc_kp_i.mp h).1
    rw [z] at h1
    have : tc_j g a b (max (g a) (g b)) = min (g a) (g b) := if_pos f.2
    omega
  refine tc_h_c (fun x hx => ?_) (fun x y hx hy k1 k2 => ?_)
  · constructor
    · intro h
      have h1 := kk x hx h
      have h2 := tc_kp_i.mp h
      have h3 := (tc_m_fix hv (show min (g a) (g b) < max (g a) (g b) by omega) hx h1).mp h2.1
      exact tc_k2_i.mpr ⟨h3, by omega, by omega⟩
    · intro h
      have h2 := tc_k2_i.mp h
      have h3 := (tc_m_fix hv (show min (g a) (g b) < max (g a) (g b) by omega) hx (by omega)).mpr h2.1
      exact tc_kp_i.mpr ⟨h3, by omega⟩
  · show tc_L n (tc_m g (min (g a) (g b)) (max (g a) (g b))) W x y = _
    rw [tc_L_m (kk x hx k1) (kk y hy k2), tc_op_n (tc_kp_i.mp k1).2 (tc_kp_i.mp k2).2]
theorem tc_j_c (g : Nat → Nat) (a b : Nat) : tc_j g a b = tc_j g b a := by
  unfold tc_j; rw [Nat.min_comm, Nat.max_comm]
/-- two trees that keep u and v apart -/
def tc_ap (n : Nat) (e md : Nat → Nat) (q : Nat) : Int := tc_Z n (fun S => if S.testBit q = true then tc_wy n e md (S ^^^ 2 ^ q) else 0)
theorem tc_xb (S q p : Nat) : (S ^^^ 2 ^ q).testBit p = (if p = q then !(S.testBit p) else S.testBit p) := by
  rw [Nat.testBit_xor, Nat.testBit_two_pow]
  by_cases h : p = q
  · subst h; simp
  · rw [if_neg h, decide_eq_false (fun z => h z.symm), Bool.xor_false]
theorem tc_ap_1 {n q : Nat} {e md : Nat → Nat} (hq : q < tc_t n) (h : md q = 1) : tc_ap n e md q = 0 := by
  refine tc_Z_0 (fun S _ => ?_)
  by_cases b : S.testBit q = true
  · rw [if_pos b]
    refine tc_p_0 hq ?_
    unfold tc_fc; rw [tc_xb, if_pos rfl, b, if_neg (by decide), if_pos h]
  · rw [if_neg b]
theorem tc_ap_n {n q : Nat} {e md : Nat → Nat} (hm : ∀ p, p < tc_t n → md p ≤ 2) (hq : q < tc_t n) (h : md q ≠ 1) {Fs : Nat → Bool} (hF : ∀ p, p < tc_t n → Fs p = (tc_mu md p || decide (p = q))) : tc_ap n e md q = tc_pe n e (tc_mu md) * tc_T n Fs (tc_wt e md) := by
  unfold tc_T tc_pe
  rw [← tc_Z_mul]
  refine tc_Z_c (fun S _ => ?_)
  rw [← tc_p_mul]
  have mq : tc_mu md q = false := decide_eq_false h
  by_cases b : S.testBit q = true
  · rw [if_pos b]
    refine tc_p_c (fun p hp => ?_)
    by_cases k : p = q
    · subst k
      unfold tc_fc tc_fa
      rw [tc_xb, if_pos rfl, b, hF p hp, mq, decide_eq_true rfl, if_neg (by decide), if_neg h, if_neg (by decide), if_pos rfl, if_pos (by decide)]; rfl
    · have r := tc_fc_f (e := e) (md := md) (S := S) (hm p hp)
      have f1 : tc_fc e md (S ^^^ 2 ^ q) p = tc_fc e md S p := by unfold tc_fc; rw [tc_xb, if_neg k]
      have f2 : tc_fa Fs (tc_wt e md) S p = tc_fa (tc_mu md) (tc_wt e md) S p := by
        unfold tc_fa; rw [hF p hp, decide_eq_false k, Bool.or_false]
      rw [f1, f2, r]
  · rw [if_neg b]
    refine (tc_p_0 hq ?_).symm
    have f : tc_fa Fs (tc_wt e md) S q = 0 := by
      unfold tc_fa; rw [if_neg b, hF q hq, decide_eq_true rfl, Bool.or_true, if_pos rfl]
    rw [f, Int.mul_zero]
theorem tc_ap_x {n a b : Nat} (h0 : 0 < n) (hn : n < 7) (ha : a < n) (hb : b < n) (hab : a ≠ b) {e md : Nat → Nat} (hm : ∀ p, p < tc_t n → md p ≤ 2) {g : Nat → Nat} {ω : Nat} (I : tc_IV n e (tc_mu md) g ω) :
    tc_ap n e md (tc_pr a b) = if ω = 0 ∨ g a = g b then 0 else (ω : Int) * tc_d n (tc_h (tc_k2 g (g a) (g b)) (tc_L n g (tc_W (tc_wt e md)))) := by
  have hq := tc_pr_1 n hn a ha b hb hab
  have key : ∀ c d : Nat, c < n → d < n → c < d → tc_pr c d = tc_pr a b → tc_j g c d = tc_j g a b → (g c = g d ↔ g a = g b) → tc_ap n e md (tc_pr a b) = if ω = 0 ∨ g a = g b then 0 else (ω : Int) * tc_P n (tc_j g a b) a (tc_W (tc_wt e md)) := by
    intro c d hc hd hcd hp hj hg
    by_cases m : md (tc_pr a b) = 1
    · rw [tc_ap_1 hq m]
      by_cases z : ω = 0 ∨ g a = g b
      · rw [if_pos z]
      · rw [if_neg z]
        rcases I.2 with ⟨h1, h2⟩ | ⟨h1, h2⟩
        · have := tc_T_dup hn hc hd hcd I.1 (h2 a ha) (by rw [hp]; exact decide_eq_true m) (fun y => z (Or.inr (hg.mp y))) (tc_wt e md)
          rw [← hj, this, Int.mul_zero]
        · exact absurd (Or.inl h1) z
    · have mq : tc_mu md (tc_pr a b) = false := decide_eq_false m
      rw [tc_ap_n hm hq m (Fs := fun p => tc_mu md p || decide (p = tc_pr a b)) (fun p _ => rfl)]
      rcases I.2 with ⟨h1, h2⟩ | ⟨h1, h2⟩
      · have h1' : (ω : Int) = tc_pe n e (tc_mu md) := h1
        rw [tc_T_st hn hc hd hcd I.1 (h2 a ha) (by rw [hp]; exact mq) (fun p _ => by rw [hp]) (tc_wt e md), ← h1', hj]
        by_cases z0 : ω = 0
        · rw [if_pos (Or.inl z0), z0]; exact Int.zero_mul _
        · by_cases z1 : g a = g b
          · rw [if_pos (hg.mpr z1), if_pos (Or.inr z1), Int.mul_zero]
          · rw [if_neg (fun y => z1 (hg.mp y)), if_neg (by intro y; rcases y with y | y; exact z0 y; exact z1 y)]
      · rw [if_pos (Or.inl h1)]
        have s := tc_T_sl hq (Fs := tc_mu md) (Fs' := fun p => tc_mu md p || decide (p = tc_pr a b)) (w := tc_wt e md) (w' := fun p => tc_wt e md p + (if p = tc_pr a b then 1 else 0)) (c := 1) mq (fun p _ => rfl) (fun p _ => rfl)
        rw [h2, h2] at s
        have s' : tc_T n (fun p => tc_mu md p || decide (p = tc_pr a b)) (tc_wt e md) = 0 := by omega
        rw [s', Int.mul_zero]
  have fin : tc_ap n e md (tc_pr a b) = if ω = 0 ∨ g a = g b then 0 else (ω : Int) * tc_P n (tc_j g a b) a (tc_W (tc_wt e md)) := by
    by_cases l : a < b
    · exact key a b ha hb l rfl rfl Iff.rfl
    · exact key b a hb ha (by omega) (tc_pr_0 a (by omega) b (by omega) hab).2.1 (tc_j_c g b a) ⟨fun y => y.symm, fun y => y.symm⟩
  rw [fin]
  by_cases z : ω = 0 ∨ g a = g b
  · rw [if_pos z, if_pos z]
  · rw [if_neg z, if_neg z, tc_P_j I.1 ha hb (fun y => z (Or.inr y)) (Or.inl rfl)]
/-- how many trees there are -/
def tc_tb (n x y : Nat) : Int := if x = 0 ∨ y = 0 then (if x = y then 1 else 0) else if x = y then (n : Int) - 1 else -1
theorem tc_tb_e : ∀ n, n < 7 → ∀ x, x < n → ∀ y, y < n → tc_h (tc_kp (fun x => x) 0) (tc_L n (fun x => x) (tc_W (fun _ => 1))) x y = tc_tb n x y := by decide +kernel
theorem tc_tb_d : ∀ n, n < 7 → tc_d n (tc_tb n) ≤ 1296 := by decide +kernel
theorem tc_tot {n : Nat} (h2 : 2 ≤ n) (hn : n < 7) : tc_Z n (fun _ => 1) ≤ 1296 := by
  have e : tc_Z n (fun _ => 1) = tc_T n (fun _ => false) (fun _ => 1) := by
    refine tc_Z_c (fun S _ => ?_)
    have : ∀ m : Nat, tc_p m (tc_fa (fun _ => false) (fun _ => 1) S) = 1 := by
      intro m
      induction m with
      | zero => rfl
      | succ m ih =>
        show tc_p m _ * tc_fa (fun _ => false) (fun _ => 1) S m = 1
        rw [ih]; unfold tc_fa; simp
    exact (this _).symm
  rw [e, tc_T_0 h2 hn (show 0 < n by omega)]
  have d : tc_P n (fun x => x) 0 (tc_W (fun _ => 1)) = tc_d n (tc_tb n) := tc_d_c (fun x y hx hy => tc_tb_e n hn x hx y hy)
  rw [d]
  exact tc_tb_d n hn
end
section
/-! trees in which v is a leaf -/
theorem tc_s_z {n : Nat} {f : Nat → Int} (h : ∀ i, i < n → 0 ≤ f i) (hs : tc_s n f = 0) : ∀ i, i < n → f i = 0 := by
  induction n with
  | zero => intro i hi; omega
  | succ n ih =>
    have nn : ∀ m, m ≤ n → 0 ≤ tc_s m f := by
      intro m
      induction m with
      | zero => intro _; exact Int.le_refl _
      | succ m im =>
        intro hm
        show 0 ≤ tc_s m f + f m
        have := im (by omega); have := h m (by omega); omega
    have hs' : tc_s n f + f n = 0 := hs
    have h1 := nn n (by omega)
    have h2 := h n (by omega)
    intro i hi
    by_cases e : i = n
    · subst e; omega
    · exact ih (fun j hj => h j (by omega)) (by omega) i (by omega)
theorem tc_s_u {n : Nat} {f : Nat → Int} (h : ∀ i, i < n → f i = 0 ∨ f i = 1) (hs : tc_s n f = 1) : ∃ a, a < n ∧ f a = 1 ∧ ∀ i, i < n → i ≠ a → f i = 0 := by
  induction n with
  | zero => exact absurd (show (0 : Int) = 1 from hs) (by decide)
  | succ n ih =>
    have hs' : tc_s n f + f n = 1 := hs
    rcases h n (by omega) with e | e
    · obtain ⟨a, ha, h1, h2⟩ := ih (fun i hi => h i (by omega)) (by omega)
      refine ⟨a, by omega, h1, fun i hi hn => ?_⟩
      by_cases k : i = n
      · rw [k]; exact e
      · exact h2 i (by omega) hn
    · refine ⟨n, by omega, e, fun i hi hn => ?_⟩
      exact tc_s_z (n := n) (fun j hj => by rcases h j (by omega) with q | q <;> omega) (by omega) i (by omega)
def tc_on (n v u S : Nat) : Bool := decide (S.testBit (tc_pr u v) = true ∧ ∀ x, x < n → x ≠ v → x ≠ u → S.testBit (tc_pr x v) = false)
theorem tc_on_i {n v u S : Nat} : tc_on n v u S = true ↔ (S.testBit (tc_pr u v) = true ∧ ∀ x, x < n → x ≠ v → x ≠ u → S.testBit (tc_pr x v) = false) := decide_eq_true_iff
def tc_hg (n : Nat) (e md : Nat → Nat) (v u : Nat) : Int := tc_Z n (fun S => if tc_on n v u S = true then tc_wy n e md S else 0)
theorem tc_bv_01 (S p : Nat) : tc_bv S p = 0 ∨ tc_bv S p = 1 := by
  unfold tc_bv; split
  · exact Or.inr rfl
  · exact Or.inl rfl
theorem tc_bv_1 {S p : Nat} : tc_bv S p = 1 ↔ S.testBit p = true := by
  unfold tc_bv
  by_cases h : S.testBit p = true
  · rw [if_pos h]; exact ⟨fun _ => h, fun _ => rfl⟩
  · rw [if_neg h]; exact ⟨fun z => absurd z (by decide), fun z => absurd z h⟩
theorem tc_bv_0 {S p : Nat} : tc_bv S p = 0 ↔ S.testBit p = false := by
  unfold tc_bv
  by_cases h : S.testBit p = true
  · rw [if_pos h, h]; exact ⟨fun z => absurd z (by decide), fun z => absurd z (by decide)⟩
  · rw [if_neg h]; exact ⟨fun _ => Bool.eq_false_iff.mpr h, fun _ => rfl⟩
theorem tc_lf (n v : Nat) (e md : Nat → Nat) : tc_Z n (fun S => if tc_dg n v S = 1 then tc_wy n e md S else 0) = tc_s n (fun u => if u = v then 0 else tc_hg n e md v u) := by
  have e1 : tc_s n (fun u => if u = v then 0 else tc_hg n e md v u) = tc_s n (fun u => tc_Z n (fun S => if u = v then 0 else if tc_on n v u S = true then tc_wy n e md S else 0)) := by
    refine tc_s_c (fun u _ => ?_)
    by_cases k : u = v
    · rw [if_pos k]
      exact (tc_Z_0 (fun S _ => if_pos k)).symm
    · rw [if_neg k]
      exact tc_Z_c (fun S _ => (if_neg k).symm)
  rw [e1, ← tc_Z_s]
  refine tc_Z_c (fun S _ => ?_)
  by_cases d : tc_dg n v S = 1
  · rw [if_pos d]
    obtain ⟨a, ha, h1, h2⟩ := tc_s_u (f := fun u => if u = v then 0 else tc_bv S (tc_pr u v)) (fun i _ => by
      by_cases k : i = v
      · rw [if_pos k]; exact Or.inl rfl
      · rw [if_neg k]; exact tc_bv_01 _ _) d
    have av : a ≠ v := by intro z; rw [if_pos z] at h1; exact absurd h1 (by decide)
    rw [if_neg av] at h1
    have oth : ∀ x, x < n → x ≠ v → x ≠ a → S.testBit (tc_pr x v) = false := by
      intro x hx hv ha
      have := h2 x hx ha
      rw [if_neg hv] at this
      exact tc_bv_0.mp this
    rw [tc_s_one ha]
    · rw [if_neg av, if_pos (tc_on_i.mpr ⟨tc_bv_1.mp h1, oth⟩)]
    · intro i hi hia
      by_cases k : i = v
      · rw [if_pos k]
      · rw [if_neg k, if_neg]
        intro z
        have := (tc_on_i.mp z).2 a ha av (Ne.symm hia)
        rw [tc_bv_1.mp h1] at this
        exact absurd this (by decide)
  · rw [if_neg d]
    refine (tc_s_0 (fun u hu => ?_)).symm
    by_cases k : u = v
    · rw [if_pos k]
    · rw [if_neg k, if_neg]
      intro z
      have z' := tc_on_i.mp z
      refine d ?_
      unfold tc_dg
      rw [tc_s_one hu]
      · rw [if_neg k]; exact tc_bv_1.mpr z'.1
      · intro i hi hiu
        by_cases k2 : i = v
        · rw [if_pos k2]
        · rw [if_neg k2]; exact tc_bv_0.mpr (z'.2 i hi k2 hiu)
/-- weights without those at v; must pairs not at v -/
def tc_wv (v : Nat) (w : Nat → Int) (p : Nat) : Int := if tc_pa p = v ∨ tc_pb p = v then 0 else w p
def tc_mv (v : Nat) (md : Nat → Nat) (p : Nat) : Bool := decide (md p = 1 ∧ tc_pa p ≠ v ∧ tc_pb p ≠ v)
theorem tc_at {n v p : Nat} (hn : n < 7) (hp : p < tc_t n) (h : tc_pa p = v ∨ tc_pb p = v) : ∃ x, x < n ∧ x ≠ v ∧ p = tc_pr x v := by
  have q := tc_t_p hn hp
  have s := tc_pr_0 (tc_pa p) (by omega) (tc_pb p) (by omega) (by omega)
  rcases h with h | h
  · refine ⟨tc_pb p, q.2.1, by omega, ?_⟩
    rw [← h, s.2.1, q.2.2]
  · refine ⟨tc_pa p, by omega, by omega, ?_⟩
    rw [← h, q.2.2]
theorem tc_at2 {n v x : Nat} (hn : n < 7) (hv : v < n) (hx : x < n) (h : x ≠ v) : tc_pa (tc_pr x v) = v ∨ tc_pb (tc_pr x v) = v := by
  have s := tc_pr_0 x (by omega) v (by omega) h
  omega
theorem tc_pr_inj {n v x y : Nat} (hn : n < 7) (hv : v < n) (hx : x < n) (hy : y < n) (h : x ≠ v) (h2 : y ≠ v) (he : tc_pr x v = tc_pr y v) : x = y := by
  have s := tc_pr_0 x (by omega) v (by omega) h
  have t := tc_pr_0 y (by omega) v (by omega) h2
  rw [he] at s
  omega
/-- v may hang on u -/
def tc_C (n : Nat) (md : Nat → Nat) (v u : Nat) : Prop := md (tc_pr u v) ≠ 2 ∧ ∀ x, x < n → x ≠ v → x ≠ u → md (tc_pr x v) ≠ 1
theorem tc_hg_0 {n v u : Nat} (hn : n < 7) (hv : v < n) (hu : u < n) (huv : u ≠ v) {e md : Nat → Nat} (h : ¬ tc_C n md v u) : tc_hg n e md v u = 0 := by
  have hq := tc_pr_1 n hn u hu v hv huv
  refine tc_Z_0 (fun S _ => ?_)
  by_cases o : tc_on n v u S = true
  · rw [if_pos o]
    have o' := tc_on_i.mp o
    by_cases m : md (tc_pr u v) = 2
    · refine tc_p_0 hq ?_
      unfold tc_fc; rw [if_pos o'.1, if_pos m]
    · refine Classical.byContradiction (fun z => h ⟨m, fun x hx h1 h2 m1 => z ?_⟩)
      refine tc_p_0 (tc_pr_1 n hn x hx v hv h1) ?_
      unfold tc_fc
      rw [o'.2 x hx h1 h2, if_neg (by decide), if_pos m1]
  · rw [if_neg o]
theorem tc_p_1 {n q : Nat} (hq : q < n) (c : Int) : tc_p n (fun p => if p = q then c else 1) = c := by
  have one : ∀ m : Nat, m ≤ q → tc_p m (fun p => if p = q then c else 1) = 1 := by
    intro m
    induction m with
    | zero => intro _; rfl
    | succ m ih =>
      intro hm
      show tc_p m _ * (if m = q then c else 1) = 1
      rw [ih (by omega), if_neg (by omega)]; rfl
  induction n with
  | zero => omega
  | succ n ih =>
    show tc_p n _ * (if n = q then c else 1) = c
    by_cases e : n = q
    · rw [if_pos e, one n (by omega), Int.one_mul]
    · rw [if_neg e, ih (by omega), Int.mul_one]
theorem tc_hg_1 {n v u : Nat} (hn : n < 7) (hv : v < n) (hu : u < n) (huv : u ≠ v) {e md : Nat → Nat} (hm : ∀ p, p < tc_t n → md p ≤ 2) (h : tc_C n md v u) {Fs : Nat → Bool} (hF : ∀ p, p < tc_t n → Fs p = (tc_mv v md p || decide (p = tc_pr u v))) :
    tc_hg n e md v u = (e (tc_pr u v) : Int) * (tc_pe n e (tc_mv v md) * tc_T n Fs (tc_wv v (tc_wt e md))) := by
  have hq := tc_pr_1 n hn u hu v hv huv
  have aq := tc_at2 hn hv hu huv
  have mq : tc_mv v md (tc_pr u v) = false := decide_eq_false (fun z => by omega)
  unfold tc_T tc_pe
  rw [← tc_Z_mul, ← tc_Z_mul, ← tc_p_1 hq (e (tc_pr u v) : Int)]
  refine tc_Z_c (fun S _ => ?_)
  rw [← tc_p_mul, ← tc_p_mul]
  by_cases o : tc_on n v u S = true
  · rw [if_pos o]
    have o' := tc_on_i.mp o
    refine tc_p_c (fun p hp => ?_)
    by_cases k : p = tc_pr u v
    · subst k
      unfold tc_fc tc_fa
      rw [if_pos o'.1, if_neg h.1, if_pos rfl, mq, if_neg (by decide), if_pos o'.1, hF _ hp, decide_eq_true rfl, Bool.or_true, if_pos rfl]; omega
    · rw [if_neg k]
      by_cases a : tc_pa p = v ∨ tc_pb p = v
      · obtain ⟨x, hx, hxv, rfl⟩ := tc_at hn hp a
        have hxu : x ≠ u := fun z => k (by rw [z])
        have b := o'.2 x hx hxv hxu
        have m0 : tc_mv v md (tc_pr x v) = false := decide_eq_false (fun z => by omega)
        unfold tc_fc tc_fa
        rw [b, if_neg (by decide), if_neg (h.2 x hx hxv hxu), m0, if_neg (by decide), if_neg (by decide), hF _ hp, m0, decide_eq_false k, if_neg (by decide)]; rfl
      · have m1 : tc_mv v md p = tc_mu md p := by
          unfold tc_mv tc_mu
          by_cases y : md p = 1
          · rw [decide_eq_true y, decide_eq_true ⟨y, fun z => a (Or.inl z), fun z => a (Or.inr z)⟩]
          · rw [decide_eq_false y, decide_eq_false (fun z => y z.1)]
        have w1 : tc_wv v (tc_wt e md) p = tc_wt e md p := if_neg a
        have f2 : tc_fa Fs (tc_wv v (tc_wt e md)) S p = tc_fa (tc_mu md) (tc_wt e md) S p := by
          unfold tc_fa; rw [hF p hp, decide_eq_false k, Bool.or_false, m1, w1]
        rw [f2, m1, tc_fc_f (hm p hp), Int.one_mul]
  · rw [if_neg o]
    have z0 : tc_p (tc_t n) (tc_fa Fs (tc_wv v (tc_wt e md)) S) = 0 := by
      by_cases b : S.testBit (tc_pr u v) = true
      · have ⟨x, hx, hxv, hxu, hb⟩ : ∃ x, x < n ∧ x ≠ v ∧ x ≠ u ∧ S.testBit (tc_pr x v) = true := by
          refine Classical.byContradiction (fun z => o (tc_on_i.mpr ⟨b, fun x hx h1 h2 => ?_⟩))
          cases hb : S.testBit (tc_pr x v) with
          | false => rfl
          | true => exact absurd ⟨x, hx, h1, h2, hb⟩ z
        have hp := tc_pr_1 n hn x hx v hv hxv
        have a := tc_at2 hn hv hx hxv
        have m0 : tc_mv v md (tc_pr x v) = false := decide_eq_false (fun z => by omega)
        refine tc_p_0 hp ?_
        unfold tc_fa tc_wv
        rw [if_pos hb, hF _ hp, m0, decide_eq_false (fun z => hxu (tc_pr_inj hn hv hx hu hxv huv z)), if_neg (by decide), if_pos a]
      · refine tc_p_0 hq ?_
        unfold tc_fa
        rw [if_neg b, hF _ hq, decide_eq_true rfl, Bool.or_true, if_pos rfl]
    rw [tc_p_mul, tc_p_mul, z0, Int.mul_zero, Int.mul_zero]
/-- the determinant without v -/
theorem tc_s_s2 (n m : Nat) (c : Nat → Int) (F : Nat → Nat → Nat → Int) : tc_s m (fun x => c x * tc_s2 n (F x)) = tc_s2 n (fun u v => tc_s m (fun x => c x * F x u v)) := by
  induction m with
  | zero =>
    show (0 : Int) = tc_s2 n (fun u v => 0)
    exact (tc_s_0 (fun u _ => tc_s_0 (fun v _ => rfl))).symm
  | succ m ih =>
    show tc_s m (fun x => c x * tc_s2 n (F x)) + c m * tc_s2 n (F m) = tc_s2 n (fun u v => tc_s m (fun x => c x * F x u v) + c m * F m u v)
    rw [ih, tc_s2_add, tc_s2_mul]
theorem tc_s2_anti {n : Nat} {F : Nat → Nat → Int} (h : ∀ u v, u < n → v < n → F u v = - F v u) : tc_s2 n F = 0 := by
  have e : tc_s2 n F = -1 * tc_s2 n F := by
    have e1 : tc_s2 n F = tc_s2 n (fun u v => F v u) := tc_s_comm n n F
    have e2 : tc_s2 n F = tc_s2 n (fun u v => -1 * F v u) := tc_s2_c (fun u v hu hv => by rw [h u v hu hv]; omega)
    rw [tc_s2_mul, ← e1] at e2
    exact e2
  omega
theorem tc_lf_det {n v u c0 : Nat} (hn : n < 7) (hv : v < n) (hu : u < n) (hc : c0 < n) (huv : u ≠ v) (hcv : c0 ≠ v) {Fs Fs' : Nat → Bool} {g : Nat → Nat} (V : tc_V n g) (iso : ∀ x, x < n → (g x = v ↔ x = v)) (hT : ∀ w, tc_T n Fs w = tc_P n g v (tc_W w)) (hF : Fs (tc_pr u v) = false) (hF' : ∀ p, p < tc_t n → Fs' p = (Fs p || decide (p = tc_pr u v)))
    {w : Nat → Int} (hw : ∀ x, x < n → x ≠ v → w (tc_pr x v) = 0) : tc_T n Fs' w = tc_d n (tc_h (tc_k2 g (g c0) v) (tc_L n g (tc_W w))) := by
  have gv : g v = v := (iso v hv).mpr rfl
  have gu : g u ≠ v := fun z => huv ((iso u hu).mp z)
  have gc : g c0 ≠ v := fun z => hcv ((iso c0 hc).mp z)
  have sym : ∀ a b, a < n → b < n → a ≠ b → tc_W w a b = tc_W w b a := fun a b ha hb hab => by
    unfold tc_W; rw [(tc_pr_0 a (by omega) b (by omega) hab).2.1]
  have wz : ∀ a b, a < n → b < n → a ≠ b → (a = v ∨ b = v) → tc_W w a b = 0 := by
    intro a b ha hb hab h
    rcases h with h | h
    · rw [sym a b ha hb hab, h]; exact hw b hb (by omega)
    · rw [h]; exact hw a ha (by omega)
  have e1 : tc_T n Fs' w = tc_d n (tc_h (tc_k2 g (g u) v) (tc_L n g (tc_W w))) := by
    by_cases l : u < v
    · rw [tc_T_st hn hu hv l V hT hF hF' w, gv, if_neg gu, tc_P_j V hu hv (by rw [gv]; exact gu) (Or.inr rfl), gv]
    · have pe := (tc_pr_0 u (by omega) v (by omega) huv).2.1
      rw [tc_T_st hn hv hu (by omega) V hT (by rw [pe]; exact hF) (by rw [pe]; exact hF') w, gv, if_neg (Ne.symm gu), tc_P_j V hv hu (by rw [gv]; exact Ne.symm gu) (Or.inl rfl), gv]
      refine tc_h_c (fun x _ => ?_) (fun _ _ _ _ _ _ => rfl)
      rw [tc_k2_i, tc_k2_i]; omega
  have e2 : ∀ a, a < n → g a ≠ v → tc_d n (tc_u (tc_h (tc_kp g v) (tc_L n g (tc_W w))) (g a)) = tc_d n (tc_h (tc_k2 g (g a) v) (tc_L n g (tc_W w))) := by
    intro a ha hga
    refine tc_h_m ?_ (fun x _ hx => ?_) (fun _ _ _ _ _ _ _ _ => rfl)
    · rw [tc_k2_i]; omega
    · rw [tc_k2_i, tc_kp_i]; omega
  rw [e1, ← e2 u hu gu, ← e2 c0 hc gc]
  have kg : ∀ a, a < n → a ≠ v → tc_kp g v (g a) = true := fun a ha hav => tc_kp_i.mpr ⟨(V a ha).2, fun z => hav ((iso a ha).mp z)⟩
  have kgv : ¬ tc_kp g v (g v) = true := fun z => (tc_kp_i.mp z).2 gv
  have gb : ∀ a, a < n → g a < n := fun a ha => by have := (V a ha).1; omega
  have cs : ∀ a, a < n → tc_s n (fun x => (if tc_kp g v x = true then 1 else 0) * tc_i (g a) x) = if a = v then 0 else 1 := by
    intro a ha
    have : tc_s n (fun x => (if tc_kp g v x = true then (1 : Int) else 0) * tc_i (g a) x) = tc_s n (fun x => tc_i x (g a) * (if tc_kp g v x = true then 1 else 0)) := tc_s_c (fun x _ => by rw [tc_i_c, Int.mul_comm])
    rw [this, tc_s_i (gb a ha) (fun x => if tc_kp g v x = true then (1 : Int) else 0)]
    by_cases k : a = v
    · rw [if_pos k, k, if_neg kgv]
    · rw [if_neg k, if_pos (kg a ha k)]
  have hk : ∀ y, ¬ tc_kp g v y = true → tc_s n (fun x => (if tc_kp g v x = true then (1 : Int) else 0) * tc_i y x) = 0 := by
    intro y hy
    refine tc_s_0 (fun x _ => ?_)
    by_cases k : tc_kp g v x = true
    · rw [tc_i_n (fun z => hy (by rw [z]; exact k)), Int.mul_zero]
    · rw [if_neg k, Int.zero_mul]
  refine tc_cof (gb u hu) (gb c0 hc) (fun x => if tc_kp g v x = true then 1 else 0) (if_pos (kg u hu huv)) (if_pos (kg c0 hc hcv)) _ (fun y hy => ?_) (fun y hy => ?_)
  · by_cases ky : tc_kp g v y = true
    · have s1 : tc_s n (fun x => (if tc_kp g v x = true then (1 : Int) else 0) * tc_h (tc_kp g v) (tc_L n g (tc_W w)) y x) = tc_s n (fun x => (if tc_kp g v x = true then (1 : Int) else 0) * tc_s2 n (fun a b => tc_W w a b * (tc_i (g a) y * (tc_i (g a) x - tc_i (g b) x)))) := by
        refine tc_s_c (fun x _ => ?_)
        by_cases k : tc_kp g v x = true
        · rw [tc_h_p ky k]; rfl
        · rw [if_neg k, Int.zero_mul, Int.zero_mul]
      rw [s1, tc_s_s2]
      refine tc_s_0 (fun a ha => tc_s_0 (fun b hb => ?_))
      have s2 : tc_s n (fun x => (if tc_kp g v x = true then (1 : Int) else 0) * (tc_W w a b * (tc_i (g a) y * (tc_i (g a) x - tc_i (g b) x)))) = (tc_W w a b * tc_i (g a) y) * ((if a = v then 0 else 1) - (if b = v then 0 else 1)) := by
        have s3 : tc_s n (fun x => (if tc_kp g v x = true then (1 : Int) else 0) * (tc_W w a b * (tc_i (g a) y * (tc_i (g a) x - tc_i (g b) x)))) = tc_s n (fun x => (tc_W w a b * tc_i (g a) y) * ((if tc_kp g v x = true then (1 : Int) else 0) * tc_i (g a) x + -1 * ((if tc_kp g v x = true then (1 : Int) else 0) * tc_i (g b) x))) := by
          refine tc_s_c (fun x _ => ?_)
          generalize (if tc_kp g v x = true then (1 : Int) else 0) = z
          grind
        rw [s3, tc_s_mul, tc_s_add, tc_s_mul, cs a ha, cs b hb]
        generalize (if a = v then (0 : Int) else 1) = z1
        generalize (if b = v then (0 : Int) else 1) = z2
        grind
      refine s2.trans ?_
      by_cases ab : a = b
      · rw [ab, Int.sub_self, Int.mul_zero]
      · by_cases k : a = v ∨ b = v
        · rw [wz a b ha hb ab k, Int.zero_mul, Int.zero_mul]
        · rw [if_neg (fun z => k (Or.inl z)), if_neg (fun z => k (Or.inr z)), Int.sub_self, Int.mul_zero]
    · have s1 : tc_s n (fun x => (if tc_kp g v x = true then (1 : Int) else 0) * tc_h (tc_kp g v) (tc_L n g (tc_W w)) y x) = tc_s n (fun x => (if tc_kp g v x = true then (1 : Int) else 0) * tc_i y x) := tc_s_c (fun x _ => by rw [tc_h_x ky])
      rw [s1, hk y ky]
  · by_cases ky : tc_kp g v y = true
    · have s1 : tc_s n (fun x => (if tc_kp g v x = true then (1 : Int) else 0) * tc_h (tc_kp g v) (tc_L n g (tc_W w)) x y) = tc_s n (fun x => (if tc_kp g v x = true then (1 : Int) else 0) * tc_s2 n (fun a b => tc_W w a b * (tc_i (g a) x * (tc_i (g a) y - tc_i (g b) y)))) := by
        refine tc_s_c (fun x _ => ?_)
        by_cases k : tc_kp g v x = true
        · rw [tc_h_p k ky]; rfl
        · rw [if_neg k, Int.zero_mul, Int.zero_mul]
      rw [s1, tc_s_s2]
      have s2 : ∀ a b, a < n → b < n → tc_s n (fun x => (if tc_kp g v x = true then (1 : Int) else 0) * (tc_W w a b * (tc_i (g a) x * (tc_i (g a) y - tc_i (g b) y)))) = tc_W w a b * (tc_i (g a) y - tc_i (g b) y) := by
        intro a b ha hb
        have s3 : tc_s n (fun x => (if tc_kp g v x = true then (1 : Int) else 0) * (tc_W w a b * (tc_i (g a) x * (tc_i (g a) y - tc_i (g b) y)))) = tc_s n (fun x => (tc_W w a b * (tc_i (g a) y - tc_i (g b) y)) * ((if tc_kp g v x = true then (1 : Int) else 0) * tc_i (g a) x)) := by
          refine tc_s_c (fun x _ => ?_)
          generalize (if tc_kp g v x = true then (1 : Int) else 0) = z
          grind
        rw [s3, tc_s_mul, cs a ha]
        by_cases ab : a = b
        · rw [ab, Int.sub_self, Int.mul_zero, Int.zero_mul]
        · by_cases k : a = v
          · rw [wz a b ha hb ab (Or.inl k), Int.zero_mul, Int.zero_mul]
          · rw [if_neg k, Int.mul_one]
      rw [tc_s2_c s2]
      refine tc_s2_anti (fun a b ha hb => ?_)
      by_cases ab : a = b
      · rw [ab, Int.sub_self, Int.mul_zero]; rfl
      · rw [sym b a hb ha (Ne.symm ab)]
        grind
    · have s1 : tc_s n (fun x => (if tc_kp g v x = true then (1 : Int) else 0) * tc_h (tc_kp g v) (tc_L n g (tc_W w)) x y) = tc_s n (fun x => (if tc_kp g v x = true then (1 : Int) else 0) * tc_i y x) := tc_s_c (fun x _ => by rw [tc_h_y ky, tc_i_c])
      rw [s1, hk y ky]
/-- the diagonal without v -/
theorem tc_L_drop {n v : Nat} (hn : n < 7) (hv : v < n) {g : Nat → Nat} (iso : ∀ x, x < n → (g x = v ↔ x = v)) {w : Nat → Int} {x y : Nat} (hx : x ≠ v) (hy : y ≠ v) : tc_L n g (tc_W w) x y + tc_i x y * tc_L n g (tc_W w) x v = tc_L n g (tc_W (tc_wv v w)) x y := by
  have gv : g v = v := (iso v hv).mpr rfl
  unfold tc_L
  rw [← tc_s2_mul, ← tc_s2_add]
  refine tc_s2_c (fun a b ha hb => ?_)
  by_cases ab : a = b
  · rw [ab, Int.sub_self, Int.sub_self]; omega
  · by_cases k1 : a = v
    · rw [k1, gv, tc_i_n (Ne.symm hx)]; omega
    · have ga : g a ≠ v := fun z => k1 ((iso a ha).mp z)
      rw [tc_i_n ga]
      by_cases k2 : b = v
      · have wz : tc_W (tc_wv v w) a b = 0 := by
          unfold tc_W tc_wv
          rw [k2, if_pos (tc_at2 hn hv ha k1)]
        rw [wz, k2, gv, tc_i_s, tc_i_n (Ne.symm hy)]
        by_cases k3 : g a = x
        · rw [k3, tc_i_s]; grind
        · rw [tc_i_n k3]; omega
      · have gb : g b ≠ v := fun z => k2 ((iso b hb).mp z)
        have we : tc_W (tc_wv v w) a b = tc_W w a b := by
          unfold tc_W tc_wv
          have s := tc_pr_0 a (by omega) b (by omega) ab
          rw [if_neg (by omega)]
        rw [we, tc_i_n gb]; omega
/-- what X finds for a leaf -/
theorem tc_hg_x {n v u c0 : Nat} (hn : n < 7) (hv : v < n) (hu : u < n) (hc : c0 < n) (huv : u ≠ v) (hcv : c0 ≠ v) {e md : Nat → Nat} (hm : ∀ p, p < tc_t n → md p ≤ 2) (h : tc_C n md v u) {g : Nat → Nat} {ω : Nat} (I : tc_IV n e (tc_mv v md) g ω) (iso : ∀ x, x < n → (g x = v ↔ x = v)) :
    tc_hg n e md v u = if ω = 0 then 0 else (ω : Int) * tc_d n (tc_h (tc_k2 g (g c0) v) (tc_L n g (tc_W (tc_wv v (tc_wt e md))))) * (e (tc_pr u v) : Int) := by
  have hq := tc_pr_1 n hn u hu v hv huv
  have aq := tc_at2 hn hv hu huv
  have mq : tc_mv v md (tc_pr u v) = false := decide_eq_false (fun z => by omega)
  rw [tc_hg_1 hn hv hu huv hm h (Fs := fun p => tc_mv v md p || decide (p = tc_pr u v)) (fun p _ => rfl)]
  rcases I.2 with ⟨h1, h2⟩ | ⟨h1, h2⟩
  · have h1' : (ω : Int) = tc_pe n e (tc_mv v md) := h1
    rw [tc_lf_det hn hv hu hc huv hcv I.1 iso (h2 v hv) mq (fun p _ => rfl) (w := tc_wv v (tc_wt e md)) (fun x hx hxv => if_pos (tc_at2 hn hv hx hxv)), ← h1']
    by_cases z : ω = 0
    · rw [if_pos z, z]; simp
    · rw [if_neg z, Int.mul_comm]
  · rw [if_pos h1]
    have s := tc_T_sl hq (Fs := tc_mv v md) (Fs' := fun p => tc_mv v md p || decide (p = tc_pr u v)) (w := tc_wv v (tc_wt e md)) (w' := fun p => tc_wv v (tc_wt e md) p + (if p = tc_pr u v then 1 else 0)) (c := 1) mq (fun p _ => rfl) (fun p _ => rfl)
    rw [h2, h2] at s
    have s' : tc_T n (fun p => tc_mv v md p || decide (p = tc_pr u v)) (tc_wv v (tc_wt e md)) = 0 := by omega
    rw [s', Int.mul_zero, Int.mul_zero]
/-- how great the entries are -/
theorem tc_L_b {n : Nat} (hn : n < 7) {g : Nat → Nat} {W : Nat → Nat → Int} (h : ∀ u v, u < n → v < n → u ≠ v → (W u v).natAbs ≤ 3) (x y : Nat) : (tc_L n g W x y).natAbs ≤ 90 := by
  cases n with
  | zero => exact Nat.zero_le _
  | succ m =>
    have q : (tc_L (m + 1) g W x y).natAbs ≤ (m + 1) * (m * 3) := by
      unfold tc_L tc_s2
      refine tc_s_abs (fun u hu => ?_)
      rw [tc_s_k hu]
      dsimp only
      rw [Int.sub_self, Int.mul_zero, Int.mul_zero, Int.zero_add]
      refine tc_s_abs (fun v hv => ?_)
      have b := h u (tc_k u v) hu (tc_k_b hv) (Ne.symm (tc_k_ne u v))
      rw [Int.natAbs_mul]
      have c : (tc_i (g u) x * (tc_i (g u) y - tc_i (g (tc_k u v)) y)).natAbs ≤ 1 := by
        unfold tc_i
        split <;> split <;> split <;> decide
      exact Nat.le_trans (Nat.mul_le_mul b c) (by omega)
    have r : m = 0 ∨ m = 1 ∨ m = 2 ∨ m = 3 ∨ m = 4 ∨ m = 5 := by omega
    rcases r with rfl | rfl | rfl | rfl | rfl | rfl <;> omega
end
section
/-! the reference: its list of trees -/
theorem tc_nor (a b : Nat) : nI a ||| nI b = nI (a ||| b) := by
  apply Int32.toBitVec_inj.1
  show BitVec.ofNat 32 a ||| BitVec.ofNat 32 b = BitVec.ofNat 32 (a ||| b)
  apply BitVec.eq_of_getLsbD_eq
  intro i hi
  simp [hi]
theorem tc_shr {S j : Nat} (hS : S < 2 ^ 31) (hj : j < 32) : nI S >>> (nI j &&& 31) = nI (S / 2 ^ j) := pk_shrN hS _ j (s_l j hj)
theorem tc_shl {j : Nat} (hj : j < 31) : (1 : Int32) <<< (nI j &&& 31) = nI (2 ^ j) := by
  have h : 1 * 2 ^ j < 2 ^ 32 := by
    rw [Nat.one_mul]; exact Nat.pow_lt_pow_right (by decide) (by omega)
  have q := pk_shlN (n := 1) (nI j &&& 31) j (s_l j (by omega)) h
  rw [Nat.one_mul] at q
  exact q
theorem tc_and1 {a : Nat} (h : a < 2 ^ 31) : nI a &&& 1 = nI (a % 2) := pk_andN (Nat.lt_trans h (by decide)) 1 (by decide)
theorem tc_bit {S j : Nat} (hS : S < 2 ^ 31) (hj : j < 32) : (nI S >>> (nI j &&& 31)) &&& 1 = if S.testBit j = true then 1 else 0 := by
  rw [tc_shr hS hj, tc_and1 (Nat.lt_of_le_of_lt (Nat.div_le_self _ _) hS), Nat.testBit_eq_decide_div_mod_eq]
  rcases Nat.mod_two_eq_zero_or_one (S / 2 ^ j) with h | h
  · rw [h]; rfl
  · rw [h]; rfl
theorem tc_bit1 {S j : Nat} (hS : S < 2 ^ 31) (hj : j < 32) : (nI S >>> (nI j &&& 31)) &&& 1 = 1 ↔ S.testBit j = true := by
  rw [tc_bit hS hj]
  by_cases h : S.testBit j = true
  · rw [if_pos h]; exact ⟨fun _ => h, fun _ => rfl⟩
  · rw [if_neg h]; exact ⟨fun z => absurd z (by decide), fun z => absurd z h⟩
theorem tc_bit2 {o u v : Nat} (ho : o < 2 ^ 31) (hu : u < 32) (hv : v < 32) : ((nI o >>> (nI u &&& 31)) ||| (nI o >>> (nI v &&& 31))) &&& 1 = 1 ↔ (o.testBit u || o.testBit v) = true := by
  rw [tc_shr ho hu, tc_shr ho hv, tc_nor, tc_and1 (Nat.or_lt_two_pow (Nat.lt_of_le_of_lt (Nat.div_le_self _ _) ho) (Nat.lt_of_le_of_lt (Nat.div_le_self _ _) ho))]
  have q := Nat.or_mod_two_eq_one (a := o / 2 ^ u) (b := o / 2 ^ v)
  rw [Nat.testBit_eq_decide_div_mod_eq, Nat.testBit_eq_decide_div_mod_eq, Bool.or_eq_true, decide_eq_true_iff, decide_eq_true_iff, ← q]
  rcases Nat.mod_two_eq_zero_or_one (o / 2 ^ u ||| o / 2 ^ v) with h | h
  · rw [h]; exact ⟨fun z => absurd z (by decide), fun z => absurd z (by decide)⟩
  · rw [h]; exact ⟨fun _ => rfl, fun _ => rfl⟩
theorem tc_tI : ∀ n, n < 7 → (nI n * (nI n - 1)) / 2 = nI (tc_t n) := by decide +kernel
theorem tc_t1 : ∀ v, v < 6 → tc_t v + v = tc_t (v + 1) := by decide +kernel
theorem tc_y_size4 {post : Int32 → Prop} {fn fl : Int32} {be bm sh : Nat → Int32} : ∀ (f x a : Nat), x ≤ f → x < 2 ^ 31 → post (nI (a + tc_pc f x)) → wY_size_4 post fn fl be bm sh (f + 1) (nI a) (nI x) := by
  intro f
  induction f with
  | zero =>
    intro x a hx _ h
    have : x = 0 := by omega
    subst this
    exact br_t nI_0 h
  | succ f ih =>
    intro x a hx hb h
    by_cases e : x = 0
    · subst e; exact br_t nI_0 h
    · have h' : post (nI (a + (if x = 0 then 0 else 1 + tc_pc f (x &&& (x - 1))))) := h
      rw [if_neg e] at h'
      have l := tc_and_p e
      refine br_f (nI_ne0 (by omega) hb) (nm_r (nI_1 a) (nm_r (e' := nI (x &&& (x - 1))) ?_ ?_))
      · obtain ⟨y, rfl⟩ : ∃ y, x = y + 1 := ⟨x - 1, by omega⟩
        rw [nI_pred, nx_and]; rfl
      · refine ih _ _ (by omega) (by omega) ?_
        rw [show a + 1 + tc_pc f (x &&& (x - 1)) = a + (1 + tc_pc f (x &&& (x - 1))) by omega]
        exact h'
theorem tc_y_size {post : Int32 → Prop} {fn fl : Int32} {be bm sh : Nat → Int32} {x : Nat} (hx : x < 2 ^ 31) (h : post (nI (tc_pc x x))) : wpY_size post (fn, fl, be, bm, sh) (nI x) := by
  refine ⟨x + 1, tc_y_size4 x x 0 (Nat.le_refl _) hx ?_⟩
  rw [Nat.zero_add]; exact h
theorem tc_st_b {S p v u o : Nat} (hv : v < 6) (hu : u < 6) (ho : o < 2 ^ 6) : tc_st S p v u o < 2 ^ 6 := by
  unfold tc_st
  split
  · exact Nat.or_lt_two_pow (Nat.or_lt_two_pow ho (Nat.pow_lt_pow_right (by decide) hu)) (Nat.pow_lt_pow_right (by decide) hv)
  · exact ho
theorem tc_y_more7 {post : Int32 → Prop} {fn fl : Int32} {be bm sh : Nat → Int32} {S p v o : Nat} (hS : S < 2 ^ 31) (hp : p + v < 32) (hv : v < 6) : ∀ (d u : Nat), u + d = v → tc_mo S p v o u < 2 ^ 6 → post (nI (tc_mo S p v o v)) → wY_more_7 post (nI S) (nI p) (nI v) fn fl be bm sh (d + 1) (nI (tc_mo S p v o u)) (nI u) := by
  intro d
  induction d with
  | zero =>
    intro u hu _ h
    have : u = v := by omega
    subst this
    exact br_t (nI_le (Nat.le_refl _) (by omega)) h
  | succ d ih =>
    intro u hu hb h
    have ob : tc_mo S p v o u < 2 ^ 31 := Nat.lt_trans hb (by decide)
    have sb := tc_st_b (S := S) (p := p) hv (show u < 6 by omega) hb
    have go := ih (u + 1) (by omega) sb h
    refine br_f (nI_ge (show u < v by omega) (by omega)) ?_
    rw [nI_add]
    have st : tc_mo S p v o (u + 1) = tc_st S p v u (tc_mo S p v o u) := rfl
    generalize tc_mo S p v o u = q at *
    by_cases b : S.testBit (p + u) = true
    · refine br_t ((tc_bit1 hS (by omega)).mpr b) ?_
      refine br_f (by decide) ?_
      by_cases c : (q.testBit u || q.testBit v) = true
      · refine br_t ((tc_bit2 ob (by omega) (by omega)).mpr c) (nm_r (e' := nI (tc_mo S p v o (u + 1))) ?_ (nm_r (nI_1 u) go))
        rw [tc_shl (by omega), tc_shl (by omega), tc_nor, tc_nor, st]
        unfold tc_st
        rw [b, c, if_pos (by decide)]
      · refine br_f (fun z => c ((tc_bit2 ob (by omega) (by omega)).mp z)) (nm_r (nI_1 u) ?_)
        have e : tc_mo S p v o (u + 1) = q := by
          rw [st]; unfold tc_st
          rw [b, if_neg (by rw [Bool.true_and]; exact c)]
        rw [e] at go; exact go
    · refine br_f (fun z => b ((tc_bit1 hS (by omega)).mp z)) ?_
      refine br_t rfl (nm_r (nI_1 u) ?_)
      have e : tc_mo S p v o (u + 1) = q := by
        rw [st]; unfold tc_st
        rw [Bool.eq_false_iff.mpr b, Bool.false_and, if_neg (by decide)]
      rw [e] at go; exact go
theorem tc_mo_b {S p v o : Nat} (hv : v < 6) (ho : o < 2 ^ 6) : ∀ u, u ≤ v → tc_mo S p v o u < 2 ^ 6 := by
  intro u
  induction u with
  | zero => intro _; exact ho
  | succ u ih => intro h; exact tc_st_b hv (by omega) (ih (by omega))
theorem tc_y_more {post : Int32 → Prop} {fn fl : Int32} {be bm sh : Nat → Int32} {S p v o : Nat} (hS : S < 2 ^ 31) (hp : p + v < 32) (hv : v < 6) (ho : o < 2 ^ 6) (h : post (nI (tc_mo S p v o v))) : wpY_more post (fn, fl, be, bm, sh) (nI S) (nI p) (nI v) (nI o) :=
  ⟨v + 1, tc_y_more7 hS hp hv v 0 (by omega) ho h⟩
theorem tc_ps_b {S o : Nat} (ho : o < 2 ^ 6) : ∀ j, j < 6 → tc_ps S o j < 2 ^ 6 := by
  intro j
  induction j with
  | zero => intro _; exact ho
  | succ j ih => intro h; exact tc_mo_b h (ih (by omega)) (j + 1) (Nat.le_refl _)
theorem tc_cp_b {S n : Nat} (hn : n < 7) (h0 : 0 < n) : ∀ k, tc_cp S n k < 2 ^ 6 := by
  intro k
  induction k with
  | zero => show 1 < 2 ^ 6; decide
  | succ k ih => exact tc_ps_b ih (n - 1) (by omega)
theorem tc_y_con18 {post : Int32 → Prop} {J : Int32 → Int32 → Prop} {x3 fl : Int32} {be bm sh : Nat → Int32} {S n o : Nat} (hS : S < 2 ^ 31) (hn : n < 7) (h0 : 0 < n) (ho : o < 2 ^ 6) (h : J (nI (tc_ps S o (n - 1))) (x3 + 1)) : ∀ (d j : Nat), j + 1 + d = n → wY_connects_18 post J (nI S) x3 (nI n) fl be bm sh (d + 1) (nI (tc_ps S o j)) (nI (tc_t (j + 1))) (nI (j + 1)) := by
  intro d
  induction d with
  | zero =>
    intro j hj
    have e : j = n - 1 := by omega
    refine br_t (nI_le (by omega) (by omega)) (nm_e ?_)
    rw [e]; exact h
  | succ d ih =>
    intro j hj
    refine br_f (nI_ge (show j + 1 < n by omega) (by omega)) ?_
    have tb := tc_t_b (j + 1) (by omega)
    refine tc_y_more hS (by omega) (by omega) (tc_ps_b ho j (by omega)) ?_
    refine nm_r (e' := nI (tc_t (j + 1 + 1))) (by rw [nI_add, tc_t1 (j + 1) (by omega)]) (nm_r (nI_1 (j + 1)) ?_)
    exact ih (j + 1) (by omega)
theorem tc_p2 : ∀ n, n < 7 → ((1 : Int32) <<< (nI n &&& 31)) - 1 = nI (2 ^ n - 1) := by decide +kernel
theorem tc_y_con4 {post : Int32 → Prop} {fl : Int32} {be bm sh : Nat → Int32} {S n : Nat} (hS : S < 2 ^ 31) (hn : n < 7) (h0 : 0 < n) (h : post (if tc_co n S = true then 1 else 0)) : ∀ (d k : Nat), k + d = n → wY_connects_4 post (nI S) (nI n) fl be bm sh (d + 1) (nI (tc_cp S n k)) (nI k) := by
  intro d
  induction d with
  | zero =>
    intro k hk
    have e : k = n := by omega
    subst e
    refine br_t (nI_le (Nat.le_refl _) (by omega)) ?_
    rw [tc_p2 k hn]
    have b1 := tc_cp_b (S := S) hn h0 k
    have b2 : 2 ^ k - 1 < 2 ^ 31 := Nat.lt_of_le_of_lt (Nat.sub_le _ _) (Nat.pow_lt_pow_right (by decide) (by omega))
    by_cases c : tc_cp S k k = 2 ^ k - 1
    · refine br_t (by rw [c]) ?_
      have : tc_co k S = true := by unfold tc_co; rw [c]; exact Nat.beq_refl _
      rw [if_pos this] at h; exact h
    · refine br_f (fun z => c ((nI_eq (Nat.lt_trans b1 (by decide)) b2).mp z)) ?_
      have : ¬ tc_co k S = true := fun z => c (Nat.eq_of_beq_eq_true z)
      rw [if_neg this] at h; exact h
  | succ d ih =>
    intro k hk
    refine br_f (nI_ge (show k < n by omega) (by omega)) ⟨n, ?_⟩
    obtain ⟨m, hm⟩ : ∃ m, n = m + 1 := ⟨n - 1, by omega⟩
    have go := ih (k + 1) (by omega)
    have q := tc_y_con18 (post := post) (J := wY_connects_4 post (nI S) (nI n) fl be bm sh (d + 1)) (x3 := nI k) (fl := fl) (be := be) (bm := bm) (sh := sh) hS hn h0 (tc_cp_b (S := S) hn h0 k) (by rw [nI_1]; exact go) m 0 (by omega)
    rw [← hm] at q
    exact q
theorem tc_y_con {post : Int32 → Prop} {fl : Int32} {be bm sh : Nat → Int32} {S n : Nat} (hS : S < 2 ^ 31) (hn : n < 7) (h0 : 0 < n) (h : post (if tc_co n S = true then 1 else 0)) : wpY_connects post (nI n, fl, be, bm, sh) (nI S) :=
  ⟨n + 1, tc_y_con4 hS hn h0 h n 0 (by omega)⟩
/-- the list so far -/
def tc_lk (n x l : Nat) (ls : Nat → Nat) (sh : Nat → Int32) : Prop :=
  (∀ i, i < l → ls i < x ∧ sh i = nI (ls i)) ∧ ∀ F : Nat → Int, tc_s l (fun i => F (ls i)) = tc_s x (fun S => if tc_isT n S = true then F S else 0)
theorem tc_s_mono {f : Nat → Int} (h : ∀ i, 0 ≤ f i) : ∀ {a b : Nat}, a ≤ b → tc_s a f ≤ tc_s b f := by
  intro a b hab
  induction b with
  | zero => have : a = 0 := by omega
            subst this; exact Int.le_refl _
  | succ b ih =>
    by_cases e : a = b + 1
    · subst e; exact Int.le_refl _
    · have := ih (by omega)
      have := h b
      show tc_s a f ≤ tc_s b f + f b
      omega
theorem tc_s_ones (l : Nat) : tc_s l (fun _ => 1) = l := by
  induction l with
  | zero => rfl
  | succ l ih => show tc_s l (fun _ => 1) + 1 = _; rw [ih]; omega
theorem tc_lk_b {n x l : Nat} {ls : Nat → Nat} {sh : Nat → Int32} (h2 : 2 ≤ n) (hn : n < 7) (hx : x ≤ 2 ^ tc_t n) (h : tc_lk n x l ls sh) : l ≤ 1296 := by
  have q := h.2 (fun _ => 1)
  rw [tc_s_ones] at q
  have m := tc_s_mono (f := fun S => if tc_isT n S = true then 1 else 0) (fun i => by split <;> decide) hx
  have t := tc_tot h2 hn
  have t' : tc_s (2 ^ tc_t n) (fun S => if tc_isT n S = true then 1 else 0) ≤ 1296 := t
  omega
theorem tc_lk_n {n x l : Nat} {ls : Nat → Nat} {sh : Nat → Int32} (h : tc_lk n x l ls sh) (ht : ¬ tc_isT n x = true) : tc_lk n (x + 1) l ls sh := by
  refine ⟨fun i hi => ⟨by have := (h.1 i hi).1; omega, (h.1 i hi).2⟩, fun F => ?_⟩
  rw [h.2 F]
  show _ = tc_s x _ + (if tc_isT n x = true then F x else 0)
  rw [if_neg ht, Int.add_zero]
theorem tc_lk_y {n x l : Nat} {ls : Nat → Nat} {sh : Nat → Int32} (h : tc_lk n x l ls sh) (ht : tc_isT n x = true) : tc_lk n (x + 1) (l + 1) (fun i => if i = l then x else ls i) (upd sh l (nI x)) := by
  refine ⟨fun i hi => ?_, fun F => ?_⟩
  · show (if i = l then x else ls i) < x + 1 ∧ upd sh l (nI x) i = nI (if i = l then x else ls i)
    by_cases e : i = l
    · rw [if_pos e, e, pk_us]; exact ⟨by omega, rfl⟩
    · rw [if_neg e, pk_un e]
      have := h.1 i (by omega)
      exact ⟨by omega, this.2⟩
  · show tc_s l (fun i => F (if i = l then x else ls i)) + F (if l = l then x else ls l) = tc_s x _ + (if tc_isT n x = true then F x else 0)
    rw [if_pos ht, if_pos rfl, ← h.2 F]
    congr 1
    exact tc_s_c (fun i hi => by rw [if_neg (by omega)])
theorem tc_y_init54 {post : SY → Prop} {be bm : Nat → Int32} {n : Nat} (h2 : 2 ≤ n) (hn : n < 7) (h : ∀ l ls sh, tc_lk n (2 ^ tc_t n) l ls sh → post (nI n, nI l, be, bm, sh)) : ∀ (d x l : Nat) (ls : Nat → Nat) (sh : Nat → Int32), x + d = 2 ^ tc_t n → tc_lk n x l ls sh → wY_init_54 post (nI n) (d + 1) (nI x) (nI l) be bm sh := by
  have tb := tc_t_b n hn
  have pb : 2 ^ tc_t n ≤ 2 ^ 15 := Nat.pow_le_pow_right (by decide) (by omega)
  have e1 : (1 : Int32) <<< (((nI n * (nI n - 1)) / 2) &&& 31) = nI (2 ^ tc_t n) := by rw [tc_tI n hn, tc_shl (by omega)]
  intro d
  induction d with
  | zero =>
    intro x l ls sh hx hl
    have : x = 2 ^ tc_t n := by omega
    subst this
    refine ⟨by decide, ?_⟩
    rw [e1]
    exact br_t (nI_le (Nat.le_refl _) (by omega)) (h l ls sh hl)
  | succ d ih =>
    intro x l ls sh hx hl
    have lb := tc_lk_b h2 hn (by omega) hl
    refine ⟨by decide, ?_⟩
    rw [e1]
    refine br_f (nI_ge (show x < 2 ^ tc_t n by omega) (by omega)) ?_
    have pcb : tc_pc x x < 2 ^ 31 := by
      have : ∀ f y, tc_pc f y ≤ f := by
        intro f
        induction f with
        | zero => intro y; exact Nat.le_refl _
        | succ f ih2 =>
          intro y
          show (if y = 0 then 0 else 1 + tc_pc f (y &&& (y - 1))) ≤ f + 1
          have := ih2 (y &&& (y - 1))
          split <;> omega
      have := this x x
      omega
    refine tc_y_size (by omega) ?_
    have en : nI n - 1 = nI (n - 1) := by
      obtain ⟨m, rfl⟩ : ∃ m, n = m + 1 := ⟨n - 1, by omega⟩
      rw [nI_pred]; rfl
    rw [en]
    by_cases c1 : tc_pc x x = n - 1
    · refine br_t (by rw [c1]) ?_
      refine tc_y_con (by omega) hn (by omega) ?_
      by_cases c2 : tc_co n x = true
      · have t : tc_isT n x = true := by unfold tc_isT; rw [c1, c2, Nat.beq_refl]; rfl
        have nx := tc_lk_y hl t
        have lb2 := tc_lk_b h2 hn (by omega) nx
        rw [if_pos c2]
        refine br_f (by decide) (br_f (nI_ge (b := 1296) (by omega) (by decide)) ⟨vp_in_nI (by omega) (by decide), nm_r (e' := upd sh l (nI x)) (by rw [nI_clamp (by omega)]) (nm_r (nI_1 l) (nm_r (nI_1 x) ?_))⟩)
        exact ih (x + 1) (l + 1) _ _ (by omega) nx
      · have t : ¬ tc_isT n x = true := by
          unfold tc_isT; rw [Bool.eq_false_iff.mpr c2, Bool.and_false]; decide
        rw [if_neg c2]
        exact br_t rfl (nm_r (nI_1 x) (ih (x + 1) l ls sh (by omega) (tc_lk_n hl t)))
    · have t : ¬ tc_isT n x = true := by
        unfold tc_isT
        intro z
        exact c1 (Nat.eq_of_beq_eq_true (Bool.and_eq_true_iff.mp z).1)
      exact br_f (fun z => c1 ((nI_eq pcb (by omega)).mp z)) (nm_r (nI_1 x) (ih (x + 1) l ls sh (by omega) (tc_lk_n hl t)))
theorem tc_isT0 : ∀ n, n < 7 → 2 ≤ n → ¬ tc_isT n 0 = true := by decide +kernel
theorem tc_y_init {post : SY → Prop} {n : Nat} (h2 : 2 ≤ n) (hn : n < 7) (h : ∀ l ls sh, tc_lk n (2 ^ tc_t n) l ls sh → post (nI n, nI l, (fun _ => 0), (fun _ => 0), sh)) : ∃ n54 : Nat, wY_init_54 post (nI n) n54 1 0 (fun _ => 0) (fun _ => 0) (fun _ => 0) := by
  have p1 : 1 ≤ 2 ^ tc_t n := Nat.one_le_two_pow
  refine ⟨2 ^ tc_t n - 1 + 1, tc_y_init54 h2 hn h (2 ^ tc_t n - 1) 1 0 (fun _ => 0) (fun _ => 0) (by omega) ⟨fun i hi => by omega, fun F => ?_⟩⟩
  show (0 : Int) = 0 + (if tc_isT n 0 = true then F 0 else 0)
  rw [if_neg (tc_isT0 n hn h2)]; rfl
end
section
/-! the reference: its calls -/
def tc_YA (n l : Nat) (e md ls : Nat → Nat) (be bm sh : Nat → Int32) : Prop :=
  (2 ≤ n ∧ n < 7) ∧ (∀ p, p < tc_t n → be p = nI (e p) ∧ bm p = nI (md p) ∧ e p ≤ 3 ∧ md p ≤ 2) ∧ l ≤ 1296 ∧ (∀ i, i < l → ls i < 2 ^ tc_t n ∧ sh i = nI (ls i)) ∧ ∀ F : Nat → Int, tc_s l (fun i => F (ls i)) = tc_Z n F
theorem tc_oN (a : Nat) : nI a = Int32.ofInt (a : Int) := Int32.ofInt_eq_ofNat.symm
section
variable {n l : Nat} {e md ls : Nat → Nat} {be bm sh : Nat → Int32}
theorem tc_YA_S (A : tc_YA n l e md ls be bm sh) : 2 ^ tc_t n ≤ 2 ^ 15 := by
  have := tc_t_b n A.1.2
  exact Nat.pow_le_pow_right (by decide) (by omega)
theorem tc_y_ways71 {post : Int32 → Prop} {J : Int32 → Int32 → Prop} {S p : Nat} {x1 x2 z fn fl : Int32} (hp : p < tc_t n) (hn : n < 7) (he : be p = nI (e p)) (hz : z = if S.testBit p = true then 1 else 0) (h : J (x2 * (if S.testBit p = true then nI (e p) else 1)) (nI (p + 1))) : wY_ways_71 post J x1 x2 (nI p) z fn fl be bm sh := by
  have tb := tc_t_b n hn
  by_cases b : S.testBit p = true
  · rw [if_pos b] at hz h
    subst hz
    refine br_f (by decide) ⟨vp_in_nI (by omega) (by decide), nm_r (e' := x2 * nI (e p)) (by rw [nI_clamp (by omega), he]) (nm_r (nI_1 p) h)⟩
  · rw [if_neg b] at hz h
    subst hz
    rw [Int32.mul_one] at h
    exact br_t rfl (nm_r (nI_1 p) h)
theorem tc_y_ways4 (A : tc_YA n l e md ls be bm sh) {post : Int32 → Prop} {fl : Int32} {S : Nat} (hS : S < 2 ^ 31) (h : post (Int32.ofInt (tc_wy n e md S))) : ∀ (d p : Nat), p + d = tc_t n → wY_ways_4 post (nI S) (nI n) fl be bm sh (d + 1) (Int32.ofInt (tc_p p (tc_fc e md S))) (nI p) := by
  have tb := tc_t_b n A.1.2
  intro d
  induction d with
  | zero =>
    intro p hp
    have e1 : p = tc_t n := by omega
    subst e1
    refine ⟨by decide, ?_⟩
    rw [tc_tI n A.1.2]
    exact br_t (nI_le (Nat.le_refl _) (by omega)) h
  | succ d ih =>
    intro p hp
    have hp' : p < tc_t n := by omega
    obtain ⟨he, hm, he3, hm2⟩ := A.2.1 p hp'
    have go := ih (p + 1) (by omega)
    have pv : vp_in (nI p) 15 := vp_in_nI (by omega) (by decide)
    have cl : (nI p).toNatClampNeg = p := nI_clamp (by omega)
    refine ⟨by decide, ?_⟩
    rw [tc_tI n A.1.2]
    refine br_f (nI_ge hp' (by omega)) ?_
    by_cases b : S.testBit p = true
    · refine br_t ((tc_bit1 hS (by omega)).mpr b) ?_
      refine br_f (by decide) ⟨pv, ?_⟩
      rw [cl, hm]
      by_cases m2 : md p = 2
      · refine br_t (by rw [m2]; rfl) ?_
        have z : tc_wy n e md S = 0 := tc_p_0 hp' (by unfold tc_fc; rw [if_pos b, if_pos m2])
        rw [z] at h; exact h
      · refine br_f (fun y => m2 ((nI_eq (b := 2) (by omega) (by decide)).mp y)) ?_
        refine br_f (by decide) ?_
        refine tc_y_ways71 (S := S) hp' A.1.2 he (by rw [if_pos b]) ?_
        rw [if_pos b]
        have q : Int32.ofInt (tc_p p (tc_fc e md S)) * nI (e p) = Int32.ofInt (tc_p (p + 1) (tc_fc e md S)) := by
          show _ = Int32.ofInt (tc_p p (tc_fc e md S) * tc_fc e md S p)
          rw [Int32.ofInt_mul, tc_oN]
          congr 2
          unfold tc_fc; rw [if_pos b, if_neg m2]
        rw [q]; exact go
    · refine br_f (fun y => b ((tc_bit1 hS (by omega)).mp y)) ?_
      refine br_t rfl (br_t rfl ⟨pv, ?_⟩)
      rw [cl, hm]
      by_cases m1 : md p = 1
      · refine br_t (by rw [m1]; rfl) ?_
        have z : tc_wy n e md S = 0 := tc_p_0 hp' (by unfold tc_fc; rw [if_neg b, if_pos m1])
        rw [z] at h; exact h
      · refine br_f (fun y => m1 ((nI_eq (b := 1) (by omega) (by decide)).mp y)) ?_
        refine tc_y_ways71 (S := S) hp' A.1.2 he (by rw [if_neg b]) ?_
        rw [if_neg b]
        have q : Int32.ofInt (tc_p p (tc_fc e md S)) * 1 = Int32.ofInt (tc_p (p + 1) (tc_fc e md S)) := by
          show _ = Int32.ofInt (tc_p p (tc_fc e md S) * tc_fc e md S p)
          rw [Int32.mul_one]
          congr 1
          unfold tc_fc; rw [if_neg b, if_neg m1, Int.mul_one]
        rw [q]; exact go
theorem tc_y_ways (A : tc_YA n l e md ls be bm sh) {post : Int32 → Prop} {fl : Int32} {S : Nat} (hS : S < 2 ^ 31) (h : post (Int32.ofInt (tc_wy n e md S))) : wpY_ways post (nI n, fl, be, bm, sh) (nI S) :=
  ⟨tc_t n + 1, tc_y_ways4 A hS h (tc_t n) 0 (by omega)⟩
theorem tc_y_with4 (A : tc_YA n l e md ls be bm sh) {post : Int32 → Prop} {x1 : Int32} {c : Nat → Bool} (hc : ∀ S, S < 2 ^ tc_t n → (nI S &&& x1 = x1 ↔ c S = true)) (h : post (Int32.ofInt (tc_s l (fun i => if c (ls i) = true then tc_wy n e md (ls i) else 0)))) : ∀ (d i : Nat), i + d = l → wY_with_4 post x1 (nI n) (nI l) be bm sh (d + 1) (Int32.ofInt (tc_s i (fun i => if c (ls i) = true then tc_wy n e md (ls i) else 0))) (nI i) := by
  have l1 := A.2.2.1
  have sb := tc_YA_S A
  intro d
  induction d with
  | zero =>
    intro i hi
    have e1 : i = l := by omega
    subst e1
    exact br_t (nI_le (Nat.le_refl _) (by omega)) h
  | succ d ih =>
    intro i hi
    have hil : i < l := by omega
    obtain ⟨hS, hs⟩ := A.2.2.2.1 i hil
    have go := ih (i + 1) (by omega)
    have pv : vp_in (nI i) 1296 := vp_in_nI (by omega) (by decide)
    have cl : (nI i).toNatClampNeg = i := nI_clamp (by omega)
    refine br_f (nI_ge hil (by omega)) ⟨pv, ?_⟩
    rw [cl, hs]
    have st : tc_s (i + 1) (fun i => if c (ls i) = true then tc_wy n e md (ls i) else 0) = tc_s i (fun i => if c (ls i) = true then tc_wy n e md (ls i) else 0) + (if c (ls i) = true then tc_wy n e md (ls i) else 0) := rfl
    by_cases b : c (ls i) = true
    · refine br_t ((hc _ hS).mpr b) ⟨pv, ?_⟩
      refine tc_y_ways A (by omega) (nm_r (e' := Int32.ofInt (tc_s (i + 1) (fun i => if c (ls i) = true then tc_wy n e md (ls i) else 0))) ?_ (nm_r (nI_1 i) go))
      rw [st, if_pos b, Int32.ofInt_add]
    · refine br_f (fun y => b ((hc _ hS).mp y)) (nm_r (nI_1 i) ?_)
      rw [st, if_neg b, Int.add_zero] at go
      exact go
theorem tc_y_with (A : tc_YA n l e md ls be bm sh) {post : Int32 → Prop} {x1 : Int32} {c : Nat → Bool} (hc : ∀ S, S < 2 ^ tc_t n → (nI S &&& x1 = x1 ↔ c S = true)) (h : post (Int32.ofInt (tc_Z n (fun S => if c S = true then tc_wy n e md S else 0)))) : wpY_with post (nI n, nI l, be, bm, sh) x1 := by
  rw [← A.2.2.2.2] at h
  exact ⟨l + 1, tc_y_with4 A hc h l 0 (by omega)⟩
theorem tc_y_trees (A : tc_YA n l e md ls be bm sh) {post : Int32 → Prop} (h : post (Int32.ofInt (tc_Z n (tc_wy n e md)))) : wpY_trees post (nI n, nI l, be, bm, sh) := by
  refine tc_y_with A (c := fun _ => true) (fun S _ => ⟨fun _ => rfl, fun _ => Int32.and_zero⟩) ?_
  exact h
theorem tc_y_bit (A : tc_YA n l e md ls be bm sh) {q : Nat} (hq : q < tc_t n) : ∀ S, S < 2 ^ tc_t n → (nI S &&& ((1 : Int32) <<< (nI q &&& 31)) = ((1 : Int32) <<< (nI q &&& 31)) ↔ S.testBit q = true) := by
  intro S hS
  have tb := tc_t_b n A.1.2
  have sb := tc_YA_S A
  have qb : 2 ^ q < 2 ^ 31 := Nat.pow_lt_pow_right (by decide) (by omega)
  have ab : S &&& 2 ^ q < 2 ^ 31 := Nat.lt_of_le_of_lt Nat.and_le_right qb
  rw [tc_shl (by omega), nx_and, nI_eq ab qb]
  constructor
  · intro h
    have k : (S &&& 2 ^ q).testBit q = (2 ^ q).testBit q := by rw [h]
    rw [Nat.testBit_and, Nat.testBit_two_pow, decide_eq_true rfl, Bool.and_true] at k
    exact k
  · intro h
    apply Nat.eq_of_testBit_eq
    intro i
    rw [Nat.testBit_and, Nat.testBit_two_pow]
    by_cases k : q = i
    · subst k; rw [h, Bool.true_and]
    · rw [decide_eq_false k, Bool.and_false]
theorem tc_y_with1 (A : tc_YA n l e md ls be bm sh) {post : Int32 → Prop} {q : Nat} (hq : q < tc_t n) (h : post (Int32.ofInt (tc_us n e md q))) : wpY_with post (nI n, nI l, be, bm, sh) ((1 : Int32) <<< (nI q &&& 31)) :=
  tc_y_with A (c := fun S => S.testBit q) (tc_y_bit A hq) h
theorem tc_tI6 : ∀ u, u < 6 → (nI u * (nI u - 1)) / 2 = nI (u * (u - 1) / 2) := by decide +kernel
theorem tc_y_pair {post : Int32 → Prop} {fn fl : Int32} {u v : Nat} (hu : u < 6) (hv : v < 6) (h : post (nI (tc_pr u v))) : wpY_pair post (fn, fl, be, bm, sh) (nI u) (nI v) := by
  unfold tc_pr at h
  refine pk_le v u (fun k => ⟨by decide, ?_⟩) (fun k => ⟨by decide, ?_⟩)
  · rw [if_neg (by omega)] at h
    rw [tc_tI6 u hu, nI_add]; exact h
  · rw [if_pos (by omega)] at h
    rw [tc_tI6 v hv, nI_add]; exact h
theorem tc_y_deg5 (A : tc_YA n l e md ls be bm sh) {post : Int32 → Prop} {fl : Int32} {S v : Nat} (hS : S < 2 ^ 31) (hv : v < n) (h : post (Int32.ofInt (tc_dg n v S))) : ∀ (d u : Nat), u + d = n → wY_degree_5 post (nI S) (nI v) (nI n) fl be bm sh (d + 1) (Int32.ofInt (tc_s u (fun u => if u = v then 0 else tc_bv S (tc_pr u v)))) (nI u) := by
  have n7 := A.1.2
  intro d
  induction d with
  | zero =>
    intro u hu
    have e1 : u = n := by omega
    subst e1
    exact br_t (nI_le (Nat.le_refl _) (by omega)) h
  | succ d ih =>
    intro u hu
    have go := ih (u + 1) (by omega)
    have st : tc_s (u + 1) (fun u => if u = v then 0 else tc_bv S (tc_pr u v)) = tc_s u (fun u => if u = v then 0 else tc_bv S (tc_pr u v)) + (if u = v then 0 else tc_bv S (tc_pr u v)) := rfl
    refine br_f (nI_ge (show u < n by omega) (by omega)) ?_
    by_cases k : u = v
    · refine br_t (by rw [k]) (nm_r (nI_1 u) ?_)
      rw [st, if_pos k, Int.add_zero] at go; exact go
    · refine br_f (fun y => k ((nI_eq (by omega) (by omega)).mp y)) ?_
      have pb := (tc_pr_0 u (by omega) v (by omega) k).1
      refine tc_y_pair (by omega) (by omega) (nm_r (e' := Int32.ofInt (tc_s (u + 1) (fun u => if u = v then 0 else tc_bv S (tc_pr u v)))) ?_ (nm_r (nI_1 u) go))
      rw [st, if_neg k, Int32.ofInt_add, tc_bit hS (by omega)]
      congr 1
      unfold tc_bv
      split <;> rfl
theorem tc_y_deg (A : tc_YA n l e md ls be bm sh) {post : Int32 → Prop} {fl : Int32} {S v : Nat} (hS : S < 2 ^ 31) (hv : v < n) (h : post (Int32.ofInt (tc_dg n v S))) : wpY_degree post (nI n, fl, be, bm, sh) (nI S) (nI v) :=
  ⟨n + 1, tc_y_deg5 A hS hv h n 0 (by omega)⟩
theorem tc_dg_1 (hn : n < 7) {S v : Nat} : Int32.ofInt (tc_dg n v S) = 1 ↔ tc_dg n v S = 1 := by
  have b : (tc_dg n v S).natAbs ≤ n * 1 := by
    unfold tc_dg
    refine tc_s_abs (fun u _ => ?_)
    unfold tc_bv
    split
    · decide
    · split <;> decide
  constructor
  · intro h
    have q := Int32.toInt_ofInt_of_le (n := tc_dg n v S) (by omega) (by omega)
    rw [h] at q
    exact q.symm
  · intro h; rw [h]; rfl
theorem tc_y_leaf18 (A : tc_YA n l e md ls be bm sh) {post : Int32 → Prop} {v : Nat} (hv : v < n) (h : post (Int32.ofInt (tc_s l (fun i => if tc_dg n v (ls i) = 1 then tc_wy n e md (ls i) else 0)))) : ∀ (d i : Nat), i + d = l → wY_leaf_18 post (nI v) (nI n) (nI l) be bm sh (d + 1) (Int32.ofInt (tc_s i (fun i => if tc_dg n v (ls i) = 1 then tc_wy n e md (ls i) else 0))) (nI i) := by
  have l1 := A.2.2.1
  have sb := tc_YA_S A
  intro d
  induction d with
  | zero =>
    intro i hi
    have e1 : i = l := by omega
    subst e1
    exact br_t (nI_le (Nat.le_refl _) (by omega)) h
  | succ d ih =>
    intro i hi
    have hil : i < l := by omega
    obtain ⟨hS, hs⟩ := A.2.2.2.1 i hil
    have go := ih (i + 1) (by omega)
    have pv : vp_in (nI i) 1296 := vp_in_nI (by omega) (by decide)
    have cl : (nI i).toNatClampNeg = i := nI_clamp (by omega)
    refine br_f (nI_ge hil (by omega)) ⟨pv, ?_⟩
    rw [cl, hs]
    have st : tc_s (i + 1) (fun i => if tc_dg n v (ls i) = 1 then tc_wy n e md (ls i) else 0) = tc_s i (fun i => if tc_dg n v (ls i) = 1 then tc_wy n e md (ls i) else 0) + (if tc_dg n v (ls i) = 1 then tc_wy n e md (ls i) else 0) := rfl
    refine tc_y_deg A (by omega) hv ?_
    by_cases b : tc_dg n v (ls i) = 1
    · refine br_t ((tc_dg_1 A.1.2).mpr b) ⟨pv, ?_⟩
      refine tc_y_ways A (by omega) (nm_r (e' := Int32.ofInt (tc_s (i + 1) (fun i => if tc_dg n v (ls i) = 1 then tc_wy n e md (ls i) else 0))) ?_ (nm_r (nI_1 i) go))
      rw [st, if_pos b, Int32.ofInt_add]
    · refine br_f (fun y => b ((tc_dg_1 A.1.2).mp y)) (nm_r (nI_1 i) ?_)
      rw [st, if_neg b, Int.add_zero] at go
      exact go
theorem tc_y_leaf (A : tc_YA n l e md ls be bm sh) {post : Int32 → Prop} {v : Nat} (hv : v < n) (h : post (Int32.ofInt (tc_Z n (fun S => if tc_dg n v S = 1 then tc_wy n e md S else 0)))) : wpY_leaf post (nI n, nI l, be, bm, sh) (nI v) := by
  have n7 := A.1.2
  rw [← A.2.2.2.2] at h
  exact br_f (nI_pos (by omega)) (br_t (nI_lt hv (by omega)) ⟨l + 1, tc_y_leaf18 A hv h l 0 (by omega)⟩)
theorem tc_y_dgs18 (A : tc_YA n l e md ls be bm sh) {post : Int32 → Prop} {v : Nat} (hv : v < n) (h : post (Int32.ofInt (tc_s l (fun i => tc_wy n e md (ls i) * tc_dg n v (ls i))))) : ∀ (d i : Nat), i + d = l → wY_degrees_18 post (nI v) (nI n) (nI l) be bm sh (d + 1) (Int32.ofInt (tc_s i (fun i => tc_wy n e md (ls i) * tc_dg n v (ls i)))) (nI i) := by
  have l1 := A.2.2.1
  have sb := tc_YA_S A
  intro d
  induction d with
  | zero =>
    intro i hi
    have e1 : i = l := by omega
    subst e1
    exact br_t (nI_le (Nat.le_refl _) (by omega)) h
  | succ d ih =>
    intro i hi
    have hil : i < l := by omega
    obtain ⟨hS, hs⟩ := A.2.2.2.1 i hil
    have go := ih (i + 1) (by omega)
    have pv : vp_in (nI i) 1296 := vp_in_nI (by omega) (by decide)
    have cl : (nI i).toNatClampNeg = i := nI_clamp (by omega)
    refine br_f (nI_ge hil (by omega)) ⟨pv, ?_⟩
    rw [cl, hs]
    refine tc_y_ways A (by omega) ⟨pv, ?_⟩
    refine tc_y_deg A (by omega) hv (nm_r (e' := Int32.ofInt (tc_s (i + 1) (fun i => tc_wy n e md (ls i) * tc_dg n v (ls i)))) ?_ (nm_r (nI_1 i) go))
    show _ = Int32.ofInt (tc_s i (fun i => tc_wy n e md (ls i) * tc_dg n v (ls i)) + tc_wy n e md (ls i) * tc_dg n v (ls i))
    rw [Int32.ofInt_add, Int32.ofInt_mul]
theorem tc_y_dgs (A : tc_YA n l e md ls be bm sh) {post : Int32 → Prop} {v : Nat} (hv : v < n) (h : post (Int32.ofInt (tc_Z n (fun S => tc_wy n e md S * tc_dg n v S)))) : wpY_degrees post (nI n, nI l, be, bm, sh) (nI v) := by
  have n7 := A.1.2
  rw [← A.2.2.2.2] at h
  exact br_f (nI_pos (by omega)) (br_t (nI_lt hv (by omega)) ⟨l + 1, tc_y_dgs18 A hv h l 0 (by omega)⟩)
/-- a pair taken out of a set -/
theorem tc_y_out {S q : Nat} (hS : S < 2 ^ 15) (hq : q < 15) (hb : S.testBit q = true) : nI S &&& (((1 : Int32) <<< (nI q &&& 31)) ^^^ (-1)) = nI (S ^^^ 2 ^ q) := by
  rw [tc_shl (by omega)]
  have e1 : (-1 : Int32) = nI (2 ^ 32 - 1) := by decide
  rw [e1, nx_xor, nx_and]
  congr 1
  apply Nat.eq_of_testBit_eq
  intro i
  rw [Nat.testBit_and, Nat.testBit_xor, Nat.testBit_xor, Nat.testBit_two_pow, Nat.testBit_two_pow_sub_one]
  by_cases h : q = i
  · subst h
    rw [hb, decide_eq_true rfl, decide_eq_true (show q < 32 by omega)]; rfl
  · rw [decide_eq_false h]
    by_cases k : i < 32
    · rw [decide_eq_true k]; simp
    · have : S.testBit i = false := Nat.testBit_lt_two_pow (Nat.lt_of_lt_of_le hS (Nat.pow_le_pow_right (by decide) (by omega)))
      rw [this]; rfl
theorem tc_y_ap24 (A : tc_YA n l e md ls be bm sh) {post : Int32 → Prop} {q : Nat} (hq : q < tc_t n) (h : post (Int32.ofInt (tc_s l (fun i => if (ls i).testBit q = true then tc_wy n e md (ls i ^^^ 2 ^ q) else 0)))) : ∀ (d i : Nat), i + d = l → wY_apart_24 post (nI q) (nI n) (nI l) be bm sh (d + 1) (Int32.ofInt (tc_s i (fun i => if (ls i).testBit q = true then tc_wy n e md (ls i ^^^ 2 ^ q) else 0))) (nI i) := by
  have l1 := A.2.2.1
  have sb := tc_YA_S A
  have tb := tc_t_b n A.1.2
  intro d
  induction d with
  | zero =>
    intro i hi
    have e1 : i = l := by omega
    subst e1
    exact br_t (nI_le (Nat.le_refl _) (by omega)) h
  | succ d ih =>
    intro i hi
    have hil : i < l := by omega
    obtain ⟨hS, hs⟩ := A.2.2.2.1 i hil
    have go := ih (i + 1) (by omega)
    have pv : vp_in (nI i) 1296 := vp_in_nI (by omega) (by decide)
    have cl : (nI i).toNatClampNeg = i := nI_clamp (by omega)
    refine br_f (nI_ge hil (by omega)) ⟨pv, ?_⟩
    rw [cl, hs]
    have st : tc_s (i + 1) (fun i => if (ls i).testBit q = true then tc_wy n e md (ls i ^^^ 2 ^ q) else 0) = tc_s i (fun i => if (ls i).testBit q = true then tc_wy n e md (ls i ^^^ 2 ^ q) else 0) + (if (ls i).testBit q = true then tc_wy n e md (ls i ^^^ 2 ^ q) else 0) := rfl
    by_cases b : (ls i).testBit q = true
    · refine br_t ((tc_bit1 (by omega) (by omega)).mpr b) ⟨pv, ?_⟩
      rw [tc_y_out (by omega) (by omega) b]
      have xb : ls i ^^^ 2 ^ q < 2 ^ 15 := Nat.xor_lt_two_pow (by omega) (Nat.pow_lt_pow_right (by decide) (by omega))
      refine tc_y_ways A (by omega) (nm_r (e' := Int32.ofInt (tc_s (i + 1) (fun i => if (ls i).testBit q = true then tc_wy n e md (ls i ^^^ 2 ^ q) else 0))) ?_ (nm_r (nI_1 i) go))
      rw [st, if_pos b, Int32.ofInt_add]
    · refine br_f (fun y => b ((tc_bit1 (by omega) (by omega)).mp y)) (nm_r (nI_1 i) ?_)
      rw [st, if_neg b, Int.add_zero] at go
      exact go
theorem tc_y_bad {post : Int32 → Prop} {fl : Int32} {u v : Nat} (hn : n < 7) (hu : u < n) (hv : v < n) (huv : u ≠ v) (h : post 0) : wpY_bad post (nI n, fl, be, bm, sh) (nI u) (nI v) :=
  br_f (nI_pos (by omega)) (br_f (nI_ge hu (by omega)) (br_f (nI_pos (by omega)) (br_f (nI_ge hv (by omega)) (br_f (fun y => huv ((nI_eq (by omega) (by omega)).mp y)) h))))
theorem tc_y_ap (A : tc_YA n l e md ls be bm sh) {post : Int32 → Prop} {u v : Nat} (hu : u < n) (hv : v < n) (huv : u ≠ v) (h : post (Int32.ofInt (tc_ap n e md (tc_pr u v)))) : wpY_apart post (nI n, nI l, be, bm, sh) (nI u) (nI v) := by
  have n7 := A.1.2
  unfold wpY_apart
  dsimp only
  refine tc_y_bad n7 hu hv huv ?_
  refine br_t rfl ?_
  refine tc_y_pair (by omega) (by omega) ?_
  refine ⟨l + 1, ?_⟩
  unfold tc_ap at h
  rw [← A.2.2.2.2] at h
  exact tc_y_ap24 A (tc_pr_1 n n7 u hu v hv huv) h l 0 (by omega)
theorem tc_y_using (A : tc_YA n l e md ls be bm sh) {post : Int32 → Prop} {u v : Nat} (hu : u < n) (hv : v < n) (huv : u ≠ v) (h : post (Int32.ofInt (tc_us n e md (tc_pr u v)))) : wpY_using post (nI n, nI l, be, bm, sh) (nI u) (nI v) := by
  have n7 := A.1.2
  unfold wpY_using
  dsimp only
  refine tc_y_bad n7 hu hv huv ?_
  refine br_t rfl ?_
  refine tc_y_pair (by omega) (by omega) ?_
  exact tc_y_with1 A (tc_pr_1 n n7 u hu v hv huv) h
end
end
section
/-! the component: contraction -/
theorem tc_ix (u v : Nat) : nI u * 6 + nI v = nI (u * 6 + v) := by
  rw [show (6 : Int32) = nI 6 from rfl, pk_mul, nI_add]
theorem tc_ixin {u v : Nat} (hu : u < 6) (hv : v < 6) : vp_in (nI (u * 6 + v)) 36 := vp_in_nI (by omega) (by decide)
theorem tc_ixcl {u v : Nat} (hu : u < 6) (hv : v < 6) : (nI (u * 6 + v)).toNatClampNeg = u * 6 + v := nI_clamp (by omega)
def tc_XA (n : Nat) (e md : Nat → Nat) (ae am : Nat → Int32) : Prop := ∀ u v, u < n → v < n → u ≠ v → ae (u * 6 + v) = nI (e (tc_pr u v)) ∧ am (u * 6 + v) = nI (md (tc_pr u v))
def tc_G (n : Nat) (g : Nat → Nat) (ag : Nat → Int32) : Prop := ∀ y, y < n → ag y = nI (g y)
section
variable {post : SX → Prop} {fw fz : Int32} {ae am ag ak : Nat → Int32} {ad ap : Nat → Int64} {n : Nat} {g : Nat → Nat} {e md : Nat → Nat}
theorem tc_x_mg76 (hn : n < 7) (V : tc_V n g) {lo hi : Nat} (hh : hi < n) (K : ∀ ag', tc_G n (tc_m g lo hi) ag' → post (nI n, fw, fz, ae, am, ag', ad, ap, ak)) : ∀ (d x : Nat) (ag : Nat → Int32), x + d = n → (∀ y, y < n → ag y = nI (if y < x then tc_m g lo hi y else g y)) → wX_mergeGroups_76 post (nI lo) (nI hi) (nI n) fw fz (d + 1) (nI x) ae am ag ad ap ak := by
  intro d
  induction d with
  | zero =>
    intro x ag hx hg
    have e1 : x = n := by omega
    subst e1
    refine br_t (nI_le (Nat.le_refl _) (by omega)) (K ag (fun y hy => ?_))
    rw [hg y hy, if_pos hy]
  | succ d ih =>
    intro x ag hx hg
    have hxn : x < n := by omega
    have q := hg x hxn
    rw [if_neg (by omega)] at q
    have vx := (V x hxn).1
    refine br_f (nI_ge hxn (by omega)) ⟨vp_in_nI (by omega) (by decide), ?_⟩
    rw [nI_clamp (by omega), q]
    by_cases k : g x = hi
    · refine br_t (by rw [k]) ⟨vp_in_nI (by omega) (by decide), nm_e (nm_r (nI_1 x) (ih (x + 1) _ (by omega) (fun y hy => ?_)))⟩
      by_cases e1 : y = x
      · subst e1; rw [pk_us, if_pos (by omega)]; unfold tc_m; rw [if_pos k]
      · rw [pk_un e1, hg y hy]
        by_cases l : y < x
        · rw [if_pos l, if_pos (by omega)]
        · rw [if_neg l, if_neg (by omega)]
    · refine br_f (fun z => k ((nI_eq (by omega) (by omega)).mp z)) (nm_r (nI_1 x) (ih (x + 1) ag (by omega) (fun y hy => ?_)))
      rw [hg y hy]
      by_cases e1 : y = x
      · subst e1; rw [if_neg (by omega), if_pos (by omega)]; unfold tc_m; rw [if_neg k]
      · by_cases l : y < x
        · rw [if_pos l, if_pos (by omega)]
        · rw [if_neg l, if_neg (by omega)]
theorem tc_x_mg41 (hn : n < 7) (V : tc_V n g) {a b ω z : Nat} (ha : a < n) (hb : b < n) (hg : tc_G n g ag) (K : ∀ ag', tc_G n (tc_j g a b) ag' → post (nI n, nI (ω * z), fz, ae, am, ag', ad, ap, ak)) : wX_mergeGroups_41 post (nI (g a)) (nI (g b)) (nI z) (nI ω) (nI n) fw fz ae am ag ad ap ak := by
  have va := (V a ha).1
  have vb := (V b hb).1
  refine nm_r (pk_mul ω z) ?_
  have st : ∀ lo hi : Nat, ∀ y, y < n → ag y = nI (if y < 0 then tc_m g lo hi y else g y) := by
    intro lo hi y hy; rw [if_neg (by omega)]; exact hg y hy
  by_cases k : g b ≤ g a
  · have kk : nI (g b) ≤ nI (g a) := nI_le k (by omega)
    refine br_t kk (br_t kk ⟨n + 1, tc_x_mg76 hn V (by omega) (fun ag' h => K ag' ?_) n 0 ag (by omega) (st _ _)⟩)
    unfold tc_j; rw [Nat.min_eq_right k, Nat.max_eq_left k]; exact h
  · have kk : ¬ nI (g b) ≤ nI (g a) := nI_ge (by omega) (by omega)
    refine br_f kk (br_f kk ⟨n + 1, tc_x_mg76 hn V (by omega) (fun ag' h => K ag' ?_) n 0 ag (by omega) (st _ _)⟩)
    unfold tc_j; rw [Nat.min_eq_left (by omega), Nat.max_eq_right (by omega)]; exact h
theorem tc_x_mg (hn : n < 7) (V : tc_V n g) {a b ω : Nat} (ha : a < n) (hb : b < n) (hab : a ≠ b) (hg : tc_G n g ag) (X : tc_XA n e md ae am) (K : ∀ ag', tc_G n (tc_j g a b) ag' → post (nI n, nI (ω * (if g a = g b then 0 else e (tc_pr a b))), fz, ae, am, ag', ad, ap, ak)) : wpX_mergeGroups post (nI n, nI ω, fz, ae, am, ag, ad, ap, ak) (nI a) (nI b) := by
  have va := (V a ha).1
  have vb := (V b hb).1
  refine ⟨vp_in_nI (by omega) (by decide), nm_r (e' := nI (g a)) (by rw [nI_clamp (by omega), hg a ha]) ⟨vp_in_nI (by omega) (by decide), nm_r (e' := nI (g b)) (by rw [nI_clamp (by omega), hg b hb]) ?_⟩⟩
  by_cases k : g a = g b
  · rw [if_pos k] at K
    exact br_t (by rw [k]) (tc_x_mg41 (z := 0) hn V ha hb hg K)
  · rw [if_neg k] at K
    refine br_f (fun z => k ((nI_eq (by omega) (by omega)).mp z)) ?_
    rw [tc_ix, tc_ixcl (by omega) (by omega), (X a b ha hb hab).1]
    exact ⟨tc_ixin (by omega) (by omega), tc_x_mg41 hn V ha hb hg K⟩
/-- the pairs seen so far -/
def tc_sg (Q : Nat → Bool) (u v p : Nat) : Bool := Q p && decide (tc_pa p < u ∨ (tc_pa p = u ∧ tc_pb p < v))
theorem tc_sg_y {Q : Nat → Bool} (hn : n < 7) {u v : Nat} (huv : u < v) (hv : v < n) (hQ : Q (tc_pr u v) = true) : ∀ p, p < tc_t n → tc_sg Q u (v + 1) p = (tc_sg Q u v p || decide (p = tc_pr u v)) := by
  intro p hp
  have r := tc_pr_0 u (by omega) v (by omega) (by omega)
  have q := tc_t_p hn hp
  unfold tc_sg
  by_cases k : p = tc_pr u v
  · subst k
    rw [hQ, decide_eq_true rfl, Bool.or_true, decide_eq_true]; rfl
    omega
  · rw [decide_eq_false k, Bool.or_false]
    congr 1
    have : ¬ (tc_pa p = u ∧ tc_pb p = v) := by
      rintro ⟨h1, h2⟩
      have q3 := q.2.2
      rw [h1, h2] at q3
      exact k q3.symm
    rw [decide_eq_decide]; omega
theorem tc_sg_n {Q : Nat → Bool} (hn : n < 7) {u v : Nat} (huv : u < v) (hv : v < n) (hQ : Q (tc_pr u v) = false) : ∀ p, p < tc_t n → tc_sg Q u v p = tc_sg Q u (v + 1) p := by
  intro p hp
  have q := tc_t_p hn hp
  unfold tc_sg
  by_cases k : p = tc_pr u v
  · subst k; rw [hQ, Bool.false_and, Bool.false_and]
  · congr 1
    have : ¬ (tc_pa p = u ∧ tc_pb p = v) := by
      rintro ⟨h1, h2⟩
      have q3 := q.2.2
      rw [h1, h2] at q3
      exact k q3.symm
    rw [decide_eq_decide]; omega
theorem tc_sg_f {Q : Nat → Bool} (hn : n < 7) {u v : Nat} (huv : u < v) (hv : v < n) : tc_sg Q u v (tc_pr u v) = false := by
  have r := tc_pr_0 u (by omega) v (by omega) (by omega)
  unfold tc_sg
  rw [decide_eq_false (by omega), Bool.and_false]
theorem tc_sg_r {Q : Nat → Bool} (hn : n < 7) {u : Nat} : ∀ p, p < tc_t n → tc_sg Q u n p = tc_sg Q (u + 1) (u + 2) p := by
  intro p hp
  have q := tc_t_p hn hp
  unfold tc_sg
  congr 1
  rw [decide_eq_decide]; omega
theorem tc_sg_0 {Q : Nat → Bool} (hn : n < 7) : ∀ p, p < tc_t n → tc_sg Q 0 1 p = false := by
  intro p hp
  have q := tc_t_p hn hp
  unfold tc_sg
  rw [decide_eq_false (by omega), Bool.and_false]
theorem tc_sg_e {Q : Nat → Bool} (hn : n < 7) : ∀ p, p < tc_t n → tc_sg Q n (n + 1) p = Q p := by
  intro p hp
  have q := tc_t_p hn hp
  unfold tc_sg
  rw [decide_eq_true (by omega), Bool.and_true]
theorem tc_sg_r' {Q : Nat → Bool} (hn : n < 7) {u v : Nat} (hv : n ≤ v) : ∀ p, p < tc_t n → tc_sg Q u v p = tc_sg Q (u + 1) (u + 2) p := by
  intro p hp
  have q := tc_t_p hn hp
  unfold tc_sg
  congr 1
  rw [decide_eq_decide]; omega
theorem tc_x_con42 (h2 : 2 ≤ n) (hn : n < 7) (X : tc_XA n e md ae am) (hm : ∀ p, p < tc_t n → md p ≤ 2) {u : Nat} (hu : u < n) {J : Int32 → Int32 → Int32 → Int32 → (Nat → Int32) → (Nat → Int32) → (Nat → Int32) → (Nat → Int64) → (Nat → Int64) → (Nat → Int32) → Prop}
    (K : ∀ g ω ag, tc_IV n e (tc_sg (tc_mu md) (u + 1) (u + 2)) g ω → tc_G n g ag → J (nI (u + 1)) (nI n) (nI ω) fz ae am ag ad ap ak) :
    ∀ (d v : Nat) (g : Nat → Nat) (ω : Nat) (ag : Nat → Int32), u < v → v + d = n → tc_IV n e (tc_sg (tc_mu md) u v) g ω → tc_G n g ag → wX_contract_42 post J (nI u) (d + 1) (nI v) (nI n) (nI ω) fz ae am ag ad ap ak := by
  intro d
  induction d with
  | zero =>
    intro v g ω ag huv hv I hg
    exact br_t (nI_le (by omega) (by omega)) (nm_r (nI_1 u) (K g ω ag (tc_IV_c (tc_sg_r' hn (by omega)) I) hg))
  | succ d ih =>
    intro v g ω ag huv hv I hg
    have hvn : v < n := by omega
    have x := X u v hu hvn (by omega)
    have mb := hm _ (tc_pr_1 n hn u hu v hvn (by omega))
    refine br_f (nI_ge hvn (by omega)) ?_
    rw [tc_ix, tc_ixcl (by omega) (by omega), x.2]
    refine ⟨tc_ixin (by omega) (by omega), ?_⟩
    by_cases k : md (tc_pr u v) = 1
    · refine br_t (by rw [k]; rfl) ?_
      refine tc_x_mg hn I.1 hu hvn (by omega) hg X (fun ag' hg' => nm_r (nI_1 v) ?_)
      exact ih (v + 1) _ _ ag' (by omega) (by omega) (tc_IV_s (by omega) hn hu hvn huv I (tc_sg_f hn huv hvn) (tc_sg_y hn huv hvn (decide_eq_true k))) hg'
    · refine br_f (fun z => k ((nI_eq (b := 1) (by omega) (by decide)).mp z)) (nm_r (nI_1 v) ?_)
      exact ih (v + 1) g ω ag (by omega) (by omega) (tc_IV_c (tc_sg_n hn huv hvn (decide_eq_false k)) I) hg
theorem tc_x_con30 (h2 : 2 ≤ n) (hn : n < 7) (X : tc_XA n e md ae am) (hm : ∀ p, p < tc_t n → md p ≤ 2) (K : ∀ g ω ag, tc_IV n e (tc_mu md) g ω → tc_G n g ag → post (nI n, nI ω, fz, ae, am, ag, ad, ap, ak)) :
    ∀ (d u : Nat) (g : Nat → Nat) (ω : Nat) (ag : Nat → Int32), u + d = n → tc_IV n e (tc_sg (tc_mu md) u (u + 1)) g ω → tc_G n g ag → wX_contract_30 post (d + 1) (nI u) (nI n) (nI ω) fz ae am ag ad ap ak := by
  intro d
  induction d with
  | zero =>
    intro u g ω ag hu I hg
    have e1 : u = n := by omega
    subst e1
    exact br_t (nI_le (Nat.le_refl _) (by omega)) (K g ω ag (tc_IV_c (tc_sg_e hn) I) hg)
  | succ d ih =>
    intro u g ω ag hu I hg
    refine br_f (nI_ge (show u < n by omega) (by omega)) (nm_r (nI_1 u) ⟨d + 1, ?_⟩)
    exact tc_x_con42 h2 hn X hm (by omega) (fun g' ω' ag' I' hg' => ih (u + 1) g' ω' ag' (by omega) I' hg') d (u + 1) g ω ag (by omega) (by omega) I hg
theorem tc_x_con7 (h2 : 2 ≤ n) (hn : n < 7) (X : tc_XA n e md ae am) (hm : ∀ p, p < tc_t n → md p ≤ 2) (K : ∀ g ω ag, tc_IV n e (tc_mu md) g ω → tc_G n g ag → post (nI n, nI ω, fz, ae, am, ag, ad, ap, ak)) :
    ∀ (d x : Nat) (ag : Nat → Int32), x + d = n → (∀ y, y < x → ag y = nI y) → wX_contract_7 post (nI n) 1 fz (d + 1) (nI x) ae am ag ad ap ak := by
  intro d
  induction d with
  | zero =>
    intro x ag hx hg
    have e1 : x = n := by omega
    subst e1
    refine br_t (nI_le (Nat.le_refl _) (by omega)) ⟨x + 1, ?_⟩
    exact tc_x_con30 h2 hn X hm K x 0 (fun y => y) 1 ag (by omega) (tc_IV_0 h2 hn e (tc_sg_0 hn)) hg
  | succ d ih =>
    intro x ag hx hg
    refine br_f (nI_ge (show x < n by omega) (by omega)) ⟨vp_in_nI (by omega) (by decide), nm_r (e' := upd ag x (nI x)) (by rw [nI_clamp (by omega)]) (nm_r (nI_1 x) (ih (x + 1) _ (by omega) (fun y hy => ?_)))⟩
    by_cases e1 : y = x
    · subst e1; rw [pk_us]
    · rw [pk_un e1]; exact hg y (by omega)
theorem tc_x_con (h2 : 2 ≤ n) (hn : n < 7) (X : tc_XA n e md ae am) (hm : ∀ p, p < tc_t n → md p ≤ 2) (K : ∀ g ω ag, tc_IV n e (tc_mu md) g ω → tc_G n g ag → post (nI n, nI ω, fz, ae, am, ag, ad, ap, ak)) : wpX_contract post (nI n, fw, fz, ae, am, ag, ad, ap, ak) :=
  ⟨n + 1, tc_x_con7 h2 hn X hm K n 0 ag (by omega) (fun y hy => by omega)⟩
/-- the same without w -/
theorem tc_iso_j (V : tc_V n g) {w a b : Nat} (ha : a < n) (hb : b < n) (haw : a ≠ w) (hbw : b ≠ w) (iso : ∀ x, x < n → (g x = w ↔ x = w)) : ∀ x, x < n → (tc_j g a b x = w ↔ x = w) := by
  intro x hx
  have ga : g a ≠ w := fun z => haw ((iso a ha).mp z)
  have gb : g b ≠ w := fun z => hbw ((iso b hb).mp z)
  rw [← iso x hx]
  unfold tc_j tc_m
  by_cases k : g x = max (g a) (g b)
  · rw [if_pos k]; omega
  · rw [if_neg k]
theorem tc_mv_1 (hn : n < 7) {u v w : Nat} (hu : u < n) (hv : v < n) (huv : u ≠ v) (huw : u ≠ w) (hvw : v ≠ w) (k : md (tc_pr u v) = 1) : tc_mv w md (tc_pr u v) = true := by
  have r := tc_pr_0 u (by omega) v (by omega) huv
  exact decide_eq_true (by omega)
theorem tc_mv_0 (hn : n < 7) {u v w : Nat} (hu : u < n) (hv : v < n) (huv : u ≠ v) (h : u = w ∨ v = w ∨ md (tc_pr u v) ≠ 1) : tc_mv w md (tc_pr u v) = false := by
  have r := tc_pr_0 u (by omega) v (by omega) huv
  exact decide_eq_false (by omega)
theorem tc_x_cow42 (h2 : 2 ≤ n) (hn : n < 7) (X : tc_XA n e md ae am) (hm : ∀ p, p < tc_t n → md p ≤ 2) {w u : Nat} (hw : w < n) (hu : u < n) {J : Int32 → Int32 → Int32 → Int32 → (Nat → Int32) → (Nat → Int32) → (Nat → Int32) → (Nat → Int64) → (Nat → Int64) → (Nat → Int32) → Prop}
    (K : ∀ g ω ag, tc_IV n e (tc_sg (tc_mv w md) (u + 1) (u + 2)) g ω → (∀ x, x < n → (g x = w ↔ x = w)) → tc_G n g ag → J (nI (u + 1)) (nI n) (nI ω) fz ae am ag ad ap ak) :
    ∀ (d v : Nat) (g : Nat → Nat) (ω : Nat) (ag : Nat → Int32), u < v → v + d = n → tc_IV n e (tc_sg (tc_mv w md) u v) g ω → (∀ x, x < n → (g x = w ↔ x = w)) → tc_G n g ag → wX_contractWithout_42 post J (nI w) (nI u) (d + 1) (nI v) (nI n) (nI ω) fz ae am ag ad ap ak := by
  intro d
  induction d with
  | zero =>
    intro v g ω ag huv hv I iso hg
    exact br_t (nI_le (by omega) (by omega)) (nm_r (nI_1 u) (K g ω ag (tc_IV_c (tc_sg_r' hn (by omega)) I) iso hg))
  | succ d ih =>
    intro v g ω ag huv hv I iso hg
    have hvn : v < n := by omega
    have x := X u v hu hvn (by omega)
    have mb := hm _ (tc_pr_1 n hn u hu v hvn (by omega))
    refine br_f (nI_ge hvn (by omega)) ?_
    by_cases ku : u = w
    · refine br_t (by rw [ku]) (nm_r (nI_1 v) ?_)
      exact ih (v + 1) g ω ag (by omega) (by omega) (tc_IV_c (tc_sg_n hn huv hvn (tc_mv_0 hn hu hvn (by omega) (Or.inl ku))) I) iso hg
    refine br_f (fun z => ku ((nI_eq (by omega) (by omega)).mp z)) ?_
    by_cases kv : v = w
    · refine br_t (by rw [kv]) (nm_r (nI_1 v) ?_)
      exact ih (v + 1) g ω ag (by omega) (by omega) (tc_IV_c (tc_sg_n hn huv hvn (tc_mv_0 hn hu hvn (by omega) (Or.inr (Or.inl kv)))) I) iso hg
    refine br_f (fun z => kv ((nI_eq (by omega) (by omega)).mp z)) ?_
    rw [tc_ix, tc_ixcl (by omega) (by omega), x.2]
    refine ⟨tc_ixin (by omega) (by omega), ?_⟩
    by_cases k : md (tc_pr u v) = 1
    · refine br_t (by rw [k]; rfl) ?_
      refine tc_x_mg hn I.1 hu hvn (by omega) hg X (fun ag' hg' => nm_r (nI_1 v) ?_)
      exact ih (v + 1) _ _ ag' (by omega) (by omega) (tc_IV_s (by omega) hn hu hvn huv I (tc_sg_f hn huv hvn) (tc_sg_y hn huv hvn (tc_mv_1 hn hu hvn (by omega) ku kv k))) (tc_iso_j I.1 hu hvn ku kv iso) hg'
    · refine br_f (fun z => k ((nI_eq (b := 1) (by omega) (by decide)).mp z)) (nm_r (nI_1 v) ?_)
      exact ih (v + 1) g ω ag (by omega) (by omega) (tc_IV_c (tc_sg_n hn huv hvn (tc_mv_0 hn hu hvn (by omega) (Or.inr (Or.inr k)))) I) iso hg
theorem tc_x_cow30 (h2 : 2 ≤ n) (hn : n < 7) (X : tc_XA n e md ae am) (hm : ∀ p, p < tc_t n → md p ≤ 2) {w : Nat} (hw : w < n) (K : ∀ g ω ag, tc_IV n e (tc_mv w md) g ω → (∀ x, x < n → (g x = w ↔ x = w)) → tc_G n g ag → post (nI n, nI ω, fz, ae, am, ag, ad, ap, ak)) :
    ∀ (d u : Nat) (g : Nat → Nat) (ω : Nat) (ag : Nat → Int32), u + d = n → tc_IV n e (tc_sg (tc_mv w md) u (u + 1)) g ω → (∀ x, x < n → (g x = w ↔ x = w)) → tc_G n g ag → wX_contractWithout_30 post (nI w) (d + 1) (nI u) (nI n) (nI ω) fz ae am ag ad ap ak := by
  intro d
  induction d with
  | zero =>
    intro u g ω ag hu I iso hg
    have e1 : u = n := by omega
    subst e1
    exact br_t (nI_le (Nat.le_refl _) (by omega)) (K g ω ag (tc_IV_c (tc_sg_e hn) I) iso hg)
  | succ d ih =>
    intro u g ω ag hu I iso hg
    refine br_f (nI_ge (show u < n by omega) (by omega)) (nm_r (nI_1 u) ⟨d + 1, ?_⟩)
    exact tc_x_cow42 h2 hn X hm hw (by omega) (fun g' ω' ag' I' iso' hg' => ih (u + 1) g' ω' ag' (by omega) I' iso' hg') d (u + 1) g ω ag (by omega) (by omega) I iso hg
theorem tc_x_cow7 (h2 : 2 ≤ n) (hn : n < 7) (X : tc_XA n e md ae am) (hm : ∀ p, p < tc_t n → md p ≤ 2) {w : Nat} (hw : w < n) (K : ∀ g ω ag, tc_IV n e (tc_mv w md) g ω → (∀ x, x < n → (g x = w ↔ x = w)) → tc_G n g ag → post (nI n, nI ω, fz, ae, am, ag, ad, ap, ak)) :
    ∀ (d x : Nat) (ag : Nat → Int32), x + d = n → (∀ y, y < x → ag y = nI y) → wX_contractWithout_7 post (nI w) (nI n) 1 fz (d + 1) (nI x) ae am ag ad ap ak := by
  intro d
  induction d with
  | zero =>
    intro x ag hx hg
    have e1 : x = n := by omega
    subst e1
    refine br_t (nI_le (Nat.le_refl _) (by omega)) ⟨x + 1, ?_⟩
    exact tc_x_cow30 h2 hn X hm hw K x 0 (fun y => y) 1 ag (by omega) (tc_IV_0 h2 hn e (tc_sg_0 hn)) (fun _ _ => Iff.rfl) hg
  | succ d ih =>
    intro x ag hx hg
    refine br_f (nI_ge (show x < n by omega) (by omega)) ⟨vp_in_nI (by omega) (by decide), nm_r (e' := upd ag x (nI x)) (by rw [nI_clamp (by omega)]) (nm_r (nI_1 x) (ih (x + 1) _ (by omega) (fun y hy => ?_)))⟩
    by_cases e1 : y = x
    · subst e1; rw [pk_us]
    · rw [pk_un e1]; exact hg y (by omega)
theorem tc_x_cow (h2 : 2 ≤ n) (hn : n < 7) (X : tc_XA n e md ae am) (hm : ∀ p, p < tc_t n → md p ≤ 2) {w : Nat} (hw : w < n) (K : ∀ g ω ag, tc_IV n e (tc_mv w md) g ω → (∀ x, x < n → (g x = w ↔ x = w)) → tc_G n g ag → post (nI n, nI ω, fz, ae, am, ag, ad, ap, ak)) : wpX_contractWithout post (nI n, fw, fz, ae, am, ag, ad, ap, ak) (nI w) :=
  ⟨n + 1, tc_x_cow7 h2 hn X hm hw K n 0 ag (by omega) (fun y hy => by omega)⟩
end
end
section
/-! the component: the matrix and the part that is kept -/
theorem tc_lO (a : Nat) : lN a = Int64.ofInt (a : Int) := Int64.ofInt_eq_ofNat.symm
theorem tc_i6 {a b x y : Nat} (hb : b < 6) (hy : y < 6) : x * 6 + y = a * 6 + b ↔ x = a ∧ y = b := by omega
section
variable {post : SX → Prop} {fw fz : Int32} {ae am ag ak : Nat → Int32} {ad ap : Nat → Int64} {n : Nat} {g : Nat → Nat} {e md : Nat → Nat}
def tc_tm (g : Nat → Nat) (W : Nat → Nat → Int) (x y u v : Nat) : Int := W u v * (tc_i (g u) x * (tc_i (g u) y - tc_i (g v) y))
def tc_D (A : Nat → Nat → Int) (ad : Nat → Int64) : Prop := ∀ x y, x < 6 → y < 6 → ad (x * 6 + y) = Int64.ofInt (A x y)
theorem tc_D_same {A A' : Nat → Nat → Int} (h : tc_D A ad) (hA : ∀ x y, A' x y = A x y) : tc_D A' ad := fun x y hx hy => by rw [hA]; exact h x y hx hy
theorem tc_x_fm33 (hn : n < 7) (V : tc_V n g) (hg : tc_G n g ag) (X : tc_XA n e md ae am) (he : ∀ p, p < tc_t n → e p ≤ 3 ∧ md p ≤ 2) {u : Nat} (hu : u < n) {A0 : Nat → Nat → Int} {J : Int32 → (Nat → Int32) → (Nat → Int32) → (Nat → Int32) → (Nat → Int64) → (Nat → Int64) → (Nat → Int32) → Prop}
    (K : ∀ ad, tc_D (fun x y => A0 x y + tc_s n (tc_tm g (tc_W (tc_wt e md)) x y u)) ad → J (nI (u + 1)) ae am ag ad ap ak) :
    ∀ (d v : Nat) (ad : Nat → Int64), v + d = n → tc_D (fun x y => A0 x y + tc_s v (tc_tm g (tc_W (tc_wt e md)) x y u)) ad → wX_fillMatrix_33 post J (nI u) (nI n) fw fz (d + 1) (nI v) ae am ag ad ap ak := by
  intro d
  induction d with
  | zero =>
    intro v ad hv hD
    have e1 : v = n := by omega
    subst e1
    exact br_t (nI_le (Nat.le_refl _) (by omega)) (nm_r (nI_1 u) (K ad hD))
  | succ d ih =>
    intro v ad hv hD
    have hvn : v < n := by omega
    have vu := (V u hu).1
    have vv := (V v hvn).1
    have skip : (∀ x y, tc_tm g (tc_W (tc_wt e md)) x y u v = 0) → wX_fillMatrix_33 post J (nI u) (nI n) fw fz (d + 1) (nI (v + 1)) ae am ag ad ap ak := by
      intro z
      refine ih (v + 1) ad (by omega) (tc_D_same hD (fun x y => ?_))
      show A0 x y + (tc_s v (tc_tm g (tc_W (tc_wt e md)) x y u) + tc_tm g (tc_W (tc_wt e md)) x y u v) = _
      rw [z x y, Int.add_zero]
    refine br_f (nI_ge hvn (by omega)) ⟨vp_in_nI (by omega) (by decide), nm_r (e' := nI (g u)) (by rw [nI_clamp (by omega), hg u hu]) ⟨vp_in_nI (by omega) (by decide), nm_r (e' := nI (g v)) (by rw [nI_clamp (by omega), hg v hvn]) ?_⟩⟩
    by_cases k1 : u = v
    · refine br_t (by rw [k1]) (nm_r (nI_1 v) (skip (fun x y => ?_)))
      unfold tc_tm; rw [k1, Int.sub_self, Int.mul_zero, Int.mul_zero]
    refine br_f (fun z => k1 ((nI_eq (by omega) (by omega)).mp z)) ?_
    by_cases k2 : g u = g v
    · refine br_t (by rw [k2]) (nm_r (nI_1 v) (skip (fun x y => ?_)))
      unfold tc_tm; rw [k2, Int.sub_self, Int.mul_zero, Int.mul_zero]
    refine br_f (fun z => k2 ((nI_eq (by omega) (by omega)).mp z)) ?_
    have xa := X u v hu hvn k1
    have hp := tc_pr_1 n hn u hu v hvn k1
    have hb := he _ hp
    rw [tc_ix, tc_ix, tc_ix, tc_ixcl (show u < 6 by omega) (show v < 6 by omega), xa.2]
    refine ⟨tc_ixin (by omega) (by omega), ?_⟩
    by_cases k3 : md (tc_pr u v) = 0
    · refine br_t (by rw [k3]; rfl) ?_
      have gu6 : g u < 6 := by omega
      have gv6 : g v < 6 := by omega
      refine ⟨tc_ixin gu6 gv6, tc_ixin (by omega) (by omega), tc_ixin gu6 gv6, nm_e ⟨tc_ixin gu6 gu6, tc_ixin (by omega) (by omega), tc_ixin gu6 gu6, nm_e (nm_r (nI_1 v) ?_)⟩⟩
      rw [tc_ixcl gu6 gv6, tc_ixcl gu6 gu6, xa.1, nI_l (by omega), tc_lO]
      refine ih (v + 1) _ (by omega) (fun x y hx hy => ?_)
      show _ = Int64.ofInt (A0 x y + (tc_s v (tc_tm g (tc_W (tc_wt e md)) x y u) + tc_tm g (tc_W (tc_wt e md)) x y u v))
      have hd : ad (x * 6 + y) = Int64.ofInt (A0 x y + tc_s v (tc_tm g (tc_W (tc_wt e md)) x y u)) := hD x y hx hy
      have we : tc_W (tc_wt e md) u v = (e (tc_pr u v) : Int) := if_pos k3
      have n1 : ¬ (g u * 6 + g u = g u * 6 + g v) := by omega
      by_cases c1 : x = g u
      · by_cases c2 : y = g u
        · have tv : tc_tm g (tc_W (tc_wt e md)) x y u v = (e (tc_pr u v) : Int) := by
            unfold tc_tm; rw [we, c1, c2, tc_i_s, tc_i_n (fun z => k2 z.symm)]; omega
          rw [tv]
          rw [c1, c2] at hd ⊢
          rw [pk_uLs, pk_uLn n1, hd, ← Int.add_assoc, Int64.ofInt_add _ (e (tc_pr u v) : Int)]
        · rw [pk_uLn (by omega)]
          by_cases c3 : y = g v
          · have tv : tc_tm g (tc_W (tc_wt e md)) x y u v = - (e (tc_pr u v) : Int) := by
              unfold tc_tm; rw [we, c1, c3, tc_i_s, tc_i_s, tc_i_n k2]; omega
            rw [tv]
            rw [c1, c3] at hd ⊢
            rw [pk_uLs, hd, ← Int.add_assoc, ← Int.sub_eq_add_neg, Int64.ofInt_sub _ (e (tc_pr u v) : Int)]
          · have tv : tc_tm g (tc_W (tc_wt e md)) x y u v = 0 := by
              unfold tc_tm; rw [tc_i_n (x := g u) (y := y) (fun z => c2 z.symm), tc_i_n (x := g v) (y := y) (fun z => c3 z.symm)]; omega
            rw [tv, Int.add_zero, pk_uLn (by omega)]; exact hd
      · have tv : tc_tm g (tc_W (tc_wt e md)) x y u v = 0 := by
          unfold tc_tm; rw [tc_i_n (x := g u) (y := x) (fun z => c1 z.symm)]; omega
        rw [tv, Int.add_zero, pk_uLn (by omega), pk_uLn (by omega)]; exact hd
    · refine br_f (fun z => k3 ((nI_eq (b := 0) (by omega) (by decide)).mp z)) (nm_r (nI_1 v) (skip (fun x y => ?_)))
      unfold tc_tm
      have we : tc_W (tc_wt e md) u v = 0 := if_neg k3
      rw [we, Int.zero_mul]
theorem tc_x_fm23 (hn : n < 7) (V : tc_V n g) (hg : tc_G n g ag) (X : tc_XA n e md ae am) (he : ∀ p, p < tc_t n → e p ≤ 3 ∧ md p ≤ 2) (K : ∀ ad, tc_D (tc_L n g (tc_W (tc_wt e md))) ad → post (nI n, fw, fz, ae, am, ag, ad, ap, ak)) :
    ∀ (d u : Nat) (ad : Nat → Int64), u + d = n → tc_D (fun x y => tc_s u (fun u => tc_s n (tc_tm g (tc_W (tc_wt e md)) x y u))) ad → wX_fillMatrix_23 post (nI n) fw fz (d + 1) (nI u) ae am ag ad ap ak := by
  intro d
  induction d with
  | zero =>
    intro u ad hu hD
    have e1 : u = n := by omega
    subst e1
    exact br_t (nI_le (Nat.le_refl _) (by omega)) (K ad hD)
  | succ d ih =>
    intro u ad hu hD
    refine br_f (nI_ge (show u < n by omega) (by omega)) ⟨n + 1, ?_⟩
    exact tc_x_fm33 hn V hg X he (show u < n by omega) (A0 := fun x y => tc_s u (fun u => tc_s n (tc_tm g (tc_W (tc_wt e md)) x y u))) (fun ad' h => ih (u + 1) ad' (by omega) h) n 0 ad (by omega) (tc_D_same hD (fun x y => Int.add_zero _))
theorem tc_x_fm2 (hn : n < 7) (V : tc_V n g) (hg : tc_G n g ag) (X : tc_XA n e md ae am) (he : ∀ p, p < tc_t n → e p ≤ 3 ∧ md p ≤ 2) (K : ∀ ad, tc_D (tc_L n g (tc_W (tc_wt e md))) ad → post (nI n, fw, fz, ae, am, ag, ad, ap, ak)) :
    ∀ (d x : Nat) (ad : Nat → Int64), x + d = 36 → (∀ y, y < x → ad y = 0) → wX_fillMatrix_2 post (nI n) fw fz (d + 1) (nI x) ae am ag ad ap ak := by
  intro d
  induction d with
  | zero =>
    intro x ad hx hz
    have e1 : x = 36 := by omega
    subst e1
    refine br_t (by decide) ⟨n + 1, ?_⟩
    refine tc_x_fm23 hn V hg X he K n 0 ad (by omega) (fun x y hx hy => ?_)
    rw [hz _ (by omega)]; rfl
  | succ d ih =>
    intro x ad hx hz
    refine br_f (nI_ge (b := 36) (by omega) (by decide)) ⟨vp_in_nI (by omega) (by decide), nm_r (e' := vp_updL ad x 0) (by rw [nI_clamp (by omega)]) (nm_r (nI_1 x) (ih (x + 1) _ (by omega) (fun y hy => ?_)))⟩
    by_cases e1 : y = x
    · subst e1; rw [pk_uLs]
    · rw [pk_uLn e1]; exact hz y (by omega)
theorem tc_x_fm (hn : n < 7) (V : tc_V n g) (hg : tc_G n g ag) (X : tc_XA n e md ae am) (he : ∀ p, p < tc_t n → e p ≤ 3 ∧ md p ≤ 2) (K : ∀ ad, tc_D (tc_L n g (tc_W (tc_wt e md))) ad → post (nI n, fw, fz, ae, am, ag, ad, ap, ak)) : wpX_fillMatrix post (nI n, fw, fz, ae, am, ag, ad, ap, ak) :=
  ⟨36 + 1, tc_x_fm2 hn V hg X he K 36 0 ad (by omega) (fun y hy => by omega)⟩
theorem tc_x_dr2 (hn : n < 7) {v : Nat} (hv : v < n) {A : Nat → Nat → Int} (K : ∀ ad, tc_D (fun x y => A x y + (if x < n ∧ x = y ∧ x ≠ v then A x v else 0)) ad → post (nI n, fw, fz, ae, am, ag, ad, ap, ak)) :
    ∀ (d a : Nat) (ad : Nat → Int64), a + d = n → tc_D (fun x y => A x y + (if x < a ∧ x = y ∧ x ≠ v then A x v else 0)) ad → wX_dropFromMatrix_2 post (nI v) (nI n) fw fz (d + 1) (nI a) ae am ag ad ap ak := by
  intro d
  induction d with
  | zero =>
    intro a ad ha hD
    have e1 : a = n := by omega
    subst e1
    exact br_t (nI_le (Nat.le_refl _) (by omega)) (K ad hD)
  | succ d ih =>
    intro a ad ha hD
    have han : a < n := by omega
    refine br_f (nI_ge han (by omega)) ?_
    by_cases k : a = v
    · refine br_t (by rw [k]) (nm_r (nI_1 a) (ih (a + 1) ad (by omega) (tc_D_same hD (fun x y => ?_))))
      show A x y + _ = A x y + _
      congr 1
      by_cases c : x < a ∧ x = y ∧ x ≠ v
      · rw [if_pos c, if_pos (by omega)]
      · rw [if_neg c, if_neg (by omega)]
    · refine br_f (fun z => k ((nI_eq (by omega) (by omega)).mp z)) ?_
      have a6 : a < 6 := by omega
      have v6 : v < 6 := by omega
      rw [tc_ix, tc_ix, tc_ixcl a6 a6, tc_ixcl a6 v6]
      refine ⟨tc_ixin a6 a6, tc_ixin a6 v6, tc_ixin a6 a6, nm_e (nm_r (nI_1 a) (ih (a + 1) _ (by omega) (fun x y hx hy => ?_)))⟩
      have hd : ad (x * 6 + y) = Int64.ofInt (A x y + (if x < a ∧ x = y ∧ x ≠ v then A x v else 0)) := hD x y hx hy
      have d1 : ad (a * 6 + a) = Int64.ofInt (A a a + (if a < a ∧ a = a ∧ a ≠ v then A a v else 0)) := hD a a a6 a6
      have d2 : ad (a * 6 + v) = Int64.ofInt (A a v + (if a < a ∧ a = v ∧ a ≠ v then A a v else 0)) := hD a v a6 v6
      rw [if_neg (by omega), Int.add_zero] at d1 d2
      show _ = Int64.ofInt (A x y + (if x < a + 1 ∧ x = y ∧ x ≠ v then A x v else 0))
      by_cases c : x = a ∧ y = a
      · rw [c.1, c.2, pk_uLs, d1, d2, if_pos (by omega), Int64.ofInt_add]
      · rw [pk_uLn (by omega), hd]
        congr 2
        by_cases c2 : x < a ∧ x = y ∧ x ≠ v
        · rw [if_pos c2, if_pos (by omega)]
        · rw [if_neg c2, if_neg (by omega)]
theorem tc_x_dr (hn : n < 7) {v : Nat} (hv : v < n) {A : Nat → Nat → Int} (hD : tc_D A ad) (K : ∀ ad, tc_D (fun x y => A x y + (if x < n ∧ x = y ∧ x ≠ v then A x v else 0)) ad → post (nI n, fw, fz, ae, am, ag, ad, ap, ak)) : wpX_dropFromMatrix post (nI n, fw, fz, ae, am, ag, ad, ap, ak) (nI v) :=
  ⟨n + 1, tc_x_dr2 hn hv K n 0 ad (by omega) (tc_D_same hD (fun x y => by rw [if_neg (by omega), Int.add_zero]))⟩
/-- the kept rows among the first m -/
def tc_jx (s m : Nat) (ks : Nat → Nat) (i : Nat) : Nat := if i < s then ks i else m + (i - s)
def tc_CI (n m s : Nat) (kp : Nat → Bool) (ks : Nat → Nat) (ak : Nat → Int32) : Prop :=
  s ≤ m ∧ (∀ i, i < s → ks i < m ∧ kp (ks i) = true ∧ ak i = nI (ks i)) ∧ ((∃ z, z < m ∧ ¬ kp z = true) → s < m) ∧ ∀ A, tc_d n (tc_h kp A) = tc_d (s + (n - m)) (fun i j => tc_h kp A (tc_jx s m ks i) (tc_jx s m ks j))
theorem tc_CI_0 {kp : Nat → Bool} {ks : Nat → Nat} : tc_CI n 0 0 kp ks ak := by
  refine ⟨Nat.le_refl _, fun i hi => by omega, fun ⟨z, hz, _⟩ => by omega, fun A => ?_⟩
  rw [Nat.zero_add, Nat.sub_zero]
  refine tc_d_c (fun x y _ _ => ?_)
  have t : ∀ i, tc_jx 0 0 ks i = i := fun i => by unfold tc_jx; rw [if_neg (by omega)]; omega
  rw [t, t]
theorem tc_CI_y {m s : Nat} {kp : Nat → Bool} {ks : Nat → Nat} (hm : m < n) (h : tc_CI n m s kp ks ak) (hk : kp m = true) : tc_CI n (m + 1) (s + 1) kp (fun i => if i = s then m else ks i) (upd ak s (nI m)) := by
  obtain ⟨h1, h2, h3, h4⟩ := h
  refine ⟨by omega, fun i hi => ?_, fun ⟨z, hz, hzk⟩ => ?_, fun A => ?_⟩
  · show (if i = s then m else ks i) < m + 1 ∧ kp (if i = s then m else ks i) = true ∧ upd ak s (nI m) i = nI (if i = s then m else ks i)
    by_cases e1 : i = s
    · rw [if_pos e1, e1, pk_us]; exact ⟨by omega, hk, rfl⟩
    · rw [if_neg e1, pk_un e1]
      have := h2 i (by omega)
      exact ⟨by omega, this.2⟩
  · by_cases e1 : z = m
    · rw [e1] at hzk; exact absurd hk hzk
    · have := h3 ⟨z, by omega, hzk⟩
      omega
  · rw [h4 A, show s + 1 + (n - (m + 1)) = s + (n - m) by omega]
    refine tc_d_c (fun x y _ _ => ?_)
    have t : ∀ i, tc_jx s m ks i = tc_jx (s + 1) (m + 1) (fun i => if i = s then m else ks i) i := by
      intro i
      show (if i < s then ks i else m + (i - s)) = (if i < s + 1 then (if i = s then m else ks i) else m + 1 + (i - (s + 1)))
      by_cases l : i < s
      · rw [if_pos l, if_pos (by omega), if_neg (by omega)]
      · rw [if_neg l]
        by_cases l2 : i = s
        · rw [if_pos (by omega), if_pos l2]; omega
        · rw [if_neg (by omega)]; omega
    rw [t, t]
theorem tc_CI_n {m s : Nat} {kp : Nat → Bool} {ks : Nat → Nat} (hm : m < n) (h : tc_CI n m s kp ks ak) (hk : ¬ kp m = true) : tc_CI n (m + 1) s kp ks ak := by
  obtain ⟨h1, h2, h3, h4⟩ := h
  refine ⟨by omega, fun i hi => ?_, fun _ => by omega, fun A => ?_⟩
  · have := h2 i hi
    exact ⟨by omega, this.2⟩
  · obtain ⟨r, hr⟩ : ∃ r, n = m + 1 + r := ⟨n - (m + 1), by omega⟩
    rw [h4 A, show s + (n - m) = s + r + 1 by omega, show s + (n - (m + 1)) = s + r by omega]
    have q := tc_d_u (n := s + r) (b := s) (by omega) (fun i j => tc_h kp A (tc_jx s m ks i) (tc_jx s m ks j))
    have js : tc_jx s m ks s = m := by unfold tc_jx; rw [if_neg (by omega)]; omega
    have jn : ∀ i, i ≠ s → tc_jx s m ks i ≠ m := by
      intro i hi
      unfold tc_jx
      by_cases l : i < s
      · rw [if_pos l]; have := (h2 i l).1; omega
      · rw [if_neg l]; omega
    have e1 : tc_d (s + r + 1) (tc_u (fun i j => tc_h kp A (tc_jx s m ks i) (tc_jx s m ks j)) s) = tc_d (s + r + 1) (fun i j => tc_h kp A (tc_jx s m ks i) (tc_jx s m ks j)) := by
      refine tc_d_c (fun x y _ _ => ?_)
      by_cases c1 : x = s
      · rw [tc_u_p (Or.inl c1), c1, js, tc_h_x hk]
        by_cases c2 : s = y
        · rw [if_pos c2, ← c2, js, tc_i_s]
        · rw [if_neg c2, tc_i_n (fun z => jn y (fun w => c2 w.symm) z.symm)]
      · by_cases c2 : y = s
        · rw [tc_u_p (Or.inr c2), c2, js, tc_h_y hk, if_neg c1, tc_i_n (jn x c1)]
        · rw [tc_u_n c1 c2]
    rw [← e1, q]
    refine tc_d_c (fun x y _ _ => ?_)
    have t : ∀ i, tc_jx s m ks (tc_k s i) = tc_jx s (m + 1) ks i := by
      intro i
      unfold tc_jx tc_k
      by_cases l : i < s
      · rw [if_pos l, if_pos l, if_pos l]
      · rw [if_neg l, if_neg (by omega), if_neg l]; omega
    rw [t, t]
theorem tc_CI_e {s : Nat} {kp : Nat → Bool} {ks : Nat → Nat} (h : tc_CI n n s kp ks ak) (A : Nat → Nat → Int) : tc_d n (tc_h kp A) = tc_d s (fun i j => A (ks i) (ks j)) := by
  rw [h.2.2.2 A, Nat.sub_self, Nat.add_zero]
  refine tc_d_c (fun x y hx hy => ?_)
  have t : ∀ i, i < s → tc_jx s n ks i = ks i := fun i hi => if_pos hi
  rw [t x hx, t y hy, tc_h_p (h.2.1 x hx).2.1 (h.2.1 y hy).2.1]
theorem tc_x_co74 {s : Nat} {ks : Nat → Nat} (hs : s < 6) (hk : ∀ i, i < s → ks i < 6 ∧ ak i = nI (ks i)) {i : Nat} (hi : i < s) {J : Int32 → (Nat → Int32) → (Nat → Int32) → (Nat → Int32) → (Nat → Int64) → (Nat → Int64) → (Nat → Int32) → Prop}
    (K : ∀ ap, (∀ x y, x < i + 1 → y < s → ap (x * 6 + y) = ad (ks x * 6 + ks y)) → J (nI (i + 1)) ae am ag ad ap ak) :
    ∀ (d j : Nat) (ap : Nat → Int64), j + d = s → (∀ x y, x < i → y < s → ap (x * 6 + y) = ad (ks x * 6 + ks y)) → (∀ y, y < j → ap (i * 6 + y) = ad (ks i * 6 + ks y)) → wX_cutOut_74 post J (nI i) (nI n) fw (nI s) (d + 1) (nI j) ae am ag ad ap ak := by
  intro d
  induction d with
  | zero =>
    intro j ap hj h1 h2
    have e1 : j = s := by omega
    subst e1
    refine br_t (nI_le (Nat.le_refl _) (by omega)) (nm_r (nI_1 i) (K ap (fun x y hx hy => ?_)))
    by_cases c : x = i
    · rw [c]; exact h2 y hy
    · exact h1 x y (by omega) hy
  | succ d ih =>
    intro j ap hj h1 h2
    have hjs : j < s := by omega
    have ki := hk i hi
    have kj := hk j hjs
    refine br_f (nI_ge hjs (by omega)) ⟨vp_in_nI (by omega) (by decide), vp_in_nI (by omega) (by decide), ?_⟩
    rw [nI_clamp (show i < 2 ^ 31 by omega), nI_clamp (show j < 2 ^ 31 by omega), ki.2, kj.2, tc_ix, tc_ix, tc_ixcl ki.1 kj.1, tc_ixcl (show i < 6 by omega) (show j < 6 by omega)]
    refine ⟨tc_ixin ki.1 kj.1, tc_ixin (by omega) (by omega), nm_e (nm_r (nI_1 j) (ih (j + 1) _ (by omega) (fun x y hx hy => ?_) (fun y hy => ?_)))⟩
    · rw [pk_uLn (by omega)]; exact h1 x y hx hy
    · by_cases c : y = j
      · rw [c, pk_uLs]
      · rw [pk_uLn (by omega)]; exact h2 y (by omega)
theorem tc_x_co63 {s : Nat} {ks : Nat → Nat} (hs : s < 6) (hk : ∀ i, i < s → ks i < 6 ∧ ak i = nI (ks i)) (K : ∀ ap, (∀ x y, x < s → y < s → ap (x * 6 + y) = ad (ks x * 6 + ks y)) → post (nI n, fw, nI s, ae, am, ag, ad, ap, ak)) :
    ∀ (d i : Nat) (ap : Nat → Int64), i + d = s → (∀ x y, x < i → y < s → ap (x * 6 + y) = ad (ks x * 6 + ks y)) → wX_cutOut_63 post (nI n) fw (nI s) (d + 1) (nI i) ae am ag ad ap ak := by
  intro d
  induction d with
  | zero =>
    intro i ap hi h1
    have e1 : i = s := by omega
    subst e1
    exact br_t (nI_le (Nat.le_refl _) (by omega)) (K ap h1)
  | succ d ih =>
    intro i ap hi h1
    refine br_f (nI_ge (show i < s by omega) (by omega)) ⟨s + 1, ?_⟩
    exact tc_x_co74 hs hk (show i < s by omega) (fun ap' h => ih (i + 1) ap' (by omega) h) s 0 ap (by omega) h1 (fun y hy => by omega)
theorem tc_x_co7 (hn : n < 7) (V : tc_V n g) (hg : tc_G n g ag) {a b : Nat} (ha : a < n) (hb : b < n) (K : ∀ (s : Nat) (ks : Nat → Nat) (ak : Nat → Int32) (ap : Nat → Int64), s < n → (∀ i, i < s → ks i < n ∧ tc_k2 g a b (ks i) = true) → (∀ A, tc_d n (tc_h (tc_k2 g a b) A) = tc_d s (fun i j => A (ks i) (ks j))) → (∀ x y, x < s → y < s → ap (x * 6 + y) = ad (ks x * 6 + ks y)) → post (nI n, fw, nI s, ae, am, ag, ad, ap, ak)) :
    ∀ (d m s : Nat) (ks : Nat → Nat) (ak : Nat → Int32), m + d = n → tc_CI n m s (tc_k2 g a b) ks ak → wX_cutOut_7 post (nI a) (nI b) (nI n) fw (d + 1) (nI m) (nI s) ae am ag ad ap ak := by
  intro d
  induction d with
  | zero =>
    intro m s ks ak hm C
    have e1 : m = n := by omega
    subst e1
    have sn : s < m := C.2.2.1 ⟨a, ha, fun z => (tc_k2_i.mp z).2.1 rfl⟩
    refine br_t (nI_le (Nat.le_refl _) (by omega)) ⟨s + 1, ?_⟩
    refine tc_x_co63 (by omega) (fun i hi => ⟨by have := (C.2.1 i hi).1; omega, (C.2.1 i hi).2.2⟩) (fun ap h => K s ks ak ap sn (fun i hi => ⟨(C.2.1 i hi).1, (C.2.1 i hi).2.1⟩) (fun A => tc_CI_e C A) h) s 0 ap (by omega) (fun x y hx => by omega)
  | succ d ih =>
    intro m s ks ak hm C
    have hmn : m < n := by omega
    have vm := (V m hmn).1
    have sm := C.1
    refine br_f (nI_ge hmn (by omega)) ⟨vp_in_nI (by omega) (by decide), ?_⟩
    rw [nI_clamp (by omega), hg m hmn]
    by_cases k1 : g m = m
    · refine br_t (by rw [k1]) ?_
      by_cases k2 : m = a
      · exact br_t (by rw [k2]) (nm_r (nI_1 m) (ih (m + 1) s ks ak (by omega) (tc_CI_n hmn C (fun z => (tc_k2_i.mp z).2.1 k2))))
      refine br_f (fun z => k2 ((nI_eq (by omega) (by omega)).mp z)) ?_
      by_cases k3 : m = b
      · exact br_t (by rw [k3]) (nm_r (nI_1 m) (ih (m + 1) s ks ak (by omega) (tc_CI_n hmn C (fun z => (tc_k2_i.mp z).2.2 k3))))
      refine br_f (fun z => k3 ((nI_eq (by omega) (by omega)).mp z)) ?_
      refine ⟨vp_in_nI (by omega) (by decide), nm_r (e' := upd ak s (nI m)) (by rw [nI_clamp (by omega)]) (nm_r (nI_1 s) (nm_r (nI_1 m) ?_))⟩
      exact ih (m + 1) (s + 1) _ _ (by omega) (tc_CI_y hmn C (tc_k2_i.mpr ⟨k1, k2, k3⟩))
    · exact br_f (fun z => k1 ((nI_eq (by omega) (by omega)).mp z)) (nm_r (nI_1 m) (ih (m + 1) s ks ak (by omega) (tc_CI_n hmn C (fun z => k1 (tc_k2_i.mp z).1))))
theorem tc_x_co (hn : n < 7) (V : tc_V n g) (hg : tc_G n g ag) {a b : Nat} (ha : a < n) (hb : b < n) (K : ∀ (s : Nat) (ks : Nat → Nat) (ak : Nat → Int32) (ap : Nat → Int64), s < n → (∀ i, i < s → ks i < n ∧ tc_k2 g a b (ks i) = true) → (∀ A, tc_d n (tc_h (tc_k2 g a b) A) = tc_d s (fun i j => A (ks i) (ks j))) → (∀ x y, x < s → y < s → ap (x * 6 + y) = ad (ks x * 6 + ks y)) → post (nI n, fw, nI s, ae, am, ag, ad, ap, ak)) : wpX_cutOut post (nI n, fw, fz, ae, am, ag, ad, ap, ak) (nI a) (nI b) :=
  ⟨n + 1, tc_x_co7 hn V hg ha hb K n 0 0 (fun _ => 0) ak (by omega) tc_CI_0⟩
end
end
section
/-! the component: the determinant -/
theorem tc_el {a b c p q X : Int} (ha : a.natAbs ≤ 1574640000) (hb : b.natAbs ≤ 1574640000) (hc : c.natAbs ≤ 1574640000) (hp : p.natAbs ≤ 1574640000) (hq : q.natAbs ≤ 1574640000) (q0 : q ≠ 0) (h : a * p - b * c = q * X) :
    q * ((Int64.ofInt a * Int64.ofInt p - Int64.ofInt b * Int64.ofInt c) / Int64.ofInt q).toInt = a * p - b * c := by
  have b1 : (a * p).natAbs ≤ 2479491129600000000 := by
    rw [Int.natAbs_mul]; exact Nat.le_trans (Nat.mul_le_mul ha hp) (by decide)
  have b2 : (b * c).natAbs ≤ 2479491129600000000 := by
    rw [Int.natAbs_mul]; exact Nat.le_trans (Nat.mul_le_mul hb hc) (by decide)
  have vb : (a * p - b * c).natAbs ≤ 4958982259200000000 := by omega
  have mn : Int64.minValue.toInt = -9223372036854775808 := by decide
  have mx : Int64.maxValue.toInt = 9223372036854775807 := by decide
  rw [← Int64.ofInt_mul, ← Int64.ofInt_mul, ← Int64.ofInt_sub]
  rw [h] at vb ⊢
  rw [← Int64.ofInt_tdiv (by rw [mn]; omega) (by rw [mx]; omega) (by rw [mn]; omega) (by rw [mx]; omega), Int.mul_tdiv_cancel_left X q0]
  have xb : X.natAbs ≤ 4958982259200000000 := by
    refine Nat.le_trans ?_ vb
    rw [Int.natAbs_mul]
    exact Nat.le_mul_of_pos_left _ (by omega)
  rw [Int64.toInt_ofInt_of_le (by omega) (by omega)]
section
variable {fn fw : Int32} {ae am ag ak : Nat → Int32} {ad ap : Nat → Int64} {s : Nat}
theorem tc_x_pv2 {post : Int32 → Prop} (hs : s < 6) {k : Nat} (hk : k < s) (K1 : ∀ r, k ≤ r → r < s → ap (r * 6 + k) ≠ 0 → post (nI r)) (K2 : (∀ i, k ≤ i → i < s → ap (i * 6 + k) = 0) → post (-1)) :
    ∀ (d i : Nat), k ≤ i → i + d = s → (∀ x, k ≤ x → x < i → ap (x * 6 + k) = 0) → wX_pivotRow_2 post (nI k) fn fw (nI s) ae am ag ad ap ak (d + 1) (nI i) := by
  intro d
  induction d with
  | zero =>
    intro i hi hd hz
    have e1 : i = s := by omega
    subst e1
    exact br_t (nI_le (Nat.le_refl _) (by omega)) (K2 hz)
  | succ d ih =>
    intro i hi hd hz
    refine br_f (nI_ge (show i < s by omega) (by omega)) ?_
    rw [tc_ix, tc_ixcl (by omega) (by omega)]
    refine ⟨tc_ixin (by omega) (by omega), ?_⟩
    by_cases c : ap (i * 6 + k) = 0
    · refine br_t c (nm_r (nI_1 i) (ih (i + 1) (by omega) (by omega) (fun x h1 h2 => ?_)))
      by_cases e1 : x = i
      · rw [e1]; exact c
      · exact hz x h1 (by omega)
    · exact br_f c (K1 i hi (by omega) c)
theorem tc_x_pv {post : Int32 → Prop} (hs : s < 6) {k : Nat} (hk : k < s) (K1 : ∀ r, k ≤ r → r < s → ap (r * 6 + k) ≠ 0 → post (nI r)) (K2 : (∀ i, k ≤ i → i < s → ap (i * 6 + k) = 0) → post (-1)) : wpX_pivotRow post (fn, fw, nI s, ae, am, ag, ad, ap, ak) (nI k) :=
  ⟨s - k + 1, tc_x_pv2 hs hk K1 K2 (s - k) k (Nat.le_refl _) (by omega) (fun x h1 h2 => by omega)⟩
theorem tc_x_sw2 {post : SX → Prop} (hs : s < 6) {r k : Nat} (hr : r < s) (hk : k < s) (hrk : r ≠ k) {ap0 : Nat → Int64} (K : ∀ ap', (∀ i j, i < s → j < s → ap' (i * 6 + j) = ap0 (tc_w r k i * 6 + j)) → post (fn, fw, nI s, ae, am, ag, ad, ap', ak)) :
    ∀ (d j : Nat) (ap : Nat → Int64), j + d = s → (∀ i y, i < s → y < s → ap (i * 6 + y) = if y < j then ap0 (tc_w r k i * 6 + y) else ap0 (i * 6 + y)) → wX_swapRows_2 post (nI r) (nI k) fn fw (nI s) (d + 1) (nI j) ae am ag ad ap ak := by
  intro d
  induction d with
  | zero =>
    intro j ap hj h
    have e1 : j = s := by omega
    subst e1
    refine br_t (nI_le (Nat.le_refl _) (by omega)) (K ap (fun x y hx hy => ?_))
    rw [h x y hx hy, if_pos hy]
  | succ d ih =>
    intro j ap hj h
    have hjs : j < s := by omega
    have a1 : ap (r * 6 + j) = ap0 (r * 6 + j) := by rw [h r j hr hjs, if_neg (by omega)]
    have a2 : ap (k * 6 + j) = ap0 (k * 6 + j) := by rw [h k j hk hjs, if_neg (by omega)]
    refine br_f (nI_ge hjs (by omega)) ?_
    rw [tc_ix, tc_ix, tc_ixcl (by omega) (by omega), tc_ixcl (by omega) (by omega)]
    refine ⟨tc_ixin (by omega) (by omega), nm_e ⟨tc_ixin (by omega) (by omega), tc_ixin (by omega) (by omega), nm_e ⟨tc_ixin (by omega) (by omega), nm_e (nm_r (nI_1 j) (ih (j + 1) _ (by omega) (fun x y hx hy => ?_)))⟩⟩⟩
    by_cases c : y = j
    · rw [if_pos (by omega)]
      by_cases c1 : x = k
      · have w1 : tc_w r k k = r := by unfold tc_w; rw [if_neg (by omega), if_pos rfl]
        rw [c, c1, pk_uLs, w1, a1]
      · rw [pk_uLn (by omega)]
        by_cases c2 : x = r
        · have w1 : tc_w r k r = k := by unfold tc_w; rw [if_pos rfl]
          rw [c, c2, pk_uLs, w1, a2]
        · have w1 : tc_w r k x = x := by unfold tc_w; rw [if_neg c2, if_neg c1]
          rw [pk_uLn (by omega), h x y hx hy, c, if_neg (by omega), w1]
    · rw [pk_uLn (by omega), pk_uLn (by omega), h x y hx hy]
      by_cases l : y < j
      · rw [if_pos l, if_pos (by omega)]
      · rw [if_neg l, if_neg (by omega)]
theorem tc_x_sw {post : SX → Prop} (hs : s < 6) {r k : Nat} (hr : r < s) (hk : k < s) (hrk : r ≠ k) (K : ∀ ap', (∀ i j, i < s → j < s → ap' (i * 6 + j) = ap (tc_w r k i * 6 + j)) → post (fn, fw, nI s, ae, am, ag, ad, ap', ak)) : wpX_swapRows post (fn, fw, nI s, ae, am, ag, ad, ap, ak) (nI r) (nI k) :=
  ⟨s + 1, tc_x_sw2 hs hr hk hrk K s 0 ap (by omega) (fun i y _ _ => by rw [if_neg (by omega)])⟩
/-- the new entry -/
def tc_ne (ap : Nat → Int64) (k : Nat) (q : Int64) (i j : Nat) : Int64 := (ap (i * 6 + j) * ap (k * 6 + k) - ap (i * 6 + k) * ap (k * 6 + j)) / q
theorem tc_x_el32 {post : SX → Prop} (hs : s < 6) {k i : Nat} (hki : k < i) (hi : i < s) {q : Int64} (q0 : ¬ q = 0) {ap0 : Nat → Int64} {J : Int32 → (Nat → Int32) → (Nat → Int32) → (Nat → Int32) → (Nat → Int64) → (Nat → Int64) → (Nat → Int32) → Prop}
    (K : ∀ ap', (∀ x y, x < s → y < s → ap' (x * 6 + y) = if k < x ∧ x < i + 1 ∧ k < y then tc_ne ap0 k q x y else ap0 (x * 6 + y)) → J (nI (i + 1)) ae am ag ad ap' ak) :
    ∀ (d j : Nat) (ap : Nat → Int64), k < j → j + d = s → (∀ x y, x < s → y < s → ap (x * 6 + y) = if k < x ∧ k < y ∧ (x < i ∨ (x = i ∧ y < j)) then tc_ne ap0 k q x y else ap0 (x * 6 + y)) → wX_eliminate_32 post J (nI k) q (ap0 (k * 6 + k)) (nI i) fn fw (nI s) (d + 1) (nI j) ae am ag ad ap ak := by
  intro d
  induction d with
  | zero =>
    intro j ap hkj hj h
    have e1 : j = s := by omega
    subst e1
    refine br_t (nI_le (Nat.le_refl _) (by omega)) (nm_r (nI_1 i) (K ap (fun x y hx hy => ?_)))
    rw [h x y hx hy]
    by_cases c : k < x ∧ x < i + 1 ∧ k < y
    · rw [if_pos c, if_pos (by omega)]
    · rw [if_neg c, if_neg (by omega)]
  | succ d ih =>
    intro j ap hkj hj h
    have hjs : j < s := by omega
    have a1 : ap (i * 6 + j) = ap0 (i * 6 + j) := by rw [h i j hi hjs, if_neg (by omega)]
    have a2 : ap (i * 6 + k) = ap0 (i * 6 + k) := by rw [h i k hi (by omega), if_neg (by omega)]
    have a3 : ap (k * 6 + j) = ap0 (k * 6 + j) := by rw [h k j (by omega) hjs, if_neg (by omega)]
    refine br_f (nI_ge hjs (by omega)) ?_
    rw [tc_ix, tc_ix, tc_ix, tc_ixcl (show i < 6 by omega) (show j < 6 by omega), tc_ixcl (show i < 6 by omega) (show k < 6 by omega), tc_ixcl (show k < 6 by omega) (show j < 6 by omega)]
    refine ⟨tc_ixin (by omega) (by omega), tc_ixin (by omega) (by omega), tc_ixin (by omega) (by omega), nm_e (br_f q0 ⟨q0, tc_ixin (by omega) (by omega), nm_e (nm_r (nI_1 j) (ih (j + 1) _ (by omega) (by omega) (fun x y hx hy => ?_)))⟩)⟩
    by_cases c : x = i ∧ y = j
    · rw [c.1, c.2, pk_uLs, if_pos (by omega), a1, a2, a3]; rfl
    · rw [pk_uLn (by omega), h x y hx hy]
      by_cases c2 : k < x ∧ k < y ∧ (x < i ∨ (x = i ∧ y < j))
      · rw [if_pos c2, if_pos (by omega)]
      · rw [if_neg c2, if_neg (by omega)]
theorem tc_x_el18 {post : SX → Prop} (hs : s < 6) {k : Nat} {q : Int64} (q0 : ¬ q = 0) {ap0 : Nat → Int64} (K : ∀ ap', (∀ x y, x < s → y < s → ap' (x * 6 + y) = if k < x ∧ k < y then tc_ne ap0 k q x y else ap0 (x * 6 + y)) → post (fn, fw, nI s, ae, am, ag, ad, ap', ak)) :
    ∀ (d i : Nat) (ap : Nat → Int64), k < i → i + d = s → (∀ x y, x < s → y < s → ap (x * 6 + y) = if k < x ∧ x < i ∧ k < y then tc_ne ap0 k q x y else ap0 (x * 6 + y)) → wX_eliminate_18 post (nI k) q (ap0 (k * 6 + k)) fn fw (nI s) (d + 1) (nI i) ae am ag ad ap ak := by
  intro d
  induction d with
  | zero =>
    intro i ap hki hi h
    have e1 : i = s := by omega
    subst e1
    refine br_t (nI_le (Nat.le_refl _) (by omega)) (K ap (fun x y hx hy => ?_))
    rw [h x y hx hy]
    by_cases c : k < x ∧ k < y
    · rw [if_pos c, if_pos (by omega)]
    · rw [if_neg c, if_neg (by omega)]
  | succ d ih =>
    intro i ap hki hi h
    refine br_f (nI_ge (show i < s by omega) (by omega)) (nm_r (nI_1 k) ⟨s - (k + 1) + 1, ?_⟩)
    refine tc_x_el32 hs hki (show i < s by omega) q0 (fun ap' h' => ih (i + 1) ap' (by omega) (by omega) h') (s - (k + 1)) (k + 1) ap (by omega) (by omega) (fun x y hx hy => ?_)
    rw [h x y hx hy]
    by_cases c : k < x ∧ x < i ∧ k < y
    · rw [if_pos c, if_pos (by omega)]
    · rw [if_neg c, if_neg (by omega)]
theorem tc_x_elm {post : SX → Prop} (hs : s < 6) {k : Nat} (hk : k < s) {q : Int64} (q0 : ¬ q = 0) (K : ∀ ap', (∀ x y, x < s → y < s → ap' (x * 6 + y) = if k < x ∧ k < y then tc_ne ap k q x y else ap (x * 6 + y)) → post (fn, fw, nI s, ae, am, ag, ad, ap', ak)) : wpX_eliminate post (fn, fw, nI s, ae, am, ag, ad, ap, ak) (nI k) q := by
  refine ⟨?_, nm_r (e' := ap (k * 6 + k)) ?_ (nm_r (nI_1 k) ⟨s - (k + 1) + 1, tc_x_el18 hs q0 K (s - (k + 1)) (k + 1) ap (by omega) (by omega) (fun x y _ _ => ?_)⟩)⟩
  · rw [tc_ix]; exact tc_ixin (by omega) (by omega)
  · rw [tc_ix, tc_ixcl (by omega) (by omega)]
  · rw [if_neg (by omega)]
def tc_M (ap : Nat → Int64) (i j : Nat) : Int := (ap (i * 6 + j)).toInt
theorem tc_M0 {x : Int64} : x.toInt = 0 ↔ x = 0 := by
  constructor
  · intro h; exact Int64.toInt_inj.mp (by rw [h]; rfl)
  · intro h; rw [h]; rfl
theorem tc_f4 : ∀ k, k < 4 → tc_f (k + 1) * 90 ^ (k + 1) ≤ 1574640000 ∧ tc_f k * 90 ^ k ≤ 1574640000 := by decide
theorem tc_x_det49 {post : Int64 → SX → Prop} {J : Int64 → Int64 → Int32 → Int32 → Int32 → Int32 → (Nat → Int32) → (Nat → Int32) → (Nat → Int32) → (Nat → Int64) → (Nat → Int64) → (Nat → Int32) → Prop} (hs : s < 6) {k : Nat} (hk : k < s) {q : Int} {A : Nat → Nat → Int} {x1 : Int64} (B : tc_BI s k q (tc_M ap) A) (hA : ∀ x y, x < s → y < s → (A x y).natAbs ≤ 90) (hp : tc_M ap k k ≠ 0)
    (K : ∀ ap', tc_BI s (k + 1) (tc_M ap k k) (tc_M ap') A → J x1 (Int64.ofInt (tc_M ap k k)) (nI (k + 1)) fn fw (nI s) ae am ag ad ap' ak) : wX_determinant_49 post J x1 (Int64.ofInt q) (nI k) fn fw (nI s) ae am ag ad ap ak := by
  have qb : q.natAbs ≤ 8000000000000 := by
    have := tc_BI_q B (by omega) hA
    have f5 : ∀ k, k < 6 → tc_f k * 90 ^ k ≤ 8000000000000 := by decide
    exact Nat.le_trans this (f5 k (by omega))
  have q0 : ¬ Int64.ofInt q = 0 := by
    intro z
    have := Int64.toInt_ofInt_of_le (n := q) (by omega) (by omega)
    rw [z] at this
    exact B.2.1 this.symm
  unfold wX_determinant_49
  refine tc_x_elm hs hk q0 (fun ap' h => ?_)
  refine ⟨by rw [tc_ix]; exact tc_ixin (by omega) (by omega), nm_r (e' := Int64.ofInt (tc_M ap k k)) ?_ (nm_r (nI_1 k) (K ap' ?_))⟩
  · rw [tc_ix, tc_ixcl (by omega) (by omega), h k k hk hk, if_neg (by omega)]
    exact (Int64.ofInt_toInt _).symm
  · refine tc_BI_s B hk hp (fun i j hi1 hi2 hj1 hj2 => ?_)
    obtain ⟨X, hX⟩ := tc_BI_dv B hk ⟨hi1, hi2⟩ ⟨hj1, hj2⟩
    have k4 := tc_f4 k (by omega)
    have mb : ∀ x y, k ≤ x ∧ x < s → k ≤ y ∧ y < s → (tc_M ap x y).natAbs ≤ 1574640000 := fun x y hx hy => Nat.le_trans (tc_BI_b B hA hx hy) k4.1
    have e1 := tc_el (mb i j ⟨by omega, hi2⟩ ⟨by omega, hj2⟩) (mb i k ⟨by omega, hi2⟩ ⟨by omega, hk⟩) (mb k j ⟨by omega, hk⟩ ⟨by omega, hj2⟩) (mb k k ⟨by omega, hk⟩ ⟨by omega, hk⟩) (Nat.le_trans (tc_BI_q B (by omega) hA) k4.2) B.2.1 hX
    rw [← e1]
    congr 1
    show (ap' (i * 6 + j)).toInt = _
    rw [h i j hi2 hj2, if_pos ⟨hi1, hj1⟩]
    unfold tc_ne tc_M
    rw [Int64.ofInt_toInt, Int64.ofInt_toInt, Int64.ofInt_toInt, Int64.ofInt_toInt]
theorem tc_x_det7 {post : Int64 → SX → Prop} (hs : s < 6) {D : Int} (K : ∀ ap', post (Int64.ofInt D) (fn, fw, nI s, ae, am, ag, ad, ap', ak)) :
    ∀ (d k : Nat) (ap : Nat → Int64) (q sg : Int) (A : Nat → Nat → Int), k + d = s → tc_BI s k q (tc_M ap) A → (∀ x y, x < s → y < s → (A x y).natAbs ≤ 90) → sg * tc_d s A = D → wX_determinant_7 post (d + 1) (Int64.ofInt sg) (Int64.ofInt q) (nI k) fn fw (nI s) ae am ag ad ap ak := by
  intro d
  induction d with
  | zero =>
    intro k ap q sg A hk B hA hD
    have e1 : k = s := by omega
    subst e1
    refine br_t (nI_le (Nat.le_refl _) (by omega)) ?_
    rw [← Int64.ofInt_mul, B.1, hD]
    exact K ap
  | succ d ih =>
    intro k ap q sg A hk B hA hD
    have hks : k < s := by omega
    refine br_f (nI_ge hks (by omega)) ?_
    refine tc_x_pv hs hks (fun r hr1 hr2 hr3 => ?_) (fun hz => ?_)
    · have hnz : tc_M ap r k ≠ 0 := fun z => hr3 (tc_M0.mp z)
      refine br_t (nI_pos' (by omega)) ?_
      by_cases c : r = k
      · refine br_t (by rw [c]) ?_
        rw [c] at hnz
        exact tc_x_det49 hs hks B hA hnz (fun ap' B' => ih (k + 1) ap' _ sg A (by omega) B' hA hD)
      · refine br_f (fun z => c ((nI_eq (by omega) (by omega)).mp z)) ?_
        refine tc_x_sw hs hr2 hks c (fun ap' h => nm_r (e' := Int64.ofInt (-sg)) (Int64.ofInt_neg sg).symm ?_)
        have B' := tc_BI_w (M' := tc_M ap') B ⟨hr1, hr2⟩ (fun i j hi hj => by
          show (ap' (i * 6 + j)).toInt = (ap (tc_w r k i * 6 + j)).toInt
          rw [h i j hi hj])
        have w1 : tc_w r k k = r := by unfold tc_w; rw [if_neg (by omega), if_pos rfl]
        have hp' : tc_M ap' k k ≠ 0 := by
          show (ap' (k * 6 + k)).toInt ≠ 0
          rw [h k k hks hks, w1]; exact hnz
        have wb : ∀ x, x < s → tc_w r k x < s := by
          intro x hx; unfold tc_w; split
          · omega
          · split <;> omega
        have hA' : ∀ x y, x < s → y < s → (A (tc_w r k x) y).natAbs ≤ 90 := fun x y hx hy => hA _ _ (wb x hx) hy
        have hD' : -sg * tc_d s (fun x y => A (tc_w r k x) y) = D := by
          rw [tc_d_swap hr2 hks c, Int.neg_mul_neg, hD]
        exact tc_x_det49 hs hks B' hA' hp' (fun ap'' B'' => ih (k + 1) ap'' _ (-sg) _ (by omega) B'' hA' hD')
    · refine br_f (by decide) ?_
      have z := tc_BI_z B hks (fun i h1 h2 => tc_M0.mpr (hz i h1 h2))
      rw [z, Int.mul_zero] at hD
      have q := K ap
      rw [← hD] at q
      exact q
theorem tc_x_det {post : Int64 → SX → Prop} (hs : s < 6) {B : Nat → Nat → Int} (hB : ∀ x y, x < s → y < s → (B x y).natAbs ≤ 90) (h : ∀ x y, x < s → y < s → ap (x * 6 + y) = Int64.ofInt (B x y)) (K : ∀ ap', post (Int64.ofInt (tc_d s B)) (fn, fw, nI s, ae, am, ag, ad, ap', ak)) : wpX_determinant post (fn, fw, nI s, ae, am, ag, ad, ap, ak) := by
  have e1 : ∀ x y, x < s → y < s → tc_M ap x y = B x y := by
    intro x y hx hy
    have b := hB x y hx hy
    unfold tc_M
    rw [h x y hx hy, Int64.toInt_ofInt_of_le (by omega) (by omega)]
  refine ⟨s + 1, tc_x_det7 hs K s 0 ap 1 1 (tc_M ap) (by omega) (tc_BI_0 _) (fun x y hx hy => ?_) ?_⟩
  · rw [e1 x y hx hy]; exact hB x y hx hy
  · rw [Int.one_mul]; exact tc_d_c e1
end
end
section
/-! the component: counting -/
theorem tc_fin {ω : Nat} {d : Int} (h : ω < 2 ^ 31) : ((nI ω).toInt64 * Int64.ofInt d).toInt32 = Int32.ofInt ((ω : Int) * d) := by
  rw [nI_l h, tc_lO, ← Int64.ofInt_mul, Int64.toInt32_ofInt]
theorem tc_fin2 {ω x : Nat} {d : Int} (h : ω < 2 ^ 31) (hx : x < 2 ^ 31) : (((nI ω).toInt64 * Int64.ofInt d) * (nI x).toInt64).toInt32 = Int32.ofInt ((ω : Int) * d * (x : Int)) := by
  rw [nI_l h, nI_l hx, tc_lO, tc_lO, ← Int64.ofInt_mul, ← Int64.ofInt_mul, Int64.toInt32_ofInt]
theorem tc_nz {ω : Nat} (h : ω < 2 ^ 31) : nI ω = 0 ↔ ω = 0 := nI_eq (b := 0) h (by decide)
section
variable {n : Nat} {e md : Nat → Nat} {ae am : Nat → Int32}
def tc_EB (n : Nat) (e md : Nat → Nat) : Prop := ∀ p, p < tc_t n → e p ≤ 3 ∧ md p ≤ 2
theorem tc_Wb (hn : n < 7) (he : tc_EB n e md) : ∀ u v, u < n → v < n → u ≠ v → (tc_W (tc_wt e md) u v).natAbs ≤ 3 := by
  intro u v hu hv huv
  have := he _ (tc_pr_1 n hn u hu v hv huv)
  unfold tc_W tc_wt
  split
  · omega
  · decide
theorem tc_Wvb (hn : n < 7) (he : tc_EB n e md) (w : Nat) : ∀ u v, u < n → v < n → u ≠ v → (tc_W (tc_wv w (tc_wt e md)) u v).natAbs ≤ 3 := by
  intro u v hu hv huv
  have := tc_Wb hn he u v hu hv huv
  unfold tc_W tc_wv
  split
  · decide
  · exact this
theorem tc_x_count {post : Int32 → SX → Prop} (h2 : 2 ≤ n) (hn : n < 7) (X : tc_XA n e md ae am) (he : tc_EB n e md) (K : ∀ fw fz ag ad ap ak, post (Int32.ofInt (tc_Z n (tc_wy n e md))) (nI n, fw, fz, ae, am, ag, ad, ap, ak)) (fw fz : Int32) (ag : Nat → Int32) (ad ap : Nat → Int64) (ak : Nat → Int32) : wpX_count post (nI n, fw, fz, ae, am, ag, ad, ap, ak) := by
  have hm : ∀ p, p < tc_t n → md p ≤ 2 := fun p hp => (he p hp).2
  unfold wpX_count
  dsimp only
  refine tc_x_con h2 hn X hm (fun g ω ag' I hg => ?_)
  have wb := tc_IV_b hn I (fun p hp => (he p hp).1)
  have val := tc_cnt_x (by omega) hm I
  have g0 : g 0 = 0 := by have := (I.1 0 (by omega)).1; omega
  dsimp only
  by_cases z : ω = 0
  · refine br_t ((tc_nz (by omega)).mpr z) ?_
    rw [if_pos z] at val
    rw [val] at K
    exact K _ _ _ _ _ _
  · refine br_f (fun y => z ((tc_nz (by omega)).mp y)) ?_
    rw [if_neg z] at val
    refine tc_x_fm hn I.1 hg X he (fun ad' hD => ?_)
    dsimp only
    refine tc_x_co (a := 0) (b := 0) hn I.1 hg (by omega) (by omega) (fun s ks ak' ap' hs hk hd hp => ?_)
    dsimp only
    refine tc_x_det (by omega) (B := fun i j => tc_L n g (tc_W (tc_wt e md)) (ks i) (ks j)) (fun x y _ _ => tc_L_b hn (tc_Wb hn he) _ _) (fun x y hx hy => ?_) (fun ap'' => ?_)
    · have k1 := (hk x hx).1
      have k2 := (hk y hy).1
      rw [hp x y hx hy, hD _ _ (by omega) (by omega)]
    · dsimp only
      rw [tc_fin (by omega)]
      have e1 : tc_P n g 0 (tc_W (tc_wt e md)) = tc_d s (fun i j => tc_L n g (tc_W (tc_wt e md)) (ks i) (ks j)) := by
        rw [← hd]
        unfold tc_P
        rw [g0]
        refine tc_h_c (fun x _ => ?_) (fun _ _ _ _ _ _ => rfl)
        rw [tc_kp_i, tc_k2_i]; omega
      rw [← e1, ← val]
      exact K _ _ _ _ _ _
/-- another mode, other edges -/
theorem tc_pr_u (hn : n < 7) {a b u v : Nat} (ha : a < n) (hb : b < n) (hab : a ≠ b) (hu : u < n) (hv : v < n) (huv : u ≠ v) : tc_pr a b = tc_pr u v ↔ (a = u ∧ b = v) ∨ (a = v ∧ b = u) := by
  have q := tc_pr_e hn (tc_pr_1 n hn u hu v hv huv) ha hb hab
  have r := tc_pr_0 u (by omega) v (by omega) huv
  rw [q]; omega
theorem tc_set2 (hn : n < 7) {f : Nat → Nat} {a : Nat → Int32} (h : ∀ x y, x < n → y < n → x ≠ y → a (x * 6 + y) = nI (f (tc_pr x y))) {u v m : Nat} (hu : u < n) (hv : v < n) (huv : u ≠ v) : ∀ x y, x < n → y < n → x ≠ y → upd (upd a (u * 6 + v) (nI m)) (v * 6 + u) (nI m) (x * 6 + y) = nI (if tc_pr x y = tc_pr u v then m else f (tc_pr x y)) := by
  intro x y hx hy hxy
  have q := tc_pr_u hn hx hy hxy hu hv huv
  by_cases k : tc_pr x y = tc_pr u v
  · rw [if_pos k]
    rcases q.mp k with ⟨h1, h2⟩ | ⟨h1, h2⟩
    · rw [h1, h2, pk_un (by omega), pk_us]
    · rw [h1, h2, pk_us]
  · rw [if_neg k, pk_un, pk_un]
    · exact h x y hx hy hxy
    · intro z; exact k (q.mpr (Or.inl (by omega)))
    · intro z; exact k (q.mpr (Or.inr (by omega)))
theorem tc_XA_m (hn : n < 7) (X : tc_XA n e md ae am) {u v m : Nat} (hu : u < n) (hv : v < n) (huv : u ≠ v) : tc_XA n e (fun p => if p = tc_pr u v then m else md p) ae (upd (upd am (u * 6 + v) (nI m)) (v * 6 + u) (nI m)) :=
  fun x y hx hy hxy => ⟨(X x y hx hy hxy).1, tc_set2 hn (fun x y hx hy hxy => (X x y hx hy hxy).2) hu hv huv x y hx hy hxy⟩
theorem tc_XA_e (hn : n < 7) (X : tc_XA n e md ae am) {u v m : Nat} (hu : u < n) (hv : v < n) (huv : u ≠ v) : tc_XA n (fun p => if p = tc_pr u v then m else e p) md (upd (upd ae (u * 6 + v) (nI m)) (v * 6 + u) (nI m)) am :=
  fun x y hx hy hxy => ⟨tc_set2 hn (fun x y hx hy hxy => (X x y hx hy hxy).1) hu hv huv x y hx hy hxy, (X x y hx hy hxy).2⟩
theorem tc_x_set {post : SX → Prop} (hn : n < 7) {u v : Nat} (hu : u < n) (hv : v < n) {m fn fw fz : Int32} {ag : Nat → Int32} {ad ap : Nat → Int64} {ak : Nat → Int32} (K : post (fn, fw, fz, ae, upd (upd am (u * 6 + v) m) (v * 6 + u) m, ag, ad, ap, ak)) : wpX_setMode post (fn, fw, fz, ae, am, ag, ad, ap, ak) (nI u) (nI v) m := by
  have u6 : u < 6 := by omega
  have v6 : v < 6 := by omega
  unfold wpX_setMode
  dsimp only
  rw [tc_ix, tc_ix, tc_ixcl u6 v6, tc_ixcl v6 u6]
  exact ⟨tc_ixin u6 v6, nm_e ⟨tc_ixin v6 u6, nm_e K⟩⟩
theorem tc_x_cu {post : Int32 → SX → Prop} (h2 : 2 ≤ n) (hn : n < 7) (X : tc_XA n e md ae am) (he : tc_EB n e md) {u v : Nat} (hu : u < n) (hv : v < n) (huv : u ≠ v) (K : ∀ fw fz ag ad ap ak, post (Int32.ofInt (tc_us n e md (tc_pr u v))) (nI n, fw, fz, ae, am, ag, ad, ap, ak)) (fw fz : Int32) (ag : Nat → Int32) (ad ap : Nat → Int64) (ak : Nat → Int32) : wpX_countUsing post (nI n, fw, fz, ae, am, ag, ad, ap, ak) (nI u) (nI v) := by
  have u6 : u < 6 := by omega
  have v6 : v < 6 := by omega
  have hq := tc_pr_1 n hn u hu v hv huv
  have mb := (he _ hq).2
  have x1 := (X u v hu hv huv).2
  have x2 := (X v u hv hu (Ne.symm huv)).2
  rw [(tc_pr_0 u u6 v v6 huv).2.1] at x2
  unfold wpX_countUsing
  dsimp only
  rw [tc_ix, tc_ixcl u6 v6, x1]
  refine ⟨tc_ixin u6 v6, nm_e ?_⟩
  by_cases c2 : md (tc_pr u v) = 2
  · refine br_t (by rw [c2]; rfl) ?_
    rw [tc_us_2 hq c2] at K
    exact K _ _ _ _ _ _
  refine br_f (fun z => c2 ((nI_eq (b := 2) (by omega) (by decide)).mp z)) ?_
  refine tc_x_count h2 hn X he (fun fw fz ag ad ap ak => ?_) _ _ _ _ _ _
  dsimp only
  by_cases c1 : md (tc_pr u v) = 1
  · refine br_t (by rw [c1]; rfl) ?_
    rw [tc_us_1 hq c1] at K
    exact K _ _ _ _ _ _
  have c0 : md (tc_pr u v) = 0 := by omega
  refine br_f (fun z => c1 ((nI_eq (b := 1) (by omega) (by decide)).mp z)) ?_
  refine tc_x_set hn hu hv ?_
  dsimp only
  have X' := tc_XA_m (m := 2) hn X hu hv huv
  refine tc_x_count h2 hn X' (fun p hp => ?_) (fun fw fz ag ad ap ak => ?_) _ _ _ _ _ _
  · have := he p hp
    refine ⟨this.1, ?_⟩
    show (if p = tc_pr u v then 2 else md p) ≤ 2
    split <;> omega
  dsimp only
  refine tc_x_set hn hu hv ?_
  dsimp only
  rw [← Int32.ofInt_sub, ← tc_us_0 hq c0 (fun p _ => rfl)]
  have e1 : upd (upd (upd (upd am (u * 6 + v) (nI 2)) (v * 6 + u) (nI 2)) (u * 6 + v) (nI (md (tc_pr u v)))) (v * 6 + u) (nI (md (tc_pr u v))) = am := by
    funext j
    by_cases j1 : j = v * 6 + u
    · rw [j1, pk_us, x2]
    · rw [pk_un j1]
      by_cases j2 : j = u * 6 + v
      · rw [j2, pk_us, x1]
      · rw [pk_un j2, pk_un j1, pk_un j2]
  have q := K fw fz ag ad ap ak
  rw [← e1] at q
  rw [e1] at q ⊢
  first
    | exact q
    | (show post _ (nI n, fw, fz, ae, upd (upd (upd (upd am (u * 6 + v) (nI 2)) (v * 6 + u) (nI 2)) (u * 6 + v) (nI (md (tc_pr u v)))) (v * 6 + u) (nI (md (tc_pr u v))), ag, ad, ap, ak); rw [e1]; exact q)
/-- how many pairs at v must be used -/
def tc_mf (md : Nat → Nat) (v u : Nat) : Int := if u = v then 0 else if md (tc_pr u v) = 1 then 1 else 0
theorem tc_mf_01 (v u : Nat) : tc_mf md v u = 0 ∨ tc_mf md v u = 1 := by
  unfold tc_mf; split
  · exact Or.inl rfl
  · split
    · exact Or.inr rfl
    · exact Or.inl rfl
theorem tc_x_mu4 {post : Int32 → Prop} (hn : n < 7) (X : tc_XA n e md ae am) (he : tc_EB n e md) {v : Nat} (hv : v < n) {fw fz : Int32} {ag : Nat → Int32} {ad ap : Nat → Int64} {ak : Nat → Int32} (K : post (Int32.ofInt (tc_s n (tc_mf md v)))) :
    ∀ (d u : Nat), u + d = n → wX_mustAt_4 post (nI v) (nI n) fw fz ae am ag ad ap ak (d + 1) (Int32.ofInt (tc_s u (tc_mf md v))) (nI u) := by
  intro d
  induction d with
  | zero =>
    intro u hu
    have e1 : u = n := by omega
    subst e1
    exact br_t (nI_le (Nat.le_refl _) (by omega)) K
  | succ d ih =>
    intro u hu
    have hun : u < n := by omega
    have go := ih (u + 1) (by omega)
    have st : tc_s (u + 1) (tc_mf md v) = tc_s u (tc_mf md v) + tc_mf md v u := rfl
    refine br_f (nI_ge hun (by omega)) ?_
    by_cases k : u = v
    · refine br_t (by rw [k]) (nm_r (nI_1 u) ?_)
      have z : tc_mf md v u = 0 := if_pos k
      rw [st, z, Int.add_zero] at go; exact go
    refine br_f (fun z => k ((nI_eq (by omega) (by omega)).mp z)) ?_
    have mb := (he _ (tc_pr_1 n hn u hun v hv k)).2
    rw [tc_ix, tc_ixcl (by omega) (by omega), (X u v hun hv k).2]
    refine ⟨tc_ixin (by omega) (by omega), ?_⟩
    by_cases c : md (tc_pr u v) = 1
    · have z : tc_mf md v u = 1 := by unfold tc_mf; rw [if_neg k, if_pos c]
      refine br_t (by rw [c]; rfl) (nm_r (e' := Int32.ofInt (tc_s (u + 1) (tc_mf md v))) ?_ (nm_r (nI_1 u) go))
      rw [st, z, Int32.ofInt_add]; rfl
    · have z : tc_mf md v u = 0 := by unfold tc_mf; rw [if_neg k, if_neg c]
      refine br_f (fun y => c ((nI_eq (b := 1) (by omega) (by decide)).mp y)) (nm_r (nI_1 u) ?_)
      rw [st, z, Int.add_zero] at go; exact go
theorem tc_x_mu {post : Int32 → Prop} (hn : n < 7) (X : tc_XA n e md ae am) (he : tc_EB n e md) {v : Nat} (hv : v < n) {fw fz : Int32} {ag : Nat → Int32} {ad ap : Nat → Int64} {ak : Nat → Int32} (K : ∀ m : Nat, m < 7 → tc_s n (tc_mf md v) = (m : Int) → post (nI m)) : wpX_mustAt post (nI n, fw, fz, ae, am, ag, ad, ap, ak) (nI v) := by
  have nn : 0 ≤ tc_s n (tc_mf md v) ∧ tc_s n (tc_mf md v) ≤ n := by
    have : ∀ m : Nat, 0 ≤ tc_s m (tc_mf md v) ∧ tc_s m (tc_mf md v) ≤ m := by
      intro m
      induction m with
      | zero => exact ⟨Int.le_refl _, Int.le_refl _⟩
      | succ m ih =>
        have q := tc_mf_01 (md := md) v m
        show 0 ≤ tc_s m (tc_mf md v) + tc_mf md v m ∧ tc_s m (tc_mf md v) + tc_mf md v m ≤ ((m + 1 : Nat) : Int)
        rcases q with q | q <;> omega
    exact this n
  obtain ⟨m, hm⟩ : ∃ m : Nat, tc_s n (tc_mf md v) = (m : Int) := ⟨(tc_s n (tc_mf md v)).toNat, by omega⟩
  refine ⟨n + 1, tc_x_mu4 hn X he hv ?_ n 0 (by omega)⟩
  have := K m (by omega) hm
  rw [hm, ← tc_oN]; exact this
theorem tc_C_i (hn : n < 7) {u v m : Nat} (hu : u < n) (huv : u ≠ v) (hm : tc_s n (tc_mf md v) = (m : Int)) (h1 : md (tc_pr u v) ≠ 2) (h2 : m ≤ 1) (h3 : m = 1 → md (tc_pr u v) = 1) : tc_C n md v u := by
  refine ⟨h1, fun x hx hxv hxu k => ?_⟩
  have fx : tc_mf md v x = 1 := by unfold tc_mf; rw [if_neg hxv, if_pos k]
  have m01 : m = 0 ∨ m = 1 := by omega
  rcases m01 with rfl | rfl
  · have := tc_s_z (fun i _ => by rcases tc_mf_01 (md := md) v i with q | q <;> omega) hm x hx
    omega
  · obtain ⟨a, ha, f1, f2⟩ := tc_s_u (fun i _ => tc_mf_01 v i) hm
    have fu : tc_mf md v u = 1 := by unfold tc_mf; rw [if_neg huv, if_pos (h3 rfl)]
    by_cases c : x = a
    · have := f2 u hu (fun z => hxu (by omega))
      omega
    · have := f2 x hx c
      omega
theorem tc_C_n (hn : n < 7) {u v m : Nat} (hu : u < n) (huv : u ≠ v) (hm : tc_s n (tc_mf md v) = (m : Int)) (C : tc_C n md v u) : m ≤ 1 ∧ (m = 1 → md (tc_pr u v) = 1) := by
  have e1 : tc_s n (tc_mf md v) = tc_mf md v u := by
    refine tc_s_one hu (fun i hi hiu => ?_)
    unfold tc_mf
    by_cases k : i = v
    · rw [if_pos k]
    · rw [if_neg k, if_neg (C.2 i hi k hiu)]
  rw [hm] at e1
  have q : tc_mf md v u = if md (tc_pr u v) = 1 then 1 else 0 := if_neg huv
  by_cases k : md (tc_pr u v) = 1
  · rw [if_pos k] at q; exact ⟨by omega, fun _ => k⟩
  · rw [if_neg k] at q; exact ⟨by omega, fun z => by omega⟩
theorem tc_x_h92 {post : Int32 → SX → Prop} (hn : n < 7) (X : tc_XA n e md ae am) (he : tc_EB n e md) {u v c0 ω : Nat} (hu : u < n) (hv : v < n) (huv : u ≠ v) (hc : c0 < n) (hcv : c0 ≠ v) {g : Nat → Nat} (I : tc_IV n e (tc_mv v md) g ω) (iso : ∀ x, x < n → (g x = v ↔ x = v)) {ag : Nat → Int32} (hg : tc_G n g ag) (C : tc_C n md v u) (z : ω ≠ 0) {ad : Nat → Int64}
    (hD : tc_D (fun x y => tc_L n g (tc_W (tc_wt e md)) x y + (if x < n ∧ x = y ∧ x ≠ v then tc_L n g (tc_W (tc_wt e md)) x v else 0)) ad) (K : ∀ fw fz ag ad ap ak, post (Int32.ofInt (tc_hg n e md v u)) (nI n, fw, fz, ae, am, ag, ad, ap, ak)) {fz : Int32} {ap : Nat → Int64} {ak : Nat → Int32} : wX_hanging_92 post (nI v) (nI u) (nI (g c0)) (nI n) (nI ω) fz ae am ag ad ap ak := by
  have wb := tc_IV_b hn I (fun p hp => (he p hp).1)
  have gc := (I.1 c0 hc).1
  have val := tc_hg_x hn hv hu hc huv hcv (fun p hp => (he p hp).2) C I iso
  rw [if_neg z] at val
  have eb := (he _ (tc_pr_1 n hn u hu v hv huv)).1
  unfold wX_hanging_92
  refine tc_x_co hn I.1 hg (show g c0 < n by omega) hv (fun s ks ak' ap' hs hk hd hp => ?_)
  dsimp only
  refine tc_x_det (by omega) (B := fun i j => tc_L n g (tc_W (tc_wv v (tc_wt e md))) (ks i) (ks j)) (fun x y _ _ => tc_L_b hn (tc_Wvb hn he v) _ _) (fun x y hx hy => ?_) (fun ap'' => ?_)
  · have k1 := hk x hx
    have k2 := hk y hy
    have n1 := (tc_k2_i.mp k1.2).2.2
    have n2 := (tc_k2_i.mp k2.2).2.2
    rw [hp x y hx hy, hD _ _ (by omega) (by omega), ← tc_L_drop hn hv iso n1 n2]
    congr 1
    show tc_L n g (tc_W (tc_wt e md)) (ks x) (ks y) + (if ks x < n ∧ ks x = ks y ∧ ks x ≠ v then tc_L n g (tc_W (tc_wt e md)) (ks x) v else 0) = _
    congr 1
    by_cases c : ks x = ks y
    · rw [if_pos ⟨k1.1, c, n1⟩, c, tc_i_s, Int.one_mul]
    · rw [if_neg (fun w => c w.2.1), tc_i_n c, Int.zero_mul]
  · dsimp only
    rw [tc_ix, tc_ixcl (by omega) (by omega), (X u v hu hv huv).1, tc_fin2 (by omega) (by omega), ← hd, ← val]
    exact ⟨tc_ixin (by omega) (by omega), K _ _ _ _ _ _⟩
theorem tc_x_h50 {post : Int32 → SX → Prop} (h2 : 2 ≤ n) (hn : n < 7) (X : tc_XA n e md ae am) (he : tc_EB n e md) {u v : Nat} (hu : u < n) (hv : v < n) (huv : u ≠ v) (C : tc_C n md v u) (K : ∀ fw fz ag ad ap ak, post (Int32.ofInt (tc_hg n e md v u)) (nI n, fw, fz, ae, am, ag, ad, ap, ak)) {fw fz : Int32} {ag : Nat → Int32} {ad ap : Nat → Int64} {ak : Nat → Int32} : wX_hanging_50 post (nI v) (nI u) (nI n) fw fz ae am ag ad ap ak := by
  have hm : ∀ p, p < tc_t n → md p ≤ 2 := fun p hp => (he p hp).2
  unfold wX_hanging_50
  refine tc_x_cow h2 hn X hm hv (fun g ω ag' I iso hg => ?_)
  have wb := tc_IV_b hn I (fun p hp => (he p hp).1)
  dsimp only
  by_cases z : ω = 0
  · refine br_t ((tc_nz (by omega)).mpr z) ?_
    have val := tc_hg_x (c0 := u) hn hv hu hu huv huv hm C I iso
    rw [if_pos z] at val
    rw [val] at K
    exact K _ _ _ _ _ _
  · refine br_f (fun y => z ((tc_nz (by omega)).mp y)) ?_
    refine tc_x_fm hn I.1 hg X he (fun ad' hD => ?_)
    dsimp only
    refine tc_x_dr hn hv hD (fun ad'' hD' => ?_)
    dsimp only
    by_cases c : v = 0
    · refine br_t (by rw [c]; rfl) ?_
      rw [hg 1 (by omega)]
      exact tc_x_h92 hn X he hu hv huv (by omega) (by omega) I iso hg C z hD' K
    · refine br_f (fun y => c ((tc_nz (by omega)).mp y)) ?_
      rw [hg 0 (by omega)]
      exact tc_x_h92 hn X he hu hv huv (by omega) (by omega) I iso hg C z hD' K
theorem tc_x_hang {post : Int32 → SX → Prop} (h2 : 2 ≤ n) (hn : n < 7) (X : tc_XA n e md ae am) (he : tc_EB n e md) {u v : Nat} (hu : u < n) (hv : v < n) (huv : u ≠ v) (K : ∀ fw fz ag ad ap ak, post (Int32.ofInt (tc_hg n e md v u)) (nI n, fw, fz, ae, am, ag, ad, ap, ak)) (fw fz : Int32) (ag : Nat → Int32) (ad ap : Nat → Int64) (ak : Nat → Int32) : wpX_hanging post (nI n, fw, fz, ae, am, ag, ad, ap, ak) (nI v) (nI u) := by
  have u6 : u < 6 := by omega
  have v6 : v < 6 := by omega
  have mb := (he _ (tc_pr_1 n hn u hu v hv huv)).2
  have zero : ¬ tc_C n md v u → post 0 (nI n, fw, fz, ae, am, ag, ad, ap, ak) := by
    intro nc
    have q := K fw fz ag ad ap ak
    rw [tc_hg_0 hn hv hu huv nc] at q
    exact q
  unfold wpX_hanging
  dsimp only
  refine tc_x_mu hn X he hv (fun m m7 hm => ?_)
  rw [tc_ix, tc_ixcl u6 v6, (X u v hu hv huv).2]
  refine ⟨tc_ixin u6 v6, ?_⟩
  by_cases c2 : md (tc_pr u v) = 2
  · exact br_t (by rw [c2]; rfl) (zero (fun C => C.1 c2))
  refine br_f (fun z => c2 ((nI_eq (b := 2) (by omega) (by decide)).mp z)) ?_
  by_cases k1 : 1 < m
  · refine br_t (nI_lt (a := 1) k1 (by omega)) (zero (fun C => ?_))
    have := (tc_C_n hn hu huv hm C).1
    omega
  refine br_f (nI_nlt (b := m) (a := 1) (by omega) (by decide)) ?_
  by_cases k2 : m = 1
  · refine br_t (by rw [k2]; rfl) ⟨tc_ixin u6 v6, ?_⟩
    by_cases k3 : md (tc_pr u v) = 1
    · exact br_t (by rw [k3]; rfl) (tc_x_h50 h2 hn X he hu hv huv (tc_C_i hn hu huv hm c2 (by omega) (fun _ => k3)) K)
    · exact br_f (fun z => k3 ((nI_eq (b := 1) (by omega) (by decide)).mp z)) (zero (fun C => k3 ((tc_C_n hn hu huv hm C).2 k2)))
  · exact br_f (fun z => k2 ((nI_eq (b := 1) (by omega) (by decide)).mp z)) (tc_x_h50 h2 hn X he hu hv huv (tc_C_i hn hu huv hm c2 (by omega) (fun y => absurd y k2)) K)
end
end
section
/-! the calls of both -/
theorem tc_wy_b {e md : Nat → Nat} {S : Nat} : ∀ m : Nat, (∀ p, p < m → e p ≤ 3) → 0 ≤ tc_p m (tc_fc e md S) ∧ tc_p m (tc_fc e md S) ≤ ((3 ^ tc_bn S m : Nat) : Int) := by
  intro m
  induction m with
  | zero => intro _; exact ⟨show (0 : Int) ≤ 1 by decide, show (1 : Int) ≤ ((3 ^ 0 : Nat) : Int) by decide⟩
  | succ m ih =>
    intro h
    obtain ⟨h1, h2⟩ := ih (fun p hp => h p (by omega))
    have hm := h m (by omega)
    show 0 ≤ tc_p m (tc_fc e md S) * tc_fc e md S m ∧ tc_p m (tc_fc e md S) * tc_fc e md S m ≤ ((3 ^ (tc_bn S m + (if S.testBit m = true then 1 else 0)) : Nat) : Int)
    by_cases b : S.testBit m = true
    · rw [if_pos b, Nat.pow_succ, Int.natCast_mul]
      have f : 0 ≤ tc_fc e md S m ∧ tc_fc e md S m ≤ 3 := by
        unfold tc_fc; rw [if_pos b]; split <;> omega
      exact ⟨Int.mul_nonneg h1 f.1, Int.mul_le_mul h2 f.2 f.1 (by omega)⟩
    · rw [if_neg b, Nat.add_zero]
      have f : tc_fc e md S m = 0 ∨ tc_fc e md S m = 1 := by
        unfold tc_fc; rw [if_neg b]; split
        · exact Or.inl rfl
        · exact Or.inr rfl
      rcases f with f | f
      · rw [f, Int.mul_zero]; omega
      · rw [f, Int.mul_one]; exact ⟨h1, h2⟩
theorem tc_s_le {n : Nat} {f g : Nat → Int} (h : ∀ i, i < n → f i ≤ g i) : tc_s n f ≤ tc_s n g := by
  induction n with
  | zero => exact Int.le_refl _
  | succ n ih =>
    have := ih (fun i hi => h i (by omega))
    have := h n (by omega)
    show tc_s n f + f n ≤ tc_s n g + g n
    omega
theorem tc_Z_b {n : Nat} {e md : Nat → Nat} (h2 : 2 ≤ n) (hn : n < 7) (he : ∀ p, p < tc_t n → e p ≤ 3) : 0 ≤ tc_Z n (tc_wy n e md) ∧ tc_Z n (tc_wy n e md) < 314929 := by
  constructor
  · have z : tc_s (2 ^ tc_t n) (fun _ => 0) = 0 := tc_s_0 (fun _ _ => rfl)
    rw [← z]
    unfold tc_Z
    refine tc_s_le (fun S _ => ?_)
    split
    · exact (tc_wy_b _ he).1
    · exact Int.le_refl _
  · have q : tc_Z n (tc_wy n e md) ≤ tc_Z n (fun _ => 243 * 1) := by
      unfold tc_Z
      refine tc_s_le (fun S hS => ?_)
      by_cases t : tc_isT n S = true
      · rw [if_pos t, if_pos t]
        have p1 := Nat.eq_of_beq_eq_true (Bool.and_eq_true_iff.mp t).1
        rw [tc_pc_bn S S (Nat.le_refl _) hS] at p1
        have w := (tc_wy_b (md := md) (S := S) _ he).2
        have r : 3 ^ tc_bn S (tc_t n) ≤ 3 ^ 5 := Nat.pow_le_pow_right (by decide) (by omega)
        have r2 : 3 ^ 5 = 243 := by decide
        have w' : tc_wy n e md S ≤ ((3 ^ tc_bn S (tc_t n) : Nat) : Int) := w
        show tc_wy n e md S ≤ 243 * 1
        omega
      · rw [if_neg t, if_neg t]; exact Int.le_refl _
    rw [tc_Z_mul] at q
    have t := tc_tot h2 hn
    omega
theorem tc_tri : ∀ n, 2 ≤ n → n < 7 → ∀ f : Nat → Int, tc_s n (fun u => tc_s n (fun v => if u < v then f (tc_pr u v) else 0)) = tc_s (tc_t n) f := by
  intro n h2 hn f
  have : n = 2 ∨ n = 3 ∨ n = 4 ∨ n = 5 ∨ n = 6 := by omega
  rcases this with rfl | rfl | rfl | rfl | rfl <;> simp [tc_s, tc_pr, tc_t] <;> omega
section
variable {n : Nat} {e md : Nat → Nat} {ae am : Nat → Int32}
theorem tc_x_lf14 {post : Int32 → SX → Prop} (h2 : 2 ≤ n) (hn : n < 7) (X : tc_XA n e md ae am) (he : tc_EB n e md) {v : Nat} (hv : v < n) (K : ∀ fw fz ag ad ap ak, post (Int32.ofInt (tc_s n (fun u => if u = v then 0 else tc_hg n e md v u))) (nI n, fw, fz, ae, am, ag, ad, ap, ak)) :
    ∀ (d u : Nat) (fw fz : Int32) (ag : Nat → Int32) (ad ap : Nat → Int64) (ak : Nat → Int32), u + d = n → wX_leaf_14 post (nI v) (d + 1) (Int32.ofInt (tc_s u (fun u => if u = v then 0 else tc_hg n e md v u))) (nI u) (nI n) fw fz ae am ag ad ap ak := by
  intro d
  induction d with
  | zero =>
    intro u fw fz ag ad ap ak hu
    have e1 : u = n := by omega
    subst e1
    exact br_t (nI_le (Nat.le_refl _) (by omega)) (K _ _ _ _ _ _)
  | succ d ih =>
    intro u fw fz ag ad ap ak hu
    have hun : u < n := by omega
    have st : tc_s (u + 1) (fun u => if u = v then 0 else tc_hg n e md v u) = tc_s u (fun u => if u = v then 0 else tc_hg n e md v u) + (if u = v then 0 else tc_hg n e md v u) := rfl
    refine br_f (nI_ge hun (by omega)) ?_
    by_cases k : u = v
    · have go := ih (u + 1) fw fz ag ad ap ak (by omega)
      rw [st, if_pos k, Int.add_zero] at go
      exact br_t (by rw [k]) (nm_r (nI_1 u) go)
    · refine br_f (fun z => k ((nI_eq (by omega) (by omega)).mp z)) ?_
      refine tc_x_hang h2 hn X he hun hv k (fun fw fz ag ad ap ak => ?_) _ _ _ _ _ _
      have go := ih (u + 1) fw fz ag ad ap ak (by omega)
      rw [st, if_neg k, Int32.ofInt_add] at go
      exact nm_e (nm_r (nI_1 u) go)
theorem tc_x_dg14 {post : Int32 → SX → Prop} (h2 : 2 ≤ n) (hn : n < 7) (X : tc_XA n e md ae am) (he : tc_EB n e md) {v : Nat} (hv : v < n) (K : ∀ fw fz ag ad ap ak, post (Int32.ofInt (tc_s n (fun u => if u = v then 0 else tc_us n e md (tc_pr u v)))) (nI n, fw, fz, ae, am, ag, ad, ap, ak)) :
    ∀ (d u : Nat) (fw fz : Int32) (ag : Nat → Int32) (ad ap : Nat → Int64) (ak : Nat → Int32), u + d = n → wX_degrees_14 post (nI v) (d + 1) (Int32.ofInt (tc_s u (fun u => if u = v then 0 else tc_us n e md (tc_pr u v)))) (nI u) (nI n) fw fz ae am ag ad ap ak := by
  intro d
  induction d with
  | zero =>
    intro u fw fz ag ad ap ak hu
    have e1 : u = n := by omega
    subst e1
    exact br_t (nI_le (Nat.le_refl _) (by omega)) (K _ _ _ _ _ _)
  | succ d ih =>
    intro u fw fz ag ad ap ak hu
    have hun : u < n := by omega
    have st : tc_s (u + 1) (fun u => if u = v then 0 else tc_us n e md (tc_pr u v)) = tc_s u (fun u => if u = v then 0 else tc_us n e md (tc_pr u v)) + (if u = v then 0 else tc_us n e md (tc_pr u v)) := rfl
    refine br_f (nI_ge hun (by omega)) ?_
    by_cases k : u = v
    · have go := ih (u + 1) fw fz ag ad ap ak (by omega)
      rw [st, if_pos k, Int.add_zero] at go
      exact br_t (by rw [k]) (nm_r (nI_1 u) go)
    · refine br_f (fun z => k ((nI_eq (by omega) (by omega)).mp z)) ?_
      refine tc_x_cu h2 hn X he hun hv k (fun fw fz ag ad ap ak => ?_) _ _ _ _ _ _
      have go := ih (u + 1) fw fz ag ad ap ak (by omega)
      rw [st, if_neg k, Int32.ofInt_add] at go
      exact nm_e (nm_r (nI_1 u) go)
theorem tc_x_bv {post : Int32 → Prop} (hn : n < 7) {v : Nat} (hv : v < n) {fw fz : Int32} {ag : Nat → Int32} {ad ap : Nat → Int64} {ak : Nat → Int32} (h : post 0) : wpX_badVertex post (nI n, fw, fz, ae, am, ag, ad, ap, ak) (nI v) :=
  br_f (nI_pos (by omega)) (br_t (nI_lt hv (by omega)) h)
theorem tc_x_bp {post : Int32 → Prop} (hn : n < 7) {u v : Nat} (hu : u < n) (hv : v < n) (huv : u ≠ v) {fw fz : Int32} {ag : Nat → Int32} {ad ap : Nat → Int64} {ak : Nat → Int32} (h : post 0) : wpX_badPair post (nI n, fw, fz, ae, am, ag, ad, ap, ak) (nI u) (nI v) :=
  br_f (nI_pos (by omega)) (br_f (nI_ge hu (by omega)) (br_f (nI_pos (by omega)) (br_f (nI_ge hv (by omega)) (br_f (fun y => huv ((nI_eq (by omega) (by omega)).mp y)) h))))
theorem tc_x_leaf {post : Int32 → SX → Prop} (h2 : 2 ≤ n) (hn : n < 7) (X : tc_XA n e md ae am) (he : tc_EB n e md) {v : Nat} (hv : v < n) (K : ∀ fw fz ag ad ap ak, post (Int32.ofInt (tc_Z n (fun S => if tc_dg n v S = 1 then tc_wy n e md S else 0))) (nI n, fw, fz, ae, am, ag, ad, ap, ak)) (fw fz : Int32) (ag : Nat → Int32) (ad ap : Nat → Int64) (ak : Nat → Int32) : wpX_leaf post (nI n, fw, fz, ae, am, ag, ad, ap, ak) (nI v) := by
  rw [tc_lf] at K
  unfold wpX_leaf
  dsimp only
  refine tc_x_bv hn hv ?_
  refine br_t rfl ⟨n + 1, ?_⟩
  exact tc_x_lf14 h2 hn X he hv K n 0 _ _ _ _ _ _ (by omega)
theorem tc_x_dgs {post : Int32 → SX → Prop} (h2 : 2 ≤ n) (hn : n < 7) (X : tc_XA n e md ae am) (he : tc_EB n e md) {v : Nat} (hv : v < n) (K : ∀ fw fz ag ad ap ak, post (Int32.ofInt (tc_Z n (fun S => tc_wy n e md S * tc_dg n v S))) (nI n, fw, fz, ae, am, ag, ad, ap, ak)) (fw fz : Int32) (ag : Nat → Int32) (ad ap : Nat → Int64) (ak : Nat → Int32) : wpX_degrees post (nI n, fw, fz, ae, am, ag, ad, ap, ak) (nI v) := by
  rw [tc_dgs] at K
  unfold wpX_degrees
  dsimp only
  refine tc_x_bv hn hv ?_
  refine br_t rfl ⟨n + 1, ?_⟩
  exact tc_x_dg14 h2 hn X he hv K n 0 _ _ _ _ _ _ (by omega)
theorem tc_x_ap {post : Int32 → SX → Prop} (h2 : 2 ≤ n) (hn : n < 7) (X : tc_XA n e md ae am) (he : tc_EB n e md) {u v : Nat} (hu : u < n) (hv : v < n) (huv : u ≠ v) (K : ∀ fw fz ag ad ap ak, post (Int32.ofInt (tc_ap n e md (tc_pr u v))) (nI n, fw, fz, ae, am, ag, ad, ap, ak)) (fw fz : Int32) (ag : Nat → Int32) (ad ap : Nat → Int64) (ak : Nat → Int32) : wpX_apart post (nI n, fw, fz, ae, am, ag, ad, ap, ak) (nI u) (nI v) := by
  have hm : ∀ p, p < tc_t n → md p ≤ 2 := fun p hp => (he p hp).2
  unfold wpX_apart
  dsimp only
  refine tc_x_bp hn hu hv huv ?_
  refine br_t rfl ?_
  refine tc_x_con h2 hn X hm (fun g ω ag' I hg => ?_)
  have wb := tc_IV_b hn I (fun p hp => (he p hp).1)
  have val := tc_ap_x (by omega) hn hu hv huv hm I
  have gu := (I.1 u hu).1
  have gv := (I.1 v hv).1
  dsimp only
  by_cases z : ω = 0
  · refine br_t ((tc_nz (by omega)).mpr z) ?_
    rw [if_pos (Or.inl z)] at val
    rw [val] at K
    exact K _ _ _ _ _ _
  refine br_f (fun y => z ((tc_nz (by omega)).mp y)) ⟨vp_in_nI (by omega) (by decide), vp_in_nI (by omega) (by decide), ?_⟩
  rw [nI_clamp (show u < 2 ^ 31 by omega), nI_clamp (show v < 2 ^ 31 by omega), hg u hu, hg v hv]
  by_cases c : g u = g v
  · refine br_t (by rw [c]) ?_
    rw [if_pos (Or.inr c)] at val
    rw [val] at K
    exact K _ _ _ _ _ _
  refine br_f (fun y => c ((nI_eq (by omega) (by omega)).mp y)) ?_
  rw [if_neg (by intro y; rcases y with y | y; exact z y; exact c y)] at val
  refine tc_x_fm hn I.1 hg X he (fun ad' hD => ?_)
  dsimp only
  refine ⟨vp_in_nI (by omega) (by decide), vp_in_nI (by omega) (by decide), ?_⟩
  try rw [nI_clamp (show u < 2 ^ 31 by omega)]
  try rw [nI_clamp (show v < 2 ^ 31 by omega)]
  rw [hg u hu, hg v hv]
  refine tc_x_co hn I.1 hg (show g u < n by omega) (show g v < n by omega) (fun s ks ak' ap' hs hk hd hp => ?_)
  dsimp only
  refine tc_x_det (by omega) (B := fun i j => tc_L n g (tc_W (tc_wt e md)) (ks i) (ks j)) (fun x y _ _ => tc_L_b hn (tc_Wb hn he) _ _) (fun x y hx hy => ?_) (fun ap'' => ?_)
  · have k1 := (hk x hx).1
    have k2 := (hk y hy).1
    rw [hp x y hx hy, hD _ _ (by omega) (by omega)]
  · dsimp only
    rw [tc_fin (by omega), ← hd, ← val]
    exact K _ _ _ _ _ _
/-- idle pairs -/
def tc_fi (n : Nat) (e md : Nat → Nat) (p : Nat) : Int := if e p = 0 then 0 else if Int32.ofInt (tc_us n e md p) = 0 then 1 else 0
theorem tc_x_id16 {post : Int32 → SX → Prop} (h2 : 2 ≤ n) (hn : n < 7) (X : tc_XA n e md ae am) (he : tc_EB n e md) {u : Nat} (hu : u < n) {A0 : Int} {J : Int32 → Int32 → Int32 → Int32 → Int32 → (Nat → Int32) → (Nat → Int32) → (Nat → Int32) → (Nat → Int64) → (Nat → Int64) → (Nat → Int32) → Prop}
    (K : ∀ fw fz ag ad ap ak, J (Int32.ofInt (A0 + tc_s n (fun v => if u < v then tc_fi n e md (tc_pr u v) else 0))) (nI (u + 1)) (nI n) fw fz ae am ag ad ap ak) :
    ∀ (d v : Nat) (fw fz : Int32) (ag : Nat → Int32) (ad ap : Nat → Int64) (ak : Nat → Int32), u < v → v + d = n → wX_idle_16 post J (nI u) (d + 1) (Int32.ofInt (A0 + tc_s v (fun v => if u < v then tc_fi n e md (tc_pr u v) else 0))) (nI v) (nI n) fw fz ae am ag ad ap ak := by
  intro d
  induction d with
  | zero =>
    intro v fw fz ag ad ap ak huv hv
    have e1 : v = n := by omega
    subst e1
    exact br_t (nI_le (Nat.le_refl _) (by omega)) (nm_r (nI_1 u) (K _ _ _ _ _ _))
  | succ d ih =>
    intro v fw fz ag ad ap ak huv hv
    have hvn : v < n := by omega
    have st : A0 + tc_s (v + 1) (fun v => if u < v then tc_fi n e md (tc_pr u v) else 0) = A0 + tc_s v (fun v => if u < v then tc_fi n e md (tc_pr u v) else 0) + tc_fi n e md (tc_pr u v) := by
      show A0 + (tc_s v _ + (if u < v then tc_fi n e md (tc_pr u v) else 0)) = _
      rw [if_pos huv]; omega
    have eb := (he _ (tc_pr_1 n hn u hu v hvn (by omega))).1
    refine br_f (nI_ge hvn (by omega)) ?_
    refine tc_x_cu h2 hn X he hu hvn (by omega) (fun fw fz ag ad ap ak => ?_) _ _ _ _ _ _
    have go := ih (v + 1) fw fz ag ad ap ak (by omega) (by omega)
    rw [st] at go
    dsimp only
    rw [tc_ix, tc_ixcl (by omega) (by omega), (X u v hu hvn (by omega)).1]
    refine ⟨tc_ixin (by omega) (by omega), ?_⟩
    by_cases k : e (tc_pr u v) = 0
    · have z : tc_fi n e md (tc_pr u v) = 0 := if_pos k
      rw [z, Int.add_zero] at go
      exact br_t (by rw [k]; decide) (nm_r (nI_1 v) go)
    refine br_f (nI_nle (by omega) (by omega)) ?_
    by_cases c : Int32.ofInt (tc_us n e md (tc_pr u v)) = 0
    · have z : tc_fi n e md (tc_pr u v) = 1 := by unfold tc_fi; rw [if_neg k, if_pos c]
      rw [z, Int32.ofInt_add] at go
      exact br_t c (nm_e (nm_r (nI_1 v) go))
    · have z : tc_fi n e md (tc_pr u v) = 0 := by unfold tc_fi; rw [if_neg k, if_neg c]
      rw [z, Int.add_zero] at go
      exact br_f c (nm_r (nI_1 v) go)
theorem tc_s_up {f : Nat → Int} (u : Nat) : tc_s (u + 1) (fun v => if u < v then f v else 0) = 0 := tc_s_0 (fun v hv => if_neg (by omega))
theorem tc_x_id4 {post : Int32 → SX → Prop} (h2 : 2 ≤ n) (hn : n < 7) (X : tc_XA n e md ae am) (he : tc_EB n e md) (K : ∀ fw fz ag ad ap ak, post (Int32.ofInt (tc_s n (fun u => tc_s n (fun v => if u < v then tc_fi n e md (tc_pr u v) else 0)))) (nI n, fw, fz, ae, am, ag, ad, ap, ak)) :
    ∀ (d u : Nat) (fw fz : Int32) (ag : Nat → Int32) (ad ap : Nat → Int64) (ak : Nat → Int32), u + d = n → wX_idle_4 post (d + 1) (Int32.ofInt (tc_s u (fun u => tc_s n (fun v => if u < v then tc_fi n e md (tc_pr u v) else 0)))) (nI u) (nI n) fw fz ae am ag ad ap ak := by
  intro d
  induction d with
  | zero =>
    intro u fw fz ag ad ap ak hu
    have e1 : u = n := by omega
    subst e1
    exact br_t (nI_le (Nat.le_refl _) (by omega)) (K _ _ _ _ _ _)
  | succ d ih =>
    intro u fw fz ag ad ap ak hu
    refine br_f (nI_ge (show u < n by omega) (by omega)) (nm_r (nI_1 u) ⟨d + 1, ?_⟩)
    have q := tc_x_id16 (post := post) (J := wX_idle_4 post (d + 1)) h2 hn X he (show u < n by omega) (A0 := tc_s u (fun u => tc_s n (fun v => if u < v then tc_fi n e md (tc_pr u v) else 0))) (fun fw fz ag ad ap ak => ih (u + 1) fw fz ag ad ap ak (by omega)) d (u + 1) fw fz ag ad ap ak (by omega) (by omega)
    rw [tc_s_up, Int.add_zero] at q
    exact q
theorem tc_x_idle {post : Int32 → SX → Prop} (h2 : 2 ≤ n) (hn : n < 7) (X : tc_XA n e md ae am) (he : tc_EB n e md) (K : ∀ fw fz ag ad ap ak, post (Int32.ofInt (tc_s (tc_t n) (tc_fi n e md))) (nI n, fw, fz, ae, am, ag, ad, ap, ak)) (fw fz : Int32) (ag : Nat → Int32) (ad ap : Nat → Int64) (ak : Nat → Int32) : wpX_idle post (nI n, fw, fz, ae, am, ag, ad, ap, ak) := by
  rw [← tc_tri n h2 hn] at K
  exact ⟨n + 1, tc_x_id4 h2 hn X he K n 0 _ _ _ _ _ _ (by omega)⟩
/-- needed pairs -/
def tc_fd (n : Nat) (e md : Nat → Nat) (p : Nat) : Int := if Int32.ofInt (tc_us n e md p) = Int32.ofInt (tc_Z n (tc_wy n e md)) then 1 else 0
theorem tc_x_nd28 {post : Int32 → SX → Prop} (h2 : 2 ≤ n) (hn : n < 7) (X : tc_XA n e md ae am) (he : tc_EB n e md) {u : Nat} (hu : u < n) {A0 : Int} {J : Int32 → Int32 → Int32 → Int32 → Int32 → (Nat → Int32) → (Nat → Int32) → (Nat → Int32) → (Nat → Int64) → (Nat → Int64) → (Nat → Int32) → Prop}
    (K : ∀ fw fz ag ad ap ak, J (Int32.ofInt (A0 + tc_s n (fun v => if u < v then tc_fd n e md (tc_pr u v) else 0))) (nI (u + 1)) (nI n) fw fz ae am ag ad ap ak) :
    ∀ (d v : Nat) (fw fz : Int32) (ag : Nat → Int32) (ad ap : Nat → Int64) (ak : Nat → Int32), u < v → v + d = n → wX_needed_28 post J (Int32.ofInt (tc_Z n (tc_wy n e md))) (nI u) (d + 1) (Int32.ofInt (A0 + tc_s v (fun v => if u < v then tc_fd n e md (tc_pr u v) else 0))) (nI v) (nI n) fw fz ae am ag ad ap ak := by
  intro d
  induction d with
  | zero =>
    intro v fw fz ag ad ap ak huv hv
    have e1 : v = n := by omega
    subst e1
    exact br_t (nI_le (Nat.le_refl _) (by omega)) (nm_r (nI_1 u) (K _ _ _ _ _ _))
  | succ d ih =>
    intro v fw fz ag ad ap ak huv hv
    have hvn : v < n := by omega
    have st : A0 + tc_s (v + 1) (fun v => if u < v then tc_fd n e md (tc_pr u v) else 0) = A0 + tc_s v (fun v => if u < v then tc_fd n e md (tc_pr u v) else 0) + tc_fd n e md (tc_pr u v) := by
      show A0 + (tc_s v _ + (if u < v then tc_fd n e md (tc_pr u v) else 0)) = _
      rw [if_pos huv]; omega
    refine br_f (nI_ge hvn (by omega)) ?_
    refine tc_x_cu h2 hn X he hu hvn (by omega) (fun fw fz ag ad ap ak => ?_) _ _ _ _ _ _
    have go := ih (v + 1) fw fz ag ad ap ak (by omega) (by omega)
    rw [st] at go
    dsimp only
    by_cases c : Int32.ofInt (tc_us n e md (tc_pr u v)) = Int32.ofInt (tc_Z n (tc_wy n e md))
    · have z : tc_fd n e md (tc_pr u v) = 1 := if_pos c
      rw [z, Int32.ofInt_add] at go
      exact br_t c (nm_e (nm_r (nI_1 v) go))
    · have z : tc_fd n e md (tc_pr u v) = 0 := if_neg c
      rw [z, Int.add_zero] at go
      exact br_f c (nm_r (nI_1 v) go)
theorem tc_x_nd15 {post : Int32 → SX → Prop} (h2 : 2 ≤ n) (hn : n < 7) (X : tc_XA n e md ae am) (he : tc_EB n e md) (K : ∀ fw fz ag ad ap ak, post (Int32.ofInt (tc_s n (fun u => tc_s n (fun v => if u < v then tc_fd n e md (tc_pr u v) else 0)))) (nI n, fw, fz, ae, am, ag, ad, ap, ak)) :
    ∀ (d u : Nat) (fw fz : Int32) (ag : Nat → Int32) (ad ap : Nat → Int64) (ak : Nat → Int32), u + d = n → wX_needed_15 post (Int32.ofInt (tc_Z n (tc_wy n e md))) (d + 1) (Int32.ofInt (tc_s u (fun u => tc_s n (fun v => if u < v then tc_fd n e md (tc_pr u v) else 0)))) (nI u) (nI n) fw fz ae am ag ad ap ak := by
  intro d
  induction d with
  | zero =>
    intro u fw fz ag ad ap ak hu
    have e1 : u = n := by omega
    subst e1
    exact br_t (nI_le (Nat.le_refl _) (by omega)) (K _ _ _ _ _ _)
  | succ d ih =>
    intro u fw fz ag ad ap ak hu
    refine br_f (nI_ge (show u < n by omega) (by omega)) (nm_r (nI_1 u) ⟨d + 1, ?_⟩)
    have q := tc_x_nd28 (post := post) (J := wX_needed_15 post (Int32.ofInt (tc_Z n (tc_wy n e md))) (d + 1)) h2 hn X he (show u < n by omega) (A0 := tc_s u (fun u => tc_s n (fun v => if u < v then tc_fd n e md (tc_pr u v) else 0))) (fun fw fz ag ad ap ak => ih (u + 1) fw fz ag ad ap ak (by omega)) d (u + 1) fw fz ag ad ap ak (by omega) (by omega)
    rw [tc_s_up, Int.add_zero] at q
    exact q
def tc_nd (n : Nat) (e md : Nat → Nat) : Int := if tc_Z n (tc_wy n e md) = 0 then 0 else tc_s (tc_t n) (tc_fd n e md)
theorem tc_all (h2 : 2 ≤ n) (hn : n < 7) (he : tc_EB n e md) : ∃ c : Nat, c < 2 ^ 31 ∧ tc_Z n (tc_wy n e md) = (c : Int) ∧ Int32.ofInt (tc_Z n (tc_wy n e md)) = nI c := by
  have b := tc_Z_b (md := md) h2 hn (fun p hp => (he p hp).1)
  refine ⟨(tc_Z n (tc_wy n e md)).toNat, by omega, by omega, ?_⟩
  rw [tc_oN]; congr 1; omega
theorem tc_x_needed {post : Int32 → SX → Prop} (h2 : 2 ≤ n) (hn : n < 7) (X : tc_XA n e md ae am) (he : tc_EB n e md) (K : ∀ fw fz ag ad ap ak, post (Int32.ofInt (tc_nd n e md)) (nI n, fw, fz, ae, am, ag, ad, ap, ak)) (fw fz : Int32) (ag : Nat → Int32) (ad ap : Nat → Int64) (ak : Nat → Int32) : wpX_needed post (nI n, fw, fz, ae, am, ag, ad, ap, ak) := by
  obtain ⟨c, hc, h1, h3⟩ := tc_all h2 hn he
  unfold wpX_needed
  dsimp only
  refine tc_x_count h2 hn X he (fun fw fz ag ad ap ak => ?_) _ _ _ _ _ _
  dsimp only
  unfold tc_nd at K
  by_cases z : c = 0
  · rw [if_pos (by omega)] at K
    refine br_t (by rw [h3, z]; rfl) (K _ _ _ _ _ _)
  · rw [if_neg (by omega), ← tc_tri n h2 hn] at K
    refine br_f (by rw [h3]; exact fun y => z ((tc_nz hc).mp y)) ⟨n + 1, ?_⟩
    exact tc_x_nd15 h2 hn X he K n 0 _ _ _ _ _ _ (by omega)
end
section
variable {n l : Nat} {e md ls : Nat → Nat} {be bm sh : Nat → Int32}
theorem tc_YA_EB (A : tc_YA n l e md ls be bm sh) : tc_EB n e md := fun p hp => (A.2.1 p hp).2.2
theorem tc_y_id4 (A : tc_YA n l e md ls be bm sh) {post : Int32 → Prop} (h : post (Int32.ofInt (tc_s (tc_t n) (tc_fi n e md)))) : ∀ (d p : Nat), p + d = tc_t n → wY_idle_4 post (nI n) (nI l) be bm sh (d + 1) (Int32.ofInt (tc_s p (tc_fi n e md))) (nI p) := by
  have tb := tc_t_b n A.1.2
  intro d
  induction d with
  | zero =>
    intro p hp
    have e1 : p = tc_t n := by omega
    subst e1
    refine ⟨by decide, ?_⟩
    rw [tc_tI n A.1.2]
    exact br_t (nI_le (Nat.le_refl _) (by omega)) h
  | succ d ih =>
    intro p hp
    have hpt : p < tc_t n := by omega
    have go := ih (p + 1) (by omega)
    have st : tc_s (p + 1) (tc_fi n e md) = tc_s p (tc_fi n e md) + tc_fi n e md p := rfl
    rw [st] at go
    obtain ⟨a1, a2, a3, a4⟩ := A.2.1 p hpt
    refine ⟨by decide, ?_⟩
    rw [tc_tI n A.1.2]
    refine br_f (nI_ge hpt (by omega)) ⟨vp_in_nI (by omega) (by decide), ?_⟩
    rw [nI_clamp (by omega), a1]
    by_cases k : e p = 0
    · have z : tc_fi n e md p = 0 := if_pos k
      rw [z, Int.add_zero] at go
      exact br_t (by rw [k]; decide) (nm_r (nI_1 p) go)
    refine br_f (nI_nle (by omega) (by omega)) ?_
    refine tc_y_with1 A hpt ?_
    by_cases c : Int32.ofInt (tc_us n e md p) = 0
    · have z : tc_fi n e md p = 1 := by unfold tc_fi; rw [if_neg k, if_pos c]
      rw [z, Int32.ofInt_add] at go
      exact br_t c (nm_e (nm_r (nI_1 p) go))
    · have z : tc_fi n e md p = 0 := by unfold tc_fi; rw [if_neg k, if_neg c]
      rw [z, Int.add_zero] at go
      exact br_f c (nm_r (nI_1 p) go)
theorem tc_y_idle (A : tc_YA n l e md ls be bm sh) {post : Int32 → Prop} (h : post (Int32.ofInt (tc_s (tc_t n) (tc_fi n e md)))) : wpY_idle post (nI n, nI l, be, bm, sh) :=
  ⟨tc_t n + 1, tc_y_id4 A h (tc_t n) 0 (by omega)⟩
theorem tc_y_nd9 (A : tc_YA n l e md ls be bm sh) {post : Int32 → Prop} (h : post (Int32.ofInt (tc_nd n e md))) : ∀ (d p : Nat), p + d = tc_t n → wY_needed_9 post (Int32.ofInt (tc_Z n (tc_wy n e md))) (nI n) (nI l) be bm sh (d + 1) (Int32.ofInt (if tc_Z n (tc_wy n e md) = 0 then 0 else tc_s p (tc_fd n e md))) (nI p) := by
  have tb := tc_t_b n A.1.2
  obtain ⟨c, hc, h1, h3⟩ := tc_all A.1.1 A.1.2 (tc_YA_EB A)
  intro d
  induction d with
  | zero =>
    intro p hp
    have e1 : p = tc_t n := by omega
    subst e1
    refine ⟨by decide, ?_⟩
    rw [tc_tI n A.1.2]
    exact br_t (nI_le (Nat.le_refl _) (by omega)) h
  | succ d ih =>
    intro p hp
    have hpt : p < tc_t n := by omega
    have go := ih (p + 1) (by omega)
    have st : tc_s (p + 1) (tc_fd n e md) = tc_s p (tc_fd n e md) + tc_fd n e md p := rfl
    rw [st] at go
    refine ⟨by decide, ?_⟩
    rw [tc_tI n A.1.2]
    refine br_f (nI_ge hpt (by omega)) ?_
    by_cases z : c = 0
    · rw [if_pos (by omega)] at go ⊢
      refine br_t (by rw [h3, z]; decide) (nm_r (nI_1 p) go)
    · rw [if_neg (by omega)] at go ⊢
      refine br_f (by rw [h3]; exact nI_nle (by omega) hc) ?_
      refine tc_y_with1 A hpt ?_
      by_cases k : Int32.ofInt (tc_us n e md p) = Int32.ofInt (tc_Z n (tc_wy n e md))
      · have z1 : tc_fd n e md p = 1 := if_pos k
        rw [z1, Int32.ofInt_add] at go
        exact br_t k (nm_e (nm_r (nI_1 p) go))
      · have z1 : tc_fd n e md p = 0 := if_neg k
        rw [z1, Int.add_zero] at go
        exact br_f k (nm_r (nI_1 p) go)
theorem tc_y_needed (A : tc_YA n l e md ls be bm sh) {post : Int32 → Prop} (h : post (Int32.ofInt (tc_nd n e md))) : wpY_needed post (nI n, nI l, be, bm, sh) := by
  unfold wpY_needed
  dsimp only
  refine tc_y_trees A ?_
  refine ⟨tc_t n + 1, ?_⟩
  have q := tc_y_nd9 A h (tc_t n) 0 (by omega)
  have z : (if tc_Z n (tc_wy n e md) = 0 then 0 else tc_s 0 (tc_fd n e md)) = 0 := by split <;> rfl
  rw [z] at q
  exact q
end
end
section
/-! the relation and what is owed -/
def i_Rel (k : Nat) (u : SX) (v : SY) : Prop :=
  ∃ (n l : Nat) (e md ls : Nat → Nat) (fw fz : Int32) (ae am ag : Nat → Int32) (ad ap : Nat → Int64) (ak be bm sh : Nat → Int32),
    u = (nI n, fw, fz, ae, am, ag, ad, ap, ak) ∧ v = (nI n, nI l, be, bm, sh) ∧ tc_XA n e md ae am ∧ tc_YA n l e md ls be bm sh
theorem i_up {k : Nat} {u : SX} {v : SY} (h : i_Rel k u v) : i_Rel (k + 4) u v := h
theorem tc_mk {k n l : Nat} {e md ls : Nat → Nat} {ae am be bm sh : Nat → Int32} (X : tc_XA n e md ae am) (A : tc_YA n l e md ls be bm sh) (fw fz : Int32) (ag : Nat → Int32) (ad ap : Nat → Int64) (ak : Nat → Int32) : i_Rel k (nI n, fw, fz, ae, am, ag, ad, ap, ak) (nI n, nI l, be, bm, sh) :=
  ⟨n, l, e, md, ls, fw, fz, ae, am, ag, ad, ap, ak, be, bm, sh, rfl, rfl, X, A⟩
theorem tc_i0 {n : Nat} (h2 : 2 ≤ n) (hn : n < 7) : ∃ n54 : Nat, wY_init_54 (fun v => i_Rel 1 (nI n, 0, 0, (fun _ => 0), (fun _ => 0), (fun _ => 0), (fun _ => 0), (fun _ => 0), (fun _ => 0)) v) (nI n) n54 1 0 (fun _ => 0) (fun _ => 0) (fun _ => 0) := by
  refine tc_y_init h2 hn (fun l ls sh h => ?_)
  refine tc_mk (e := fun _ => 0) (md := fun _ => 0) (ls := ls) (fun u v _ _ _ => ⟨rfl, rfl⟩) ⟨⟨h2, hn⟩, fun p _ => ⟨rfl, rfl, Nat.zero_le _, Nat.zero_le _⟩, tc_lk_b h2 hn (Nat.le_refl _) h, h.1, h.2⟩ _ _ _ _ _ _
theorem i_vc0 (k0 : Int32) : wpX_init (fun u => wpY_init (fun v => i_Rel 1 u v) k0) k0 := by
  by_cases h2 : 2 ≤ k0
  · by_cases h6 : k0 ≤ 6
    · have h0 : ¬ k0 < 0 := by
        have := Int32.le_iff_toInt_le.mp h2
        rw [Int32.lt_iff_toInt_lt]
        have e2 : (2 : Int32).toInt = 2 := by decide
        have e0 : (0 : Int32).toInt = 0 := by decide
        omega
      obtain ⟨j, hj, rfl⟩ := nI_of h0
      have j2 : 2 ≤ j := (nI_leI (a := 2) (by decide) hj).mp h2
      have j6 : j ≤ 6 := (nI_leI (b := 6) hj (by decide)).mp h6
      exact br_t h2 (br_t h6 (br_t h2 (br_t h6 (tc_i0 j2 (by omega)))))
    · exact br_t h2 (br_f h6 (br_t h2 (br_f h6 (tc_i0 (n := 6) (by decide) (by decide)))))
  · exact br_f h2 (br_t (by decide) (br_f h2 (br_t (by decide) (tc_i0 (n := 2) (by decide) (by decide)))))
/-- a pair is right, or both refuse it -/
theorem tc_pair {n : Nat} (hn : n < 7) (v1 v2 : Int32) : (∃ u v, u < n ∧ v < n ∧ u ≠ v ∧ v1 = nI u ∧ v2 = nI v) ∨
    ((∀ (post : Int32 → Prop) (fw fz : Int32) (ae am ag : Nat → Int32) (ad ap : Nat → Int64) (ak : Nat → Int32), post 1 → wpX_badPair post (nI n, fw, fz, ae, am, ag, ad, ap, ak) v1 v2) ∧ (∀ (post : Int32 → Prop) (fl : Int32) (be bm sh : Nat → Int32), post 1 → wpY_bad post (nI n, fl, be, bm, sh) v1 v2)) := by
  by_cases a : v1 < 0
  · exact Or.inr ⟨fun post _ _ _ _ _ _ _ _ h => br_t a h, fun post _ _ _ _ h => br_t a h⟩
  by_cases b : nI n ≤ v1
  · exact Or.inr ⟨fun post _ _ _ _ _ _ _ _ h => br_f a (br_t b h), fun post _ _ _ _ h => br_f a (br_t b h)⟩
  by_cases c : v2 < 0
  · exact Or.inr ⟨fun post _ _ _ _ _ _ _ _ h => br_f a (br_f b (br_t c h)), fun post _ _ _ _ h => br_f a (br_f b (br_t c h))⟩
  by_cases d : nI n ≤ v2
  · exact Or.inr ⟨fun post _ _ _ _ _ _ _ _ h => br_f a (br_f b (br_f c (br_t d h))), fun post _ _ _ _ h => br_f a (br_f b (br_f c (br_t d h)))⟩
  by_cases f : v1 = v2
  · exact Or.inr ⟨fun post _ _ _ _ _ _ _ _ h => br_f a (br_f b (br_f c (br_f d (br_t f h)))), fun post _ _ _ _ h => br_f a (br_f b (br_f c (br_f d (br_t f h))))⟩
  rcases pk_ix v1 (n := n) (by omega) with q | q | ⟨u, hu, e1⟩
  · exact absurd q a
  · exact absurd q b
  rcases pk_ix v2 (n := n) (by omega) with q | q | ⟨v, hv, e2⟩
  · exact absurd q c
  · exact absurd q d
  exact Or.inl ⟨u, v, hu, hv, fun z => f (by rw [e1, e2, z]), e1, e2⟩
/-- a small number, or refused -/
theorem tc_small {M : Int32} {m : Nat} (hM : M.toInt = m) (x : Int32) : x < 0 ∨ (¬ x < 0 ∧ ¬ x ≤ M) ∨ (¬ x < 0 ∧ x ≤ M ∧ ∃ j, j ≤ m ∧ x = nI j) := by
  by_cases a : x < 0
  · exact Or.inl a
  · by_cases b : x ≤ M
    · exact Or.inr (Or.inr ⟨a, b, nI_of2 hM a b⟩)
    · exact Or.inr (Or.inl ⟨a, b⟩)
theorem tc_YA_e {n l : Nat} {e md ls : Nat → Nat} {be bm sh : Nat → Int32} (A : tc_YA n l e md ls be bm sh) {q m : Nat} (hm : m ≤ 3) : tc_YA n l (fun p => if p = q then m else e p) md ls (upd be q (nI m)) bm sh := by
  refine ⟨A.1, fun p hp => ?_, A.2.2⟩
  have h := A.2.1 p hp
  show upd be q (nI m) p = nI (if p = q then m else e p) ∧ bm p = nI (md p) ∧ (if p = q then m else e p) ≤ 3 ∧ md p ≤ 2
  by_cases k : p = q
  · rw [if_pos k, k, pk_us]; rw [k] at h; exact ⟨rfl, h.2.1, hm, h.2.2.2⟩
  · rw [if_neg k, pk_un k]; exact h
theorem tc_YA_m {n l : Nat} {e md ls : Nat → Nat} {be bm sh : Nat → Int32} (A : tc_YA n l e md ls be bm sh) {q m : Nat} (hm : m ≤ 2) : tc_YA n l e (fun p => if p = q then m else md p) ls be (upd bm q (nI m)) sh := by
  refine ⟨A.1, fun p hp => ?_, A.2.2⟩
  have h := A.2.1 p hp
  show be p = nI (e p) ∧ upd bm q (nI m) p = nI (if p = q then m else md p) ∧ e p ≤ 3 ∧ (if p = q then m else md p) ≤ 2
  by_cases k : p = q
  · rw [if_pos k, k, pk_us]; rw [k] at h; exact ⟨h.1, rfl, h.2.2.1, hm⟩
  · rw [if_neg k, pk_un k]; exact h
theorem i_vc_edges {k : Nat} {u : SX} {v : SY} (I : i_Rel k u v) (hk : k + 4 ≤ 2049) (v1 : Int32) (v2 : Int32) (v3 : Int32) : wpX_edges (fun r u' => wpY_edges (fun r' v' => r' = r ∧ i_Rel (k + 4) u' v') v v1 v2 v3) u v1 v2 v3 := by
  obtain ⟨n, l, e, md, ls, fw, fz, ae, am, ag, ad, ap, ak, be, bm, sh, rfl, rfl, X, A⟩ := I
  have hn := A.1.2
  unfold wpX_edges wpY_edges
  dsimp only
  rcases tc_pair hn v1 v2 with ⟨a, b, ha, hb, hab, rfl, rfl⟩ | ⟨bX, bY⟩
  · refine tc_x_bp hn ha hb hab ?_
    refine br_t rfl ?_
    rcases tc_small (M := 3) (m := 3) (by decide) v3 with s | ⟨s, t⟩ | ⟨s, t, m, hm, rfl⟩
    · refine br_t s ?_
      refine tc_y_bad hn ha hb hab ?_
      exact br_t rfl (br_t s ⟨rfl, tc_mk X A _ _ _ _ _ _⟩)
    · refine br_f s (br_f t ?_)
      refine tc_y_bad hn ha hb hab ?_
      exact br_t rfl (br_f s (br_f t ⟨rfl, tc_mk X A _ _ _ _ _ _⟩))
    · have a6 : a < 6 := by omega
      have b6 : b < 6 := by omega
      have hq := tc_pr_1 n hn a ha b hb hab
      have tb := tc_t_b n hn
      refine br_f s (br_t t ?_)
      rw [tc_ix, tc_ix, tc_ixcl a6 b6, tc_ixcl b6 a6, (X a b ha hb hab).1]
      refine ⟨tc_ixin a6 b6, nm_e ⟨tc_ixin a6 b6, nm_e ⟨tc_ixin b6 a6, nm_e ?_⟩⟩⟩
      refine tc_y_bad hn ha hb hab ?_
      refine br_t rfl (br_f s (br_t t ?_))
      refine tc_y_pair a6 b6 ?_
      rw [nI_clamp (show tc_pr a b < 2 ^ 31 by omega)]
      refine ⟨vp_in_nI (by omega) (by decide), nm_e ⟨vp_in_nI (by omega) (by decide), nm_e ⟨(A.2.1 _ hq).1, ?_⟩⟩⟩
      exact tc_mk (tc_XA_e hn X ha hb hab) (tc_YA_e A hm) _ _ _ _ _ _
  · refine bX _ _ _ _ _ _ _ _ _ ?_
    refine br_f (by decide) ?_
    refine bY _ _ _ _ _ ?_
    exact br_f (by decide) ⟨rfl, tc_mk X A _ _ _ _ _ _⟩
theorem i_vc_mode {k : Nat} {u : SX} {v : SY} (I : i_Rel k u v) (hk : k + 4 ≤ 2049) (v1 : Int32) (v2 : Int32) (v3 : Int32) : wpX_mode (fun r u' => wpY_mode (fun r' v' => r' = r ∧ i_Rel (k + 4) u' v') v v1 v2 v3) u v1 v2 v3 := by
  obtain ⟨n, l, e, md, ls, fw, fz, ae, am, ag, ad, ap, ak, be, bm, sh, rfl, rfl, X, A⟩ := I
  have hn := A.1.2
  unfold wpX_mode wpY_mode
  dsimp only
  rcases tc_pair hn v1 v2 with ⟨a, b, ha, hb, hab, rfl, rfl⟩ | ⟨bX, bY⟩
  · refine tc_x_bp hn ha hb hab ?_
    refine br_t rfl ?_
    rcases tc_small (M := 2) (m := 2) (by decide) v3 with s | ⟨s, t⟩ | ⟨s, t, m, hm, rfl⟩
    · refine br_t s ?_
      refine tc_y_bad hn ha hb hab ?_
      exact br_t rfl (br_t s ⟨rfl, tc_mk X A _ _ _ _ _ _⟩)
    · refine br_f s (br_f t ?_)
      refine tc_y_bad hn ha hb hab ?_
      exact br_t rfl (br_f s (br_f t ⟨rfl, tc_mk X A _ _ _ _ _ _⟩))
    · have a6 : a < 6 := by omega
      have b6 : b < 6 := by omega
      have hq := tc_pr_1 n hn a ha b hb hab
      have tb := tc_t_b n hn
      refine br_f s (br_t t ?_)
      rw [tc_ix, tc_ixcl a6 b6, (X a b ha hb hab).2]
      refine ⟨tc_ixin a6 b6, nm_e ?_⟩
      refine tc_x_set hn ha hb ?_
      dsimp only
      refine tc_y_bad hn ha hb hab ?_
      refine br_t rfl (br_f s (br_t t ?_))
      refine tc_y_pair a6 b6 ?_
      rw [nI_clamp (show tc_pr a b < 2 ^ 31 by omega)]
      refine ⟨vp_in_nI (by omega) (by decide), nm_e ⟨vp_in_nI (by omega) (by decide), nm_e ⟨(A.2.1 _ hq).2.1, ?_⟩⟩⟩
      exact tc_mk (tc_XA_m hn X ha hb hab) (tc_YA_m A hm) _ _ _ _ _ _
  · refine bX _ _ _ _ _ _ _ _ _ ?_
    refine br_f (by decide) ?_
    refine bY _ _ _ _ _ ?_
    exact br_f (by decide) ⟨rfl, tc_mk X A _ _ _ _ _ _⟩
theorem i_vc_trees {k : Nat} {u : SX} {v : SY} (I : i_Rel k u v) (hk : k + 4 ≤ 2049) : wpX_trees (fun r u' => wpY_trees (fun r' => r' = r ∧ i_Rel (k + 4) u' v) v) u := by
  obtain ⟨n, l, e, md, ls, fw, fz, ae, am, ag, ad, ap, ak, be, bm, sh, rfl, rfl, X, A⟩ := I
  unfold wpX_trees
  dsimp only
  refine tc_x_count A.1.1 A.1.2 X (tc_YA_EB A) (fun fw fz ag ad ap ak => ?_) _ _ _ _ _ _
  exact tc_y_trees A ⟨rfl, tc_mk X A _ _ _ _ _ _⟩
theorem i_vc_using {k : Nat} {u : SX} {v : SY} (I : i_Rel k u v) (hk : k + 4 ≤ 2049) (v1 : Int32) (v2 : Int32) : wpX_using (fun r u' => wpY_using (fun r' => r' = r ∧ i_Rel (k + 4) u' v) v v1 v2) u v1 v2 := by
  obtain ⟨n, l, e, md, ls, fw, fz, ae, am, ag, ad, ap, ak, be, bm, sh, rfl, rfl, X, A⟩ := I
  have hn := A.1.2
  unfold wpX_using
  dsimp only
  rcases tc_pair hn v1 v2 with ⟨a, b, ha, hb, hab, rfl, rfl⟩ | ⟨bX, bY⟩
  · refine tc_x_bp hn ha hb hab ?_
    refine br_t rfl ?_
    refine tc_x_cu A.1.1 hn X (tc_YA_EB A) ha hb hab (fun fw fz ag ad ap ak => ?_) _ _ _ _ _ _
    exact tc_y_using A ha hb hab ⟨rfl, tc_mk X A _ _ _ _ _ _⟩
  · refine bX _ _ _ _ _ _ _ _ _ ?_
    refine br_f (by decide) ?_
    unfold wpY_using
    dsimp only
    refine bY _ _ _ _ _ ?_
    exact br_f (by decide) ⟨rfl, tc_mk X A _ _ _ _ _ _⟩
theorem i_vc_leaf {k : Nat} {u : SX} {v : SY} (I : i_Rel k u v) (hk : k + 4 ≤ 2049) (v1 : Int32) : wpX_leaf (fun r u' => wpY_leaf (fun r' => r' = r ∧ i_Rel (k + 4) u' v) v v1) u v1 := by
  obtain ⟨n, l, e, md, ls, fw, fz, ae, am, ag, ad, ap, ak, be, bm, sh, rfl, rfl, X, A⟩ := I
  have hn := A.1.2
  by_cases a : v1 < 0
  · exact br_t a (br_f (by decide) (br_t a ⟨rfl, tc_mk X A _ _ _ _ _ _⟩))
  by_cases b : v1 < nI n
  · obtain ⟨j, hj, rfl⟩ := nI_of a
    have hjn : j < n := (nI_ltI hj (by omega)).mp b
    refine tc_x_leaf A.1.1 hn X (tc_YA_EB A) hjn (fun fw fz ag ad ap ak => ?_) _ _ _ _ _ _
    exact tc_y_leaf A hjn ⟨rfl, tc_mk X A _ _ _ _ _ _⟩
  · exact br_f a (br_f b (br_f (by decide) (br_f a (br_f b ⟨rfl, tc_mk X A _ _ _ _ _ _⟩))))
theorem i_vc_degrees {k : Nat} {u : SX} {v : SY} (I : i_Rel k u v) (hk : k + 4 ≤ 2049) (v1 : Int32) : wpX_degrees (fun r u' => wpY_degrees (fun r' => r' = r ∧ i_Rel (k + 4) u' v) v v1) u v1 := by
  obtain ⟨n, l, e, md, ls, fw, fz, ae, am, ag, ad, ap, ak, be, bm, sh, rfl, rfl, X, A⟩ := I
  have hn := A.1.2
  by_cases a : v1 < 0
  · exact br_t a (br_f (by decide) (br_t a ⟨rfl, tc_mk X A _ _ _ _ _ _⟩))
  by_cases b : v1 < nI n
  · obtain ⟨j, hj, rfl⟩ := nI_of a
    have hjn : j < n := (nI_ltI hj (by omega)).mp b
    refine tc_x_dgs A.1.1 hn X (tc_YA_EB A) hjn (fun fw fz ag ad ap ak => ?_) _ _ _ _ _ _
    exact tc_y_dgs A hjn ⟨rfl, tc_mk X A _ _ _ _ _ _⟩
  · exact br_f a (br_f b (br_f (by decide) (br_f a (br_f b ⟨rfl, tc_mk X A _ _ _ _ _ _⟩))))
theorem i_vc_apart {k : Nat} {u : SX} {v : SY} (I : i_Rel k u v) (hk : k + 4 ≤ 2049) (v1 : Int32) (v2 : Int32) : wpX_apart (fun r u' => wpY_apart (fun r' => r' = r ∧ i_Rel (k + 4) u' v) v v1 v2) u v1 v2 := by
  obtain ⟨n, l, e, md, ls, fw, fz, ae, am, ag, ad, ap, ak, be, bm, sh, rfl, rfl, X, A⟩ := I
  have hn := A.1.2
  rcases tc_pair hn v1 v2 with ⟨a, b, ha, hb, hab, rfl, rfl⟩ | ⟨bX, bY⟩
  · refine tc_x_ap A.1.1 hn X (tc_YA_EB A) ha hb hab (fun fw fz ag ad ap ak => ?_) _ _ _ _ _ _
    exact tc_y_ap A ha hb hab ⟨rfl, tc_mk X A _ _ _ _ _ _⟩
  · unfold wpX_apart
    dsimp only
    refine bX _ _ _ _ _ _ _ _ _ ?_
    refine br_f (by decide) ?_
    unfold wpY_apart
    dsimp only
    refine bY _ _ _ _ _ ?_
    exact br_f (by decide) ⟨rfl, tc_mk X A _ _ _ _ _ _⟩
theorem i_vc_idle {k : Nat} {u : SX} {v : SY} (I : i_Rel k u v) (hk : k + 4 ≤ 2049) : wpX_idle (fun r u' => wpY_idle (fun r' => r' = r ∧ i_Rel (k + 4) u' v) v) u := by
  obtain ⟨n, l, e, md, ls, fw, fz, ae, am, ag, ad, ap, ak, be, bm, sh, rfl, rfl, X, A⟩ := I
  refine tc_x_idle A.1.1 A.1.2 X (tc_YA_EB A) (fun fw fz ag ad ap ak => ?_) _ _ _ _ _ _
  exact tc_y_idle A ⟨rfl, tc_mk X A _ _ _ _ _ _⟩
theorem i_vc_needed {k : Nat} {u : SX} {v : SY} (I : i_Rel k u v) (hk : k + 4 ≤ 2049) : wpX_needed (fun r u' => wpY_needed (fun r' => r' = r ∧ i_Rel (k + 4) u' v) v) u := by
  obtain ⟨n, l, e, md, ls, fw, fz, ae, am, ag, ad, ap, ak, be, bm, sh, rfl, rfl, X, A⟩ := I
  refine tc_x_needed A.1.1 A.1.2 X (tc_YA_EB A) (fun fw fz ag ad ap ak => ?_) _ _ _ _ _ _
  exact tc_y_needed A ⟨rfl, tc_mk X A _ _ _ _ _ _⟩
end

section
/-! pure rows to paste: stores, nI and lN arithmetic, masks, shifts, narrowing, branches by naturals (pk_le, pk_lt, pk_eq), loops (lp1 .. lp16: the measure of the state; rp1 ..: recursion), negatives. Take what you need -/
theorem pk_us {f : Nat → Int32} {k : Nat} {x : Int32} : upd f k x k = x := if_pos rfl
theorem pk_un {f : Nat → Int32} {k j : Nat} {x : Int32} (h : j ≠ k) : upd f k x j = f j := if_neg h
theorem pk_uLs {f : Nat → Int64} {k : Nat} {x : Int64} : vp_updL f k x k = x := if_pos rfl
theorem pk_uLn {f : Nat → Int64} {k j : Nat} {x : Int64} (h : j ≠ k) : vp_updL f k x j = f j := if_neg h
theorem pk_sub {a b : Nat} (h : b ≤ a) : nI a - nI b = nI (a - b) := by
  obtain ⟨c, rfl⟩ : ∃ c, a = c + b := ⟨a - b, by omega⟩
  rw [← nI_add, Int32.add_sub_cancel, Nat.add_sub_cancel]
theorem pk_m1 (n : Nat) : nI (n + 1) + (-1) = nI n := by
  rw [← nI_1, Int32.add_assoc, show (1 : Int32) + (-1) = 0 from rfl, Int32.add_zero]
theorem pk_mul (a b : Nat) : nI a * nI b = nI (a * b) := (Int32.ofNat_mul a b).symm
theorem pk_div {a d : Nat} (ha : a < 2 ^ 31) (h0 : 0 < d) (hd : d < 2 ^ 31) : nI a / nI d = nI (a / d) := by
  apply Int32.toInt_inj.mp
  rw [lg_idiv_nonneg (by rw [nI_toInt ha]; omega) (by rw [nI_toInt hd]; omega), nI_toInt ha, nI_toInt hd, nI_toInt (Nat.lt_of_le_of_lt (Nat.div_le_self a d) ha)]
  first | rfl | exact (Int.natCast_ediv _ _).symm
theorem pk_rem {a d : Nat} (ha : a < 2 ^ 31) (h0 : 0 < d) (hd : d < 2 ^ 31) : nI a - nI a / nI d * nI d = nI (a % d) := by
  rw [pk_div ha h0 hd, pk_mul, pk_sub (Nat.div_mul_le_self a d)]
  exact congrArg nI (by have := Nat.div_add_mod' a d; omega)
theorem pk_sub_toInt {a b : Nat} (ha : a < 2 ^ 30) (hb : b < 2 ^ 30) : (nI a - nI b).toInt = (a : Int) - b := by
  rw [Int32.toInt_sub, nI_toInt (by omega), nI_toInt (by omega)]
  exact Int.bmod_eq_of_le (by omega) (by omega)
theorem pk_sneg {a b : Nat} (hb : b < 2 ^ 30) (h : a < b) : nI a - nI b < 0 := by
  rw [Int32.lt_iff_toInt_lt, pk_sub_toInt (by omega) hb, show (0 : Int32).toInt = 0 from by decide]
  omega
theorem pk_ix (x : Int32) {n : Nat} (hn : n < 2 ^ 31) : x < 0 ∨ nI n ≤ x ∨ ∃ j : Nat, j < n ∧ x = nI j := by
  by_cases h : x < 0
  · exact Or.inl h
  · obtain ⟨j, hj, rfl⟩ := nI_of h
    by_cases h2 : j < n
    · exact Or.inr (Or.inr ⟨j, h2, rfl⟩)
    · exact Or.inr (Or.inl (nI_le (by omega) hj))
theorem pk_le {x y : Int32} {A B : Prop} (a b : Nat) (f : a ≤ b → A) (g : b < a → B) (hx : x = nI a := by rfl) (hy : y = nI b := by rfl) (ha : a < 2 ^ 31 := by omega) (hb : b < 2 ^ 31 := by omega) : (x ≤ y → A) ∧ (¬ x ≤ y → B) := by
  subst hx hy
  rw [nI_leI ha hb]
  exact ⟨f, fun z => g (by omega)⟩
theorem pk_lt {x y : Int32} {A B : Prop} (a b : Nat) (f : a < b → A) (g : b ≤ a → B) (hx : x = nI a := by rfl) (hy : y = nI b := by rfl) (ha : a < 2 ^ 31 := by omega) (hb : b < 2 ^ 31 := by omega) : (x < y → A) ∧ (¬ x < y → B) := by
  subst hx hy
  rw [nI_ltI ha hb]
  exact ⟨f, fun z => g (by omega)⟩
theorem pk_eq {x y : Int32} {A B : Prop} (a b : Nat) (f : a = b → A) (g : a ≠ b → B) (hx : x = nI a := by rfl) (hy : y = nI b := by rfl) (ha : a < 2 ^ 31 := by omega) (hb : b < 2 ^ 31 := by omega) : (x = y → A) ∧ (¬ x = y → B) := by
  subst hx hy
  rw [nI_eq ha hb]
  exact ⟨f, g⟩
theorem pk_in {x : Int32} (n N : Nat) (h : n < N) (hx : x = nI n := by rfl) (hN : N < 2 ^ 31 := by omega) : vp_in x N := by
  subst hx
  exact vp_in_nI h hN
theorem pk_cl {x : Int32} (n : Nat) (hx : x = nI n := by rfl) (h : n < 2 ^ 31 := by omega) : x.toNatClampNeg = n := by
  subst hx
  exact nI_clamp h
theorem pk_tn {n : Nat} (h : n < 2 ^ 32) : (nI n).toBitVec.toNat = n := Nat.mod_eq_of_lt h
theorem pk_and (x : Int32) {m : Int32} (k : Nat) (hm : m.toBitVec.toNat = 2 ^ k - 1) : x &&& m = nI (x.toBitVec.toNat % 2 ^ k) := by
  apply Int32.toBitVec_inj.mp
  apply BitVec.eq_of_toNat_eq
  rw [Int32.toBitVec_and, BitVec.toNat_and, hm, Nat.and_two_pow_sub_one_eq_mod]
  show _ = (BitVec.ofNat 32 _).toNat
  rw [BitVec.toNat_ofNat]
  exact (Nat.mod_eq_of_lt (Nat.lt_of_le_of_lt (Nat.mod_le _ _) x.toBitVec.isLt)).symm
theorem pk_andN {n : Nat} (h : n < 2 ^ 32) {m : Int32} (k : Nat) (hm : m.toBitVec.toNat = 2 ^ k - 1) : nI n &&& m = nI (n % 2 ^ k) := by
  rw [pk_and _ k hm, pk_tn h]
theorem pk_andE (x : Int32) {m : Int32} (k : Nat) (hm : m.toBitVec.toNat = 2 ^ k - 1) : ∃ j : Nat, j < 2 ^ k ∧ x &&& m = nI j := ⟨_, Nat.mod_lt _ (Nat.two_pow_pos k), pk_and x k hm⟩
theorem pk_andIn (x : Int32) {m : Int32} (k : Nat) (hm : m.toBitVec.toNat = 2 ^ k - 1) (hk : k ≤ 30) : vp_in (x &&& m) (2 ^ k) := by
  obtain ⟨j, hj, e⟩ := pk_andE x k hm
  rw [e]
  exact vp_in_nI hj (Nat.lt_of_le_of_lt (Nat.pow_le_pow_right (by decide) hk) (by decide))
theorem pk_shl (a s : Int32) (k : Nat) (hs : (s.toBitVec.smod 32).toNat = k) : (a <<< s).toBitVec.toNat = a.toBitVec.toNat * 2 ^ k % 2 ^ 32 := by
  show (a.toBitVec <<< (s.toBitVec.smod 32).toNat).toNat = _
  rw [hs, BitVec.toNat_shiftLeft, Nat.shiftLeft_eq]
theorem pk_shlN {n : Nat} (s : Int32) (k : Nat) (hs : (s.toBitVec.smod 32).toNat = k) (h : n * 2 ^ k < 2 ^ 32) : nI n <<< s = nI (n * 2 ^ k) := by
  apply Int32.toBitVec_inj.mp
  apply BitVec.eq_of_toNat_eq
  have hn : n < 2 ^ 32 := Nat.lt_of_le_of_lt (Nat.le_mul_of_pos_right n (Nat.two_pow_pos k)) h
  rw [pk_shl _ _ k hs, pk_tn hn, pk_tn h, Nat.mod_eq_of_lt h]
theorem pk_shr (a s : Int32) (k : Nat) (hs : (s.toBitVec.smod 32).toNat = k) : (a >>> s).toInt = a.toInt >>> k := by
  show (a.toBitVec.sshiftRight (s.toBitVec.smod 32).toNat).toInt = _
  rw [hs, BitVec.toInt_sshiftRight]
  rfl
theorem pk_shrN {n : Nat} (h : n < 2 ^ 31) (s : Int32) (k : Nat) (hs : (s.toBitVec.smod 32).toNat = k) : nI n >>> s = nI (n / 2 ^ k) := by
  apply Int32.toInt_inj.mp
  have h2 : n / 2 ^ k ≤ n := Nat.div_le_self _ _
  rw [pk_shr _ _ k hs, nI_toInt h, nI_toInt (by omega), Int.shiftRight_eq_div_pow]
  rfl
theorem pk_ushr (x s : Int32) (k : Nat) (hs : ((s.toUInt32 &&& Int32.toUInt32 31).toBitVec % 32).toNat = k) : (x.toUInt32 >>> (s.toUInt32 &&& Int32.toUInt32 31)).toInt32.toBitVec.toNat = x.toBitVec.toNat / 2 ^ k := by
  have e : (x.toUInt32 >>> (s.toUInt32 &&& Int32.toUInt32 31)).toInt32.toBitVec = x.toBitVec >>> k := by
    rw [← hs]
    exact UInt32.toBitVec_shiftRight _ _
  rw [e, BitVec.toNat_ushiftRight, Nat.shiftRight_eq_div_pow]
theorem pk_ushrN {n : Nat} (hn : n < 2 ^ 32) (s : Int32) (k : Nat) (hs : ((s.toUInt32 &&& Int32.toUInt32 31).toBitVec % 32).toNat = k) : ((nI n).toUInt32 >>> (s.toUInt32 &&& Int32.toUInt32 31)).toInt32 = nI (n / 2 ^ k) := by
  apply Int32.toBitVec_inj.mp
  apply BitVec.eq_of_toNat_eq
  rw [pk_ushr _ s k hs, pk_tn hn, pk_tn (Nat.lt_of_le_of_lt (Nat.div_le_self _ _) hn)]
theorem pk_nb (z : Int32) : narrow .byte (.int z.toInt8.toInt32) = .int z.toInt8.toInt32 := congrArg Value.int (by simp)
theorem pk_ns (z : Int32) : narrow .short (.int z.toInt16.toInt32) = .int z.toInt16.toInt32 := congrArg Value.int (by simp)
theorem pk_fb (r : Int32) : fits .byte (.int r.toInt8.toInt32) = true := by
  have ⟨a, b⟩ := lg_i2b_range r
  have h1 : (-128 : Int32).toInt = -128 := by decide
  have h2 : (127 : Int32).toInt = 127 := by decide
  simp only [fits, Bool.and_eq_true, decide_eq_true_eq, Int32.le_iff_toInt_le, h1, h2]
  omega
theorem pk_fs (r : Int32) : fits .short (.int r.toInt16.toInt32) = true := by
  have ⟨a, b⟩ := lg_i2s_range r
  have h1 : (-32768 : Int32).toInt = -32768 := by decide
  have h2 : (32767 : Int32).toInt = 32767 := by decide
  simp only [fits, Bool.and_eq_true, decide_eq_true_eq, Int32.le_iff_toInt_le, h1, h2]
  omega
theorem pk_charN {q : Nat} (hq : q < 65536) : narrow .char (.int (nI q)) = .int (nI q) ∧ fits .char (.int (nI q)) = true := by
  constructor
  · have e : (nI q).toUInt32.toUInt16.toUInt32.toInt32 = nI q := by
      apply Int32.toBitVec_inj.mp
      apply BitVec.eq_of_toNat_eq
      show (nI q).toUInt32.toUInt16.toUInt32.toNat = q % 2 ^ 32
      rw [UInt16.toNat_toUInt32, UInt32.toNat_toUInt16, show (nI q).toUInt32.toNat = q % 2 ^ 32 from rfl]
      omega
    exact congrArg Value.int e
  · have a : (0 : Int32) ≤ nI q := nI_pos' (by omega)
    have b : nI q ≤ 65535 := nI_le (b := 65535) (by omega) (by decide)
    show (decide ((0 : Int32) ≤ nI q) && decide (nI q ≤ 65535)) = true
    rw [decide_eq_true a, decide_eq_true b]
    rfl
theorem pk_char (x : Int32) : (x.toUInt32 % 65536).toInt32 = nI (x.toBitVec.toNat % 65536) := by
  apply Int32.toBitVec_inj.mp
  apply BitVec.eq_of_toNat_eq
  rw [pk_tn (by omega)]
  show (x.toUInt32 % 65536).toNat = _
  rw [UInt32.toNat_mod]
  rfl
theorem pk_nc (x : Int32) : narrow .char (.int (x.toUInt32 % 65536).toInt32) = .int (x.toUInt32 % 65536).toInt32 := by
  rw [pk_char]
  exact (pk_charN (Nat.mod_lt _ (by decide))).1
theorem pk_fc (x : Int32) : fits .char (.int (x.toUInt32 % 65536).toInt32) = true := by
  rw [pk_char]
  exact (pk_charN (Nat.mod_lt _ (by decide))).2
theorem pk_vb (z : Int32) : vp_nar .byte z.toInt8.toInt32 = z.toInt8.toInt32 := by rw [vp_nar_byte]; simp
theorem pk_vs (z : Int32) : vp_nar .short z.toInt16.toInt32 = z.toInt16.toInt32 := by rw [vp_nar_short]; simp
theorem pk_vc (z : Int32) : vp_nar .char (z.toUInt32 % 65536).toInt32 = (z.toUInt32 % 65536).toInt32 := Value.int.inj (pk_nc z)
theorem pk_lT {n : Nat} (h : n < 2 ^ 63) : (lN n).toInt = (n : Int) := lg_ofNat_toInt h
theorem pk_lLT {a b : Nat} (ha : a < 2 ^ 63) (hb : b < 2 ^ 63) : lN a < lN b ↔ a < b := by
  rw [Int64.lt_iff_toInt_lt, pk_lT ha, pk_lT hb]; omega
theorem pk_lLE {a b : Nat} (ha : a < 2 ^ 63) (hb : b < 2 ^ 63) : lN a ≤ lN b ↔ a ≤ b := by
  rw [Int64.le_iff_toInt_le, pk_lT ha, pk_lT hb]; omega
theorem pk_lEQ {a b : Nat} (ha : a < 2 ^ 63) (hb : b < 2 ^ 63) : lN a = lN b ↔ a = b := by
  rw [← Int64.toInt_inj, pk_lT ha, pk_lT hb]; omega
theorem pk_lOf {x : Int64} (h : ¬ x < 0) : ∃ k : Nat, k < 2 ^ 63 ∧ x = lN k := by
  rw [Int64.lt_iff_toInt_lt] at h
  have h0 : (0 : Int64).toInt = 0 := by decide
  have hx := Int64.toInt_lt x
  refine ⟨x.toInt.toNat, by omega, Int64.toInt_inj.mp ?_⟩
  rw [pk_lT (by omega)]
  omega
theorem pk_lDiv {a b : Nat} (ha : a < 2 ^ 63) (h0 : 0 < b) (hb : b < 2 ^ 63) : lN a / lN b = lN (a / b) := by
  apply Int64.toInt_inj.mp
  rw [lg_ldiv_nonneg (by rw [pk_lT ha]; omega) (by rw [pk_lT hb]; omega), pk_lT ha, pk_lT hb, pk_lT (Nat.lt_of_le_of_lt (Nat.div_le_self a b) ha)]
  rfl
theorem pk_lRem {a b : Nat} (ha : a < 2 ^ 63) (h0 : 0 < b) (hb : b < 2 ^ 63) : lN a - lN a / lN b * lN b = lN (a % b) := by
  rw [pk_lDiv ha h0 hb, lN_mul, lN_sub (Nat.div_mul_le_self a b)]
  exact congrArg lN (by have := Nat.div_add_mod' a b; omega)
theorem pk_loop {σ : Type} (W : Nat → Nat → σ → Prop) (I : Nat → σ → Prop) (e i0 : Nat) (s : σ) (hi : i0 ≤ e) (h0 : I i0 s) (hx : ∀ n s, I e s → W (n + 1) e s)
    (hs : ∀ n i s, i < e → I i s → (∀ s', I (i + 1) s' → W n (i + 1) s') → W (n + 1) i s) : ∃ n, W n i0 s :=
  ⟨e + 1, loop_i W I e hx hs (e + 1) i0 s hi (by omega) h0⟩
theorem pk_loopD {σ : Type} (W : Nat → Nat → σ → Prop) (I : Nat → σ → Prop) (hx : ∀ n s, I 0 s → W (n + 1) 0 s)
    (hs : ∀ n i s, I (i + 1) s → (∀ s', I i s' → W n i s') → W (n + 1) (i + 1) s) : ∀ (e : Nat) (s : σ), I e s → W (e + 1) e s := by
  intro e
  induction e with
  | zero => exact fun s h => hx 0 s h
  | succ e ih => exact fun s h => hs (e + 1) e s h (fun s' h' => ih s' h')
theorem lp1 {A1 : Type} (W : Nat → A1 → Prop) (I : A1 → Prop) (μ : A1 → Nat) (hs : ∀ (n : Nat) (a1 : A1), I a1 → (∀ (b1 : A1), I b1 → μ b1 < μ a1 → W n b1) → W (n + 1) a1) (a1 : A1) (h : I a1) : ∃ n, W n a1 :=
  loop_m (σ := A1) (fun n s => W n s) (fun s => I s) (fun s => μ s) (fun n s hI hk => hs n s hI (fun b1 h9 hm => hk b1 h9 hm)) a1 h
theorem lp2 {A1 A2 : Type} (W : Nat → A1 → A2 → Prop) (I : A1 → A2 → Prop) (μ : A1 → A2 → Nat) (hs : ∀ (n : Nat) (a1 : A1) (a2 : A2), I a1 a2 → (∀ (b1 : A1) (b2 : A2), I b1 b2 → μ b1 b2 < μ a1 a2 → W n b1 b2) → W (n + 1) a1 a2) (a1 : A1) (a2 : A2) (h : I a1 a2) : ∃ n, W n a1 a2 :=
  loop_m (σ := A1 × A2) (fun n s => W n s.1 s.2) (fun s => I s.1 s.2) (fun s => μ s.1 s.2) (fun n s hI hk => hs n s.1 s.2 hI (fun b1 b2 h9 hm => hk (b1, b2) h9 hm)) (a1, a2) h
theorem lp3 {A1 A2 A3 : Type} (W : Nat → A1 → A2 → A3 → Prop) (I : A1 → A2 → A3 → Prop) (μ : A1 → A2 → A3 → Nat) (hs : ∀ (n : Nat) (a1 : A1) (a2 : A2) (a3 : A3), I a1 a2 a3 → (∀ (b1 : A1) (b2 : A2) (b3 : A3), I b1 b2 b3 → μ b1 b2 b3 < μ a1 a2 a3 → W n b1 b2 b3) → W (n + 1) a1 a2 a3) (a1 : A1) (a2 : A2) (a3 : A3) (h : I a1 a2 a3) : ∃ n, W n a1 a2 a3 :=
  loop_m (σ := A1 × A2 × A3) (fun n s => W n s.1 s.2.1 s.2.2) (fun s => I s.1 s.2.1 s.2.2) (fun s => μ s.1 s.2.1 s.2.2) (fun n s hI hk => hs n s.1 s.2.1 s.2.2 hI (fun b1 b2 b3 h9 hm => hk (b1, b2, b3) h9 hm)) (a1, a2, a3) h
theorem lp4 {A1 A2 A3 A4 : Type} (W : Nat → A1 → A2 → A3 → A4 → Prop) (I : A1 → A2 → A3 → A4 → Prop) (μ : A1 → A2 → A3 → A4 → Nat) (hs : ∀ (n : Nat) (a1 : A1) (a2 : A2) (a3 : A3) (a4 : A4), I a1 a2 a3 a4 → (∀ (b1 : A1) (b2 : A2) (b3 : A3) (b4 : A4), I b1 b2 b3 b4 → μ b1 b2 b3 b4 < μ a1 a2 a3 a4 → W n b1 b2 b3 b4) → W (n + 1) a1 a2 a3 a4) (a1 : A1) (a2 : A2) (a3 : A3) (a4 : A4) (h : I a1 a2 a3 a4) : ∃ n, W n a1 a2 a3 a4 :=
  loop_m (σ := A1 × A2 × A3 × A4) (fun n s => W n s.1 s.2.1 s.2.2.1 s.2.2.2) (fun s => I s.1 s.2.1 s.2.2.1 s.2.2.2) (fun s => μ s.1 s.2.1 s.2.2.1 s.2.2.2) (fun n s hI hk => hs n s.1 s.2.1 s.2.2.1 s.2.2.2 hI (fun b1 b2 b3 b4 h9 hm => hk (b1, b2, b3, b4) h9 hm)) (a1, a2, a3, a4) h
theorem lp5 {A1 A2 A3 A4 A5 : Type} (W : Nat → A1 → A2 → A3 → A4 → A5 → Prop) (I : A1 → A2 → A3 → A4 → A5 → Prop) (μ : A1 → A2 → A3 → A4 → A5 → Nat) (hs : ∀ (n : Nat) (a1 : A1) (a2 : A2) (a3 : A3) (a4 : A4) (a5 : A5), I a1 a2 a3 a4 a5 → (∀ (b1 : A1) (b2 : A2) (b3 : A3) (b4 : A4) (b5 : A5), I b1 b2 b3 b4 b5 → μ b1 b2 b3 b4 b5 < μ a1 a2 a3 a4 a5 → W n b1 b2 b3 b4 b5) → W (n + 1) a1 a2 a3 a4 a5) (a1 : A1) (a2 : A2) (a3 : A3) (a4 : A4) (a5 : A5) (h : I a1 a2 a3 a4 a5) : ∃ n, W n a1 a2 a3 a4 a5 :=
  loop_m (σ := A1 × A2 × A3 × A4 × A5) (fun n s => W n s.1 s.2.1 s.2.2.1 s.2.2.2.1 s.2.2.2.2) (fun s => I s.1 s.2.1 s.2.2.1 s.2.2.2.1 s.2.2.2.2) (fun s => μ s.1 s.2.1 s.2.2.1 s.2.2.2.1 s.2.2.2.2) (fun n s hI hk => hs n s.1 s.2.1 s.2.2.1 s.2.2.2.1 s.2.2.2.2 hI (fun b1 b2 b3 b4 b5 h9 hm => hk (b1, b2, b3, b4, b5) h9 hm)) (a1, a2, a3, a4, a5) h
theorem lp6 {A1 A2 A3 A4 A5 A6 : Type} (W : Nat → A1 → A2 → A3 → A4 → A5 → A6 → Prop) (I : A1 → A2 → A3 → A4 → A5 → A6 → Prop) (μ : A1 → A2 → A3 → A4 → A5 → A6 → Nat) (hs : ∀ (n : Nat) (a1 : A1) (a2 : A2) (a3 : A3) (a4 : A4) (a5 : A5) (a6 : A6), I a1 a2 a3 a4 a5 a6 → (∀ (b1 : A1) (b2 : A2) (b3 : A3) (b4 : A4) (b5 : A5) (b6 : A6), I b1 b2 b3 b4 b5 b6 → μ b1 b2 b3 b4 b5 b6 < μ a1 a2 a3 a4 a5 a6 → W n b1 b2 b3 b4 b5 b6) → W (n + 1) a1 a2 a3 a4 a5 a6) (a1 : A1) (a2 : A2) (a3 : A3) (a4 : A4) (a5 : A5) (a6 : A6) (h : I a1 a2 a3 a4 a5 a6) : ∃ n, W n a1 a2 a3 a4 a5 a6 :=
  loop_m (σ := A1 × A2 × A3 × A4 × A5 × A6) (fun n s => W n s.1 s.2.1 s.2.2.1 s.2.2.2.1 s.2.2.2.2.1 s.2.2.2.2.2) (fun s => I s.1 s.2.1 s.2.2.1 s.2.2.2.1 s.2.2.2.2.1 s.2.2.2.2.2) (fun s => μ s.1 s.2.1 s.2.2.1 s.2.2.2.1 s.2.2.2.2.1 s.2.2.2.2.2) (fun n s hI hk => hs n s.1 s.2.1 s.2.2.1 s.2.2.2.1 s.2.2.2.2.1 s.2.2.2.2.2 hI (fun b1 b2 b3 b4 b5 b6 h9 hm => hk (b1, b2, b3, b4, b5, b6) h9 hm)) (a1, a2, a3, a4, a5, a6) h
theorem lp7 {A1 A2 A3 A4 A5 A6 A7 : Type} (W : Nat → A1 → A2 → A3 → A4 → A5 → A6 → A7 → Prop) (I : A1 → A2 → A3 → A4 → A5 → A6 → A7 → Prop) (μ : A1 → A2 → A3 → A4 → A5 → A6 → A7 → Nat) (hs : ∀ (n : Nat) (a1 : A1) (a2 : A2) (a3 : A3) (a4 : A4) (a5 : A5) (a6 : A6) (a7 : A7), I a1 a2 a3 a4 a5 a6 a7 → (∀ (b1 : A1) (b2 : A2) (b3 : A3) (b4 : A4) (b5 : A5) (b6 : A6) (b7 : A7), I b1 b2 b3 b4 b5 b6 b7 → μ b1 b2 b3 b4 b5 b6 b7 < μ a1 a2 a3 a4 a5 a6 a7 → W n b1 b2 b3 b4 b5 b6 b7) → W (n + 1) a1 a2 a3 a4 a5 a6 a7) (a1 : A1) (a2 : A2) (a3 : A3) (a4 : A4) (a5 : A5) (a6 : A6) (a7 : A7) (h : I a1 a2 a3 a4 a5 a6 a7) : ∃ n, W n a1 a2 a3 a4 a5 a6 a7 :=
  loop_m (σ := A1 × A2 × A3 × A4 × A5 × A6 × A7) (fun n s => W n s.1 s.2.1 s.2.2.1 s.2.2.2.1 s.2.2.2.2.1 s.2.2.2.2.2.1 s.2.2.2.2.2.2) (fun s => I s.1 s.2.1 s.2.2.1 s.2.2.2.1 s.2.2.2.2.1 s.2.2.2.2.2.1 s.2.2.2.2.2.2) (fun s => μ s.1 s.2.1 s.2.2.1 s.2.2.2.1 s.2.2.2.2.1 s.2.2.2.2.2.1 s.2.2.2.2.2.2) (fun n s hI hk => hs n s.1 s.2.1 s.2.2.1 s.2.2.2.1 s.2.2.2.2.1 s.2.2.2.2.2.1 s.2.2.2.2.2.2 hI (fun b1 b2 b3 b4 b5 b6 b7 h9 hm => hk (b1, b2, b3, b4, b5, b6, b7) h9 hm)) (a1, a2, a3, a4, a5, a6, a7) h
theorem lp8 {A1 A2 A3 A4 A5 A6 A7 A8 : Type} (W : Nat → A1 → A2 → A3 → A4 → A5 → A6 → A7 → A8 → Prop) (I : A1 → A2 → A3 → A4 → A5 → A6 → A7 → A8 → Prop) (μ : A1 → A2 → A3 → A4 → A5 → A6 → A7 → A8 → Nat) (hs : ∀ (n : Nat) (a1 : A1) (a2 : A2) (a3 : A3) (a4 : A4) (a5 : A5) (a6 : A6) (a7 : A7) (a8 : A8), I a1 a2 a3 a4 a5 a6 a7 a8 → (∀ (b1 : A1) (b2 : A2) (b3 : A3) (b4 : A4) (b5 : A5) (b6 : A6) (b7 : A7) (b8 : A8), I b1 b2 b3 b4 b5 b6 b7 b8 → μ b1 b2 b3 b4 b5 b6 b7 b8 < μ a1 a2 a3 a4 a5 a6 a7 a8 → W n b1 b2 b3 b4 b5 b6 b7 b8) → W (n + 1) a1 a2 a3 a4 a5 a6 a7 a8) (a1 : A1) (a2 : A2) (a3 : A3) (a4 : A4) (a5 : A5) (a6 : A6) (a7 : A7) (a8 : A8) (h : I a1 a2 a3 a4 a5 a6 a7 a8) : ∃ n, W n a1 a2 a3 a4 a5 a6 a7 a8 :=
  loop_m (σ := A1 × A2 × A3 × A4 × A5 × A6 × A7 × A8) (fun n s => W n s.1 s.2.1 s.2.2.1 s.2.2.2.1 s.2.2.2.2.1 s.2.2.2.2.2.1 s.2.2.2.2.2.2.1 s.2.2.2.2.2.2.2) (fun s => I s.1 s.2.1 s.2.2.1 s.2.2.2.1 s.2.2.2.2.1 s.2.2.2.2.2.1 s.2.2.2.2.2.2.1 s.2.2.2.2.2.2.2) (fun s => μ s.1 s.2.1 s.2.2.1 s.2.2.2.1 s.2.2.2.2.1 s.2.2.2.2.2.1 s.2.2.2.2.2.2.1 s.2.2.2.2.2.2.2) (fun n s hI hk => hs n s.1 s.2.1 s.2.2.1 s.2.2.2.1 s.2.2.2.2.1 s.2.2.2.2.2.1 s.2.2.2.2.2.2.1 s.2.2.2.2.2.2.2 hI (fun b1 b2 b3 b4 b5 b6 b7 b8 h9 hm => hk (b1, b2, b3, b4, b5, b6, b7, b8) h9 hm)) (a1, a2, a3, a4, a5, a6, a7, a8) h
theorem lp9 {A1 A2 A3 A4 A5 A6 A7 A8 A9 : Type} (W : Nat → A1 → A2 → A3 → A4 → A5 → A6 → A7 → A8 → A9 → Prop) (I : A1 → A2 → A3 → A4 → A5 → A6 → A7 → A8 → A9 → Prop) (μ : A1 → A2 → A3 → A4 → A5 → A6 → A7 → A8 → A9 → Nat) (hs : ∀ (n : Nat) (a1 : A1) (a2 : A2) (a3 : A3) (a4 : A4) (a5 : A5) (a6 : A6) (a7 : A7) (a8 : A8) (a9 : A9), I a1 a2 a3 a4 a5 a6 a7 a8 a9 → (∀ (b1 : A1) (b2 : A2) (b3 : A3) (b4 : A4) (b5 : A5) (b6 : A6) (b7 : A7) (b8 : A8) (b9 : A9), I b1 b2 b3 b4 b5 b6 b7 b8 b9 → μ b1 b2 b3 b4 b5 b6 b7 b8 b9 < μ a1 a2 a3 a4 a5 a6 a7 a8 a9 → W n b1 b2 b3 b4 b5 b6 b7 b8 b9) → W (n + 1) a1 a2 a3 a4 a5 a6 a7 a8 a9) (a1 : A1) (a2 : A2) (a3 : A3) (a4 : A4) (a5 : A5) (a6 : A6) (a7 : A7) (a8 : A8) (a9 : A9) (h : I a1 a2 a3 a4 a5 a6 a7 a8 a9) : ∃ n, W n a1 a2 a3 a4 a5 a6 a7 a8 a9 :=
  loop_m (σ := A1 × A2 × A3 × A4 × A5 × A6 × A7 × A8 × A9) (fun n s => W n s.1 s.2.1 s.2.2.1 s.2.2.2.1 s.2.2.2.2.1 s.2.2.2.2.2.1 s.2.2.2.2.2.2.1 s.2.2.2.2.2.2.2.1 s.2.2.2.2.2.2.2.2) (fun s => I s.1 s.2.1 s.2.2.1 s.2.2.2.1 s.2.2.2.2.1 s.2.2.2.2.2.1 s.2.2.2.2.2.2.1 s.2.2.2.2.2.2.2.1 s.2.2.2.2.2.2.2.2) (fun s => μ s.1 s.2.1 s.2.2.1 s.2.2.2.1 s.2.2.2.2.1 s.2.2.2.2.2.1 s.2.2.2.2.2.2.1 s.2.2.2.2.2.2.2.1 s.2.2.2.2.2.2.2.2) (fun n s hI hk => hs n s.1 s.2.1 s.2.2.1 s.2.2.2.1 s.2.2.2.2.1 s.2.2.2.2.2.1 s.2.2.2.2.2.2.1 s.2.2.2.2.2.2.2.1 s.2.2.2.2.2.2.2.2 hI (fun b1 b2 b3 b4 b5 b6 b7 b8 b9 h9 hm => hk (b1, b2, b3, b4, b5, b6, b7, b8, b9) h9 hm)) (a1, a2, a3, a4, a5, a6, a7, a8, a9) h
theorem lp10 {A1 A2 A3 A4 A5 A6 A7 A8 A9 A10 : Type} (W : Nat → A1 → A2 → A3 → A4 → A5 → A6 → A7 → A8 → A9 → A10 → Prop) (I : A1 → A2 → A3 → A4 → A5 → A6 → A7 → A8 → A9 → A10 → Prop) (μ : A1 → A2 → A3 → A4 → A5 → A6 → A7 → A8 → A9 → A10 → Nat) (hs : ∀ (n : Nat) (a1 : A1) (a2 : A2) (a3 : A3) (a4 : A4) (a5 : A5) (a6 : A6) (a7 : A7) (a8 : A8) (a9 : A9) (a10 : A10), I a1 a2 a3 a4 a5 a6 a7 a8 a9 a10 → (∀ (b1 : A1) (b2 : A2) (b3 : A3) (b4 : A4) (b5 : A5) (b6 : A6) (b7 : A7) (b8 : A8) (b9 : A9) (b10 : A10), I b1 b2 b3 b4 b5 b6 b7 b8 b9 b10 → μ b1 b2 b3 b4 b5 b6 b7 b8 b9 b10 < μ a1 a2 a3 a4 a5 a6 a7 a8 a9 a10 → W n b1 b2 b3 b4 b5 b6 b7 b8 b9 b10) → W (n + 1) a1 a2 a3 a4 a5 a6 a7 a8 a9 a10) (a1 : A1) (a2 : A2) (a3 : A3) (a4 : A4) (a5 : A5) (a6 : A6) (a7 : A7) (a8 : A8) (a9 : A9) (a10 : A10) (h : I a1 a2 a3 a4 a5 a6 a7 a8 a9 a10) : ∃ n, W n a1 a2 a3 a4 a5 a6 a7 a8 a9 a10 :=
  loop_m (σ := A1 × A2 × A3 × A4 × A5 × A6 × A7 × A8 × A9 × A10) (fun n s => W n s.1 s.2.1 s.2.2.1 s.2.2.2.1 s.2.2.2.2.1 s.2.2.2.2.2.1 s.2.2.2.2.2.2.1 s.2.2.2.2.2.2.2.1 s.2.2.2.2.2.2.2.2.1 s.2.2.2.2.2.2.2.2.2) (fun s => I s.1 s.2.1 s.2.2.1 s.2.2.2.1 s.2.2.2.2.1 s.2.2.2.2.2.1 s.2.2.2.2.2.2.1 s.2.2.2.2.2.2.2.1 s.2.2.2.2.2.2.2.2.1 s.2.2.2.2.2.2.2.2.2) (fun s => μ s.1 s.2.1 s.2.2.1 s.2.2.2.1 s.2.2.2.2.1 s.2.2.2.2.2.1 s.2.2.2.2.2.2.1 s.2.2.2.2.2.2.2.1 s.2.2.2.2.2.2.2.2.1 s.2.2.2.2.2.2.2.2.2) (fun n s hI hk => hs n s.1 s.2.1 s.2.2.1 s.2.2.2.1 s.2.2.2.2.1 s.2.2.2.2.2.1 s.2.2.2.2.2.2.1 s.2.2.2.2.2.2.2.1 s.2.2.2.2.2.2.2.2.1 s.2.2.2.2.2.2.2.2.2 hI (fun b1 b2 b3 b4 b5 b6 b7 b8 b9 b10 h9 hm => hk (b1, b2, b3, b4, b5, b6, b7, b8, b9, b10) h9 hm)) (a1, a2, a3, a4, a5, a6, a7, a8, a9, a10) h
theorem lp11 {A1 A2 A3 A4 A5 A6 A7 A8 A9 A10 A11 : Type} (W : Nat → A1 → A2 → A3 → A4 → A5 → A6 → A7 → A8 → A9 → A10 → A11 → Prop) (I : A1 → A2 → A3 → A4 → A5 → A6 → A7 → A8 → A9 → A10 → A11 → Prop) (μ : A1 → A2 → A3 → A4 → A5 → A6 → A7 → A8 → A9 → A10 → A11 → Nat) (hs : ∀ (n : Nat) (a1 : A1) (a2 : A2) (a3 : A3) (a4 : A4) (a5 : A5) (a6 : A6) (a7 : A7) (a8 : A8) (a9 : A9) (a10 : A10) (a11 : A11), I a1 a2 a3 a4 a5 a6 a7 a8 a9 a10 a11 → (∀ (b1 : A1) (b2 : A2) (b3 : A3) (b4 : A4) (b5 : A5) (b6 : A6) (b7 : A7) (b8 : A8) (b9 : A9) (b10 : A10) (b11 : A11), I b1 b2 b3 b4 b5 b6 b7 b8 b9 b10 b11 → μ b1 b2 b3 b4 b5 b6 b7 b8 b9 b10 b11 < μ a1 a2 a3 a4 a5 a6 a7 a8 a9 a10 a11 → W n b1 b2 b3 b4 b5 b6 b7 b8 b9 b10 b11) → W (n + 1) a1 a2 a3 a4 a5 a6 a7 a8 a9 a10 a11) (a1 : A1) (a2 : A2) (a3 : A3) (a4 : A4) (a5 : A5) (a6 : A6) (a7 : A7) (a8 : A8) (a9 : A9) (a10 : A10) (a11 : A11) (h : I a1 a2 a3 a4 a5 a6 a7 a8 a9 a10 a11) : ∃ n, W n a1 a2 a3 a4 a5 a6 a7 a8 a9 a10 a11 :=
  loop_m (σ := A1 × A2 × A3 × A4 × A5 × A6 × A7 × A8 × A9 × A10 × A11) (fun n s => W n s.1 s.2.1 s.2.2.1 s.2.2.2.1 s.2.2.2.2.1 s.2.2.2.2.2.1 s.2.2.2.2.2.2.1 s.2.2.2.2.2.2.2.1 s.2.2.2.2.2.2.2.2.1 s.2.2.2.2.2.2.2.2.2.1 s.2.2.2.2.2.2.2.2.2.2) (fun s => I s.1 s.2.1 s.2.2.1 s.2.2.2.1 s.2.2.2.2.1 s.2.2.2.2.2.1 s.2.2.2.2.2.2.1 s.2.2.2.2.2.2.2.1 s.2.2.2.2.2.2.2.2.1 s.2.2.2.2.2.2.2.2.2.1 s.2.2.2.2.2.2.2.2.2.2) (fun s => μ s.1 s.2.1 s.2.2.1 s.2.2.2.1 s.2.2.2.2.1 s.2.2.2.2.2.1 s.2.2.2.2.2.2.1 s.2.2.2.2.2.2.2.1 s.2.2.2.2.2.2.2.2.1 s.2.2.2.2.2.2.2.2.2.1 s.2.2.2.2.2.2.2.2.2.2) (fun n s hI hk => hs n s.1 s.2.1 s.2.2.1 s.2.2.2.1 s.2.2.2.2.1 s.2.2.2.2.2.1 s.2.2.2.2.2.2.1 s.2.2.2.2.2.2.2.1 s.2.2.2.2.2.2.2.2.1 s.2.2.2.2.2.2.2.2.2.1 s.2.2.2.2.2.2.2.2.2.2 hI (fun b1 b2 b3 b4 b5 b6 b7 b8 b9 b10 b11 h9 hm => hk (b1, b2, b3, b4, b5, b6, b7, b8, b9, b10, b11) h9 hm)) (a1, a2, a3, a4, a5, a6, a7, a8, a9, a10, a11) h
theorem lp12 {A1 A2 A3 A4 A5 A6 A7 A8 A9 A10 A11 A12 : Type} (W : Nat → A1 → A2 → A3 → A4 → A5 → A6 → A7 → A8 → A9 → A10 → A11 → A12 → Prop) (I : A1 → A2 → A3 → A4 → A5 → A6 → A7 → A8 → A9 → A10 → A11 → A12 → Prop) (μ : A1 → A2 → A3 → A4 → A5 → A6 → A7 → A8 → A9 → A10 → A11 → A12 → Nat) (hs : ∀ (n : Nat) (a1 : A1) (a2 : A2) (a3 : A3) (a4 : A4) (a5 : A5) (a6 : A6) (a7 : A7) (a8 : A8) (a9 : A9) (a10 : A10) (a11 : A11) (a12 : A12), I a1 a2 a3 a4 a5 a6 a7 a8 a9 a10 a11 a12 → (∀ (b1 : A1) (b2 : A2) (b3 : A3) (b4 : A4) (b5 : A5) (b6 : A6) (b7 : A7) (b8 : A8) (b9 : A9) (b10 : A10) (b11 : A11) (b12 : A12), I b1 b2 b3 b4 b5 b6 b7 b8 b9 b10 b11 b12 → μ b1 b2 b3 b4 b5 b6 b7 b8 b9 b10 b11 b12 < μ a1 a2 a3 a4 a5 a6 a7 a8 a9 a10 a11 a12 → W n b1 b2 b3 b4 b5 b6 b7 b8 b9 b10 b11 b12) → W (n + 1) a1 a2 a3 a4 a5 a6 a7 a8 a9 a10 a11 a12) (a1 : A1) (a2 : A2) (a3 : A3) (a4 : A4) (a5 : A5) (a6 : A6) (a7 : A7) (a8 : A8) (a9 : A9) (a10 : A10) (a11 : A11) (a12 : A12) (h : I a1 a2 a3 a4 a5 a6 a7 a8 a9 a10 a11 a12) : ∃ n, W n a1 a2 a3 a4 a5 a6 a7 a8 a9 a10 a11 a12 :=
  loop_m (σ := A1 × A2 × A3 × A4 × A5 × A6 × A7 × A8 × A9 × A10 × A11 × A12) (fun n s => W n s.1 s.2.1 s.2.2.1 s.2.2.2.1 s.2.2.2.2.1 s.2.2.2.2.2.1 s.2.2.2.2.2.2.1 s.2.2.2.2.2.2.2.1 s.2.2.2.2.2.2.2.2.1 s.2.2.2.2.2.2.2.2.2.1 s.2.2.2.2.2.2.2.2.2.2.1 s.2.2.2.2.2.2.2.2.2.2.2) (fun s => I s.1 s.2.1 s.2.2.1 s.2.2.2.1 s.2.2.2.2.1 s.2.2.2.2.2.1 s.2.2.2.2.2.2.1 s.2.2.2.2.2.2.2.1 s.2.2.2.2.2.2.2.2.1 s.2.2.2.2.2.2.2.2.2.1 s.2.2.2.2.2.2.2.2.2.2.1 s.2.2.2.2.2.2.2.2.2.2.2) (fun s => μ s.1 s.2.1 s.2.2.1 s.2.2.2.1 s.2.2.2.2.1 s.2.2.2.2.2.1 s.2.2.2.2.2.2.1 s.2.2.2.2.2.2.2.1 s.2.2.2.2.2.2.2.2.1 s.2.2.2.2.2.2.2.2.2.1 s.2.2.2.2.2.2.2.2.2.2.1 s.2.2.2.2.2.2.2.2.2.2.2) (fun n s hI hk => hs n s.1 s.2.1 s.2.2.1 s.2.2.2.1 s.2.2.2.2.1 s.2.2.2.2.2.1 s.2.2.2.2.2.2.1 s.2.2.2.2.2.2.2.1 s.2.2.2.2.2.2.2.2.1 s.2.2.2.2.2.2.2.2.2.1 s.2.2.2.2.2.2.2.2.2.2.1 s.2.2.2.2.2.2.2.2.2.2.2 hI (fun b1 b2 b3 b4 b5 b6 b7 b8 b9 b10 b11 b12 h9 hm => hk (b1, b2, b3, b4, b5, b6, b7, b8, b9, b10, b11, b12) h9 hm)) (a1, a2, a3, a4, a5, a6, a7, a8, a9, a10, a11, a12) h
theorem lp13 {A1 A2 A3 A4 A5 A6 A7 A8 A9 A10 A11 A12 A13 : Type} (W : Nat → A1 → A2 → A3 → A4 → A5 → A6 → A7 → A8 → A9 → A10 → A11 → A12 → A13 → Prop) (I : A1 → A2 → A3 → A4 → A5 → A6 → A7 → A8 → A9 → A10 → A11 → A12 → A13 → Prop) (μ : A1 → A2 → A3 → A4 → A5 → A6 → A7 → A8 → A9 → A10 → A11 → A12 → A13 → Nat) (hs : ∀ (n : Nat) (a1 : A1) (a2 : A2) (a3 : A3) (a4 : A4) (a5 : A5) (a6 : A6) (a7 : A7) (a8 : A8) (a9 : A9) (a10 : A10) (a11 : A11) (a12 : A12) (a13 : A13), I a1 a2 a3 a4 a5 a6 a7 a8 a9 a10 a11 a12 a13 → (∀ (b1 : A1) (b2 : A2) (b3 : A3) (b4 : A4) (b5 : A5) (b6 : A6) (b7 : A7) (b8 : A8) (b9 : A9) (b10 : A10) (b11 : A11) (b12 : A12) (b13 : A13), I b1 b2 b3 b4 b5 b6 b7 b8 b9 b10 b11 b12 b13 → μ b1 b2 b3 b4 b5 b6 b7 b8 b9 b10 b11 b12 b13 < μ a1 a2 a3 a4 a5 a6 a7 a8 a9 a10 a11 a12 a13 → W n b1 b2 b3 b4 b5 b6 b7 b8 b9 b10 b11 b12 b13) → W (n + 1) a1 a2 a3 a4 a5 a6 a7 a8 a9 a10 a11 a12 a13) (a1 : A1) (a2 : A2) (a3 : A3) (a4 : A4) (a5 : A5) (a6 : A6) (a7 : A7) (a8 : A8) (a9 : A9) (a10 : A10) (a11 : A11) (a12 : A12) (a13 : A13) (h : I a1 a2 a3 a4 a5 a6 a7 a8 a9 a10 a11 a12 a13) : ∃ n, W n a1 a2 a3 a4 a5 a6 a7 a8 a9 a10 a11 a12 a13 :=
  loop_m (σ := A1 × A2 × A3 × A4 × A5 × A6 × A7 × A8 × A9 × A10 × A11 × A12 × A13) (fun n s => W n s.1 s.2.1 s.2.2.1 s.2.2.2.1 s.2.2.2.2.1 s.2.2.2.2.2.1 s.2.2.2.2.2.2.1 s.2.2.2.2.2.2.2.1 s.2.2.2.2.2.2.2.2.1 s.2.2.2.2.2.2.2.2.2.1 s.2.2.2.2.2.2.2.2.2.2.1 s.2.2.2.2.2.2.2.2.2.2.2.1 s.2.2.2.2.2.2.2.2.2.2.2.2) (fun s => I s.1 s.2.1 s.2.2.1 s.2.2.2.1 s.2.2.2.2.1 s.2.2.2.2.2.1 s.2.2.2.2.2.2.1 s.2.2.2.2.2.2.2.1 s.2.2.2.2.2.2.2.2.1 s.2.2.2.2.2.2.2.2.2.1 s.2.2.2.2.2.2.2.2.2.2.1 s.2.2.2.2.2.2.2.2.2.2.2.1 s.2.2.2.2.2.2.2.2.2.2.2.2) (fun s => μ s.1 s.2.1 s.2.2.1 s.2.2.2.1 s.2.2.2.2.1 s.2.2.2.2.2.1 s.2.2.2.2.2.2.1 s.2.2.2.2.2.2.2.1 s.2.2.2.2.2.2.2.2.1 s.2.2.2.2.2.2.2.2.2.1 s.2.2.2.2.2.2.2.2.2.2.1 s.2.2.2.2.2.2.2.2.2.2.2.1 s.2.2.2.2.2.2.2.2.2.2.2.2) (fun n s hI hk => hs n s.1 s.2.1 s.2.2.1 s.2.2.2.1 s.2.2.2.2.1 s.2.2.2.2.2.1 s.2.2.2.2.2.2.1 s.2.2.2.2.2.2.2.1 s.2.2.2.2.2.2.2.2.1 s.2.2.2.2.2.2.2.2.2.1 s.2.2.2.2.2.2.2.2.2.2.1 s.2.2.2.2.2.2.2.2.2.2.2.1 s.2.2.2.2.2.2.2.2.2.2.2.2 hI (fun b1 b2 b3 b4 b5 b6 b7 b8 b9 b10 b11 b12 b13 h9 hm => hk (b1, b2, b3, b4, b5, b6, b7, b8, b9, b10, b11, b12, b13) h9 hm)) (a1, a2, a3, a4, a5, a6, a7, a8, a9, a10, a11, a12, a13) h
theorem lp14 {A1 A2 A3 A4 A5 A6 A7 A8 A9 A10 A11 A12 A13 A14 : Type} (W : Nat → A1 → A2 → A3 → A4 → A5 → A6 → A7 → A8 → A9 → A10 → A11 → A12 → A13 → A14 → Prop) (I : A1 → A2 → A3 → A4 → A5 → A6 → A7 → A8 → A9 → A10 → A11 → A12 → A13 → A14 → Prop) (μ : A1 → A2 → A3 → A4 → A5 → A6 → A7 → A8 → A9 → A10 → A11 → A12 → A13 → A14 → Nat) (hs : ∀ (n : Nat) (a1 : A1) (a2 : A2) (a3 : A3) (a4 : A4) (a5 : A5) (a6 : A6) (a7 : A7) (a8 : A8) (a9 : A9) (a10 : A10) (a11 : A11) (a12 : A12) (a13 : A13) (a14 : A14), I a1 a2 a3 a4 a5 a6 a7 a8 a9 a10 a11 a12 a13 a14 → (∀ (b1 : A1) (b2 : A2) (b3 : A3) (b4 : A4) (b5 : A5) (b6 : A6) (b7 : A7) (b8 : A8) (b9 : A9) (b10 : A10) (b11 : A11) (b12 : A12) (b13 : A13) (b14 : A14), I b1 b2 b3 b4 b5 b6 b7 b8 b9 b10 b11 b12 b13 b14 → μ b1 b2 b3 b4 b5 b6 b7 b8 b9 b10 b11 b12 b13 b14 < μ a1 a2 a3 a4 a5 a6 a7 a8 a9 a10 a11 a12 a13 a14 → W n b1 b2 b3 b4 b5 b6 b7 b8 b9 b10 b11 b12 b13 b14) → W (n + 1) a1 a2 a3 a4 a5 a6 a7 a8 a9 a10 a11 a12 a13 a14) (a1 : A1) (a2 : A2) (a3 : A3) (a4 : A4) (a5 : A5) (a6 : A6) (a7 : A7) (a8 : A8) (a9 : A9) (a10 : A10) (a11 : A11) (a12 : A12) (a13 : A13) (a14 : A14) (h : I a1 a2 a3 a4 a5 a6 a7 a8 a9 a10 a11 a12 a13 a14) : ∃ n, W n a1 a2 a3 a4 a5 a6 a7 a8 a9 a10 a11 a12 a13 a14 :=
  loop_m (σ := A1 × A2 × A3 × A4 × A5 × A6 × A7 × A8 × A9 × A10 × A11 × A12 × A13 × A14) (fun n s => W n s.1 s.2.1 s.2.2.1 s.2.2.2.1 s.2.2.2.2.1 s.2.2.2.2.2.1 s.2.2.2.2.2.2.1 s.2.2.2.2.2.2.2.1 s.2.2.2.2.2.2.2.2.1 s.2.2.2.2.2.2.2.2.2.1 s.2.2.2.2.2.2.2.2.2.2.1 s.2.2.2.2.2.2.2.2.2.2.2.1 s.2.2.2.2.2.2.2.2.2.2.2.2.1 s.2.2.2.2.2.2.2.2.2.2.2.2.2) (fun s => I s.1 s.2.1 s.2.2.1 s.2.2.2.1 s.2.2.2.2.1 s.2.2.2.2.2.1 s.2.2.2.2.2.2.1 s.2.2.2.2.2.2.2.1 s.2.2.2.2.2.2.2.2.1 s.2.2.2.2.2.2.2.2.2.1 s.2.2.2.2.2.2.2.2.2.2.1 s.2.2.2.2.2.2.2.2.2.2.2.1 s.2.2.2.2.2.2.2.2.2.2.2.2.1 s.2.2.2.2.2.2.2.2.2.2.2.2.2) (fun s => μ s.1 s.2.1 s.2.2.1 s.2.2.2.1 s.2.2.2.2.1 s.2.2.2.2.2.1 s.2.2.2.2.2.2.1 s.2.2.2.2.2.2.2.1 s.2.2.2.2.2.2.2.2.1 s.2.2.2.2.2.2.2.2.2.1 s.2.2.2.2.2.2.2.2.2.2.1 s.2.2.2.2.2.2.2.2.2.2.2.1 s.2.2.2.2.2.2.2.2.2.2.2.2.1 s.2.2.2.2.2.2.2.2.2.2.2.2.2) (fun n s hI hk => hs n s.1 s.2.1 s.2.2.1 s.2.2.2.1 s.2.2.2.2.1 s.2.2.2.2.2.1 s.2.2.2.2.2.2.1 s.2.2.2.2.2.2.2.1 s.2.2.2.2.2.2.2.2.1 s.2.2.2.2.2.2.2.2.2.1 s.2.2.2.2.2.2.2.2.2.2.1 s.2.2.2.2.2.2.2.2.2.2.2.1 s.2.2.2.2.2.2.2.2.2.2.2.2.1 s.2.2.2.2.2.2.2.2.2.2.2.2.2 hI (fun b1 b2 b3 b4 b5 b6 b7 b8 b9 b10 b11 b12 b13 b14 h9 hm => hk (b1, b2, b3, b4, b5, b6, b7, b8, b9, b10, b11, b12, b13, b14) h9 hm)) (a1, a2, a3, a4, a5, a6, a7, a8, a9, a10, a11, a12, a13, a14) h
theorem lp15 {A1 A2 A3 A4 A5 A6 A7 A8 A9 A10 A11 A12 A13 A14 A15 : Type} (W : Nat → A1 → A2 → A3 → A4 → A5 → A6 → A7 → A8 → A9 → A10 → A11 → A12 → A13 → A14 → A15 → Prop) (I : A1 → A2 → A3 → A4 → A5 → A6 → A7 → A8 → A9 → A10 → A11 → A12 → A13 → A14 → A15 → Prop) (μ : A1 → A2 → A3 → A4 → A5 → A6 → A7 → A8 → A9 → A10 → A11 → A12 → A13 → A14 → A15 → Nat) (hs : ∀ (n : Nat) (a1 : A1) (a2 : A2) (a3 : A3) (a4 : A4) (a5 : A5) (a6 : A6) (a7 : A7) (a8 : A8) (a9 : A9) (a10 : A10) (a11 : A11) (a12 : A12) (a13 : A13) (a14 : A14) (a15 : A15), I a1 a2 a3 a4 a5 a6 a7 a8 a9 a10 a11 a12 a13 a14 a15 → (∀ (b1 : A1) (b2 : A2) (b3 : A3) (b4 : A4) (b5 : A5) (b6 : A6) (b7 : A7) (b8 : A8) (b9 : A9) (b10 : A10) (b11 : A11) (b12 : A12) (b13 : A13) (b14 : A14) (b15 : A15), I b1 b2 b3 b4 b5 b6 b7 b8 b9 b10 b11 b12 b13 b14 b15 → μ b1 b2 b3 b4 b5 b6 b7 b8 b9 b10 b11 b12 b13 b14 b15 < μ a1 a2 a3 a4 a5 a6 a7 a8 a9 a10 a11 a12 a13 a14 a15 → W n b1 b2 b3 b4 b5 b6 b7 b8 b9 b10 b11 b12 b13 b14 b15) → W (n + 1) a1 a2 a3 a4 a5 a6 a7 a8 a9 a10 a11 a12 a13 a14 a15) (a1 : A1) (a2 : A2) (a3 : A3) (a4 : A4) (a5 : A5) (a6 : A6) (a7 : A7) (a8 : A8) (a9 : A9) (a10 : A10) (a11 : A11) (a12 : A12) (a13 : A13) (a14 : A14) (a15 : A15) (h : I a1 a2 a3 a4 a5 a6 a7 a8 a9 a10 a11 a12 a13 a14 a15) : ∃ n, W n a1 a2 a3 a4 a5 a6 a7 a8 a9 a10 a11 a12 a13 a14 a15 :=
  loop_m (σ := A1 × A2 × A3 × A4 × A5 × A6 × A7 × A8 × A9 × A10 × A11 × A12 × A13 × A14 × A15) (fun n s => W n s.1 s.2.1 s.2.2.1 s.2.2.2.1 s.2.2.2.2.1 s.2.2.2.2.2.1 s.2.2.2.2.2.2.1 s.2.2.2.2.2.2.2.1 s.2.2.2.2.2.2.2.2.1 s.2.2.2.2.2.2.2.2.2.1 s.2.2.2.2.2.2.2.2.2.2.1 s.2.2.2.2.2.2.2.2.2.2.2.1 s.2.2.2.2.2.2.2.2.2.2.2.2.1 s.2.2.2.2.2.2.2.2.2.2.2.2.2.1 s.2.2.2.2.2.2.2.2.2.2.2.2.2.2) (fun s => I s.1 s.2.1 s.2.2.1 s.2.2.2.1 s.2.2.2.2.1 s.2.2.2.2.2.1 s.2.2.2.2.2.2.1 s.2.2.2.2.2.2.2.1 s.2.2.2.2.2.2.2.2.1 s.2.2.2.2.2.2.2.2.2.1 s.2.2.2.2.2.2.2.2.2.2.1 s.2.2.2.2.2.2.2.2.2.2.2.1 s.2.2.2.2.2.2.2.2.2.2.2.2.1 s.2.2.2.2.2.2.2.2.2.2.2.2.2.1 s.2.2.2.2.2.2.2.2.2.2.2.2.2.2) (fun s => μ s.1 s.2.1 s.2.2.1 s.2.2.2.1 s.2.2.2.2.1 s.2.2.2.2.2.1 s.2.2.2.2.2.2.1 s.2.2.2.2.2.2.2.1 s.2.2.2.2.2.2.2.2.1 s.2.2.2.2.2.2.2.2.2.1 s.2.2.2.2.2.2.2.2.2.2.1 s.2.2.2.2.2.2.2.2.2.2.2.1 s.2.2.2.2.2.2.2.2.2.2.2.2.1 s.2.2.2.2.2.2.2.2.2.2.2.2.2.1 s.2.2.2.2.2.2.2.2.2.2.2.2.2.2) (fun n s hI hk => hs n s.1 s.2.1 s.2.2.1 s.2.2.2.1 s.2.2.2.2.1 s.2.2.2.2.2.1 s.2.2.2.2.2.2.1 s.2.2.2.2.2.2.2.1 s.2.2.2.2.2.2.2.2.1 s.2.2.2.2.2.2.2.2.2.1 s.2.2.2.2.2.2.2.2.2.2.1 s.2.2.2.2.2.2.2.2.2.2.2.1 s.2.2.2.2.2.2.2.2.2.2.2.2.1 s.2.2.2.2.2.2.2.2.2.2.2.2.2.1 s.2.2.2.2.2.2.2.2.2.2.2.2.2.2 hI (fun b1 b2 b3 b4 b5 b6 b7 b8 b9 b10 b11 b12 b13 b14 b15 h9 hm => hk (b1, b2, b3, b4, b5, b6, b7, b8, b9, b10, b11, b12, b13, b14, b15) h9 hm)) (a1, a2, a3, a4, a5, a6, a7, a8, a9, a10, a11, a12, a13, a14, a15) h
theorem lp16 {A1 A2 A3 A4 A5 A6 A7 A8 A9 A10 A11 A12 A13 A14 A15 A16 : Type} (W : Nat → A1 → A2 → A3 → A4 → A5 → A6 → A7 → A8 → A9 → A10 → A11 → A12 → A13 → A14 → A15 → A16 → Prop) (I : A1 → A2 → A3 → A4 → A5 → A6 → A7 → A8 → A9 → A10 → A11 → A12 → A13 → A14 → A15 → A16 → Prop) (μ : A1 → A2 → A3 → A4 → A5 → A6 → A7 → A8 → A9 → A10 → A11 → A12 → A13 → A14 → A15 → A16 → Nat) (hs : ∀ (n : Nat) (a1 : A1) (a2 : A2) (a3 : A3) (a4 : A4) (a5 : A5) (a6 : A6) (a7 : A7) (a8 : A8) (a9 : A9) (a10 : A10) (a11 : A11) (a12 : A12) (a13 : A13) (a14 : A14) (a15 : A15) (a16 : A16), I a1 a2 a3 a4 a5 a6 a7 a8 a9 a10 a11 a12 a13 a14 a15 a16 → (∀ (b1 : A1) (b2 : A2) (b3 : A3) (b4 : A4) (b5 : A5) (b6 : A6) (b7 : A7) (b8 : A8) (b9 : A9) (b10 : A10) (b11 : A11) (b12 : A12) (b13 : A13) (b14 : A14) (b15 : A15) (b16 : A16), I b1 b2 b3 b4 b5 b6 b7 b8 b9 b10 b11 b12 b13 b14 b15 b16 → μ b1 b2 b3 b4 b5 b6 b7 b8 b9 b10 b11 b12 b13 b14 b15 b16 < μ a1 a2 a3 a4 a5 a6 a7 a8 a9 a10 a11 a12 a13 a14 a15 a16 → W n b1 b2 b3 b4 b5 b6 b7 b8 b9 b10 b11 b12 b13 b14 b15 b16) → W (n + 1) a1 a2 a3 a4 a5 a6 a7 a8 a9 a10 a11 a12 a13 a14 a15 a16) (a1 : A1) (a2 : A2) (a3 : A3) (a4 : A4) (a5 : A5) (a6 : A6) (a7 : A7) (a8 : A8) (a9 : A9) (a10 : A10) (a11 : A11) (a12 : A12) (a13 : A13) (a14 : A14) (a15 : A15) (a16 : A16) (h : I a1 a2 a3 a4 a5 a6 a7 a8 a9 a10 a11 a12 a13 a14 a15 a16) : ∃ n, W n a1 a2 a3 a4 a5 a6 a7 a8 a9 a10 a11 a12 a13 a14 a15 a16 :=
  loop_m (σ := A1 × A2 × A3 × A4 × A5 × A6 × A7 × A8 × A9 × A10 × A11 × A12 × A13 × A14 × A15 × A16) (fun n s => W n s.1 s.2.1 s.2.2.1 s.2.2.2.1 s.2.2.2.2.1 s.2.2.2.2.2.1 s.2.2.2.2.2.2.1 s.2.2.2.2.2.2.2.1 s.2.2.2.2.2.2.2.2.1 s.2.2.2.2.2.2.2.2.2.1 s.2.2.2.2.2.2.2.2.2.2.1 s.2.2.2.2.2.2.2.2.2.2.2.1 s.2.2.2.2.2.2.2.2.2.2.2.2.1 s.2.2.2.2.2.2.2.2.2.2.2.2.2.1 s.2.2.2.2.2.2.2.2.2.2.2.2.2.2.1 s.2.2.2.2.2.2.2.2.2.2.2.2.2.2.2) (fun s => I s.1 s.2.1 s.2.2.1 s.2.2.2.1 s.2.2.2.2.1 s.2.2.2.2.2.1 s.2.2.2.2.2.2.1 s.2.2.2.2.2.2.2.1 s.2.2.2.2.2.2.2.2.1 s.2.2.2.2.2.2.2.2.2.1 s.2.2.2.2.2.2.2.2.2.2.1 s.2.2.2.2.2.2.2.2.2.2.2.1 s.2.2.2.2.2.2.2.2.2.2.2.2.1 s.2.2.2.2.2.2.2.2.2.2.2.2.2.1 s.2.2.2.2.2.2.2.2.2.2.2.2.2.2.1 s.2.2.2.2.2.2.2.2.2.2.2.2.2.2.2) (fun s => μ s.1 s.2.1 s.2.2.1 s.2.2.2.1 s.2.2.2.2.1 s.2.2.2.2.2.1 s.2.2.2.2.2.2.1 s.2.2.2.2.2.2.2.1 s.2.2.2.2.2.2.2.2.1 s.2.2.2.2.2.2.2.2.2.1 s.2.2.2.2.2.2.2.2.2.2.1 s.2.2.2.2.2.2.2.2.2.2.2.1 s.2.2.2.2.2.2.2.2.2.2.2.2.1 s.2.2.2.2.2.2.2.2.2.2.2.2.2.1 s.2.2.2.2.2.2.2.2.2.2.2.2.2.2.1 s.2.2.2.2.2.2.2.2.2.2.2.2.2.2.2) (fun n s hI hk => hs n s.1 s.2.1 s.2.2.1 s.2.2.2.1 s.2.2.2.2.1 s.2.2.2.2.2.1 s.2.2.2.2.2.2.1 s.2.2.2.2.2.2.2.1 s.2.2.2.2.2.2.2.2.1 s.2.2.2.2.2.2.2.2.2.1 s.2.2.2.2.2.2.2.2.2.2.1 s.2.2.2.2.2.2.2.2.2.2.2.1 s.2.2.2.2.2.2.2.2.2.2.2.2.1 s.2.2.2.2.2.2.2.2.2.2.2.2.2.1 s.2.2.2.2.2.2.2.2.2.2.2.2.2.2.1 s.2.2.2.2.2.2.2.2.2.2.2.2.2.2.2 hI (fun b1 b2 b3 b4 b5 b6 b7 b8 b9 b10 b11 b12 b13 b14 b15 b16 h9 hm => hk (b1, b2, b3, b4, b5, b6, b7, b8, b9, b10, b11, b12, b13, b14, b15, b16) h9 hm)) (a1, a2, a3, a4, a5, a6, a7, a8, a9, a10, a11, a12, a13, a14, a15, a16) h
theorem pk_least (P : Nat → Prop) (h : ∃ k, P k) : ∃ k, P k ∧ ∀ j, j < k → ¬ P j := by
  obtain ⟨k, hk⟩ := h
  induction k using Nat.strongRecOn with
  | ind k ih =>
    by_cases e : ∃ j, j < k ∧ P j
    · obtain ⟨j, hj, pj⟩ := e
      exact ih j hj pj
    · exact ⟨k, hk, fun j hj pj => e ⟨j, hj, pj⟩⟩
theorem rp1 {ρ A1 : Type} (W : Nat → (ρ → Prop) → A1 → Prop) (ok : A1 → Prop) (μ : A1 → Nat) (val : A1 → ρ)
    (hs : ∀ (d : Nat) (post : ρ → Prop) (a1 : A1), ok a1 → post (val a1) → (∀ (post' : ρ → Prop) (b1 : A1), ok b1 → μ b1 < μ a1 → post' (val b1) → W d post' b1) → W (d + 1) post a1) :
    ∀ (d : Nat) (post : ρ → Prop) (a1 : A1), ok a1 → μ a1 < d → post (val a1) → W d post a1 := by
  intro d
  induction d with
  | zero => intro post a1 _ h; omega
  | succ d ih =>
    intro post a1 ho hm hp
    exact hs d post a1 ho hp (fun post' b1 ho' hm' hp' => ih post' b1 ho' (by omega) hp')
theorem rp2 {ρ A1 A2 : Type} (W : Nat → (ρ → Prop) → A1 → A2 → Prop) (ok : A1 → A2 → Prop) (μ : A1 → A2 → Nat) (val : A1 → A2 → ρ)
    (hs : ∀ (d : Nat) (post : ρ → Prop) (a1 : A1) (a2 : A2), ok a1 a2 → post (val a1 a2) → (∀ (post' : ρ → Prop) (b1 : A1) (b2 : A2), ok b1 b2 → μ b1 b2 < μ a1 a2 → post' (val b1 b2) → W d post' b1 b2) → W (d + 1) post a1 a2) :
    ∀ (d : Nat) (post : ρ → Prop) (a1 : A1) (a2 : A2), ok a1 a2 → μ a1 a2 < d → post (val a1 a2) → W d post a1 a2 := by
  intro d
  induction d with
  | zero => intro post a1 a2 _ h; omega
  | succ d ih =>
    intro post a1 a2 ho hm hp
    exact hs d post a1 a2 ho hp (fun post' b1 b2 ho' hm' hp' => ih post' b1 b2 ho' (by omega) hp')
theorem rp3 {ρ A1 A2 A3 : Type} (W : Nat → (ρ → Prop) → A1 → A2 → A3 → Prop) (ok : A1 → A2 → A3 → Prop) (μ : A1 → A2 → A3 → Nat) (val : A1 → A2 → A3 → ρ)
    (hs : ∀ (d : Nat) (post : ρ → Prop) (a1 : A1) (a2 : A2) (a3 : A3), ok a1 a2 a3 → post (val a1 a2 a3) → (∀ (post' : ρ → Prop) (b1 : A1) (b2 : A2) (b3 : A3), ok b1 b2 b3 → μ b1 b2 b3 < μ a1 a2 a3 → post' (val b1 b2 b3) → W d post' b1 b2 b3) → W (d + 1) post a1 a2 a3) :
    ∀ (d : Nat) (post : ρ → Prop) (a1 : A1) (a2 : A2) (a3 : A3), ok a1 a2 a3 → μ a1 a2 a3 < d → post (val a1 a2 a3) → W d post a1 a2 a3 := by
  intro d
  induction d with
  | zero => intro post a1 a2 a3 _ h; omega
  | succ d ih =>
    intro post a1 a2 a3 ho hm hp
    exact hs d post a1 a2 a3 ho hp (fun post' b1 b2 b3 ho' hm' hp' => ih post' b1 b2 b3 ho' (by omega) hp')
theorem rp4 {ρ A1 A2 A3 A4 : Type} (W : Nat → (ρ → Prop) → A1 → A2 → A3 → A4 → Prop) (ok : A1 → A2 → A3 → A4 → Prop) (μ : A1 → A2 → A3 → A4 → Nat) (val : A1 → A2 → A3 → A4 → ρ)
    (hs : ∀ (d : Nat) (post : ρ → Prop) (a1 : A1) (a2 : A2) (a3 : A3) (a4 : A4), ok a1 a2 a3 a4 → post (val a1 a2 a3 a4) → (∀ (post' : ρ → Prop) (b1 : A1) (b2 : A2) (b3 : A3) (b4 : A4), ok b1 b2 b3 b4 → μ b1 b2 b3 b4 < μ a1 a2 a3 a4 → post' (val b1 b2 b3 b4) → W d post' b1 b2 b3 b4) → W (d + 1) post a1 a2 a3 a4) :
    ∀ (d : Nat) (post : ρ → Prop) (a1 : A1) (a2 : A2) (a3 : A3) (a4 : A4), ok a1 a2 a3 a4 → μ a1 a2 a3 a4 < d → post (val a1 a2 a3 a4) → W d post a1 a2 a3 a4 := by
  intro d
  induction d with
  | zero => intro post a1 a2 a3 a4 _ h; omega
  | succ d ih =>
    intro post a1 a2 a3 a4 ho hm hp
    exact hs d post a1 a2 a3 a4 ho hp (fun post' b1 b2 b3 b4 ho' hm' hp' => ih post' b1 b2 b3 b4 ho' (by omega) hp')
theorem rp5 {ρ A1 A2 A3 A4 A5 : Type} (W : Nat → (ρ → Prop) → A1 → A2 → A3 → A4 → A5 → Prop) (ok : A1 → A2 → A3 → A4 → A5 → Prop) (μ : A1 → A2 → A3 → A4 → A5 → Nat) (val : A1 → A2 → A3 → A4 → A5 → ρ)
    (hs : ∀ (d : Nat) (post : ρ → Prop) (a1 : A1) (a2 : A2) (a3 : A3) (a4 : A4) (a5 : A5), ok a1 a2 a3 a4 a5 → post (val a1 a2 a3 a4 a5) → (∀ (post' : ρ → Prop) (b1 : A1) (b2 : A2) (b3 : A3) (b4 : A4) (b5 : A5), ok b1 b2 b3 b4 b5 → μ b1 b2 b3 b4 b5 < μ a1 a2 a3 a4 a5 → post' (val b1 b2 b3 b4 b5) → W d post' b1 b2 b3 b4 b5) → W (d + 1) post a1 a2 a3 a4 a5) :
    ∀ (d : Nat) (post : ρ → Prop) (a1 : A1) (a2 : A2) (a3 : A3) (a4 : A4) (a5 : A5), ok a1 a2 a3 a4 a5 → μ a1 a2 a3 a4 a5 < d → post (val a1 a2 a3 a4 a5) → W d post a1 a2 a3 a4 a5 := by
  intro d
  induction d with
  | zero => intro post a1 a2 a3 a4 a5 _ h; omega
  | succ d ih =>
    intro post a1 a2 a3 a4 a5 ho hm hp
    exact hs d post a1 a2 a3 a4 a5 ho hp (fun post' b1 b2 b3 b4 b5 ho' hm' hp' => ih post' b1 b2 b3 b4 b5 ho' (by omega) hp')
theorem rp6 {ρ A1 A2 A3 A4 A5 A6 : Type} (W : Nat → (ρ → Prop) → A1 → A2 → A3 → A4 → A5 → A6 → Prop) (ok : A1 → A2 → A3 → A4 → A5 → A6 → Prop) (μ : A1 → A2 → A3 → A4 → A5 → A6 → Nat) (val : A1 → A2 → A3 → A4 → A5 → A6 → ρ)
    (hs : ∀ (d : Nat) (post : ρ → Prop) (a1 : A1) (a2 : A2) (a3 : A3) (a4 : A4) (a5 : A5) (a6 : A6), ok a1 a2 a3 a4 a5 a6 → post (val a1 a2 a3 a4 a5 a6) → (∀ (post' : ρ → Prop) (b1 : A1) (b2 : A2) (b3 : A3) (b4 : A4) (b5 : A5) (b6 : A6), ok b1 b2 b3 b4 b5 b6 → μ b1 b2 b3 b4 b5 b6 < μ a1 a2 a3 a4 a5 a6 → post' (val b1 b2 b3 b4 b5 b6) → W d post' b1 b2 b3 b4 b5 b6) → W (d + 1) post a1 a2 a3 a4 a5 a6) :
    ∀ (d : Nat) (post : ρ → Prop) (a1 : A1) (a2 : A2) (a3 : A3) (a4 : A4) (a5 : A5) (a6 : A6), ok a1 a2 a3 a4 a5 a6 → μ a1 a2 a3 a4 a5 a6 < d → post (val a1 a2 a3 a4 a5 a6) → W d post a1 a2 a3 a4 a5 a6 := by
  intro d
  induction d with
  | zero => intro post a1 a2 a3 a4 a5 a6 _ h; omega
  | succ d ih =>
    intro post a1 a2 a3 a4 a5 a6 ho hm hp
    exact hs d post a1 a2 a3 a4 a5 a6 ho hp (fun post' b1 b2 b3 b4 b5 b6 ho' hm' hp' => ih post' b1 b2 b3 b4 b5 b6 ho' (by omega) hp')
theorem rec_p {σ ρ : Type} (W : Nat → (ρ → Prop) → σ → Prop) (ok : σ → Prop) (μ : σ → Nat) (val : σ → ρ)
    (hs : ∀ d s post, ok s → post (val s) → (∀ s' post', ok s' → μ s' < μ s → post' (val s') → W d post' s') → W (d + 1) post s) :
    ∀ d s post, ok s → μ s < d → post (val s) → W d post s := by
  intro d
  induction d with
  | zero => intro s post _ h; omega
  | succ d ih =>
    intro s post ho hm hp
    exact hs d s post ho hp (fun s' post' ho' hm' hp' => ih s' post' ho' (by omega) hp')
theorem rec_q {σ ρ : Type} (W : Nat → (ρ → Prop) → σ → Prop) (ok : σ → Prop) (μ : σ → Nat) (Q : σ → ρ → Prop)
    (hs : ∀ d s post, ok s → (∀ r, Q s r → post r) → (∀ s' post', ok s' → μ s' < μ s → (∀ r, Q s' r → post' r) → W d post' s') → W (d + 1) post s) :
    ∀ d s post, ok s → μ s < d → (∀ r, Q s r → post r) → W d post s := by
  intro d
  induction d with
  | zero => intro s post _ h; omega
  | succ d ih =>
    intro s post ho hm hp
    exact hs d s post ho hp (fun s' post' ho' hm' hp' => ih s' post' ho' (by omega) hp')
def bx_sum (f : Nat → Int32) : Nat → Int32
  | 0 => 0
  | n + 1 => bx_sum f n + f n
theorem ek_u {A : Prop} {B : Nat → Prop} {k N : Nat} (hk : k < N) (h : B k) : (some k = none → A) ∧ (∀ y : Nat, some k = some y → (y < N ∧ B y)) :=
  ⟨fun z => absurd z (Option.some_ne_none k), fun _ e => (by cases e; exact ⟨hk, h⟩)⟩
theorem ek_nu {A : Prop} {B : Nat → Prop} (h : A) : ((none : Option Nat) = none → A) ∧ (∀ y : Nat, (none : Option Nat) = some y → B y) :=
  ⟨fun _ => h, fun _ e => (by cases e)⟩
theorem ek_if {c d A B : Prop} (e : c ↔ d) (f : d → A) (g : ¬ d → B) : (c → A) ∧ (¬ c → B) :=
  ⟨fun z => f (e.mp z), fun z => g (fun y => z (e.mpr y))⟩
theorem ek_v {α : Sort _} {P : α → Prop} {a b : α} (e : a = b) (h : P b) : P a := e ▸ h
theorem co_some {x : Option Nat} {A : Prop} {B : Nat → Prop} (i : Nat) (h : B i) (hx : x = some i := by rfl) : (x = none → A) ∧ (∀ y : Nat, x = some y → B y) := by
  subst hx
  exact ⟨fun e => (nomatch e), fun y e => Option.some.inj e ▸ h⟩
theorem co_none {x : Option Nat} {A : Prop} {B : Nat → Prop} (h : A) (hx : x = none := by rfl) : (x = none → A) ∧ (∀ y : Nat, x = some y → B y) := by
  subst hx
  exact ⟨fun _ => h, fun y e => (nomatch e)⟩
theorem co_any {x : Option Nat} {A : Prop} {B : Nat → Prop} (hn : x = none → A) (hs : ∀ i : Nat, x = some i → B i) : (x = none → A) ∧ (∀ y : Nat, x = some y → B y) := ⟨hn, hs⟩
theorem co_2 {P : Nat → Prop} (h0 : P 0) (h1 : P 1) {i : Nat} (hi : i < 2) : P i :=
  match i, hi with
  | 0, _ => h0
  | 1, _ => h1
theorem co_3 {P : Nat → Prop} (h0 : P 0) (h1 : P 1) (h2 : P 2) {i : Nat} (hi : i < 3) : P i :=
  match i, hi with
  | 0, _ => h0
  | 1, _ => h1
  | 2, _ => h2
theorem co_4 {P : Nat → Prop} (h0 : P 0) (h1 : P 1) (h2 : P 2) (h3 : P 3) {i : Nat} (hi : i < 4) : P i :=
  match i, hi with
  | 0, _ => h0
  | 1, _ => h1
  | 2, _ => h2
  | 3, _ => h3
theorem co_dec {N : Nat} {P : Nat → Prop} [DecidablePred P] (h : (List.range N).all (fun i => decide (P i)) = true) {i : Nat} (hi : i < N) : P i := by
  have := List.all_eq_true.mp h i (List.mem_range.mpr hi)
  exact of_decide_eq_true this
theorem co_tab {α : Type} {l : List α} {d : α} {P : α → Prop} (h : ∀ a, a ∈ l → P a) {i : Nat} (hi : i < l.length) : P (l.getD i d) := by
  rw [List.getD_eq_getElem?_getD, List.getElem?_eq_getElem hi]
  exact h _ (List.getElem_mem hi)
theorem pk_mu {x : Int32} {L : Nat} (h0 : ¬ x < 0) (h : ¬ nI L ≤ x) (hL : L < 2 ^ 31) : ∃ j : Nat, j < L ∧ x = nI j ∧ x + 1 = nI (j + 1) ∧ x.toNatClampNeg = j ∧ L - (x + 1).toNatClampNeg < L - x.toNatClampNeg := by
  obtain ⟨j, hj, rfl⟩ := nI_of h0
  have hl : j < L := Nat.not_le.mp fun q => h (nI_le q hj)
  refine ⟨j, hl, rfl, nI_1 j, nI_clamp hj, ?_⟩
  rw [nI_1, nI_clamp (by omega), nI_clamp hj]
  omega
theorem op_s {α : Type} {r : Option α} {A : Prop} {B : α → Prop} {y : α} (h : r = some y) (b : B y) : (r = none → A) ∧ ∀ z, r = some z → B z :=
  ⟨fun e => (by rw [h] at e; cases e), fun z e => (by rw [h] at e; cases e; exact b)⟩
def l_holds {α : Type} (a : Nat → Option Nat) (LP : List Nat) (p : Nat → α) (c : Nat) (b : Nat → α) : Prop :=
  ∀ j, j < c → ∃ y, a j = some y ∧ y ∈ LP ∧ p y = b j
theorem l_holds_0 {α : Type} {a : Nat → Option Nat} {LP : List Nat} {p b : Nat → α} : l_holds a LP p 0 b := fun j h => absurd h (Nat.not_lt_zero j)
theorem l_in_new (LP : List Nat) (q : Nat) : q ∈ LP ++ [q] := List.mem_append.mpr (Or.inr (List.mem_singleton.mpr rfl))
def l_sum (b : Nat → Int32) : Nat → Int32
  | 0 => 0
  | k + 1 => l_sum b k + b k
theorem sb_shr0 (x : Int32) : x >>> ((0 : Int32) &&& 31) = x := by
  rw [show ((0 : Int32) &&& 31) = 0 by decide]
  simp
theorem sb_shl0 (x : Int32) : x <<< ((0 : Int32) &&& 31) = x := by
  rw [show ((0 : Int32) &&& 31) = 0 by decide]
  simp
theorem sb_cl0 : (0 : Int32).toNatClampNeg = 0 := by decide
theorem sb_m1 {p : Nat} (h : 0 < p) : nI p + (-1) = nI (p - 1) := by
  obtain ⟨q, rfl⟩ : ∃ q, p = q + 1 := ⟨p - 1, by omega⟩
  exact pk_m1 q
def sb_b (c : Nat) : Int32 := (nI c).toInt8.toInt32
theorem sb_byte : ∀ c, c < 256 → sb_b c &&& 255 = nI c ∧ ((nI c).toUInt32 % 65536).toInt32 = nI c ∧ nI c ≤ 255 := by decide +kernel
def sb_Fit (a : Nat → Int32) : Prop := ∀ j, fits .byte (.int (a j)) = true
def sb_Lat (t : Nat → Nat) (n : Nat) (a : Nat → Int32) : Prop := ∀ j, j < n → t j < 256 ∧ a j = sb_b (t j)
theorem sb_fitB (c : Nat) : fits .byte (.int (sb_b c)) = true := pk_fb _
theorem sb_fit0 : sb_Fit (fun _ => 0) := fun _ => by
  show fits .byte (.int 0) = true
  decide
theorem sb_fitU {a : Nat → Int32} {k : Nat} {x : Int32} (h : sb_Fit a) (hx : fits .byte (.int x) = true) : sb_Fit (upd a k x) := by
  intro j
  by_cases e : j = k
  · subst e
    rw [pk_us]
    exact hx
  · rw [pk_un e]
    exact h j
def sb_cat (t : Nat → Nat) (n : Nat) (s : Nat → Nat) : Nat → Nat := fun j => if j < n then t j else s (j - n)
theorem sb_cat_lo {t s : Nat → Nat} {n j : Nat} (h : j < n) : sb_cat t n s j = t j := if_pos h
theorem sb_cat_hi {t s : Nat → Nat} {n j : Nat} : sb_cat t n s (n + j) = s j := by
  show (if n + j < n then t (n + j) else s (n + j - n)) = s j
  rw [if_neg (by omega), Nat.add_sub_cancel_left]
theorem sb_latPut {t s : Nat → Nat} {n w : Nat} {a a' : Nat → Int32} (h : sb_Lat t n a) (hk : ∀ j, j < n → a' j = a j) (hs : ∀ i, i < w → s i < 256 ∧ a' (n + i) = sb_b (s i)) : sb_Lat (sb_cat t n s) (n + w) a' := by
  intro j hj
  by_cases e : j < n
  · rw [sb_cat_lo e, hk j e]
    exact h j e
  · obtain ⟨i, rfl⟩ : ∃ i, j = n + i := ⟨j - n, by omega⟩
    rw [sb_cat_hi]
    exact hs i (by omega)
theorem sb_latKeep {t : Nat → Nat} {n : Nat} {a a' : Nat → Int32} (h : sb_Lat t n a) (hk : ∀ j, j < n → a' j = a j) : sb_Lat t n a' := fun j hj => by
  rw [hk j hj]
  exact h j hj
def sb_cap (q m : Nat) : Nat := if q ≤ m then m else if 2 * m + 2 < q then q else 2 * m + 2
def sb_Room (q m mc ms : Nat) : Prop := q ≤ m ∨ (1 ≤ mc ∧ sb_cap q m ≤ ms ∧ sb_cap q m ≤ 65536)
theorem sb_cap_ge (q m : Nat) : q ≤ sb_cap q m := by
  unfold sb_cap
  split
  · omega
  · split <;> omega
theorem sb_cap_gem (q m : Nat) : m ≤ sb_cap q m := by
  unfold sb_cap
  split
  · omega
  · split <;> omega
theorem sb_cap_le {q m mc ms : Nat} (hm : m ≤ 65536) (hr : sb_Room q m mc ms) : sb_cap q m ≤ 65536 := by
  rcases hr with h | h
  · rw [sb_cap, if_pos h]
    exact hm
  · exact h.2.2
theorem sb_at {P : Int32 → Prop} {x y : Int32} (e : x = y) (h : P y) : P x := e ▸ h
def sb_dg (w : Nat) : Nat := if w < 10 then 1 else if w < 100 then 2 else if w < 1000 then 3 else if w < 10000 then 4 else if w < 100000 then 5 else if w < 1000000 then 6 else if w < 10000000 then 7 else if w < 100000000 then 8 else if w < 1000000000 then 9 else 10
def sb_dec (v : Nat) : Nat → Nat := fun i => 48 + v / 10 ^ (sb_dg v - 1 - i) % 10
theorem sb_dg_in (w : Nat) : 1 ≤ sb_dg w ∧ sb_dg w ≤ 10 := by
  unfold sb_dg
  constructor <;> (repeat' split) <;> omega
theorem sb_dg100 {w : Nat} (h : 100 ≤ w) (hw : w < 2 ^ 31) : sb_dg w = sb_dg (w / 100) + 2 := by
  rw [sb_dg, sb_dg, if_neg (show ¬ w < 10 by omega), if_neg (show ¬ w < 100 by omega)]
  by_cases h3 : w < 1000
  · rw [if_pos h3, if_pos (show w / 100 < 10 by omega)]
  rw [if_neg h3, if_neg (show ¬ w / 100 < 10 by omega)]
  by_cases h4 : w < 10000
  · rw [if_pos h4, if_pos (show w / 100 < 100 by omega)]
  rw [if_neg h4, if_neg (show ¬ w / 100 < 100 by omega)]
  by_cases h5 : w < 100000
  · rw [if_pos h5, if_pos (show w / 100 < 1000 by omega)]
  rw [if_neg h5, if_neg (show ¬ w / 100 < 1000 by omega)]
  by_cases h6 : w < 1000000
  · rw [if_pos h6, if_pos (show w / 100 < 10000 by omega)]
  rw [if_neg h6, if_neg (show ¬ w / 100 < 10000 by omega)]
  by_cases h7 : w < 10000000
  · rw [if_pos h7, if_pos (show w / 100 < 100000 by omega)]
  rw [if_neg h7, if_neg (show ¬ w / 100 < 100000 by omega)]
  by_cases h8 : w < 100000000
  · rw [if_pos h8, if_pos (show w / 100 < 1000000 by omega)]
  rw [if_neg h8, if_neg (show ¬ w / 100 < 1000000 by omega)]
  by_cases h9 : w < 1000000000
  · rw [if_pos h9, if_pos (show w / 100 < 10000000 by omega)]
  rw [if_neg h9, if_neg (show ¬ w / 100 < 10000000 by omega)]
  rw [if_pos (show w / 100 < 100000000 by omega)]
theorem sb_negT {w : Nat} (h : w < 2 ^ 31) : (-nI w).toInt = -(w : Int) := by
  rw [Int32.toInt_neg, nI_toInt h]
  exact Int.bmod_eq_of_le (by omega) (by omega)
theorem sb_nle {a b : Nat} (ha : a < 2 ^ 31) (hb : b < 2 ^ 31) : -nI a ≤ -nI b ↔ b ≤ a := by
  rw [Int32.le_iff_toInt_le, sb_negT ha, sb_negT hb]
  omega
theorem sb_nlt {a b : Nat} (ha : a < 2 ^ 31) (hb : b < 2 ^ 31) : -nI a < -nI b ↔ b < a := by
  rw [Int32.lt_iff_toInt_lt, sb_negT ha, sb_negT hb]
  omega
theorem sb_cmp {A B : Prop} {x : Int32} (v c : Nat) (f : c ≤ v → A) (g : v < c → B) (hv : v < 2 ^ 31) (hx : x = -nI c := by rfl) (hc : c < 2 ^ 31 := by omega) : (-nI v ≤ x → A) ∧ (¬ -nI v ≤ x → B) := by
  subst hx
  rw [sb_nle hv hc]
  exact ⟨f, fun z => g (by omega)⟩
theorem sb_ndiv {w : Nat} (hw : w < 2 ^ 31) : (-nI w) / 100 = -nI (w / 100) := by
  apply Int32.toInt_inj.mp
  have h100 : (100 : Int32).toInt = 100 := by decide
  rw [Int32.toInt_div, sb_negT hw, h100, sb_negT (by omega), Int.neg_tdiv, Int.tdiv_eq_ediv_of_nonneg (by omega), Int.bmod_eq_of_le (by omega) (by omega)]
  omega
theorem sb_nrem {w : Nat} (hw : w < 2 ^ 31) : (-nI (w / 100)) * 100 - (-nI w) = nI (w % 100) := by
  have h := pk_rem (a := w) (d := 100) hw (by decide) (by decide)
  rw [pk_div hw (by decide) (by decide)] at h
  rw [← h]
  show (-nI (w / 100)) * nI 100 - (-nI w) = nI w - nI (w / 100) * nI 100
  rw [Int32.neg_mul, Int32.sub_neg, Int32.add_comm, ← Int32.sub_eq_add_neg]
end
section
/-! rows on bits, shifts and unsigned numbers, to paste: each family out of a closed proof of our own, whole with what it rests on; each by itself clean at Lean in its own claim (generation 39, form 5). Take a family whole -/
/-! ===== Int32 by its bits: bt x i ===== -/
def bt (x : Int32) (i : Nat) : Bool := x.toBitVec.getLsbD i
theorem b_ext {x y : Int32} (h : ∀ i, i < 32 → bt x i = bt y i) : x = y := Int32.toBitVec_inj.mp (BitVec.eq_of_getLsbD_eq (fun i hi => h i hi))
theorem b_or (x y : Int32) (i : Nat) : bt (x ||| y) i = (bt x i || bt y i) := by unfold bt; rw [Int32.toBitVec_or, BitVec.getLsbD_or]
theorem b_and (x y : Int32) (i : Nat) : bt (x &&& y) i = (bt x i && bt y i) := by unfold bt; rw [Int32.toBitVec_and, BitVec.getLsbD_and]
theorem b_xor (x y : Int32) (i : Nat) : bt (x ^^^ y) i = (bt x i ^^ bt y i) := by unfold bt; rw [Int32.toBitVec_xor, BitVec.getLsbD_xor]
theorem b_big {x : Int32} {i : Nat} (h : 32 ≤ i) : bt x i = false := BitVec.getLsbD_of_ge _ _ h
theorem b_255 (i : Nat) : bt 255 i = decide (i < 8) := by
  rcases Nat.lt_or_ge i 32 with h | h
  · exact (by decide +kernel : ∀ i, i < 32 → bt 255 i = decide (i < 8)) i h
  · rw [b_big h, decide_eq_false (by omega)]
theorem b_65535 (i : Nat) : bt 65535 i = decide (i < 16) := by
  rcases Nat.lt_or_ge i 32 with h | h
  · exact (by decide +kernel : ∀ i, i < 32 → bt 65535 i = decide (i < 16)) i h
  · rw [b_big h, decide_eq_false (by omega)]
theorem b_m1 : ∀ i, i < 32 → bt (-1) i = true := by decide +kernel
theorem b_0 (i : Nat) : bt 0 i = false := BitVec.getLsbD_zero
theorem s_l : ∀ n, n < 32 → ((nI n &&& 31).toBitVec.smod 32).toNat = n := by decide +kernel
theorem s_u : ∀ n, n < 32 → (((nI n).toUInt32 &&& Int32.toUInt32 31).toBitVec % 32).toNat = n := by decide +kernel
theorem b_shl (n : Nat) (hn : n < 32) (x : Int32) {i : Nat} (hi : i < 32) : bt (x <<< (nI n &&& 31)) i = (decide (n ≤ i) && bt x (i - n)) := by
  unfold bt
  rw [Int32.toBitVec_shiftLeft]
  show (x.toBitVec <<< ((nI n &&& 31).toBitVec.smod 32).toNat).getLsbD i = _
  rw [s_l n hn, BitVec.getLsbD_shiftLeft]
  rcases Nat.lt_or_ge i n with h | h
  · simp [h, Nat.not_le.mpr h]
  · simp [hi, h, Nat.not_lt.mpr h]
theorem b_ushr (n : Nat) (hn : n < 32) (x : Int32) (i : Nat) : bt ((x.toUInt32 >>> ((nI n).toUInt32 &&& Int32.toUInt32 31)).toInt32) i = bt x (n + i) := by
  show (x.toUInt32 >>> ((nI n).toUInt32 &&& Int32.toUInt32 31)).toBitVec.getLsbD i = x.toUInt32.toBitVec.getLsbD (n + i)
  rw [UInt32.toBitVec_shiftRight]
  show (x.toUInt32.toBitVec >>> (((nI n).toUInt32 &&& Int32.toUInt32 31).toBitVec % 32).toNat).getLsbD i = _
  rw [s_u n hn, BitVec.getLsbD_ushiftRight]
theorem b_sshr (n : Nat) (hn : n < 32) (x : Int32) {i : Nat} (hi : i < 32) : bt (x >>> (nI n &&& 31)) i = if n + i < 32 then bt x (n + i) else bt x 31 := by
  unfold bt
  rw [Int32.toBitVec_shiftRight]
  show (x.toBitVec.sshiftRight ((nI n &&& 31).toBitVec.smod 32).toNat).getLsbD i = _
  rw [s_l n hn, BitVec.getLsbD_sshiftRight, BitVec.msb_eq_getLsbD_last]
  simp [hi]
theorem b_shl8 (x : Int32) {i : Nat} (hi : i < 32) : bt (x <<< ((8 : Int32) &&& 31)) i = (decide (8 ≤ i) && bt x (i - 8)) := b_shl 8 (by omega) x hi
theorem b_shl16 (x : Int32) {i : Nat} (hi : i < 32) : bt (x <<< ((16 : Int32) &&& 31)) i = (decide (16 ≤ i) && bt x (i - 16)) := b_shl 16 (by omega) x hi
theorem b_shl24 (x : Int32) {i : Nat} (hi : i < 32) : bt (x <<< ((24 : Int32) &&& 31)) i = (decide (24 ≤ i) && bt x (i - 24)) := b_shl 24 (by omega) x hi
theorem b_sshr8 (x : Int32) {i : Nat} (hi : i < 32) : bt (x >>> ((8 : Int32) &&& 31)) i = if 8 + i < 32 then bt x (8 + i) else bt x 31 := b_sshr 8 (by omega) x hi
/-! ===== nI under and, xor, >>>, one bit, 65535 ===== -/
theorem nx_and (a b : Nat) : nI a &&& nI b = nI (a &&& b) := by
  apply Int32.toBitVec_inj.1
  show BitVec.ofNat 32 a &&& BitVec.ofNat 32 b = BitVec.ofNat 32 (a &&& b)
  apply BitVec.eq_of_getLsbD_eq
  intro i hi
  simp [hi]
theorem nx_xor (a b : Nat) : nI a ^^^ nI b = nI (a ^^^ b) := by
  apply Int32.toBitVec_inj.1
  show BitVec.ofNat 32 a ^^^ BitVec.ofNat 32 b = BitVec.ofNat 32 (a ^^^ b)
  apply BitVec.eq_of_getLsbD_eq
  intro i hi
  simp [hi]
theorem nx_cnt : ∀ j : Fin 32, (UInt32.ofNat j.val &&& Int32.toUInt32 31).toNat % 32 = j.val := by decide +kernel
theorem nx_ush {k j : Nat} (hk : k < 65536) (hj : j < 32) : ((nI k).toUInt32 >>> ((nI j).toUInt32 &&& Int32.toUInt32 31)).toInt32 = nI (k >>> j) := by
  have hs : k >>> j ≤ k := by
    rw [Nat.shiftRight_eq_div_pow]
    exact Nat.div_le_self _ _
  have e2 : UInt32.ofNat k >>> (UInt32.ofNat j &&& Int32.toUInt32 31) = UInt32.ofNat (k >>> j) := by
    apply UInt32.toNat_inj.1
    have h1 : (UInt32.ofNat k).toNat = k := Nat.mod_eq_of_lt (by omega)
    have h2 : (UInt32.ofNat (k >>> j)).toNat = k >>> j := Nat.mod_eq_of_lt (by omega)
    rw [UInt32.toNat_shiftRight, nx_cnt ⟨j, hj⟩, h1, h2]
  show (UInt32.ofNat k >>> (UInt32.ofNat j &&& Int32.toUInt32 31)).toInt32 = _
  rw [e2]
  rfl
theorem nx_bit {k j : Nat} (hk : k < 65536) (hj : j < 16) : (((nI k).toUInt32 >>> ((nI j).toUInt32 &&& Int32.toUInt32 31)).toInt32 &&& 1) = 0 ↔ k.testBit j = false := by
  rw [nx_ush hk (by omega)]
  show nI (k >>> j) &&& nI 1 = 0 ↔ _
  rw [nx_and, Nat.and_one_is_mod, ← nI_0, nI_eq (by omega) (by omega), Nat.testBit_eq_decide_div_mod_eq, Nat.shiftRight_eq_div_pow, decide_eq_false_iff_not]
  generalize k / 2 ^ j = z
  omega
theorem nx_mod (k : Nat) : nI k &&& 65535 = nI (k % 65536) := by
  show nI k &&& nI 65535 = _
  rw [nx_and, show (65535 : Nat) = 2 ^ 16 - 1 from rfl, Nat.and_two_pow_sub_one_eq_mod]
theorem nx_m16 {k : Nat} (h : k < 65536) : nI k &&& 65535 = nI k := by rw [nx_mod, Nat.mod_eq_of_lt h]
theorem nx_mask (x : Int32) : ∃ k, k < 65536 ∧ x &&& 65535 = nI k := by
  have e : x = nI x.toBitVec.toNat := by
    apply Int32.toBitVec_inj.1
    show x.toBitVec = BitVec.ofNat 32 x.toBitVec.toNat
    simp
  refine ⟨x.toBitVec.toNat % 65536, Nat.mod_lt _ (by omega), ?_⟩
  rw [← nx_mod, ← e]
/-! ===== Int32 as a set of bits: test, set ===== -/
def nf_M (m : Int32) : Nat := 4294967296 - m.toBitVec.toNat
theorem nf_sh : ∀ l, l < 32 → ((1 : Int32) <<< (nI l &&& 31)).toBitVec = BitVec.twoPow 32 l := by decide +kernel
theorem nf_sl : ∀ l, l < 32 → (((nI l).toUInt32 &&& Int32.toUInt32 31).toBitVec % 32).toNat = l := by decide +kernel
theorem nf_tp : ∀ l, l < 32 → BitVec.twoPow 32 l ≠ 0#32 := by decide +kernel
theorem nf_bit (m : Int32) (l : Nat) (hl : l < 32) : ((m.toUInt32 >>> ((nI l).toUInt32 &&& Int32.toUInt32 31)).toInt32 &&& 1) = 0 ↔ (m &&& ((1 : Int32) <<< (nI l &&& 31))) = 0 := by
  have e : ((m.toUInt32 >>> ((nI l).toUInt32 &&& Int32.toUInt32 31)).toInt32).toBitVec = m.toBitVec >>> l := by
    show m.toBitVec >>> (((nI l).toUInt32 &&& Int32.toUInt32 31).toBitVec % 32) = m.toBitVec >>> l
    rw [BitVec.ushiftRight_eq', nf_sl l hl]
  rw [← Int32.toBitVec_inj, ← Int32.toBitVec_inj, Int32.toBitVec_and, Int32.toBitVec_and, nf_sh l hl, e, BitVec.and_twoPow]
  show (m.toBitVec >>> l &&& 1#32) = 0#32 ↔ _ = 0#32
  rw [BitVec.and_one_eq_setWidth_ofBool_getLsbD, BitVec.getLsbD_ushiftRight, Nat.add_zero]
  cases hb : m.toBitVec.getLsbD l
  · exact ⟨fun _ => by simp, fun _ => by decide⟩
  · exact ⟨fun z => absurd z (by decide), fun z => absurd ((if_pos rfl).symm.trans z) (nf_tp l hl)⟩
theorem nf_gr (m k : Int32) (h : m &&& k = 0) (hk : k ≠ 0) : nf_M (m ||| k) < nf_M m := by
  have hm := m.toBitVec.isLt
  have hm' := (m ||| k).toBitVec.isLt
  have h1 : m.toBitVec.toNat ≤ (m ||| k).toBitVec.toNat := by
    rw [Int32.toBitVec_or, BitVec.toNat_or]
    exact Nat.left_le_or
  have h2 : m.toBitVec.toNat ≠ (m ||| k).toBitVec.toNat := by
    intro e
    have e2 : m = m ||| k := Int32.toBitVec_inj.mp (BitVec.eq_of_toNat_eq e)
    apply hk
    apply Int32.toBitVec_inj.mp
    show k.toBitVec = 0#32
    apply BitVec.eq_of_getLsbD_eq
    intro i hi
    have a : m.toBitVec.getLsbD i = (m.toBitVec.getLsbD i || k.toBitVec.getLsbD i) := by rw [← BitVec.getLsbD_or, ← Int32.toBitVec_or, ← e2]
    have b : (m.toBitVec.getLsbD i && k.toBitVec.getLsbD i) = false := by
      rw [← BitVec.getLsbD_and, ← Int32.toBitVec_and, h]
      exact BitVec.getLsbD_zero
    rw [BitVec.getLsbD_zero]
    revert a b
    cases m.toBitVec.getLsbD i <;> cases k.toBitVec.getLsbD i <;> simp
  unfold nf_M
  omega
/-! ===== a byte read unsigned ===== -/
theorem bp_b (x : Int32) : x.toInt8.toInt32 &&& 255 = x &&& 255 := by
  apply Int32.toBitVec_inj.mp
  rw [Int32.toBitVec_and, Int32.toBitVec_and, Int8.toBitVec_toInt32, Int32.toBitVec_toInt8]
  apply BitVec.eq_of_getLsbD_eq
  intro i hi
  rw [BitVec.getLsbD_and, BitVec.getLsbD_and]
  have hm : ∀ i < 32, 8 ≤ i → (255 : Int32).toBitVec.getLsbD i = false := by decide
  rcases Nat.lt_or_ge i 8 with z | z
  · rw [BitVec.getLsbD_signExtend, BitVec.getLsbD_signExtend, if_pos z, if_pos hi]
    simp only [z, hi, decide_true, Bool.true_and]
  · rw [hm i hi z]; simp
/-! ===== the char cast and 65535 ===== -/
theorem em_w (v : Int32) : ∃ w : Nat, w < 65536 ∧ (v.toUInt32 % 65536).toInt32 = nI w ∧ v &&& 65535 = nI w := by
  have hr := lw_u16_r v
  have h0 : (0 : Int32).toInt = 0 := by decide
  obtain ⟨w, h1, h2⟩ := nI_of (x := lw_u16 v) (by rw [Int32.lt_iff_toInt_lt]; omega)
  have h3 : (v.toUInt32 % 65536).toInt32 = nI w := h2
  rw [h2, nI_toInt h1] at hr
  exact ⟨w, by omega, h3, by rw [← lg_i2c_mask, ← lg_i2c_nf, h3]⟩
/-! ===== Int64 as a set of bits: test, set, clear ===== -/
theorem ts_nf {x : Bool} (h : ¬ x = false) : x = true := by cases x <;> first | rfl | exact absurd rfl h
theorem ts_nt {x : Bool} (h : ¬ x = true) : x = false := by cases x <;> first | rfl | exact absurd rfl h
theorem ts_bit {w : Int64} {s : UInt64} {j : Nat} (hj : j < 64) (hs : s.toNat = j) : ((w.toUInt64 >>> s).toInt64 &&& 1) = 0 ↔ w.toBitVec.getLsbD j = false := by
  have e : (w.toUInt64 >>> s).toInt64.toBitVec = w.toBitVec >>> j := by
    apply BitVec.eq_of_toNat_eq
    show (w.toUInt64 >>> s).toNat = _
    rw [UInt64.toNat_shiftRight, hs, Nat.mod_eq_of_lt hj, BitVec.toNat_ushiftRight]
    rfl
  rw [← Int64.toBitVec_inj, Int64.toBitVec_and, e]
  show w.toBitVec >>> j &&& 1#64 = 0#64 ↔ _
  constructor
  · intro h
    have t := congrArg (fun x => x.getLsbD 0) h
    simpa using t
  · intro h
    apply BitVec.eq_of_getLsbD_eq
    intro i hi
    cases i with
    | zero => simp [h]
    | succ i => simp
theorem ts_or {w m : Int64} {j : Nat} (hj : j < 64) (hm : m.toBitVec = BitVec.twoPow 64 j) : (w ||| m) = w ↔ w.toBitVec.getLsbD j = true := by
  rw [← Int64.toBitVec_inj, Int64.toBitVec_or, hm]
  constructor
  · intro h
    have t := congrArg (fun x => x.getLsbD j) h
    simp only [BitVec.getLsbD_or, BitVec.getLsbD_twoPow] at t
    simpa [hj] using t.symm
  · intro h
    apply BitVec.eq_of_getLsbD_eq
    intro i hi
    rw [BitVec.getLsbD_or, BitVec.getLsbD_twoPow]
    by_cases e : j = i
    · subst e; rw [h, Bool.true_or]
    · simp [e]
theorem ts_and {w m : Int64} {j : Nat} (hj : j < 64) (hm : m.toBitVec = BitVec.twoPow 64 j) : (w &&& (m ^^^ (-1))) = w ↔ w.toBitVec.getLsbD j = false := by
  have ha : (-1 : Int64).toBitVec = BitVec.allOnes 64 := by decide
  rw [← Int64.toBitVec_inj, Int64.toBitVec_and, Int64.toBitVec_xor, hm, ha]
  constructor
  · intro h
    have t := congrArg (fun x => x.getLsbD j) h
    simp only [BitVec.getLsbD_and, BitVec.getLsbD_xor, BitVec.getLsbD_twoPow, BitVec.getLsbD_allOnes] at t
    simpa [hj] using t.symm
  · intro h
    apply BitVec.eq_of_getLsbD_eq
    intro i hi
    rw [BitVec.getLsbD_and, BitVec.getLsbD_xor, BitVec.getLsbD_twoPow, BitVec.getLsbD_allOnes]
    by_cases e : j = i
    · subst e; rw [h, Bool.false_and]
    · simp [e, hi]
/-! ===== lN n to 2^64: shifts, and, or, masks, one bit ===== -/
theorem wb_tb (n : Nat) : (lN n).toBitVec = BitVec.ofNat 64 n := rfl
theorem wb_inj {a b : Int64} (h : a.toBitVec = b.toBitVec) : a = b := Int64.toBitVec_inj.mp h
theorem wb_tn {n : Nat} (h : n < 2 ^ 64) : (lN n).toBitVec.toNat = n := by rw [wb_tb, BitVec.toNat_ofNat, Nat.mod_eq_of_lt h]
theorem wb_of (x : Int64) : ∃ n, n < 2 ^ 64 ∧ x = lN n := ⟨x.toBitVec.toNat, x.toBitVec.isLt, wb_inj (by rw [wb_tb]; simp)⟩
theorem wb_of32 (x : Int32) : ∃ n, n < 2 ^ 32 ∧ x = nI n := ⟨x.toBitVec.toNat, x.toBitVec.isLt, Int32.toBitVec_inj.mp (by show _ = BitVec.ofNat 32 _; simp)⟩
theorem wb_c : ∀ k, k < 64 → ((nI k).toInt64 &&& 63) = lN k := by decide +kernel
theorem wb_cu : ∀ k, k < 64 → ((nI k).toInt64.toUInt64 &&& Int64.toUInt64 63) = UInt64.ofNat k := by decide +kernel
theorem wb_sm : ∀ k, k < 64 → (BitVec.ofNat 64 k).smod 64 = BitVec.ofNat 64 k := by decide +kernel
theorem wb_pw {a b : Nat} (h : a ≤ b) : 2 ^ b = 2 ^ a * 2 ^ (b - a) := by rw [← Nat.pow_add]; congr 1; omega
theorem wb_lt2 {a b : Nat} (h : a < b) : 2 ^ a < 2 ^ b := Nat.pow_lt_pow_right (by decide) h
theorem wb_mod (n : Nat) : lN n = lN (n % 2 ^ 64) := wb_inj (by rw [wb_tb, wb_tb]; apply BitVec.eq_of_toNat_eq; rw [BitVec.toNat_ofNat, BitVec.toNat_ofNat, Nat.mod_mod])
theorem wb_shr {n k : Nat} (hn : n < 2 ^ 64) (hk : k < 64) : ((lN n).toUInt64 >>> ((nI k).toInt64.toUInt64 &&& Int64.toUInt64 63)).toInt64 = lN (n / 2 ^ k) := by
  rw [wb_cu k hk]
  apply wb_inj
  apply BitVec.eq_of_toNat_eq
  show ((lN n).toUInt64 >>> UInt64.ofNat k).toNat = (BitVec.ofNat 64 _).toNat
  have h1 : (UInt64.ofNat k).toNat = k := by
    show (BitVec.ofNat 64 k).toNat = k
    rw [BitVec.toNat_ofNat, Nat.mod_eq_of_lt (by omega)]
  have h2 : (lN n).toUInt64.toNat = n := wb_tn hn
  rw [UInt64.toNat_shiftRight, h1, h2, Nat.mod_eq_of_lt hk, Nat.shiftRight_eq_div_pow, BitVec.toNat_ofNat, Nat.mod_eq_of_lt (Nat.lt_of_le_of_lt (Nat.div_le_self _ _) hn)]
theorem wb_shl (n : Nat) {k : Nat} (hk : k < 64) : lN n <<< ((nI k).toInt64 &&& 63) = lN (n * 2 ^ k) := by
  rw [wb_c k hk]
  apply wb_inj
  rw [Int64.toBitVec_shiftLeft, wb_tb, wb_tb, wb_tb, wb_sm k hk]
  apply BitVec.eq_of_toNat_eq
  rw [BitVec.shiftLeft_eq', BitVec.toNat_shiftLeft, BitVec.toNat_ofNat, BitVec.toNat_ofNat, BitVec.toNat_ofNat, Nat.mod_eq_of_lt (show k < 2 ^ 64 by omega), Nat.shiftLeft_eq, Nat.mul_mod, Nat.mod_mod, ← Nat.mul_mod]
theorem wb_and {a b : Nat} (ha : a < 2 ^ 64) (hb : b < 2 ^ 64) : lN a &&& lN b = lN (a &&& b) := by
  apply wb_inj
  rw [Int64.toBitVec_and, wb_tb, wb_tb, wb_tb]
  apply BitVec.eq_of_toNat_eq
  rw [BitVec.toNat_and, BitVec.toNat_ofNat, BitVec.toNat_ofNat, BitVec.toNat_ofNat, Nat.mod_eq_of_lt ha, Nat.mod_eq_of_lt hb, Nat.mod_eq_of_lt (Nat.and_lt_two_pow _ hb)]
theorem wb_or {a b : Nat} (ha : a < 2 ^ 64) (hb : b < 2 ^ 64) : lN a ||| lN b = lN (a ||| b) := by
  apply wb_inj
  rw [Int64.toBitVec_or, wb_tb, wb_tb, wb_tb]
  apply BitVec.eq_of_toNat_eq
  rw [BitVec.toNat_or, BitVec.toNat_ofNat, BitVec.toNat_ofNat, BitVec.toNat_ofNat, Nat.mod_eq_of_lt ha, Nat.mod_eq_of_lt hb, Nat.mod_eq_of_lt (Nat.or_lt_two_pow ha hb)]
theorem wb_mask {n k : Nat} (hn : n < 2 ^ 64) (hk : k < 64) : lN n &&& lN (2 ^ k - 1) = lN (n % 2 ^ k) := by
  rw [wb_and hn (by have := wb_lt2 hk; omega), Nat.and_two_pow_sub_one_eq_mod]
theorem wb_a1 {n : Nat} (hn : n < 2 ^ 64) : lN n &&& 1 = lN (n % 2) := wb_mask (k := 1) hn (by decide)
theorem wb_bit {n k : Nat} (hn : n < 2 ^ 64) (hk : k < 64) : ((lN n).toUInt64 >>> ((nI k).toInt64.toUInt64 &&& Int64.toUInt64 63)).toInt64 &&& 1 = lN (n / 2 ^ k % 2) := by
  rw [wb_shr hn hk, wb_a1 (Nat.lt_of_le_of_lt (Nat.div_le_self _ _) hn)]
theorem wb_xor {q k : Nat} (hk : k < 63) (h : 2 ^ k ≤ q) (h2 : q < 2 ^ (k + 1)) : lN q ^^^ lN (2 ^ k) = lN (q - 2 ^ k) := by
  obtain ⟨r, rfl⟩ : ∃ r, q = 2 ^ k + r := ⟨q - 2 ^ k, by omega⟩
  have hr : r < 2 ^ k := by rw [Nat.pow_succ] at h2; omega
  have hx : (2 ^ k + r) ^^^ 2 ^ k = r := by
    apply Nat.eq_of_testBit_eq
    intro i
    rw [Nat.testBit_xor, Nat.testBit_two_pow]
    rcases Nat.lt_trichotomy i k with h | h | h
    · rw [Nat.testBit_two_pow_add_gt h]
      simp [show ¬ k = i by omega]
    · subst h
      rw [Nat.testBit_two_pow_add_eq]
      simp
    · have a1 : 2 ^ (k + 1) ≤ 2 ^ i := Nat.pow_le_pow_right (by decide) h
      rw [Nat.testBit_lt_two_pow (show 2 ^ k + r < 2 ^ i by omega), Nat.testBit_lt_two_pow (show r < 2 ^ i by omega)]
      simp [show ¬ k = i by omega]
  have b1 := wb_lt2 (show k + 1 < 64 by omega)
  have b2 := wb_lt2 (show k < 64 by omega)
  apply wb_inj
  rw [Int64.toBitVec_xor, wb_tb, wb_tb, wb_tb]
  apply BitVec.eq_of_toNat_eq
  rw [BitVec.toNat_xor, BitVec.toNat_ofNat, BitVec.toNat_ofNat, BitVec.toNat_ofNat, Nat.mod_eq_of_lt (by omega : 2 ^ k + r < 2 ^ 64), Nat.mod_eq_of_lt b2, hx, Nat.add_sub_cancel_left, Nat.mod_eq_of_lt (by omega)]
/-! ===== lN: masks, 'or' of parts that don't overlap is a sum ===== -/
theorem u_tn {n : Nat} (h : n < 2 ^ 64) : (UInt64.ofNat n).toNat = n := Nat.mod_eq_of_lt h
theorem g_and {a b c : Nat} (ha : a < 2 ^ 64) (hb : b < 2 ^ 64) (hc : a &&& b = c) : lN a &&& lN b = lN c := by
  subst hc
  have h : UInt64.ofNat a &&& UInt64.ofNat b = UInt64.ofNat (a &&& b) := UInt64.toNat_inj.mp (by rw [UInt64.toNat_and, u_tn ha, u_tn hb, u_tn (Nat.and_lt_two_pow a hb)])
  have h2 := congrArg UInt64.toInt64 h
  exact h2
theorem g_and1 {a : Nat} (ha : a < 2 ^ 64) : lN a &&& 1 = lN (a % 2) := g_and (b := 1) ha (by decide) (Nat.and_two_pow_sub_one_eq_mod a 1)
theorem g_mask {a s p : Nat} (hp : 2 ^ s = p) (hs : s < 64) (ha : a < 2 ^ 64) : lN a &&& lN (p - 1) = lN (a % p) := by
  subst hp
  have := Nat.pow_lt_pow_right (show 1 < 2 by decide) hs
  exact g_and ha (by omega) (Nat.and_two_pow_sub_one_eq_mod a s)
theorem g_or {k p a b : Nat} (hp : 2 ^ k = p) (ha : a < p) (h : b * p + a < 2 ^ 64) : lN (b * p) ||| lN a = lN (b * p + a) := by
  subst hp
  have h1 : b * 2 ^ k ||| a = b * 2 ^ k + a := by rw [← Nat.shiftLeft_eq, Nat.shiftLeft_add_eq_or_of_lt ha]
  have h3 : UInt64.ofNat (b * 2 ^ k) ||| UInt64.ofNat a = UInt64.ofNat (b * 2 ^ k + a) := UInt64.toNat_inj.mp (by rw [UInt64.toNat_or, u_tn (by omega), u_tn (by omega), u_tn h, h1])
  have h2 := congrArg UInt64.toInt64 h3
  exact h2
theorem g_or' {k p a b : Nat} (hp : 2 ^ k = p) (ha : a < p) (h : a + b * p < 2 ^ 64) : lN a ||| lN (b * p) = lN (a + b * p) := by
  rw [Int64.or_comm, g_or hp ha (by omega), Nat.add_comm]
theorem g_ushr {a k p : Nat} {y : UInt64} (hy : y = UInt64.ofNat k) (hk : k < 64) (hp : 2 ^ k = p) (ha : a < 2 ^ 64) : ((lN a).toUInt64 >>> y).toInt64 = lN (a / p) := by
  subst hy hp
  have h : UInt64.ofNat a >>> UInt64.ofNat k = UInt64.ofNat (a / 2 ^ k) := UInt64.toNat_inj.mp (by rw [UInt64.toNat_shiftRight, u_tn ha, u_tn (by omega), u_tn (Nat.lt_of_le_of_lt (Nat.div_le_self _ _) ha), Nat.mod_eq_of_lt hk, Nat.shiftRight_eq_div_pow])
  have h2 := congrArg UInt64.toInt64 h
  exact h2
theorem g_shl {a k p : Nat} {y : Int64} (hy : y.toBitVec.smod 64 = BitVec.ofNat 64 k) (hk : k < 64) (hp : 2 ^ k = p) (ha : a < 2 ^ 64) : lN a <<< y = lN (a * p) := by
  subst hp
  apply Int64.toBitVec_inj.mp
  rw [Int64.toBitVec_shiftLeft, hy]
  apply BitVec.eq_of_toNat_eq
  have hb : (lN a).toBitVec.toNat = a := Nat.mod_eq_of_lt ha
  have hk' : (BitVec.ofNat 64 k).toNat = k := Nat.mod_eq_of_lt (by omega)
  have h : ((lN a).toBitVec <<< BitVec.ofNat 64 k).toNat = (a * 2 ^ k) % 2 ^ 64 := by simp only [BitVec.shiftLeft_eq', BitVec.toNat_shiftLeft, hb, hk', Nat.shiftLeft_eq]
  exact h
/-! ===== lN to 2^62 under >> and >>> ===== -/
theorem pf_lI {a : Nat} (h : a < 2 ^ 63) : (lN a).toInt = (a : Int) := lg_ofNat_toInt h
theorem pf_shr {a d : Nat} {D : Int64} (hD : (D.toBitVec.smod 64).toNat = d) (h : a < 2 ^ 62) : lN a >>> D = lN (a / 2 ^ d) := by
  have hd : a / 2 ^ d ≤ a := Nat.div_le_self _ _
  apply Int64.toInt_inj.mp
  have e : (lN a >>> D).toInt = (lN a).toInt >>> d := by
    rw [← hD]
    exact BitVec.toInt_sshiftRight ..
  rw [e, Int.shiftRight_eq_div_pow, pf_lI (by omega), pf_lI (by omega)]
  rfl
theorem pf_ushr {a d : Nat} {D : UInt64} (hD : D.toNat % 64 = d) (h : a < 2 ^ 62) : ((lN a).toUInt64 >>> D).toInt64 = lN (a / 2 ^ d) := by
  have hd : a / 2 ^ d ≤ a := Nat.div_le_self _ _
  have e : (lN a).toUInt64 >>> D = UInt64.ofNat (a / 2 ^ d) := UInt64.toNat_inj.mp (by
    rw [UInt64.toNat_shiftRight, hD, Nat.shiftRight_eq_div_pow, UInt64.toNat_ofNat']
    show (UInt64.ofNat a).toNat / 2 ^ d = _
    rw [UInt64.toNat_ofNat', Nat.mod_eq_of_lt (by omega), Nat.mod_eq_of_lt (by omega)])
  rw [e]
  rfl
theorem pf_andw (x : Int64) : ∃ m, m < 2 ^ 32 ∧ x &&& 4294967295 = lN m := ⟨x.toBitVec.toNat % 2 ^ 32, Nat.mod_lt _ (by decide), Int64.toBitVec_inj.mp (BitVec.eq_of_toNat_eq (by
  show (x.toBitVec &&& 4294967295#64).toNat = (BitVec.ofNat 64 (x.toBitVec.toNat % 2 ^ 32)).toNat
  rw [BitVec.toNat_and, show (4294967295#64).toNat = 2 ^ 32 - 1 from by decide, Nat.and_two_pow_sub_one_eq_mod, BitVec.toNat_ofNat]
  omega))⟩
/-! ===== Int64 as an unsigned number: uN x ===== -/
def uN (x : Int64) : Nat := x.toUInt64.toNat
theorem uN_lt (x : Int64) : uN x < 18446744073709551616 := x.toUInt64.toNat_lt
theorem uN_inj {x y : Int64} (h : uN x = uN y) : x = y := congrArg UInt64.toInt64 (UInt64.toNat_inj.mp h)
theorem uN_add (x y : Int64) : uN (x + y) = (uN x + uN y) % 18446744073709551616 := by
  show (x.toUInt64 + y.toUInt64).toNat = _
  exact UInt64.toNat_add _ _
theorem uN_mul (x y : Int64) : uN (x * y) = (uN x * uN y) % 18446744073709551616 := by
  show (x.toUInt64 * y.toUInt64).toNat = _
  exact UInt64.toNat_mul _ _
theorem uN_shl (x : Int64) : uN (x <<< ((1 : Int32).toInt64 &&& 63)) = (2 * uN x) % 18446744073709551616 := by
  have h : (((1 : Int32).toInt64 &&& 63).toBitVec.smod 64).toNat = 1 := by decide
  show (x.toBitVec <<< (((1 : Int32).toInt64 &&& 63).toBitVec.smod 64).toNat).toNat = _
  rw [h, BitVec.toNat_shiftLeft, Nat.shiftLeft_eq, Nat.mul_comm]
  rfl
theorem uN_shr (x : Int64) (s : UInt64) : uN (x.toUInt64 >>> s).toInt64 = uN x / 2 ^ (s.toNat % 64) := by
  show (x.toUInt64 >>> s).toNat = _
  rw [UInt64.toNat_shiftRight, Nat.shiftRight_eq_div_pow]
  rfl
theorem uN_s32 (x : Int64) : uN (x.toUInt64 >>> ((32 : Int32).toInt64.toUInt64 &&& Int64.toUInt64 63)).toInt64 = uN x / 4294967296 := by
  have h : ((32 : Int32).toInt64.toUInt64 &&& Int64.toUInt64 63).toNat % 64 = 32 := by decide
  rw [uN_shr, h]
theorem uN_s63 (x : Int64) : uN (x.toUInt64 >>> ((63 : Int32).toInt64.toUInt64 &&& Int64.toUInt64 63)).toInt64 = uN x / 9223372036854775808 := by
  have h : ((63 : Int32).toInt64.toUInt64 &&& Int64.toUInt64 63).toNat % 64 = 63 := by decide
  rw [uN_shr, h]
theorem uN_lo (x : Int64) : uN (x &&& 4294967295) = uN x % 4294967296 := by
  show (x.toUInt64 &&& Int64.toUInt64 4294967295).toNat = _
  rw [UInt64.toNat_and]
  exact Nat.and_two_pow_sub_one_eq_mod _ 32
theorem uN_bit (x : Int64) : (x &&& 1) = 0 ↔ uN x % 2 = 0 := by
  have h : uN (x &&& 1) = uN x % 2 := by
    show (x.toUInt64 &&& Int64.toUInt64 1).toNat = _
    rw [UInt64.toNat_and]
    exact Nat.and_two_pow_sub_one_eq_mod _ 1
  rw [← h]
  exact ⟨fun z => by rw [z]; rfl, fun z => uN_inj (z.trans rfl)⟩
theorem uN_or {x y : Int64} (hy : uN y < 2) : uN ((x <<< ((1 : Int32).toInt64 &&& 63)) ||| y) = (2 * uN x) % 18446744073709551616 + uN y := by
  have h1 : uN ((x <<< ((1 : Int32).toInt64 &&& 63)) ||| y) = uN (x <<< ((1 : Int32).toInt64 &&& 63)) ||| uN y := UInt64.toNat_or _ _
  have h2 : (2 * uN x) % 18446744073709551616 = 2 ^ 1 * (uN x % 9223372036854775808) := by omega
  rw [h1, uN_shl, h2]
  exact (Nat.two_pow_add_eq_or_of_lt (i := 1) hy _).symm
theorem nat_xor {a : Nat} (h : a < 18446744073709551616) : a ^^^ 2 ^ 63 = (a + 9223372036854775808) % 18446744073709551616 := by
  have h1 : (a ^^^ 2 ^ 63) % 2 ^ 63 = a % 2 ^ 63 := by rw [Nat.xor_mod_two_pow, Nat.mod_self, Nat.xor_zero]
  have h2 : (a ^^^ 2 ^ 63) / 2 ^ 63 = (a / 2 ^ 63) ^^^ 1 := by rw [Nat.xor_div_two_pow, Nat.div_self (Nat.two_pow_pos 63)]
  have h3 : a / 2 ^ 63 = 0 ∨ a / 2 ^ 63 = 1 := by omega
  generalize a ^^^ 2 ^ 63 = t at h1 h2
  rcases h3 with h3 | h3
  · rw [h3] at h2
    have h2 : t / 2 ^ 63 = 1 := h2
    omega
  · rw [h3] at h2
    have h2 : t / 2 ^ 63 = 0 := h2
    omega
theorem uN_xor (x : Int64) : uN (x ^^^ (-9223372036854775808)) = (uN x + 9223372036854775808) % 18446744073709551616 := by
  rw [← nat_xor (uN_lt x)]
  exact UInt64.toNat_xor _ _
theorem uN_int (x : Int64) : x.toInt = if 2 * uN x < 18446744073709551616 then (uN x : Int) else (uN x : Int) - 18446744073709551616 := BitVec.toInt_eq_toNat_cond _
theorem uN_le (x y : Int64) : (x ^^^ (-9223372036854775808)) ≤ (y ^^^ (-9223372036854775808)) ↔ uN x ≤ uN y := by
  have hx := uN_lt x
  have hy := uN_lt y
  rw [Int64.le_iff_toInt_le, uN_int, uN_int, uN_xor, uN_xor]
  omega
theorem uN_sk (x : Int64) {k : Nat} (hk : k < 64) : uN (x.toUInt64 >>> ((nI k).toInt64.toUInt64 &&& Int64.toUInt64 63)).toInt64 = uN x / 2 ^ k := by
  have h : ((nI k).toInt64.toUInt64 &&& Int64.toUInt64 63).toNat % 64 = k := by
    rw [nI_l (by omega), UInt64.toNat_and]
    have e : (lN k).toUInt64.toNat = k % 2 ^ 64 := rfl
    have e2 : (Int64.toUInt64 63).toNat = 2 ^ 6 - 1 := by decide
    rw [e, e2, Nat.and_two_pow_sub_one_eq_mod]
    omega
  rw [uN_shr, h]
/-! ===== unsigned comparison by xor with the least ===== -/
theorem lN_bv (n : Nat) : (lN n).toBitVec = BitVec.ofNat 64 n := rfl
theorem lN_nat {n : Nat} (h : n < 2 ^ 64) : (lN n).toBitVec.toNat = n := by rw [lN_bv, BitVec.toNat_ofNat]; exact Nat.mod_eq_of_lt h
theorem lN_xor (a b : Nat) : lN a ^^^ lN b = lN (a ^^^ b) := by
  apply Int64.toBitVec_inj.mp; rw [Int64.toBitVec_xor, lN_bv, lN_bv, lN_bv]; apply BitVec.eq_of_getLsbD_eq; intro i hi; simp [BitVec.getLsbD_ofNat, Nat.testBit_xor, hi]
theorem lN_ti {m : Nat} (h : m < 2 ^ 64) : (lN m).toInt = if m < 2 ^ 63 then (m : Int) else (m : Int) - 2 ^ 64 := by
  have c := BitVec.toInt_eq_toNat_cond (lN m).toBitVec
  rw [lN_nat h] at c
  show (lN m).toBitVec.toInt = _
  rw [c]
  split <;> split <;> omega
theorem xor63 {x : Nat} (h : x < 2 ^ 63) : x ^^^ 2 ^ 63 = 2 ^ 63 + x := by
  apply Nat.eq_of_testBit_eq
  intro i
  rw [Nat.testBit_xor, Nat.testBit_two_pow]
  rcases Nat.lt_trichotomy i 63 with z | z | z
  · rw [Nat.testBit_two_pow_add_gt z, decide_eq_false (by omega)]; simp
  · subst z; rw [Nat.testBit_two_pow_add_eq]; simp
  · have hp : 2 ^ 64 ≤ 2 ^ i := Nat.pow_le_pow_right (by decide) z
    rw [Nat.testBit_lt_two_pow (show x < 2 ^ i by omega), Nat.testBit_lt_two_pow (show 2 ^ 63 + x < 2 ^ i by omega), decide_eq_false (by omega)]; rfl
theorem xorS {a : Nat} (h : a < 2 ^ 64) : (lN a ^^^ (-9223372036854775808)).toInt = (a : Int) - 2 ^ 63 := by
  rw [show (-9223372036854775808 : Int64) = lN (2 ^ 63) from by decide +kernel, lN_xor]
  rcases Nat.lt_or_ge a (2 ^ 63) with z | z
  · rw [xor63 z, lN_ti (by omega), if_neg (by omega)]; omega
  · obtain ⟨x, rfl⟩ : ∃ x, a = 2 ^ 63 + x := ⟨a - 2 ^ 63, by omega⟩
    rw [← xor63 (by omega), Nat.xor_assoc, Nat.xor_self, Nat.xor_zero, lN_ti (by omega), if_pos (by omega), xor63 (by omega)]; omega
theorem ultL {a b : Nat} (ha : a < 2 ^ 64) (hb : b < 2 ^ 64) : ((lN b ^^^ (-9223372036854775808)) ≤ (lN a ^^^ (-9223372036854775808))) ↔ b ≤ a := by
  rw [Int64.le_iff_toInt_le, xorS ha, xorS hb]; omega
/-! ===== Int64 masks of n low bits ===== -/
theorem cr_bits (W U M : BitVec 64) : ((W &&& U) &&& (U &&& (M ^^^ BitVec.allOnes 64))) = 0#64 ↔ (W &&& U) &&& M = W &&& U := by
  constructor
  · intro h
    apply BitVec.eq_of_getLsbD_eq
    intro i hi
    have e := congrArg (fun x => BitVec.getLsbD x i) h
    simp only [BitVec.getLsbD_and, BitVec.getLsbD_xor, BitVec.getLsbD_allOnes, BitVec.getLsbD_zero, hi, decide_true] at e ⊢
    revert e
    cases W.getLsbD i <;> cases U.getLsbD i <;> cases M.getLsbD i <;> decide
  · intro h
    apply BitVec.eq_of_getLsbD_eq
    intro i hi
    have e := congrArg (fun x => BitVec.getLsbD x i) h
    simp only [BitVec.getLsbD_and, BitVec.getLsbD_xor, BitVec.getLsbD_allOnes, BitVec.getLsbD_zero, hi, decide_true] at e ⊢
    revert e
    cases W.getLsbD i <;> cases U.getLsbD i <;> cases M.getLsbD i <;> decide
theorem cr_mask (w U m : Int64) (n : Nat) (hm : m.toBitVec.toNat = 2 ^ n - 1) : ((w &&& U) &&& (U &&& (m ^^^ (-1)))) = 0 ↔ (w &&& U).toBitVec.toNat < 2 ^ n := by
  have e0 : (-1 : Int64).toBitVec = BitVec.allOnes 64 := by decide
  have z0 : (0 : Int64).toBitVec = 0#64 := by decide
  rw [← Int64.toBitVec_inj, z0, Int64.toBitVec_and, Int64.toBitVec_and, Int64.toBitVec_and, Int64.toBitVec_xor, e0, cr_bits]
  generalize w.toBitVec &&& U.toBitVec = T
  rw [← BitVec.toNat_inj, BitVec.toNat_and, hm, Nat.and_two_pow_sub_one_eq_mod]
  constructor
  · intro h
    have t := Nat.mod_lt T.toNat (Nat.two_pow_pos n)
    rw [h] at t
    exact t
  · exact Nat.mod_eq_of_lt
theorem cr_shr (t : Int64) (x : UInt64) (n : Nat) (hx : x.toNat % 64 = n) : (t.toUInt64 >>> x).toInt64 = 0 ↔ t.toBitVec.toNat < 2 ^ n := by
  rw [← Int64.toBitVec_inj, ← BitVec.toNat_inj]
  show (t.toUInt64 >>> x).toNat = 0 ↔ t.toUInt64.toNat < 2 ^ n
  rw [UInt64.toNat_shiftRight, hx, Nat.shiftRight_eq_div_pow]
  constructor
  · intro h
    have d : t.toUInt64.toNat / 2 ^ n < 1 := by
      rw [h]
      decide
    have e := (Nat.div_lt_iff_lt_mul (Nat.two_pow_pos n)).mp d
    rw [Nat.one_mul] at e
    exact e
  · exact Nat.div_eq_of_lt
theorem cr_amt (s : Int64) : ∃ n, n < 64 ∧ s &&& 63 = lN n ∧ (s.toUInt64 &&& Int64.toUInt64 63).toNat % 64 = n := by
  have e : (s.toUInt64 &&& Int64.toUInt64 63).toNat = s.toUInt64.toNat % 2 ^ 6 := by
    rw [UInt64.toNat_and, show (Int64.toUInt64 63).toNat = 2 ^ 6 - 1 from by decide, Nat.and_two_pow_sub_one_eq_mod]
  refine ⟨s.toUInt64.toNat % 2 ^ 6, by omega, ?_, by omega⟩
  rw [← Int64.toBitVec_inj, ← BitVec.toNat_inj]
  show (s.toUInt64 &&& Int64.toUInt64 63).toNat = (BitVec.ofNat 64 (s.toUInt64.toNat % 2 ^ 6)).toNat
  rw [e, BitVec.toNat_ofNat]
  omega
end
section
/-! ===== two walks at once: one outcome each, the outcomes related by R ===== -/
def tw_L {P Q : Type} (R : (P → Prop) → (Q → Prop) → Prop) (cx : P → Prop) (cy : Q → Prop) : Prop :=
  ∃ (ex : P → Prop) (ey : Q → Prop), R ex ey ∧ (∀ p, ex p → cx p) ∧ (∀ q, ey q → cy q)
section
variable {P Q : Type} {R : (P → Prop) → (Q → Prop) → Prop}
theorem tw_ret {ex : P → Prop} {ey : Q → Prop} (h : R ex ey) : tw_L R ex ey := ⟨ex, ey, h, fun _ h => h, fun _ h => h⟩
theorem tw_x {ex cx : P → Prop} {cy : Q → Prop} (h : ∀ p, ex p → cx p) (k : tw_L R ex cy) : tw_L R cx cy := by
  obtain ⟨fx, fy, hR, h1, h2⟩ := k
  exact ⟨fx, fy, hR, fun p hp => h p (h1 p hp), h2⟩
theorem tw_y {cx : P → Prop} {ey cy : Q → Prop} (h : ∀ q, ey q → cy q) (k : tw_L R cx ey) : tw_L R cx cy := by
  obtain ⟨fx, fy, hR, h1, h2⟩ := k
  exact ⟨fx, fy, hR, h1, fun q hq => h q (h2 q hq)⟩
theorem tw_bind {A B : Type} {R' : (A → Prop) → (B → Prop) → Prop} (cx : A → Prop) (cy : B → Prop) {dx : P → A} {dy : Q → B} (h : tw_L R' cx cy)
    (k : ∀ ex ey, R' ex ey → tw_L R (fun p => ex (dx p)) (fun q => ey (dy q))) : tw_L R (fun p => cx (dx p)) (fun q => cy (dy q)) := by
  obtain ⟨ex, ey, hR, h1, h2⟩ := h
  obtain ⟨fx, fy, hR', k1, k2⟩ := k ex ey hR
  exact ⟨fx, fy, hR', fun p hp => h1 _ (k1 p hp), fun q hq => h2 _ (k2 q hq)⟩
theorem tw_br {c c' : Prop} {A B : P → Prop} {A' B' : Q → Prop} (e : c ↔ c') (f : c → tw_L R A A') (g : ¬ c → tw_L R B B') :
    tw_L R (fun p => (c → A p) ∧ (¬ c → B p)) (fun q => (c' → A' q) ∧ (¬ c' → B' q)) := by
  by_cases h : c
  · exact tw_x (fun p hp => br_t h hp) (tw_y (fun q hq => br_t (e.mp h) hq) (f h))
  · exact tw_x (fun p hp => br_f h hp) (tw_y (fun q hq => br_f (fun z => h (e.mpr z)) hq) (g h))
theorem tw_xt {c : Prop} {A B : P → Prop} {cy : Q → Prop} (h : c) (f : tw_L R A cy) : tw_L R (fun p => (c → A p) ∧ (¬ c → B p)) cy :=
  tw_x (fun _ hp => br_t h hp) f
theorem tw_xf {c : Prop} {A B : P → Prop} {cy : Q → Prop} (h : ¬ c) (f : tw_L R B cy) : tw_L R (fun p => (c → A p) ∧ (¬ c → B p)) cy :=
  tw_x (fun _ hp => br_f h hp) f
theorem tw_yt {c : Prop} {A B : Q → Prop} {cx : P → Prop} (h : c) (f : tw_L R cx A) : tw_L R cx (fun q => (c → A q) ∧ (¬ c → B q)) :=
  tw_y (fun _ hp => br_t h hp) f
theorem tw_yf {c : Prop} {A B : Q → Prop} {cx : P → Prop} (h : ¬ c) (f : tw_L R cx B) : tw_L R cx (fun q => (c → A q) ∧ (¬ c → B q)) :=
  tw_y (fun _ hp => br_f h hp) f
theorem tw_xn {α : Type} {e : α} {A : P → α → Prop} {cy : Q → Prop} (f : tw_L R (fun p => A p e) cy) : tw_L R (fun p => ∀ y, y = e → A p y) cy :=
  tw_x (fun _ hp => nm_e hp) f
theorem tw_yn {α : Type} {e : α} {A : Q → α → Prop} {cx : P → Prop} (f : tw_L R cx (fun q => A q e)) : tw_L R cx (fun q => ∀ y, y = e → A q y) :=
  tw_y (fun _ hp => nm_e hp) f
theorem tw_xr {α : Type} {e e' : α} {A : P → α → Prop} {cy : Q → Prop} (he : e = e') (f : tw_L R (fun p => A p e') cy) : tw_L R (fun p => ∀ y, y = e → A p y) cy :=
  tw_x (fun _ hp => nm_r he hp) f
theorem tw_yr {α : Type} {e e' : α} {A : Q → α → Prop} {cx : P → Prop} (he : e = e') (f : tw_L R cx (fun q => A q e')) : tw_L R cx (fun q => ∀ y, y = e → A q y) :=
  tw_y (fun _ hp => nm_r he hp) f
theorem tw_xi {c : Prop} {A : P → Prop} {cy : Q → Prop} (h : c) (f : tw_L R A cy) : tw_L R (fun p => c ∧ A p) cy := tw_x (fun _ hp => ⟨h, hp⟩) f
theorem tw_yi {c : Prop} {A : Q → Prop} {cx : P → Prop} (h : c) (f : tw_L R cx A) : tw_L R cx (fun q => c ∧ A q) := tw_y (fun _ hp => ⟨h, hp⟩) f
theorem tw_xe {A : P → Nat → Prop} {cy : Q → Prop} (n : Nat) (f : tw_L R (fun p => A p n) cy) : tw_L R (fun p => ∃ n, A p n) cy := tw_x (fun _ hp => ⟨n, hp⟩) f
theorem tw_ye {A : Q → Nat → Prop} {cx : P → Prop} (n : Nat) (f : tw_L R cx (fun q => A q n)) : tw_L R cx (fun q => ∃ n, A q n) := tw_y (fun _ hp => ⟨n, hp⟩) f
/-- both sides compare the same two numbers -/
theorem tw_le {x y x' y' : Int32} {A B : P → Prop} {A' B' : Q → Prop} (a b : Nat) (f : a ≤ b → tw_L R A A') (g : b < a → tw_L R B B')
    (hx : x = nI a := by rfl) (hy : y = nI b := by rfl) (hx' : x' = nI a := by rfl) (hy' : y' = nI b := by rfl) (ha : a < 2 ^ 31 := by omega) (hb : b < 2 ^ 31 := by omega) :
    tw_L R (fun p => (x ≤ y → A p) ∧ (¬ x ≤ y → B p)) (fun q => (x' ≤ y' → A' q) ∧ (¬ x' ≤ y' → B' q)) := by
  subst hx hy hx' hy'
  exact tw_br Iff.rfl (fun h => f ((nI_leI ha hb).mp h)) (fun h => g (Nat.lt_of_not_le (fun z => h ((nI_leI ha hb).mpr z))))
theorem tw_lt {x y x' y' : Int32} {A B : P → Prop} {A' B' : Q → Prop} (a b : Nat) (f : a < b → tw_L R A A') (g : b ≤ a → tw_L R B B')
    (hx : x = nI a := by rfl) (hy : y = nI b := by rfl) (hx' : x' = nI a := by rfl) (hy' : y' = nI b := by rfl) (ha : a < 2 ^ 31 := by omega) (hb : b < 2 ^ 31 := by omega) :
    tw_L R (fun p => (x < y → A p) ∧ (¬ x < y → B p)) (fun q => (x' < y' → A' q) ∧ (¬ x' < y' → B' q)) := by
  subst hx hy hx' hy'
  exact tw_br Iff.rfl (fun h => f ((nI_ltI ha hb).mp h)) (fun h => g (Nat.le_of_not_lt (fun z => h ((nI_ltI ha hb).mpr z))))
theorem tw_eq {x y x' y' : Int32} {A B : P → Prop} {A' B' : Q → Prop} (a b : Nat) (f : a = b → tw_L R A A') (g : a ≠ b → tw_L R B B')
    (hx : x = nI a := by rfl) (hy : y = nI b := by rfl) (hx' : x' = nI a := by rfl) (hy' : y' = nI b := by rfl) (ha : a < 2 ^ 31 := by omega) (hb : b < 2 ^ 31 := by omega) :
    tw_L R (fun p => (x = y → A p) ∧ (¬ x = y → B p)) (fun q => (x' = y' → A' q) ∧ (¬ x' = y' → B' q)) := by
  subst hx hy hx' hy'
  exact tw_br Iff.rfl (fun h => f ((nI_eq ha hb).mp h)) (fun h => g (fun z => h ((nI_eq ha hb).mpr z)))
end
/-! facts on nI in the form 'x = nI a' -/
theorem tw_leT {x y : Int32} (a b : Nat) (h : a ≤ b) (hx : x = nI a := by rfl) (hy : y = nI b := by rfl) (hb : b < 2 ^ 31 := by omega) : x ≤ y := by subst hx hy; exact nI_le h hb
theorem tw_leF {x y : Int32} (a b : Nat) (h : b < a) (hx : x = nI a := by rfl) (hy : y = nI b := by rfl) (ha : a < 2 ^ 31 := by omega) : ¬ x ≤ y := by subst hx hy; exact nI_ge h ha
theorem tw_ltT {x y : Int32} (a b : Nat) (h : a < b) (hx : x = nI a := by rfl) (hy : y = nI b := by rfl) (hb : b < 2 ^ 31 := by omega) : x < y := by subst hx hy; exact nI_lt h hb
theorem tw_ltF {x y : Int32} (a b : Nat) (h : b ≤ a) (hx : x = nI a := by rfl) (hy : y = nI b := by rfl) (ha : a < 2 ^ 31 := by omega) : ¬ x < y := by subst hx hy; exact nI_nlt h ha
theorem tw_eqT {x y : Int32} (a b : Nat) (h : a = b) (hx : x = nI a := by rfl) (hy : y = nI b := by rfl) : x = y := by subst hx hy h; rfl
theorem tw_eqF {x y : Int32} (a b : Nat) (h : a ≠ b) (hx : x = nI a := by rfl) (hy : y = nI b := by rfl) (ha : a < 2 ^ 31 := by omega) (hb : b < 2 ^ 31 := by omega) : ¬ x = y := by subst hx hy; exact fun z => h ((nI_eq ha hb).mp z)
theorem tw_n0 : ¬ (nI 1 : Int32) = 0 := by decide
/-! ===== bytes ===== -/
def by_n (x : Int32) : Int32 := x.toInt8.toInt32
def by_B (x : Int32) : Prop := ∃ c : Nat, c < 256 ∧ x = nI c
theorem by_nn (x : Int32) : by_n (by_n x) = by_n x := by unfold by_n; rw [Int8.toInt8_toInt32]
theorem by_v (x : Int32) : vp_nar .byte x = by_n x := vp_nar_byte x
theorem by_vn (x : Int32) : vp_nar .byte x.toInt8.toInt32 = by_n x := (by_v _).trans (by_nn x)
theorem by_na (x : Int32) : by_n x &&& 255 = x &&& 255 := bp_b x
theorem by_an (x : Int32) : by_n (x &&& 255) = by_n x := by
  unfold by_n; rw [Int32.toInt8_and, show (255 : Int32).toInt8 = -1 from by decide, Int8.and_neg_one]
theorem by_ab {x y : Int32} (h : x &&& 255 = y &&& 255) : by_n x = by_n (y &&& 255) := by rw [← by_an x, h]
theorem by_BA (x : Int32) : by_B (x &&& 255) := pk_andE x 8 (by decide)
theorem by_a {x : Int32} (h : by_B x) : x &&& 255 = x := by
  obtain ⟨c, hc, rfl⟩ := h
  rw [pk_andN (by omega) 8 (by decide)]
  exact congrArg nI (Nat.mod_eq_of_lt hc)
theorem by_g {x : Int32} (h : by_B x) : by_n x &&& 255 = x := (by_na x).trans (by_a h)
theorem by_in {x y : Int32} (hx : by_B x) (hy : by_B y) : by_n x = by_n y ↔ x = y :=
  ⟨fun h => by rw [← by_g hx, h, by_g hy], fun h => by rw [h]⟩
theorem by_B0 : by_B 0 := ⟨0, by omega, rfl⟩
theorem by_Bn {c : Nat} (h : c < 256) : by_B (nI c) := ⟨c, h, rfl⟩
theorem by_up (w : Nat → Int32) (k : Nat) (x : Int32) : upd (fun j => by_n (w j)) k (by_n x) = fun j => by_n (upd w k x j) := by
  funext j
  unfold upd
  by_cases h : j = k
  · rw [if_pos h, if_pos h]
  · rw [if_neg h, if_neg h]
theorem by_uB {w : Nat → Int32} {k : Nat} {x : Int32} (h : ∀ j, by_B (w j)) (hx : by_B x) : ∀ j, by_B (upd w k x j) := fun j => by
  unfold upd
  by_cases hj : j = k
  · rw [if_pos hj]; exact hx
  · rw [if_neg hj]; exact h j
end
section
/-! ===== Fermat's theorem by the binomial sum ===== -/
def fe_ch : Nat → Nat → Nat
  | _, 0 => 1
  | 0, _ + 1 => 0
  | n + 1, k + 1 => fe_ch n k + fe_ch n (k + 1)
theorem fe_c0 (n : Nat) : fe_ch n 0 = 1 := by cases n <;> rfl
theorem fe_cs (n k : Nat) : fe_ch (n + 1) (k + 1) = fe_ch n k + fe_ch n (k + 1) := rfl
theorem fe_c0s (k : Nat) : fe_ch 0 (k + 1) = 0 := rfl
theorem fe_big : ∀ n k, n < k → fe_ch n k = 0
  | n, 0, h => absurd h (Nat.not_lt_zero n)
  | 0, _ + 1, _ => rfl
  | n + 1, k + 1, h => by rw [fe_cs, fe_big n k (by omega), fe_big n (k + 1) (by omega)]
theorem fe_nn : ∀ n, fe_ch n n = 1
  | 0 => rfl
  | n + 1 => by rw [fe_cs, fe_nn n, fe_big n (n + 1) (by omega)]
theorem fe_abs : ∀ n k, (k + 1) * fe_ch (n + 1) (k + 1) = (n + 1) * fe_ch n k
  | 0, 0 => rfl
  | 0, k + 1 => by rw [fe_cs, fe_c0s, fe_c0s, Nat.add_zero, Nat.mul_zero, Nat.mul_zero]
  | n + 1, 0 => by
    have h := fe_abs n 0
    rw [fe_c0] at h
    rw [fe_cs (n + 1) 0, fe_c0]
    omega
  | n + 1, k + 1 => by
    have h1 := fe_abs n (k + 1)
    have h2 := fe_abs n k
    have h3 := fe_cs n k
    rw [fe_cs (n + 1) (k + 1)]
    generalize fe_ch (n + 1) (k + 1) = C at *
    generalize fe_ch (n + 1) (k + 1 + 1) = D at *
    generalize fe_ch n (k + 1) = E at *
    generalize fe_ch n k = G at *
    calc (k + 1 + 1) * (C + D) = (k + 1) * C + C + (k + 1 + 1) * D := by rw [Nat.mul_add, Nat.add_mul (k + 1) 1 C, Nat.one_mul]
      _ = (n + 1) * G + C + (n + 1) * E := by rw [h1, h2]
      _ = (n + 1) * (G + E) + C := by rw [Nat.mul_add]; omega
      _ = (n + 1 + 1) * C := by rw [← h3, Nat.add_mul (n + 1) 1 C, Nat.one_mul]
def fe_S (n a : Nat) : Nat → Nat
  | 0 => 0
  | m + 1 => fe_S n a m + fe_ch n m * a ^ m
theorem fe_Ss (n a m : Nat) : fe_S n a (m + 1) = fe_S n a m + fe_ch n m * a ^ m := rfl
theorem fe_S1 (n a : Nat) : fe_S n a 1 = 1 := by rw [fe_Ss, fe_c0, Nat.pow_zero]; rfl
theorem fe_Sn (n a : Nat) : ∀ m, fe_S (n + 1) a (m + 1) = fe_S n a (m + 1) + a * fe_S n a m
  | 0 => by rw [fe_S1, fe_S1]; rfl
  | m + 1 => by
    rw [fe_Ss (n + 1) a (m + 1), fe_Sn n a m, fe_cs, fe_Ss n a (m + 1), fe_Ss n a m, Nat.add_mul, Nat.mul_add]
    have h : fe_ch n m * a ^ (m + 1) = a * (fe_ch n m * a ^ m) := by rw [Nat.pow_succ, Nat.mul_comm a, Nat.mul_assoc]
    rw [h]
    omega
theorem fe_bin (a : Nat) : ∀ n, fe_S n a (n + 1) = (a + 1) ^ n
  | 0 => fe_S1 0 a
  | n + 1 => by
    rw [fe_Sn, fe_Ss n a (n + 1), fe_big n (n + 1) (by omega), fe_bin a n, Nat.zero_mul, Nat.add_zero, show (a + 1) ^ (n + 1) = (a + 1) ^ n * (a + 1) from rfl, Nat.mul_add, Nat.mul_one, Nat.mul_comm a, Nat.add_comm]
/-- prime: no divisor between 2 and itself -/
def fe_P (p : Nat) : Prop := 2 ≤ p ∧ ∀ d, 2 ≤ d → d < p → ¬ d ∣ p
theorem fe_cop {p k : Nat} (hp : fe_P p) (h0 : 0 < k) (hk : k < p) : Nat.Coprime p k := by
  have h1 := Nat.gcd_dvd_left p k
  have h2 := Nat.le_of_dvd h0 (Nat.gcd_dvd_right p k)
  have h3 : 0 < Nat.gcd p k := Nat.gcd_pos_of_pos_right p h0
  show Nat.gcd p k = 1
  by_cases h : 2 ≤ Nat.gcd p k
  · exact absurd h1 (hp.2 _ h (by omega))
  · omega
theorem fe_cop' {p a : Nat} (hp : fe_P p) : Nat.Coprime p a ∨ p ∣ a := by
  by_cases h : a % p = 0
  · exact Or.inr (Nat.dvd_of_mod_eq_zero h)
  · refine Or.inl ?_
    have h1 : Nat.Coprime p (a % p) := fe_cop hp (Nat.pos_of_ne_zero h) (Nat.mod_lt _ (by have := hp.1; omega))
    show Nat.gcd p a = 1
    rw [Nat.gcd_rec, Nat.gcd_comm]
    exact h1
theorem fe_dvc {p : Nat} (hp : fe_P p) {k : Nat} (h0 : 0 < k) (hk : k < p) : p ∣ fe_ch p k := by
  obtain ⟨q, rfl⟩ : ∃ q, p = q + 1 := ⟨p - 1, by have := hp.1; omega⟩
  obtain ⟨j, rfl⟩ : ∃ j, k = j + 1 := ⟨k - 1, by omega⟩
  refine Nat.Coprime.dvd_of_dvd_mul_left (fe_cop hp h0 hk) ?_
  rw [fe_abs]
  exact Nat.dvd_mul_right _ _
theorem fe_Sp {p : Nat} (hp : fe_P p) (a : Nat) : ∀ m, m < p → fe_S p a (m + 1) % p = 1 % p
  | 0, _ => by rw [fe_S1]
  | m + 1, h => by
    obtain ⟨t, ht⟩ := fe_dvc hp (k := m + 1) (by omega) h
    rw [fe_Ss, ht, Nat.mul_assoc, Nat.add_mul_mod_self_left]
    exact fe_Sp hp a m (by omega)
theorem fe_flt {p : Nat} (hp : fe_P p) (a : Nat) : a ^ p % p = a % p := by
  obtain ⟨q, rfl⟩ : ∃ q, p = q + 1 := ⟨p - 1, by have := hp.1; omega⟩
  induction a with
  | zero => rw [Nat.zero_pow (by omega)]
  | succ a ih =>
    have h := fe_Sp hp a q (by omega)
    have h0 := fe_Ss (q + 1) a (q + 1)
    rw [fe_nn (q + 1), Nat.one_mul] at h0
    rw [← fe_bin a (q + 1), h0, Nat.add_mod, h, ih, ← Nat.add_mod, Nat.add_comm 1 a]
theorem fe_can {n a x y : Nat} (hc : Nat.Coprime n a) (h : a * x % n = a * y % n) : x % n = y % n := by
  have key : ∀ x y, x ≤ y → a * x % n = a * y % n → x % n = y % n := by
    intro x y hxy h
    have h1 : n ∣ a * y - a * x := Nat.dvd_of_mod_eq_zero (Nat.sub_mod_eq_zero_of_mod_eq h.symm)
    rw [← Nat.mul_sub] at h1
    obtain ⟨t, ht⟩ := Nat.Coprime.dvd_of_dvd_mul_left hc h1
    rw [show y = x + n * t from by omega, Nat.add_mul_mod_self_left]
  rcases Nat.le_total x y with hxy | hxy
  · exact key x y hxy h
  · exact (key y x hxy h.symm).symm
theorem fe_fl1 {p a : Nat} (hp : fe_P p) (hc : Nat.Coprime p a) : a ^ (p - 1) % p = 1 := by
  obtain ⟨q, rfl⟩ : ∃ q, p = q + 1 := ⟨p - 1, by have := hp.1; omega⟩
  have h := fe_flt hp a
  rw [Nat.pow_succ, Nat.mul_comm] at h
  have h2 := fe_can hc (x := a ^ q) (y := 1) (by rw [Nat.mul_one]; exact h)
  rw [Nat.add_sub_cancel, h2]
  exact Nat.mod_eq_of_lt (by have := hp.1; omega)
theorem fe_pm {a k p : Nat} (h : a ^ k % p = 1) (hp : 2 ≤ p) (d : Nat) : a ^ d % p = a ^ (d % k) % p := by
  have e : a ^ d = (a ^ k) ^ (d / k) * a ^ (d % k) := by rw [← Nat.pow_mul, ← Nat.pow_add, Nat.div_add_mod]
  rw [e, Nat.mul_mod, Nat.pow_mod, h, Nat.one_pow, Nat.mod_eq_of_lt (show 1 < p from hp), Nat.one_mul, Nat.mod_mod]
theorem fe_dvp {p a d : Nat} (h : p ∣ a) (hd : 1 ≤ d) : a ^ d % p = 0 := by
  obtain ⟨e, rfl⟩ : ∃ e, d = e + 1 := ⟨d - 1, by omega⟩
  rw [Nat.pow_succ]
  exact Nat.mod_eq_zero_of_dvd (Nat.dvd_mul_left_of_dvd h _)
/-- exponents that agree by p - 1 -/
theorem fe_exp {p a d d' : Nat} (hp : fe_P p) (hd : 1 ≤ d) (hd' : 1 ≤ d') (h : d % (p - 1) = d' % (p - 1)) : a ^ d % p = a ^ d' % p := by
  rcases fe_cop' (a := a) hp with hc | hc
  · rw [fe_pm (fe_fl1 hp hc) hp.1 d, fe_pm (fe_fl1 hp hc) hp.1 d', h]
  · rw [fe_dvp hc hd, fe_dvp hc hd']
/-- e d and e d' both 1 by k: d and d' agree by k -/
theorem fe_inv {e d d' k : Nat} (hk : 2 ≤ k) (h : e * d % k = 1) (h' : e * d' % k = 1) : d % k = d' % k := by
  have a1 : d * (e * d') % k = d % k := by rw [Nat.mul_mod, h', Nat.mul_one, Nat.mod_mod]
  have a2 : d * (e * d') % k = d' % k := by
    rw [show d * (e * d') = (e * d) * d' from by rw [← Nat.mul_assoc, Nat.mul_comm d e], Nat.mul_mod, h, Nat.one_mul, Nat.mod_mod]
  rw [← a1, a2]
/-- a square root of 1 -/
theorem fe_sq {p y : Nat} (hp : fe_P p) (hy : y < p) (h : y * y % p = 1) : y = 1 ∨ y = p - 1 := by
  have h2 := hp.1
  by_cases h0 : y = 0
  · rw [h0] at h; simp at h
  have e : y * y = 1 + (y - 1) * (y + 1) := by
    obtain ⟨z, rfl⟩ : ∃ z, y = z + 1 := ⟨y - 1, by omega⟩
    rw [Nat.add_sub_cancel]
    simp only [Nat.mul_add, Nat.add_mul, Nat.mul_one, Nat.one_mul]
    omega
  have hd : p ∣ (y - 1) * (y + 1) := by
    have := Nat.sub_mod_eq_zero_of_mod_eq (m := y * y) (n := 1) (k := p) (by rw [h, Nat.mod_eq_of_lt (show 1 < p by omega)])
    rw [e, Nat.add_sub_cancel_left] at this
    exact Nat.dvd_of_mod_eq_zero this
  by_cases h1 : y = 1
  · exact Or.inl h1
  · right
    have hc : Nat.Coprime p (y - 1) := fe_cop hp (by omega) (by omega)
    have h3 := Nat.le_of_dvd (by omega) (Nat.Coprime.dvd_of_dvd_mul_left hc hd)
    omega
/-- no small divisor: prime -/
theorem fe_tri {p : Nat} (h2 : 2 ≤ p) (h : ∀ d, 2 ≤ d → d * d ≤ p → ¬ d ∣ p) : fe_P p := by
  refine ⟨h2, fun d hd hdp hdv => ?_⟩
  by_cases hq : d * d ≤ p
  · exact h d hd hq hdv
  · obtain ⟨e, he⟩ := hdv
    have he2 : 2 ≤ e := by
      rcases Nat.lt_or_ge e 2 with h' | h'
      · have : e = 0 ∨ e = 1 := by omega
        rcases this with rfl | rfl <;> simp at he <;> omega
      · exact h'
    have hed : e ≤ d := by
      rcases Nat.lt_or_ge d e with h' | h'
      · have := Nat.mul_le_mul_left d (Nat.le_of_lt h')
        omega
      · exact h'
    refine h e he2 ?_ ⟨d, by rw [he, Nat.mul_comm]⟩
    rw [he]
    exact Nat.mul_le_mul_right e hed
end
section
/-! ===== the primes' table: Fermat's test by 2, 3, 5, 7 finds every composite but one ===== -/
def mr_F : Nat → Nat
  | 0 => 1
  | n + 1 => (n + 1) * mr_F n
theorem mr_Fd : ∀ n k, 1 ≤ k → k ≤ n → k ∣ mr_F n
  | 0, k, h1, h2 => by omega
  | n + 1, k, h1, h2 => by
    by_cases h : k = n + 1
    · rw [h]; exact Nat.dvd_mul_right _ _
    · exact Nat.dvd_mul_left_of_dvd (mr_Fd n k h1 (by omega)) _
def mr_f (F i : Nat) : Bool :=
  Nat.beq (Nat.gcd (2 * i + 257) F) 1 || !(Nat.beq (2 ^ (2 * i + 256) % (2 * i + 257)) 1) || !(Nat.beq (3 ^ (2 * i + 256) % (2 * i + 257)) 1) ||
  !(Nat.beq (5 ^ (2 * i + 256) % (2 * i + 257)) 1) || !(Nat.beq (7 ^ (2 * i + 256) % (2 * i + 257)) 1) || Nat.beq i 14542
def mr_all (F : Nat) (s : Nat) : Nat → Bool
  | 0 => true
  | n + 1 => mr_f F (s + n) && mr_all F s n
theorem mr_allE {F s : Nat} : ∀ {n : Nat}, mr_all F s n = true → ∀ i, s ≤ i → i < s + n → mr_f F i = true
  | 0, _, i, h1, h2 => by omega
  | n + 1, h, i, h1, h2 => by
    have h' : (mr_f F (s + n) && mr_all F s n) = true := h
    rw [Bool.and_eq_true] at h'
    by_cases e : i = s + n
    · rw [e]; exact h'.1
    · exact mr_allE h'.2 i h1 (by omega)
def mr_K : Nat := 46390896773824573120118197131626654133535460698098654227814792228582687993471515675675303519130505957081396442809128779129984947682780134232434682183959939102665927776439857317019738245619747364381030569622906549543129198965152594576297260803180404842596116964782060639065966089166712338842834343045860606296811709288710361986642298681053856193817242616463360000000000000000000000000000000000000000000000000000
theorem mr_KF : mr_F 215 = mr_K := by decide +kernel
-- 23041 odd numbers
theorem mr_t0 : mr_all mr_K 0 1024 = true := by decide +kernel
theorem mr_t1 : mr_all mr_K 1024 1024 = true := by decide +kernel
theorem mr_t2 : mr_all mr_K 2048 1024 = true := by decide +kernel
theorem mr_t3 : mr_all mr_K 3072 1024 = true := by decide +kernel
theorem mr_t4 : mr_all mr_K 4096 1024 = true := by decide +kernel
theorem mr_t5 : mr_all mr_K 5120 1024 = true := by decide +kernel
theorem mr_t6 : mr_all mr_K 6144 1024 = true := by decide +kernel
theorem mr_t7 : mr_all mr_K 7168 1024 = true := by decide +kernel
theorem mr_t8 : mr_all mr_K 8192 1024 = true := by decide +kernel
theorem mr_t9 : mr_all mr_K 9216 1024 = true := by decide +kernel
theorem mr_t10 : mr_all mr_K 10240 1024 = true := by decide +kernel
theorem mr_t11 : mr_all mr_K 11264 1024 = true := by decide +kernel
theorem mr_t12 : mr_all mr_K 12288 1024 = true := by decide +kernel
theorem mr_t13 : mr_all mr_K 13312 1024 = true := by decide +kernel
theorem mr_t14 : mr_all mr_K 14336 1024 = true := by decide +kernel
theorem mr_t15 : mr_all mr_K 15360 1024 = true := by decide +kernel
theorem mr_t16 : mr_all mr_K 16384 1024 = true := by decide +kernel
theorem mr_t17 : mr_all mr_K 17408 1024 = true := by decide +kernel
theorem mr_t18 : mr_all mr_K 18432 1024 = true := by decide +kernel
theorem mr_t19 : mr_all mr_K 19456 1024 = true := by decide +kernel
theorem mr_t20 : mr_all mr_K 20480 1024 = true := by decide +kernel
theorem mr_t21 : mr_all mr_K 21504 1024 = true := by decide +kernel
theorem mr_t22 : mr_all mr_K 22528 513 = true := by decide +kernel
theorem mr_tab (i : Nat) (h : i < 23041) : mr_f mr_K i = true := by
  rcases Nat.lt_or_ge i 1024 with h0 | h0
  · exact mr_allE mr_t0 i (by omega) (by omega)
  rcases Nat.lt_or_ge i 2048 with h1 | h1
  · exact mr_allE mr_t1 i (by omega) (by omega)
  rcases Nat.lt_or_ge i 3072 with h2 | h2
  · exact mr_allE mr_t2 i (by omega) (by omega)
  rcases Nat.lt_or_ge i 4096 with h3 | h3
  · exact mr_allE mr_t3 i (by omega) (by omega)
  rcases Nat.lt_or_ge i 5120 with h4 | h4
  · exact mr_allE mr_t4 i (by omega) (by omega)
  rcases Nat.lt_or_ge i 6144 with h5 | h5
  · exact mr_allE mr_t5 i (by omega) (by omega)
  rcases Nat.lt_or_ge i 7168 with h6 | h6
  · exact mr_allE mr_t6 i (by omega) (by omega)
  rcases Nat.lt_or_ge i 8192 with h7 | h7
  · exact mr_allE mr_t7 i (by omega) (by omega)
  rcases Nat.lt_or_ge i 9216 with h8 | h8
  · exact mr_allE mr_t8 i (by omega) (by omega)
  rcases Nat.lt_or_ge i 10240 with h9 | h9
  · exact mr_allE mr_t9 i (by omega) (by omega)
  rcases Nat.lt_or_ge i 11264 with h10 | h10
  · exact mr_allE mr_t10 i (by omega) (by omega)
  rcases Nat.lt_or_ge i 12288 with h11 | h11
  · exact mr_allE mr_t11 i (by omega) (by omega)
  rcases Nat.lt_or_ge i 13312 with h12 | h12
  · exact mr_allE mr_t12 i (by omega) (by omega)
  rcases Nat.lt_or_ge i 14336 with h13 | h13
  · exact mr_allE mr_t13 i (by omega) (by omega)
  rcases Nat.lt_or_ge i 15360 with h14 | h14
  · exact mr_allE mr_t14 i (by omega) (by omega)
  rcases Nat.lt_or_ge i 16384 with h15 | h15
  · exact mr_allE mr_t15 i (by omega) (by omega)
  rcases Nat.lt_or_ge i 17408 with h16 | h16
  · exact mr_allE mr_t16 i (by omega) (by omega)
  rcases Nat.lt_or_ge i 18432 with h17 | h17
  · exact mr_allE mr_t17 i (by omega) (by omega)
  rcases Nat.lt_or_ge i 19456 with h18 | h18
  · exact mr_allE mr_t18 i (by omega) (by omega)
  rcases Nat.lt_or_ge i 20480 with h19 | h19
  · exact mr_allE mr_t19 i (by omega) (by omega)
  rcases Nat.lt_or_ge i 21504 with h20 | h20
  · exact mr_allE mr_t20 i (by omega) (by omega)
  rcases Nat.lt_or_ge i 22528 with h21 | h21
  · exact mr_allE mr_t21 i (by omega) (by omega)
  exact mr_allE mr_t22 i (by omega) (by omega)
theorem mr_bq {a b : Nat} (h : Nat.beq a b = true) : a = b := Nat.eq_of_beq_eq_true h
theorem mr_nbq {a b : Nat} (h : (!(Nat.beq a b)) = true) : a ≠ b := fun e => by
  rw [e, Nat.beq_refl] at h
  cases h
/-- a composite odd number of the range fails one Fermat test, but for one number -/
theorem mr_cmp {x d : Nat} (h0 : 257 ≤ x) (h1 : x ≤ 46337) (h2 : x % 2 = 1) (hd : 2 ≤ d) (hd2 : d ≤ 215) (hx : d ∣ x) :
    2 ^ (x - 1) % x ≠ 1 ∨ 3 ^ (x - 1) % x ≠ 1 ∨ 5 ^ (x - 1) % x ≠ 1 ∨ 7 ^ (x - 1) % x ≠ 1 ∨ x = 29341 := by
  obtain ⟨i, rfl⟩ : ∃ i, x = 2 * i + 257 := ⟨(x - 257) / 2, by omega⟩
  have ht := mr_tab i (by omega)
  have hg : Nat.gcd (2 * i + 257) mr_K ≠ 1 := fun e => by
    have : d ∣ Nat.gcd (2 * i + 257) mr_K := Nat.dvd_gcd hx (mr_KF ▸ mr_Fd 215 d (by omega) hd2)
    rw [e] at this
    have := Nat.le_of_dvd (by omega) this
    omega
  rw [show 2 * i + 257 - 1 = 2 * i + 256 from by omega]
  unfold mr_f at ht
  rw [Bool.or_eq_true, Bool.or_eq_true, Bool.or_eq_true, Bool.or_eq_true, Bool.or_eq_true] at ht
  rcases ht with ((((h | h) | h) | h) | h) | h
  · exact absurd (mr_bq h) hg
  · exact Or.inl (mr_nbq h)
  · exact Or.inr (Or.inl (mr_nbq h))
  · exact Or.inr (Or.inr (Or.inl (mr_nbq h)))
  · exact Or.inr (Or.inr (Or.inr (Or.inl (mr_nbq h))))
  · have := mr_bq h
    exact Or.inr (Or.inr (Or.inr (Or.inr (by omega))))
/-! ===== the test by powers: x - 1 = o 2^t ===== -/
def mr_P (x o t b : Nat) : Prop := b ^ o % x = 1 ∨ b ^ o % x = x - 1 ∨ ∃ k, 1 ≤ k ∧ k < t ∧ b ^ (o * 2 ^ k) % x = x - 1
theorem mr_p2 (b o k : Nat) : b ^ (o * 2 ^ (k + 1)) = b ^ (o * 2 ^ k) * b ^ (o * 2 ^ k) := by
  rw [← Nat.pow_add, Nat.pow_succ]
  exact congrArg (b ^ ·) (by rw [← Nat.mul_assoc]; omega)
theorem mr_m1 {x a : Nat} (hx : 2 ≤ x) (h : a % x = x - 1) : a * a % x = 1 := by
  rw [Nat.mul_mod, h]
  obtain ⟨y, rfl⟩ : ∃ y, x = y + 2 := ⟨x - 2, by omega⟩
  rw [show y + 2 - 1 = y + 1 from by omega, show (y + 1) * (y + 1) = 1 + (y + 2) * y from by rw [Nat.add_mul, Nat.mul_add, Nat.mul_add, Nat.add_mul]; omega, Nat.add_mul_mod_self_left]
  exact Nat.mod_eq_of_lt (by omega)
theorem mr_11 {x a : Nat} (hx : 2 ≤ x) (h : a % x = 1) : a * a % x = 1 := by
  rw [Nat.mul_mod, h]; exact Nat.mod_eq_of_lt (by omega)
theorem mr_up {x b o : Nat} (hx : 2 ≤ x) {k : Nat} (h : b ^ (o * 2 ^ k) % x = 1) : ∀ j, b ^ (o * 2 ^ (k + j)) % x = 1
  | 0 => h
  | j + 1 => by rw [← Nat.add_assoc, mr_p2]; exact mr_11 hx (mr_up hx h j)
theorem mr_fm {x o t b : Nat} (hx : 2 ≤ x) (ht : 1 ≤ t) (h : mr_P x o t b) : b ^ (o * 2 ^ t) % x = 1 := by
  have e0 : b ^ (o * 2 ^ 0) = b ^ o := by rw [Nat.pow_zero, Nat.mul_one]
  rcases h with h | h | ⟨k, h1, h2, h⟩
  · have := mr_up (k := 0) hx (by rw [e0]; exact h) t
    rwa [Nat.zero_add] at this
  · have h1 : b ^ (o * 2 ^ (0 + 1)) % x = 1 := by rw [mr_p2]; exact mr_m1 hx (by rw [e0]; exact h)
    have := mr_up hx h1 (t - 1)
    rwa [show 0 + 1 + (t - 1) = t from by omega] at this
  · have h1 : b ^ (o * 2 ^ (k + 1)) % x = 1 := by rw [mr_p2]; exact mr_m1 hx h
    have := mr_up hx h1 (t - k - 1)
    rwa [show k + 1 + (t - k - 1) = t from by omega] at this
theorem mr_pr {x o b : Nat} (hp : fe_P x) : ∀ t, b ^ (o * 2 ^ t) % x = 1 → b ^ o % x = 1 ∨ ∃ k, k < t ∧ b ^ (o * 2 ^ k) % x = x - 1
  | 0, h => by rw [Nat.pow_zero, Nat.mul_one] at h; exact Or.inl h
  | t + 1, h => by
    rw [mr_p2, Nat.mul_mod] at h
    rcases fe_sq hp (Nat.mod_lt _ (by have := hp.1; omega)) h with h1 | h1
    · rcases mr_pr hp t h1 with h2 | ⟨k, hk, h2⟩
      · exact Or.inl h2
      · exact Or.inr ⟨k, by omega, h2⟩
    · exact Or.inr ⟨t, by omega, h1⟩
/-- a prime passes -/
theorem mr_pp {x o t b : Nat} (hp : fe_P x) (hx : x - 1 = o * 2 ^ t) (hb : 0 < b) (hbx : b < x) : mr_P x o t b := by
  have h := fe_fl1 hp (fe_cop hp hb hbx)
  rw [hx] at h
  rcases mr_pr hp t h with h1 | ⟨k, hk, h1⟩
  · exact Or.inl h1
  · by_cases k0 : k = 0
    · rw [k0, Nat.pow_zero, Nat.mul_one] at h1; exact Or.inr (Or.inl h1)
    · exact Or.inr (Or.inr ⟨k, by omega, hk, h1⟩)
theorem mr_x29 : 3 ^ 7335 % 29341 = 22569 ∧ 3 ^ (7335 * 2 ^ 1) % 29341 = 1 := by decide +kernel
/-- who passes all four is prime -/
theorem mr_all4 {x o t : Nat} (h0 : 257 ≤ x) (h1 : x ≤ 46337) (h2 : x % 2 = 1) (ho : o % 2 = 1) (hx : x - 1 = o * 2 ^ t)
    (p2 : mr_P x o t 2) (p3 : mr_P x o t 3) (p5 : mr_P x o t 5) (p7 : mr_P x o t 7) : fe_P x := by
  have ht : 1 ≤ t := by
    rcases Nat.eq_zero_or_pos t with h | h
    · rw [h, Nat.pow_zero, Nat.mul_one] at hx; omega
    · exact h
  have hx2 : 2 ≤ x := by omega
  refine fe_tri hx2 (fun d hd hdd hdv => ?_)
  have hd2 : d ≤ 215 := by
    rcases Nat.lt_or_ge 215 d with h | h
    · have : 216 * 216 ≤ d * d := Nat.mul_le_mul h h
      omega
    · exact h
  rcases mr_cmp h0 h1 h2 hd hd2 hdv with h | h | h | h | h
  · exact h (by rw [hx]; exact mr_fm hx2 ht p2)
  · exact h (by rw [hx]; exact mr_fm hx2 ht p3)
  · exact h (by rw [hx]; exact mr_fm hx2 ht p5)
  · exact h (by rw [hx]; exact mr_fm hx2 ht p7)
  · subst h
    have hot : o = 7335 ∧ t = 2 := by
      have hx' : o * 2 ^ t = 29340 := by omega
      match t, ht with
      | 1, _ => omega
      | 2, _ => exact ⟨by omega, rfl⟩
      | t + 3, _ =>
        rw [Nat.pow_add] at hx'
        have : o * (2 ^ t * 2 ^ 3) = 8 * (o * 2 ^ t) := by rw [← Nat.mul_assoc]; omega
        omega
    obtain ⟨rfl, rfl⟩ := hot
    have e := mr_x29
    rcases p3 with h | h | ⟨k, k1, k2, h⟩
    · rw [e.1] at h; omega
    · rw [e.1] at h; omega
    · have : k = 1 := by omega
      subst this
      rw [e.2] at h; omega
end
section
/-! ===== inverses by a number, two primes put together ===== -/
theorem iv_bez : ∀ (n a b : Nat), b < n → Nat.gcd a b = 1 → ∃ x y : Int, (a : Int) * x + (b : Int) * y = 1
  | 0, _, _, h, _ => absurd h (Nat.not_lt_zero _)
  | n + 1, a, b, h, hg => by
    by_cases h0 : b = 0
    · rw [h0, Nat.gcd_zero_right] at hg
      exact ⟨1, 0, by rw [hg, h0]; rfl⟩
    · have hm : a % b < b := Nat.mod_lt _ (by omega)
      have hg' : Nat.gcd b (a % b) = 1 := by rw [Nat.gcd_comm, ← Nat.gcd_rec, Nat.gcd_comm]; exact hg
      obtain ⟨x, y, e⟩ := iv_bez n b (a % b) (by omega) hg'
      refine ⟨y, x - ((a / b : Nat) : Int) * y, ?_⟩
      have ha : (a : Int) = (b : Int) * ((a / b : Nat) : Int) + ((a % b : Nat) : Int) := by
        have := Nat.div_add_mod a b
        exact_mod_cast this.symm
      rw [ha]
      rw [← e]
      rw [Int.add_mul, Int.mul_sub, Int.mul_assoc]
      omega
theorem iv_ex {a b : Nat} (hb : 2 ≤ b) (hg : Nat.gcd a b = 1) : ∃ d, d < b ∧ a * d % b = 1 := by
  obtain ⟨x, y, e⟩ := iv_bez (b + 1) a b (by omega) hg
  have h1 : 0 ≤ x % (b : Int) := Int.emod_nonneg _ (by omega)
  have h2 : x % (b : Int) < b := Int.emod_lt_of_pos _ (by omega)
  refine ⟨(x % (b : Int)).toNat, by omega, ?_⟩
  have h3 : ((a * (x % (b : Int)).toNat : Nat) : Int) = 1 + (b : Int) * (-y - (a : Int) * (x / (b : Int))) := by
    rw [Int.natCast_mul, Int.toNat_of_nonneg h1]
    have h4 := Int.emod_add_mul_ediv x (b : Int)
    have h5 : (a : Int) * (x % (b : Int)) = (a : Int) * x - (b : Int) * ((a : Int) * (x / (b : Int))) := by
      have : (a : Int) * x = (a : Int) * (x % (b : Int)) + (a : Int) * ((b : Int) * (x / (b : Int))) := by rw [← Int.mul_add, h4]
      rw [this, ← Int.mul_assoc (b : Int), Int.mul_comm (b : Int) (a : Int), Int.mul_assoc]
      omega
    rw [h5, Int.mul_sub, Int.mul_neg]
    omega
  have h6 : ((a * (x % (b : Int)).toNat % b : Nat) : Int) = 1 := by
    rw [Int.natCast_emod, h3, Int.add_mul_emod_self_left]
    exact Int.emod_eq_of_lt (by omega) (by omega)
  exact_mod_cast h6
/-- the reference's search: some j below e -/
theorem iv_j {e f : Nat} (he : 2 ≤ e) (hg : Nat.gcd e f = 1) : ∃ j, 1 ≤ j ∧ j < e ∧ (j * f + 1) % e = 0 := by
  obtain ⟨d, hd, h⟩ := iv_ex he (by rw [Nat.gcd_comm]; exact hg : Nat.gcd f e = 1)
  have hd0 : d ≠ 0 := fun z => by rw [z, Nat.mul_zero, Nat.zero_mod] at h; omega
  refine ⟨e - d, by omega, by omega, ?_⟩
  have h1 := Nat.div_add_mod (f * d) e
  rw [h] at h1
  have h2 : (e - d) * f + f * d = e * f := by rw [Nat.mul_comm f d, ← Nat.add_mul]; exact congrArg (· * f) (by omega)
  have h3 : (e - d) * f + 1 + e * (f * d / e) = e * f := by omega
  have h4 : ((e - d) * f + 1 + e * (f * d / e)) % e = 0 := by rw [h3]; exact Nat.mul_mod_right e f
  rwa [Nat.add_mul_mod_self_left] at h4
theorem iv_nj {e f j : Nat} (hg : Nat.gcd e f ≠ 1) : (j * f + 1) % e ≠ 0 := fun h => by
  have h1 : Nat.gcd e f ∣ j * f + 1 := Nat.dvd_trans (Nat.gcd_dvd_left e f) (Nat.dvd_of_mod_eq_zero h)
  have h2 : Nat.gcd e f ∣ j * f := Nat.dvd_mul_left_of_dvd (Nat.gcd_dvd_right e f) j
  exact hg (Nat.dvd_one.mp ((Nat.dvd_add_right h2).mp h1))
/-- to be coprime with a product -/
theorem iv_gm {e a b : Nat} : Nat.gcd e (a * b) = 1 ↔ Nat.gcd e a = 1 ∧ Nat.gcd e b = 1 := Nat.coprime_mul_iff_right
theorem iv_dm {a b k : Nat} (h : a % (k * b) = 1) (hk : 2 ≤ k) : a % k = 1 := by
  have := Nat.mod_mul_right_mod a k b
  rw [h, Nat.mod_eq_of_lt (show 1 < k from hk)] at this
  exact this.symm
/-- equal by two coprime numbers -/
theorem ct_uq {p q a b : Nat} (hc : Nat.Coprime p q) (h1 : a % p = b % p) (h2 : a % q = b % q) : a % (p * q) = b % (p * q) := by
  have key : ∀ a b, a ≤ b → a % p = b % p → a % q = b % q → a % (p * q) = b % (p * q) := by
    intro a b hab h1 h2
    have d1 : p ∣ b - a := Nat.dvd_of_mod_eq_zero (Nat.sub_mod_eq_zero_of_mod_eq h1.symm)
    have d2 : q ∣ b - a := Nat.dvd_of_mod_eq_zero (Nat.sub_mod_eq_zero_of_mod_eq h2.symm)
    obtain ⟨t, ht⟩ := Nat.Coprime.mul_dvd_of_dvd_of_dvd hc d1 d2
    rw [show b = a + p * q * t from by omega, Nat.add_mul_mod_self_left]
  rcases Nat.le_total a b with h | h
  · exact key a b h h1 h2
  · exact (key b a h h1.symm h2.symm).symm
theorem ct_put {p q B V : Nat} (hp : 0 < p) (hq : 0 < q) (hc : Nat.Coprime p q) (hB : q * B % p = 1 % p) :
    V % q + ((V % p + p - V % q % p) * B % p) * q = V % (p * q) := by
  have hy : V % q % p < p := Nat.mod_lt _ hp
  have hh : (V % p + p - V % q % p) * B % p < p := Nat.mod_lt _ hp
  have hyq : V % q < q := Nat.mod_lt _ hq
  have e1 : ((V % p + p - V % q % p) * B % p) * q % p = (V % p + p - V % q % p) % p := by
    rw [Nat.mod_mul_mod, Nat.mul_assoc, Nat.mul_comm B q, Nat.mul_mod, hB, ← Nat.mul_mod, Nat.mul_one]
  have hlt : V % q + ((V % p + p - V % q % p) * B % p) * q < p * q := by
    have h1 : ((V % p + p - V % q % p) * B % p) * q ≤ (p - 1) * q := Nat.mul_le_mul_right q (by omega)
    have h2 : (p - 1) * q + q = p * q := by
      rw [← Nat.succ_mul]; exact congrArg (· * q) (by omega)
    omega
  rw [← Nat.mod_eq_of_lt hlt]
  refine ct_uq hc ?_ ?_
  · have : V % q % p + (V % p + p - V % q % p) = V % p + p := by omega
    rw [Nat.add_mod, e1, Nat.add_mod_mod, this, Nat.add_mod_right, Nat.mod_mod]
  · rw [Nat.add_mul_mod_self_right, Nat.mod_mod]
end
section
/-! ===== what the states hold ===== -/
/-- the hash of the first bytes -/
def ha_F (w : Nat → Int32) : Nat → Int32
  | 0 => -2128831035
  | n + 1 => (ha_F w n ^^^ w n) * 16777619
theorem ha_S (w : Nat → Int32) (n : Nat) : ha_F w (n + 1) = (ha_F w n ^^^ w n) * 16777619 := rfl
theorem ha_0 (w : Nat → Int32) : ha_F w 0 = -2128831035 := rfl
/-- a word turned -/
def en_T (w b : Int32) : Int32 := if b = 0 then w else (w <<< (b &&& 31)) ||| ((w.toUInt32 >>> ((32 - b).toUInt32 &&& Int32.toUInt32 31)).toInt32)
/-- the part of a key for a round -/
def en_P (key : Int32) (i : Nat) : Int32 := (en_T key (nI (7 * i % 32)) ^^^ (nI i * 9029)) &&& 65535
/-- one bit of the checksum by shifts, as the table is made -/
def cr_x (c : Int32) : Int32 := if ((c <<< ((1 : Int32) &&& 31)) >>> ((24 : Int32) &&& 31)) &&& 1 = 1 then (c <<< ((1 : Int32) &&& 31)) ^^^ 25578747 else c <<< ((1 : Int32) &&& 31)
def cr_X (c : Int32) : Nat → Int32
  | 0 => c
  | n + 1 => cr_x (cr_X c n)
def cr_T (j : Nat) : Int32 := cr_X (nI j <<< ((16 : Int32) &&& 31)) 8
/-- one slot of the public keys -/
def ky_R (p q n e dp dq bk mo op se : Int64) : Prop :=
  (n = 0 ∧ mo = 0) ∨ ∃ P Q E D DP DQ B : Nat, (fe_P P ∧ fe_P Q ∧ P ≠ Q) ∧ (257 ≤ P ∧ P ≤ 46337 ∧ 257 ≤ Q ∧ Q ≤ 46337 ∧ E ≤ 65537 ∧ DP < 2 ^ 31 ∧ DQ < 2 ^ 31 ∧ B < P ∧ 1 ≤ D ∧ D < 2 ^ 62) ∧
    (p = lN P ∧ q = lN Q ∧ n = lN (P * Q) ∧ e = lN E ∧ dp = lN DP ∧ dq = lN DQ ∧ bk = lN B) ∧ (mo = lN (P * Q) ∧ op = lN E ∧ se = lN D) ∧
    (∀ m, m ^ DP % P = m ^ D % P) ∧ (∀ m, m ^ DQ % Q = m ^ D % Q) ∧ Q * B % P = 1 % P
/-- the row: its bytes, its length -/
def md_W (n : Nat) (w : Nat → Int32) : Prop := n ≤ 120 ∧ ∀ k, by_B (w k)
/-- the hash that is kept -/
def md_H (n : Nat) (w : Nat → Int32) (xh xk : Int32) : Prop := ∃ c, c ≤ n ∧ xk = nI c ∧ xh = ha_F w c
/-- tables and keys -/
def md_K (xy : Int32) (xt xp : Nat → Int32) (kp kq kn ke kd kf kb yn yo yz : Nat → Int64) : Prop :=
  (∀ i, i < 6 → xp i = en_P xy i) ∧ (∀ j, j < 256 → xt j = cr_T j) ∧ ∀ j, j < 3 → ky_R (kp j) (kq j) (kn j) (ke j) (kd j) (kf j) (kb j) (yn j) (yo j) (yz j)
/-- what is made, on both sides -/
def md_M (m : Nat) (xm ym : Nat → Int32) : Prop := ∀ k, k < m → k < 200 → by_B (ym k) ∧ xm k = by_n (ym k)
theorem md_M0 (xm ym : Nat → Int32) : md_M 0 xm ym := fun k h => absurd h (Nat.not_lt_zero k)
def rl_R (u : SX) (v : SY) : Prop := match u, v with
  | (xl, xs, xh, xk, xy, xw, xm, xt, xp, kp, kq, kn, ke, kd, kf, kb, kw), (yl, ys, yw, ym, yn, yo, yz) => ∃ n : Nat, (xl = nI n ∧ yl = nI n) ∧ xw = (fun k => by_n (yw k)) ∧ md_W n yw ∧ md_H n yw xh xk ∧ md_K xy xt xp kp kq kn ke kd kf kb yn yo yz
def i_Rel (_ : Nat) (u : SX) (v : SY) : Prop := rl_R u v
theorem i_up {k : Nat} {u : SX} {v : SY} (h : i_Rel k u v) : i_Rel (k + 5) u v := h
/-- to leave the relation: the two rows and the two lengths are the same -/
theorem rl_el {T : SX → SY → Prop} (h : ∀ (n : Nat) (xs xh xk xy : Int32) (w xm xt xp : Nat → Int32) (kp kq kn ke kd kf kb kw : Nat → Int64) (ys : Int32) (ym : Nat → Int32) (yn yo yz : Nat → Int64),
      md_W n w → md_H n w xh xk → md_K xy xt xp kp kq kn ke kd kf kb yn yo yz →
      T (nI n, xs, xh, xk, xy, (fun k => by_n (w k)), xm, xt, xp, kp, kq, kn, ke, kd, kf, kb, kw) (nI n, ys, w, ym, yn, yo, yz)) {k : Nat} {u : SX} {v : SY} (I : i_Rel k u v) : T u v := by
  obtain ⟨xl, xs, xh, xk, xy, xw, xm, xt, xp, kp, kq, kn, ke, kd, kf, kb, kw⟩ := u
  obtain ⟨yl, ys, yw, ym, yn, yo, yz⟩ := v
  obtain ⟨n, ⟨e1, e2⟩, e3, h1, h2, h3⟩ := I
  subst e1 e2 e3
  exact h n xs xh xk xy yw xm xt xp kp kq kn ke kd kf kb kw ys ym yn yo yz h1 h2 h3
/-- the ends of a call: one answer, related states -/
def ed_R (ex : (Int32 → SX → Prop) → Prop) (ey : (Int32 → SY → Prop) → Prop) : Prop :=
  ∃ (r : Int32) (u : SX) (v : SY), rl_R u v ∧ ex = (fun p => p r u) ∧ ey = (fun q => q r v)
theorem ed_fin {k : Nat} {cx : (Int32 → SX → Prop) → Prop} {cy : (Int32 → SY → Prop) → Prop} (h : tw_L ed_R cx cy) :
    cx (fun r u' => cy (fun r' v' => r' = r ∧ i_Rel k u' v')) := by
  obtain ⟨ex, ey, ⟨r, u, v, hr, e1, e2⟩, h1, h2⟩ := h
  subst e1 e2
  exact h1 _ (h2 _ ⟨rfl, hr⟩)
def ed_X (PX : (Int32 → SX → Prop) → Int32 → SX → Prop) : Prop :=
  ∀ (p : Int32 → SX → Prop) (r : Int32) (xl xs xh xk xy : Int32) (xw xm xt xp : Nat → Int32) (kp kq kn ke kd kf kb kw : Nat → Int64), p r (xl, xs, xh, xk, xy, xw, xm, xt, xp, kp, kq, kn, ke, kd, kf, kb, kw) → PX p r (xl, xs, xh, xk, xy, xw, xm, xt, xp, kp, kq, kn, ke, kd, kf, kb, kw)
def ed_Y (PY : (Int32 → SY → Prop) → Int32 → SY → Prop) : Prop :=
  ∀ (q : Int32 → SY → Prop) (r : Int32) (yl ys : Int32) (yw ym : Nat → Int32) (yn yo yz : Nat → Int64), q r (yl, ys, yw, ym, yn, yo, yz) → PY q r (yl, ys, yw, ym, yn, yo, yz)
/-- from the walks at once to what is owed -/
theorem ed_go {cx : SX → (Int32 → SX → Prop) → Prop} {cy : SY → (Int32 → SY → Prop) → Prop}
    (h : ∀ (n : Nat) (xs xh xk xy : Int32) (w xm xt xp : Nat → Int32) (kp kq kn ke kd kf kb kw : Nat → Int64) (ys : Int32) (ym : Nat → Int32) (yn yo yz : Nat → Int64),
      md_W n w → md_H n w xh xk → md_K xy xt xp kp kq kn ke kd kf kb yn yo yz →
      tw_L ed_R (cx (nI n, xs, xh, xk, xy, (fun k => by_n (w k)), xm, xt, xp, kp, kq, kn, ke, kd, kf, kb, kw)) (cy (nI n, ys, w, ym, yn, yo, yz))) {k : Nat} {u : SX} {v : SY} (I : i_Rel k u v) :
    cx u (fun r u' => cy v (fun r' v' => r' = r ∧ i_Rel (k + 5) u' v')) :=
  ed_fin (rl_el (T := fun u v => tw_L ed_R (cx u) (cy v)) h I)
section
variable {xl xs xh xk xy : Int32} {xw xm xt xp : Nat → Int32} {kp kq kn ke kd kf kb kw : Nat → Int64} {yl ys : Int32} {yw ym : Nat → Int32} {yn yo yz : Nat → Int64}
variable {n : Nat} {w : Nat → Int32}
theorem rl_in (hW : md_W n w) (hH : md_H n w xh xk) (hK : md_K xy xt xp kp kq kn ke kd kf kb yn yo yz) :
    rl_R (nI n, xs, xh, xk, xy, (fun k => by_n (w k)), xm, xt, xp, kp, kq, kn, ke, kd, kf, kb, kw) (nI n, ys, w, ym, yn, yo, yz) := ⟨n, ⟨rfl, rfl⟩, rfl, hW, hH, hK⟩
theorem ed_ret {r : Int32} (hW : md_W n w) (hH : md_H n w xh xk) (hK : md_K xy xt xp kp kq kn ke kd kf kb yn yo yz) :
    tw_L ed_R (fun p => p r (nI n, xs, xh, xk, xy, (fun k => by_n (w k)), xm, xt, xp, kp, kq, kn, ke, kd, kf, kb, kw)) (fun q => q r (nI n, ys, w, ym, yn, yo, yz)) :=
  tw_ret ⟨_, _, _, rl_in hW hH hK, rfl, rfl⟩
end
/-! ===== put, copy ===== -/
theorem md_up {m : Nat} {xm ym : Nat → Int32} {b b' : Int32} (h : md_M m xm ym) (hb : b &&& 255 = b' &&& 255) : md_M (m + 1) (upd xm m (by_n b)) (upd ym m (b' &&& 255)) := by
  intro k hk h2
  by_cases e : k = m
  · subst e
    rw [pk_us, pk_us]
    exact ⟨by_BA b', by_ab hb⟩
  · rw [pk_un e, pk_un e]
    exact h k (by omega) h2
theorem md_up2 {m : Nat} {xm ym : Nat → Int32} {b' : Int32} (h : md_M m xm ym) (hm : 200 ≤ m) : md_M (m + 1) xm (upd ym m b') := by
  intro k hk h2
  rw [pk_un (by omega)]
  exact h k (by omega) h2
theorem md_up3 {m : Nat} {xm ym : Nat → Int32} (h : md_M m xm ym) (hm : 200 ≤ m) : md_M (m + 1) xm ym := fun k _ h2 => h k (by omega) h2
section
variable {xl xs xh xk xy : Int32} {xw xm xt xp : Nat → Int32} {kp kq kn ke kd kf kb kw : Nat → Int64} {yl ys : Int32} {yw ym : Nat → Int32} {yn yo yz : Nat → Int64}
variable {P Q : Type} {R : (P → Prop) → (Q → Prop) → Prop} {n m : Nat} {w : Nat → Int32} {DX : P → SX → Prop} {DY : Q → SY → Prop}
theorem pu_put {b b' : Int32} (hM : md_M m xm ym) (hm : m < 1000) (hb : b &&& 255 = b' &&& 255)
    (k : ∀ xm' ym', md_M (m + 1) xm' ym' → tw_L R (fun p => DX p (xl, nI (m + 1), xh, xk, xy, xw, xm', xt, xp, kp, kq, kn, ke, kd, kf, kb, kw)) (fun q => DY q (yl, nI (m + 1), yw, ym', yn, yo, yz))) :
    tw_L R (fun p => wpX_put (DX p) (xl, nI m, xh, xk, xy, xw, xm, xt, xp, kp, kq, kn, ke, kd, kf, kb, kw) b) (fun q => wpY_put (DY q) (yl, nI m, yw, ym, yn, yo, yz) b') := by
  by_cases h2 : m < 200
  · refine tw_x (ex := fun p => DX p (xl, nI (m + 1), xh, xk, xy, xw, upd xm m (by_n b), xt, xp, kp, kq, kn, ke, kd, kf, kb, kw)) (fun p hp => ?_) (tw_y (fun q hq => ?_) (k _ (upd ym m (b' &&& 255)) (md_up hM hb)))
    · exact br_f (tw_leF 200 m h2) ⟨pk_in m 200 h2, nm_r (by rw [nI_clamp (by omega), by_vn]) (nm_r (nI_1 m) hp)⟩
    · exact br_f (tw_leF 400 m (by omega)) ⟨pk_in m 400 (by omega), nm_r (by rw [nI_clamp (by omega)]) (nm_r (nI_1 m) hq)⟩
  · by_cases h4 : m < 400
    · refine tw_x (ex := fun p => DX p (xl, nI (m + 1), xh, xk, xy, xw, xm, xt, xp, kp, kq, kn, ke, kd, kf, kb, kw)) (fun p hp => ?_) (tw_y (fun q hq => ?_) (k _ (upd ym m (b' &&& 255)) (md_up2 hM (by omega))))
      · exact br_t (tw_leT 200 m (by omega)) (nm_r (nI_1 m) hp)
      · exact br_f (tw_leF 400 m (by omega)) ⟨pk_in m 400 (by omega), nm_r (by rw [nI_clamp (by omega)]) (nm_r (nI_1 m) hq)⟩
    · refine tw_x (ex := fun p => DX p (xl, nI (m + 1), xh, xk, xy, xw, xm, xt, xp, kp, kq, kn, ke, kd, kf, kb, kw)) (fun p hp => ?_) (tw_y (fun q hq => ?_) (k _ _ (md_up3 hM (by omega))))
      · exact br_t (tw_leT 200 m (by omega)) (nm_r (nI_1 m) hp)
      · exact br_t (tw_leT 400 m (by omega)) (nm_r (nI_1 m) hq)
theorem pu_lp {x1 x2 x2' : Int32} : ∀ (d i m : Nat) (xm ym : Nat → Int32), md_M m xm ym → i + d ≤ 120 → m + d < 1000 → x1 + x2 = nI (i + d) → x2' = nI (i + d) →
    (∀ xm' ym', md_M (m + d) xm' ym' → tw_L R (fun p => DX p (xl, nI (m + d), xh, xk, xy, (fun k => by_n (w k)), xm', xt, xp, kp, kq, kn, ke, kd, kf, kb, kw)) (fun q => DY q (yl, nI (m + d), w, ym', yn, yo, yz))) →
    tw_L R (fun p => wX_copy_2 (DX p) x1 x2 (d + 1) (nI i) xl (nI m) xh xk xy (fun k => by_n (w k)) xm xt xp kp kq kn ke kd kf kb kw) (fun q => wY_putWork_2 (DY q) x2' (d + 1) (nI i) yl (nI m) w ym yn yo yz) := by
  intro d
  induction d with
  | zero =>
    intro i m xm ym hM hi hm e1 e2 k
    exact tw_xt (tw_leT (i + 0) i (by omega) e1) (tw_yt (tw_leT (i + 0) i (by omega) e2) (k xm ym hM))
  | succ d ih =>
    intro i m xm ym hM hi hm e1 e2 k
    refine tw_xf (tw_leF (i + (d + 1)) i (by omega) e1) (tw_yf (tw_leF (i + (d + 1)) i (by omega) e2) (tw_xi (pk_in i 120 (by omega)) (tw_yi (pk_in i 120 (by omega)) ?_)))
    refine pu_put hM (by omega) (by rw [nI_clamp (by omega)]; exact by_na _) (fun xm' ym' hM' => ?_)
    refine tw_xr (nI_1 i) (tw_yr (nI_1 i) ?_)
    refine ih (i + 1) (m + 1) xm' ym' hM' (by omega) (by omega) (by rw [e1]; exact congrArg nI (by omega)) (by rw [e2]; exact congrArg nI (by omega)) (fun xm'' ym'' hM'' => ?_)
    rw [show m + 1 + d = m + (d + 1) from by omega] at hM'' ⊢
    exact k xm'' ym'' hM''
theorem pu_cp {a b c : Int32} (i d : Nat) (ha : a = nI i) (hb : b = nI d) (hc : c = nI (i + d)) (hM : md_M m xm ym) (hi : i + d ≤ 120) (hm : m + d < 1000)
    (k : ∀ xm' ym', md_M (m + d) xm' ym' → tw_L R (fun p => DX p (xl, nI (m + d), xh, xk, xy, (fun k => by_n (w k)), xm', xt, xp, kp, kq, kn, ke, kd, kf, kb, kw)) (fun q => DY q (yl, nI (m + d), w, ym', yn, yo, yz))) :
    tw_L R (fun p => wpX_copy (DX p) (xl, nI m, xh, xk, xy, (fun k => by_n (w k)), xm, xt, xp, kp, kq, kn, ke, kd, kf, kb, kw) a b) (fun q => wpY_putWork (DY q) (yl, nI m, w, ym, yn, yo, yz) a c) := by
  subst ha hb hc
  exact tw_xe (d + 1) (tw_ye (d + 1) (pu_lp d i m xm ym hM hi hm (nI_add i d) rfl k))
end
/-! ===== what was made becomes the row ===== -/
def tu_w (m : Nat) (g w : Nat → Int32) : Nat → Int32 := fun k => if k < m then g k else w k
theorem tu_0 (g w : Nat → Int32) : tu_w 0 g w = w := by funext k; unfold tu_w; rw [if_neg (Nat.not_lt_zero k)]
theorem tu_s (m : Nat) (g w : Nat → Int32) : upd (tu_w m g w) m (g m) = tu_w (m + 1) g w := by
  funext k; unfold tu_w upd; dsimp only
  by_cases h : k = m
  · rw [if_pos h, if_pos (by omega), h]
  · by_cases h2 : k < m
    · rw [if_neg h, if_pos h2, if_pos (by omega)]
    · rw [if_neg h, if_neg h2, if_neg (by omega)]
theorem tu_B {m : Nat} {g w : Nat → Int32} (hw : ∀ k, by_B (w k)) (hg : ∀ k, k < m → by_B (g k)) : ∀ k, by_B (tu_w m g w k) := fun k => by
  unfold tu_w
  by_cases h : k < m
  · rw [if_pos h]; exact hg k h
  · rw [if_neg h]; exact hw k
section
variable {xl xs xh xk xy : Int32} {xw xm xt xp : Nat → Int32} {kp kq kn ke kd kf kb kw : Nat → Int64} {yl ys : Int32} {yw ym : Nat → Int32} {yn yo yz : Nat → Int64}
variable {n m : Nat} {w g : Nat → Int32}
theorem tu_xl {post : Int32 → SX → Prop} (hm : m ≤ 120) (hg : ∀ k, k < m → xm k = by_n (g k))
    (hp : post (nI m) (nI m, nI m, -2128831035, 0, xy, (fun k => by_n (tu_w m g w k)), xm, xt, xp, kp, kq, kn, ke, kd, kf, kb, kw)) :
    ∀ d i, i + d = m → wX_turn_14 post xl (nI m) xh xk xy (d + 1) (nI i) (fun k => by_n (tu_w i g w k)) xm xt xp kp kq kn ke kd kf kb kw := by
  intro d
  induction d with
  | zero =>
    intro i hi
    obtain rfl : i = m := hi
    exact br_t (tw_leT i i (by omega)) hp
  | succ d ih =>
    intro i hi
    refine br_f (tw_leF m i (by omega)) ⟨pk_in i 200 (by omega), pk_in i 120 (by omega), nm_r (e' := fun k => by_n (tu_w (i + 1) g w k)) ?_ (nm_r (nI_1 i) (ih (i + 1) (by omega)))⟩
    rw [nI_clamp (by omega), by_v, hg i (by omega), by_nn, by_up, tu_s]
theorem tu_x {post : Int32 → SX → Prop} (hm : m ≤ 120) (hg : ∀ k, k < m → xm k = by_n (g k))
    (hp : post (nI m) (nI m, nI m, -2128831035, 0, xy, (fun k => by_n (tu_w m g w k)), xm, xt, xp, kp, kq, kn, ke, kd, kf, kb, kw)) :
    wpX_turn post (xl, nI m, xh, xk, xy, (fun k => by_n (w k)), xm, xt, xp, kp, kq, kn, ke, kd, kf, kb, kw) := by
  have h := tu_xl (xl := xl) (xh := xh) (xk := xk) hm hg hp m 0 (by omega)
  rw [tu_0] at h
  exact br_t (tw_leT m 120 hm) ⟨m + 1, h⟩
theorem tu_xF {post : Int32 → SX → Prop} (hm : 120 < m) (h2 : m < 1000) (hp : post (-2) (xl, nI m, xh, xk, xy, xw, xm, xt, xp, kp, kq, kn, ke, kd, kf, kb, kw)) : wpX_turn post (xl, nI m, xh, xk, xy, xw, xm, xt, xp, kp, kq, kn, ke, kd, kf, kb, kw) :=
  br_f (tw_leF m 120 hm) hp
theorem tu_yl {post : Int32 → SY → Prop} (hm : m ≤ 120) (hp : post yl (yl, nI m, tu_w m ym w, ym, yn, yo, yz)) :
    ∀ d i, i + d = m → wY_become_22 post yl (nI m) (d + 1) (nI i) (tu_w i ym w) ym yn yo yz := by
  intro d
  induction d with
  | zero =>
    intro i hi
    obtain rfl : i = m := hi
    exact br_t (tw_leT i i (by omega)) hp
  | succ d ih =>
    intro i hi
    refine br_f (tw_leF m i (by omega)) ⟨pk_in i 400 (by omega), pk_in i 120 (by omega), nm_r (e' := tu_w (i + 1) ym w) ?_ (nm_r (nI_1 i) (ih (i + 1) (by omega)))⟩
    rw [nI_clamp (by omega), tu_s]
theorem tu_y {post : Int32 → SY → Prop} (hm : m ≤ 120) (hp : post (nI m) (nI m, nI m, tu_w m ym w, ym, yn, yo, yz)) : wpY_become post (yl, nI m, w, ym, yn, yo, yz) := by
  have h := tu_yl (yl := nI m) hm hp m 0 (by omega)
  rw [tu_0] at h
  exact br_t (tw_leT m 120 hm) ⟨m + 1, h⟩
theorem tu_yF {post : Int32 → SY → Prop} (hm : 120 < m) (h2 : m < 1000) (hp : post (-2) (yl, nI m, yw, ym, yn, yo, yz)) : wpY_become post (yl, nI m, yw, ym, yn, yo, yz) :=
  br_f (tw_leF m 120 hm) hp
theorem tu_H (m : Nat) (w : Nat → Int32) : md_H m w (-2128831035) 0 := ⟨0, Nat.zero_le m, rfl, rfl⟩
/-- a call's end: what was made becomes the row, or it is too long -/
theorem tu_end {PX : (Int32 → SX → Prop) → Int32 → SX → Prop} {PY : (Int32 → SY → Prop) → Int32 → SY → Prop}
    (eX : ed_X PX) (eY : ed_Y PY)
    (hM : md_M m xm ym) (hm : m < 1000) (hW : md_W n w) (hH : md_H n w xh xk) (hK : md_K xy xt xp kp kq kn ke kd kf kb yn yo yz) :
    tw_L ed_R (fun p => wpX_turn (PX p) (nI n, nI m, xh, xk, xy, (fun k => by_n (w k)), xm, xt, xp, kp, kq, kn, ke, kd, kf, kb, kw)) (fun q => wpY_become (PY q) (nI n, nI m, w, ym, yn, yo, yz)) := by
  by_cases h : m ≤ 120
  · refine tw_x (fun p hp => tu_x h (fun k hk => (hM k hk (by omega)).2) (eX p _ _ _ _ _ _ _ _ _ _ _ _ _ _ _ _ _ _ hp)) (tw_y (fun q hq => tu_y h (eY q _ _ _ _ _ _ _ _ hq)) ?_)
    exact ed_ret ⟨h, tu_B hW.2 (fun k hk => (hM k hk (by omega)).1)⟩ (tu_H m _) hK
  · refine tw_x (fun p hp => tu_xF (by omega) hm (eX p _ _ _ _ _ _ _ _ _ _ _ _ _ _ _ _ _ _ hp)) (tw_y (fun q hq => tu_yF (by omega) hm (eY q _ _ _ _ _ _ _ _ hq)) ?_)
    exact ed_ret hW hH hK
end
end
section
/-! ===== add, at, set, clear, hash ===== -/
theorem ha_cg {w w' : Nat → Int32} : ∀ {c : Nat}, (∀ k, k < c → w k = w' k) → ha_F w c = ha_F w' c
  | 0, _ => rfl
  | c + 1, h => by rw [ha_S, ha_S, ha_cg (fun k hk => h k (by omega)), h c (by omega)]
theorem ha_up {w : Nat → Int32} {k c : Nat} {x : Int32} (h : c ≤ k) : ha_F (upd w k x) c = ha_F w c := ha_cg (fun j hj => pk_un (by omega))
theorem ow_W {n k : Nat} {w : Nat → Int32} {x : Int32} (hW : md_W n w) (hx : by_B x) : md_W n (upd w k x) := ⟨hW.1, by_uB hW.2 hx⟩
section
variable {xl xs xh xk xy : Int32} {xw xm xt xp : Nat → Int32} {kp kq kn ke kd kf kb kw : Nat → Int64} {yl ys : Int32} {yw ym : Nat → Int32} {yn yo yz : Nat → Int64}
variable {n : Nat} {w : Nat → Int32}
theorem ow_add (v1 : Int32) (hW : md_W n w) (hH : md_H n w xh xk) (hK : md_K xy xt xp kp kq kn ke kd kf kb yn yo yz) :
    tw_L ed_R (fun p => wpX_add p (nI n, xs, xh, xk, xy, (fun k => by_n (w k)), xm, xt, xp, kp, kq, kn, ke, kd, kf, kb, kw) v1) (fun q => wpY_add q (nI n, ys, w, ym, yn, yo, yz) v1) := by
  have hn := hW.1
  by_cases h0 : v1 < 0
  · exact tw_xt h0 (tw_yt h0 (tw_yf (by decide) (ed_ret hW hH hK)))
  obtain ⟨b, hb, rfl⟩ := nI_of h0
  by_cases h1 : b < 256
  · by_cases h2 : n = 120
    · subst h2
      exact tw_xf h0 (tw_xt (tw_leT b 255 (by omega)) (tw_xt rfl (tw_yf h0 (tw_yt (tw_ltT b 256 h1) (tw_yt rfl (tw_yt rfl (ed_ret hW hH hK)))))))
    · refine tw_xf h0 (tw_xt (tw_leT b 255 (by omega)) (tw_xf (tw_eqF n 120 h2) (tw_xi (pk_in n 120 (by omega))
        (tw_xr (e' := fun k => by_n (upd w n (nI b) k)) (by rw [nI_clamp (by omega), by_vn, by_up]) ?_))))
      refine tw_yf h0 (tw_yt (tw_ltT b 256 h1) (tw_yt rfl (tw_yf (tw_eqF n 120 h2) (tw_yr (nI_1 n) (tw_yi (pk_in n 120 (by omega))
        (tw_yr (e' := upd w n (nI b)) (by rw [nI_clamp (by omega)]) ?_))))))
      have hB := by_Bn h1
      have hW' : md_W (n + 1) (upd w n (nI b)) := ⟨by omega, by_uB hW.2 hB⟩
      obtain ⟨c, hc, rfl, rfl⟩ := hH
      by_cases e : c = n
      · subst e
        refine tw_xt rfl (tw_xn (tw_xr (nI_1 c) (tw_xr (nI_1 c) ?_)))
        rw [nI_1 c]
        exact ed_ret hW' ⟨c + 1, Nat.le_refl _, rfl, by rw [ha_S, ha_up (Nat.le_refl c), pk_us]⟩ hK
      · refine tw_xf (tw_eqF c n e) (tw_xr (nI_1 n) ?_)
        rw [nI_1 n]
        exact ed_ret hW' ⟨c, by omega, rfl, by rw [ha_up hc]⟩ hK
  · exact tw_xf h0 (tw_xf (tw_leF b 255 (by omega)) (tw_yf h0 (tw_yf (tw_ltF b 256 (by omega)) (tw_yf (by decide) (ed_ret hW hH hK)))))
theorem ow_set (v1 v2 : Int32) (hW : md_W n w) (hH : md_H n w xh xk) (hK : md_K xy xt xp kp kq kn ke kd kf kb yn yo yz) :
    tw_L ed_R (fun p => wpX_set p (nI n, xs, xh, xk, xy, (fun k => by_n (w k)), xm, xt, xp, kp, kq, kn, ke, kd, kf, kb, kw) v1 v2) (fun q => wpY_set q (nI n, ys, w, ym, yn, yo, yz) v1 v2) := by
  have hn := hW.1
  by_cases h0 : v1 < 0
  · exact tw_xt h0 (tw_yt h0 (tw_yf (by decide) (ed_ret hW hH hK)))
  obtain ⟨a, ha, rfl⟩ := nI_of h0
  by_cases h1 : n ≤ a
  · exact tw_xf h0 (tw_xt (tw_leT n a h1) (tw_yf h0 (tw_yf (tw_ltF a n h1) (tw_yf (by decide) (ed_ret hW hH hK)))))
  refine tw_xf h0 (tw_xf (tw_leF n a (by omega)) (tw_yf h0 (tw_yt (tw_ltT a n (by omega)) (tw_yt rfl ?_))))
  by_cases h2 : v2 < 0
  · exact tw_xt h2 (tw_yt h2 (tw_yf (by decide) (ed_ret hW hH hK)))
  obtain ⟨b, hb, rfl⟩ := nI_of h2
  by_cases h3 : b < 256
  · refine tw_xf h2 (tw_xt (tw_leT b 255 (by omega)) (tw_xi (pk_in a 120 (by omega)) (tw_xi (pk_in a 120 (by omega))
        (tw_xr (e' := fun k => by_n (upd w a (nI b) k)) (by rw [nI_clamp (by omega), by_vn, by_up]) ?_))))
    refine tw_yf h2 (tw_yt (tw_ltT b 256 h3) (tw_yt rfl (tw_yi (pk_in a 120 (by omega)) (tw_yn (tw_yi (pk_in a 120 (by omega))
        (tw_yr (e' := upd w a (nI b)) (by rw [nI_clamp (by omega)]) ?_))))))
    rw [nI_clamp (by omega), by_g (hW.2 a)]
    have hW' : md_W n (upd w a (nI b)) := ow_W hW (by_Bn h3)
    obtain ⟨c, hc, rfl, rfl⟩ := hH
    by_cases e : c ≤ a
    · exact tw_xt (tw_leT c a e) (ed_ret hW' ⟨c, hc, rfl, by rw [ha_up e]⟩ hK)
    · exact tw_xf (tw_leF c a (by omega)) (ed_ret hW' (tu_H n _) hK)
  · exact tw_xf h2 (tw_xf (tw_leF b 255 (by omega)) (tw_yf h2 (tw_yf (tw_ltF b 256 (by omega)) (tw_yf (by decide) (ed_ret hW hH hK)))))
theorem ow_clear (hW : md_W n w) (hK : md_K xy xt xp kp kq kn ke kd kf kb yn yo yz) :
    tw_L ed_R (fun p => wpX_clear p (nI n, xs, xh, xk, xy, (fun k => by_n (w k)), xm, xt, xp, kp, kq, kn, ke, kd, kf, kb, kw)) (fun q => wpY_clear q (nI n, ys, w, ym, yn, yo, yz)) :=
  ed_ret (n := 0) ⟨by omega, hW.2⟩ (tu_H 0 _) hK
theorem ow_at {post : Int32 → Prop} (v1 : Int32) (hW : md_W n w) (hp : ∀ r, post r) : wpX_at (fun r => wpY_at (fun r' => r' = r ∧ post r) (nI n, ys, w, ym, yn, yo, yz) v1) (nI n, xs, xh, xk, xy, (fun k => by_n (w k)), xm, xt, xp, kp, kq, kn, ke, kd, kf, kb, kw) v1 := by
  have hn := hW.1
  by_cases h0 : v1 < 0
  · exact br_t h0 (br_t h0 (br_f (by decide) ⟨rfl, hp _⟩))
  obtain ⟨a, ha, rfl⟩ := nI_of h0
  by_cases h1 : a < n
  · refine br_f h0 (br_t (tw_ltT a n h1) ⟨pk_in a 120 (by omega), br_f h0 (br_t (tw_ltT a n h1) (br_t rfl ⟨pk_in a 120 (by omega), ?_, hp _⟩))⟩)
    rw [nI_clamp (by omega), by_g (hW.2 a)]
  · exact br_f h0 (br_f (tw_ltF a n (by omega)) (br_f h0 (br_f (tw_ltF a n (by omega)) (br_f (by decide) ⟨rfl, hp _⟩))))
/-! hash -/
def ha_E (h : Int32) : Int32 := ((h ^^^ ((h.toUInt32 >>> ((15 : Int32).toUInt32 &&& Int32.toUInt32 31)).toInt32)) * 739982445) ^^^
  ((((h ^^^ ((h.toUInt32 >>> ((15 : Int32).toUInt32 &&& Int32.toUInt32 31)).toInt32)) * 739982445).toUInt32 >>> ((12 : Int32).toUInt32 &&& Int32.toUInt32 31)).toInt32)
theorem ha_x {post : Int32 → Prop} {h : Int32} (hp : post (ha_E h)) : wpX_last post h := nm_e hp
theorem ha_y {post : Int32 → Prop} {h : Int32} (hp : post (ha_E h)) : wpY_ended post h := nm_e hp
theorem ha_xl {post : Int32 → SX → Prop} (hW : md_W n w) (hp : post (ha_E (ha_F w n)) (nI n, xs, ha_F w n, nI n, xy, (fun k => by_n (w k)), xm, xt, xp, kp, kq, kn, ke, kd, kf, kb, kw)) :
    ∀ d c, c + d = n → wX_hash_0 post (nI n) xs xy (fun k => by_n (w k)) xm xt xp kp kq kn ke kd kf kb kw (d + 1) (ha_F w c) (nI c) := by
  have hn := hW.1
  intro d
  induction d with
  | zero =>
    intro c hc
    obtain rfl : c = n := hc
    exact br_t (tw_leT c c (by omega)) (ha_x hp)
  | succ d ih =>
    intro c hc
    refine br_f (tw_leF n c (by omega)) (nm_r (nI_1 c) ⟨pk_in c 120 (by omega), nm_r (e' := ha_F w (c + 1)) ?_ (ih (c + 1) (by omega))⟩)
    rw [nI_clamp (by omega), by_g (hW.2 c), ha_S]
theorem ha_xh {post : Int32 → SX → Prop} (hW : md_W n w) (hH : md_H n w xh xk) (hp : post (ha_E (ha_F w n)) (nI n, xs, ha_F w n, nI n, xy, (fun k => by_n (w k)), xm, xt, xp, kp, kq, kn, ke, kd, kf, kb, kw)) :
    wpX_hash post (nI n, xs, xh, xk, xy, (fun k => by_n (w k)), xm, xt, xp, kp, kq, kn, ke, kd, kf, kb, kw) := by
  obtain ⟨c, hc, rfl, rfl⟩ := hH
  exact ⟨n - c + 1, ha_xl hW hp (n - c) c (by omega)⟩
theorem ha_yl {post : Int32 → Prop} {m : Nat} (hm : m ≤ 120) (hp : post (ha_E (ha_F w m))) :
    ∀ d c, c + d = m → wY_hashOf_5 post (nI m) yl ys w ym yn yo yz (d + 1) (ha_F w c) (nI c) := by
  intro d
  induction d with
  | zero =>
    intro c hc
    obtain rfl : c = m := hc
    exact br_t (tw_leT c c (by omega)) (ha_y hp)
  | succ d ih =>
    intro c hc
    refine br_f (tw_leF m c (by omega)) ⟨pk_in c 120 (by omega), ?_⟩
    have e : wpY_mixed = fun post p0 p1 => post ((p0 ^^^ p1) * 16777619) := rfl
    rw [e, nI_clamp (by omega)]
    exact nm_r (nI_1 c) (ih (c + 1) (by omega))
theorem ha_yh {post : Int32 → Prop} {m : Nat} (hm : m ≤ 120) (hp : post (ha_E (ha_F w m))) : wpY_hashOf post (yl, ys, w, ym, yn, yo, yz) (nI m) := ⟨m + 1, ha_yl hm hp m 0 (by omega)⟩
theorem ow_hash {k : Nat} (hW : md_W n w) (hH : md_H n w xh xk) (hK : md_K xy xt xp kp kq kn ke kd kf kb yn yo yz) :
    wpX_hash (fun r u' => wpY_hash (fun r' => r' = r ∧ i_Rel (k + 5) u' (nI n, ys, w, ym, yn, yo, yz)) (nI n, ys, w, ym, yn, yo, yz)) (nI n, xs, xh, xk, xy, (fun k => by_n (w k)), xm, xt, xp, kp, kq, kn, ke, kd, kf, kb, kw) :=
  ha_xh hW hH (ha_yh hW.1 ⟨rfl, rl_in hW ⟨n, Nat.le_refl n, rfl, rfl⟩ hK⟩)
end
end
section
/-! ===== wrap ===== -/
theorem wr_s1 : ∀ s, s < 9 → (223 : Int32) + nI s = (224 + nI s) - 1 := by decide
theorem wr_s2 : ∀ s, s < 6 → s ≠ 0 → (1 : Int32) <<< ((nI s - 1) &&& 31) = nI (2 ^ (s - 1)) := by decide
section
variable {xl xs xh xk xy : Int32} {xw xm xt xp : Nat → Int32} {kp kq kn ke kd kf kb kw : Nat → Int64} {yl ys : Int32} {yw ym : Nat → Int32} {yn yo yz : Nat → Int64}
variable {n m a : Nat} {w : Nat → Int32}
theorem wr_197 (ha : a ≤ n) (hM : md_M m xm ym) (hm : m + n < 900) (hW : md_W n w) (hH : md_H n w xh xk) (hK : md_K xy xt xp kp kq kn ke kd kf kb yn yo yz) :
    tw_L ed_R (fun p => wX_wrap_197 p (nI a) (nI n) (nI m) xh xk xy (fun k => by_n (w k)) xm xt xp kp kq kn ke kd kf kb kw) (fun q => wY_wrap_198 q (nI a) (nI n) (nI m) w ym yn yo yz) := by
  have hn := hW.1
  unfold wX_wrap_197 wY_wrap_198
  exact pu_cp a (n - a) rfl (pk_sub ha) (congrArg nI (by omega)) hM (by omega) (by omega) (fun xm' ym' hM' => tu_end (fun _ _ _ _ _ _ _ _ _ _ _ _ _ _ _ _ _ _ _ h => h) (fun _ _ _ _ _ _ _ _ _ h => h) hM' (by omega) hW hH hK)
theorem wr_154 (ha : a ≤ n) (hM : md_M m xm ym) (hm : m + n < 800) (hW : md_W n w) (hH : md_H n w xh xk) (hK : md_K xy xt xp kp kq kn ke kd kf kb yn yo yz) :
    tw_L ed_R (fun p => wX_wrap_154 p (nI a) (nI n) (nI m) xh xk xy (fun k => by_n (w k)) xm xt xp kp kq kn ke kd kf kb kw) (fun q => wY_wrap_154 q (nI a) (nI n) (nI m) w ym yn yo yz) := by
  have hn := hW.1
  have e : nI n - nI a = nI (n - a) := pk_sub ha
  unfold wX_wrap_154 wY_wrap_154
  refine tw_xr e ?_
  by_cases h : n - a < 24
  · refine tw_xt (tw_ltT (n - a) 24 h) (tw_yt (tw_leT (n - a) 23 (by omega) e) ?_)
    unfold wX_wrap_176
    refine tw_xf (tw_leF 24 (n - a) h) ?_
    unfold wX_wrap_194
    exact pu_put hM (by omega) (by rw [e]) (fun xm' ym' hM' => wr_197 ha hM' (by omega) hW hH hK)
  · refine tw_xf (tw_ltF (n - a) 24 (by omega)) (tw_yf (tw_leF (n - a) 23 (by omega) e) ?_)
    refine pu_put hM (by omega) rfl (fun xm' ym' hM' => ?_)
    unfold wX_wrap_176
    refine tw_xt (tw_leT 24 (n - a) (by omega)) ?_
    unfold wX_wrap_194
    exact pu_put hM' (by omega) (by rw [e]) (fun xm' ym' hM' => wr_197 ha hM' (by omega) hW hH hK)
theorem wr_lp {s pc : Nat} (hs : s < 9) (hs0 : s ≠ 0) (hp : 1 ≤ pc) (hp2 : pc < 100) (hW : md_W n w) (hH : md_H n w xh xk) (hK : md_K xy xt xp kp kq kn ke kd kf kb yn yo yz) :
    ∀ d a m xm ym, n - a < d → a ≤ n → m ≤ 2 * a + 1 → md_M m xm ym →
    tw_L ed_R (fun p => wX_wrap_115 p (nI s) (nI pc) d (nI a) (nI n) (nI m) xh xk xy (fun k => by_n (w k)) xm xt xp kp kq kn ke kd kf kb kw) (fun q => wY_wrap_111 q (nI s) (nI pc) d (nI a) (nI n) (nI m) w ym yn yo yz) := by
  have hn := hW.1
  intro d
  induction d with
  | zero => intro a m xm ym h; omega
  | succ d ih =>
    intro a m xm ym hd ha hm hM
    have e : nI n - nI a = nI (n - a) := pk_sub ha
    refine tw_xf (tw_leF s 0 (by omega)) (tw_yf (tw_leF s 0 (by omega)) ?_)
    by_cases h : n - a < pc
    · exact tw_xt (tw_ltT (n - a) pc h e) (tw_yt (tw_ltT (n - a) pc h e) (wr_154 ha hM (by omega) hW hH hK))
    · refine tw_xf (tw_ltF (n - a) pc (by omega) e) (tw_yf (tw_ltF (n - a) pc (by omega) e) ?_)
      refine pu_put hM (by omega) (by rw [wr_s1 s hs]) (fun xm' ym' hM' => ?_)
      refine pu_cp a pc rfl rfl (nI_add a pc) hM' (by omega) (by omega) (fun xm' ym' hM' => ?_)
      exact tw_xr (nI_add a pc) (tw_yr (nI_add a pc) (ih (a + pc) (m + 1 + pc) xm' ym' (by omega) (by omega) (by omega) hM'))
theorem wr_78 {s : Nat} (hs : s < 9) (hM : md_M m xm ym) (hm : m < 500) (hW : md_W n w) (hH : md_H n w xh xk) (hK : md_K xy xt xp kp kq kn ke kd kf kb yn yo yz) :
    tw_L ed_R (fun p => wX_wrap_78 p (nI s) 0 (nI n) (nI m) xh xk xy (fun k => by_n (w k)) xm xt xp kp kq kn ke kd kf kb kw) (fun q => wY_wrap_78 q (nI s) 0 (nI n) (nI m) w ym yn yo yz) := by
  have hn := hW.1
  unfold wX_wrap_78 wY_wrap_78
  refine tw_br Iff.rfl (fun _ => wr_197 (a := 0) (by omega) hM (by omega) hW hH hK) (fun _ => ?_)
  exact pu_put hM (by omega) (by_a (by_BA _)) (fun xm' ym' hM' => wr_197 (a := 0) (by omega) hM' (by omega) hW hH hK)
theorem wr_57 {s : Nat} {z0 z1 : Int32} (hs : s < 9) (hW : md_W n w) (hH : md_H n w xh xk) (hK : md_K xy xt xp kp kq kn ke kd kf kb yn yo yz) :
    tw_L ed_R (fun p => wX_wrap_57 p (nI s) 0 z0 z1 (nI n) (nI 0) xh xk xy (fun k => by_n (w k)) xm xt xp kp kq kn ke kd kf kb kw) (fun q => wY_wrap_56 q (nI s) 0 z0 z1 (nI n) (nI 0) w ym yn yo yz) := by
  have hn := hW.1
  unfold wX_wrap_57 wY_wrap_56
  refine pu_put (md_M0 _ _) (by omega) rfl (fun xm' ym' hM' => ?_)
  refine tw_br Iff.rfl (fun _ => ?_) (fun _ => wr_78 hs hM' (by omega) hW hH hK)
  refine tw_yi (by decide) ?_
  refine pu_put hM' (by omega) ?_ (fun xm' ym' hM' => wr_78 hs hM' (by omega) hW hH hK)
  rw [pk_shrN (by omega) _ 8 (by decide), show (256 : Int32) = nI 256 from rfl, pk_div (by omega) (by omega) (by omega)]
theorem wr_wrap (v1 v2 : Int32) (hW : md_W n w) (hH : md_H n w xh xk) (hK : md_K xy xt xp kp kq kn ke kd kf kb yn yo yz) :
    tw_L ed_R (fun p => wpX_wrap p (nI n, xs, xh, xk, xy, (fun k => by_n (w k)), xm, xt, xp, kp, kq, kn, ke, kd, kf, kb, kw) v1 v2) (fun q => wpY_wrap q (nI n, ys, w, ym, yn, yo, yz) v1 v2) := by
  have hn := hW.1
  refine tw_br Iff.rfl (fun _ => ed_ret hW hH hK) (fun _ => ?_)
  refine tw_br Iff.rfl (fun _ => ed_ret hW hH hK) (fun _ => ?_)
  by_cases h0 : v2 < 0
  · exact tw_xt h0 (tw_yt h0 (tw_yf (by decide) (ed_ret hW hH hK)))
  obtain ⟨s, hs, rfl⟩ := nI_of h0
  by_cases h1 : s < 9
  · refine tw_xf h0 (tw_xt (tw_leT s 8 (by omega)) (tw_yf h0 (tw_yt (tw_ltT s 9 h1) (tw_yt rfl ?_))))
    by_cases h2 : s ≤ 5
    · refine tw_xt (tw_leT s 5 h2) (tw_yt (tw_leT s 5 h2) ?_)
      refine pu_put (m := 0) (md_M0 _ _) (by omega) rfl (fun xm' ym' hM' => ?_)
      refine tw_xn (tw_yn ?_)
      by_cases s0 : s = 0
      · subst s0
        exact tw_xe 1 (tw_ye 1 (tw_xt (by decide) (tw_yt (by decide) (wr_154 (a := 0) (by omega) hM' (by omega) hW hH hK))))
      · rw [wr_s2 s (by omega) s0]
        have hp : 2 ^ (s - 1) ≤ 2 ^ 5 := Nat.pow_le_pow_right (by omega) (by omega)
        exact tw_xe (n + 1) (tw_ye (n + 1) (wr_lp h1 s0 (Nat.one_le_two_pow) (by omega) hW hH hK (n + 1) 0 1 xm' ym' (by omega) (by omega) (by omega) hM'))
    · refine tw_xf (tw_leF s 5 (by omega)) (tw_yf (tw_leF s 5 (by omega)) ?_)
      exact tw_br Iff.rfl (fun _ => wr_57 h1 hW hH hK) (fun _ => wr_57 h1 hW hH hK)
  · exact tw_xf h0 (tw_xf (tw_leF s 8 (by omega)) (tw_yf h0 (tw_yf (tw_ltF s 9 (by omega)) (tw_yf (by decide) (ed_ret hW hH hK)))))
end
end
section
/-! ===== unwrap ===== -/
theorem un_or (a b : Nat) : nI a ||| nI b = nI (a ||| b) := by
  apply Int32.toBitVec_inj.mp
  rw [Int32.toBitVec_or]
  show BitVec.ofNat 32 a ||| BitVec.ofNat 32 b = BitVec.ofNat 32 (a ||| b)
  exact (BitVec.ofNat_or).symm
theorem un_2 {a b : Nat} (ha : a < 256) (hb : b < 256) : (nI a <<< ((8 : Int32) &&& 31)) ||| nI b = 256 * nI a + nI b := by
  rw [pk_shlN _ 8 (by decide) (by omega), un_or, show (256 : Int32) = nI 256 from rfl, pk_mul, nI_add]
  have h := Nat.two_pow_add_eq_or_of_lt (i := 8) (b := b) (by omega) a
  rw [show a * 2 ^ 8 = 2 ^ 8 * a from Nat.mul_comm _ _, ← h]
theorem un_p : ∀ c, c < 229 → 224 ≤ c → (1 : Int32) <<< ((nI c - 224) &&& 31) = nI (2 ^ (c - 224)) := by decide +kernel
section
variable {xl xs xh xk xy : Int32} {xw xm xt xp : Nat → Int32} {kp kq kn ke kd kf kb kw : Nat → Int64} {yl ys : Int32} {yw ym : Nat → Int32} {yn yo yz : Nat → Int64}
variable {P Q : Type} {R : (P → Prop) → (Q → Prop) → Prop} {n m a : Nat} {w : Nat → Int32} {DX : P → Int32 → SX → Prop} {DY : Q → Int32 → SY → Prop}
/-- the reference's own copying of what was made -/
theorem un_yl {post : Int32 → SY → Prop} {t : Int32} (hm : m ≤ 120) (hp : post t (yl, nI m, tu_w m ym w, ym, yn, yo, yz)) :
    ∀ d i, i + d = m → wY_unwrap_135 post t yl (nI m) (d + 1) (nI i) (tu_w i ym w) ym yn yo yz := by
  intro d
  induction d with
  | zero =>
    intro i hi
    obtain rfl : i = m := hi
    exact br_t (tw_leT i i (by omega)) hp
  | succ d ih =>
    intro i hi
    refine br_f (tw_leF m i (by omega)) ⟨pk_in i 400 (by omega), pk_in i 120 (by omega), nm_r (e' := tu_w (i + 1) ym w) ?_ (nm_r (nI_1 i) (ih (i + 1) (by omega)))⟩
    rw [nI_clamp (by omega), tu_s]
/-- what a body's end must meet -/
def un_K (R : (P → Prop) → (Q → Prop) → Prop) (n : Nat) (w : Nat → Int32) (DX : P → Int32 → SX → Prop) (DY : Q → Int32 → SY → Prop)
    (xh xk xy : Int32) (xt xp : Nat → Int32) (kp kq kn ke kd kf kb kw : Nat → Int64) (yn yo yz : Nat → Int64) : Prop :=
  (∀ (r : Int32) (m : Nat) (xm ym : Nat → Int32), (r = -3 ∨ r = -4) →
    tw_L R (fun p => DX p r (nI n, nI m, xh, xk, xy, (fun k => by_n (w k)), xm, xt, xp, kp, kq, kn, ke, kd, kf, kb, kw)) (fun q => DY q r (nI n, nI m, w, ym, yn, yo, yz))) ∧
  (∀ (e m : Nat) (xm ym : Nat → Int32), md_M m xm ym → m ≤ e → e ≤ n →
    tw_L R (fun p => DX p (nI e) (nI n, nI m, xh, xk, xy, (fun k => by_n (w k)), xm, xt, xp, kp, kq, kn, ke, kd, kf, kb, kw)) (fun q => DY q (nI e) (nI n, nI m, w, ym, yn, yo, yz)))
theorem un_110 {JX : P → Int32 → Int32 → Int32 → Int32 → Int32 → Int32 → Int32 → (Nat → Int32) → (Nat → Int32) → (Nat → Int32) → (Nat → Int32) → (Nat → Int64) → (Nat → Int64) → (Nat → Int64) → (Nat → Int64) → (Nat → Int64) → (Nat → Int64) → (Nat → Int64) → (Nat → Int64) → Prop}
    {JY : Q → Int32 → Int32 → Int32 → Int32 → (Nat → Int32) → (Nat → Int32) → (Nat → Int64) → (Nat → Int64) → (Nat → Int64) → Prop} {z : Int32} {c : Nat}
    (hK : un_K R n w DX DY xh xk xy xt xp kp kq kn ke kd kf kb kw yn yo yz) (hn : n ≤ 120) (hM : md_M m xm ym) (hm : m ≤ a) (ha : a ≤ n) (hc : c < 1000)
    (hJ : a + c ≤ n → ∀ xm' ym', md_M (m + c) xm' ym' → tw_L R (fun p => JX p (nI (a + c)) z (nI n) (nI (m + c)) xh xk xy (fun k => by_n (w k)) xm' xt xp kp kq kn ke kd kf kb kw) (fun q => JY q (nI (a + c)) z (nI n) (nI (m + c)) w ym' yn yo yz)) :
    tw_L R (fun p => wX_pieces_110 (DX p) (JX p) (nI a) z (nI c) (nI n) (nI m) xh xk xy (fun k => by_n (w k)) xm xt xp kp kq kn ke kd kf kb kw) (fun q => wY_pieces_127 (DY q) (JY q) (nI a) z (nI c) (nI n) (nI m) w ym yn yo yz) := by
  unfold wX_pieces_110 wY_pieces_127
  by_cases h : a + c ≤ n
  · refine tw_xt (tw_leT (a + c) n h (nI_add a c)) (tw_yt (tw_leT (a + c) n h (nI_add a c)) ?_)
    exact pu_cp a c rfl rfl (nI_add a c) hM (by omega) (by omega) (fun xm' ym' hM' => tw_xr (nI_add a c) (tw_yr (nI_add a c) (hJ h xm' ym' hM')))
  · exact tw_xf (tw_leF (a + c) n (by omega) (nI_add a c)) (tw_yf (tw_leF (a + c) n (by omega) (nI_add a c)) (hK.1 _ m xm ym (Or.inl rfl)))
theorem un_lp (hK : un_K R n w DX DY xh xk xy xt xp kp kq kn ke kd kf kb kw yn yo yz) (hW : md_W n w) :
    ∀ d a m xm ym, n - a + 2 ≤ d → a ≤ n → m ≤ a → md_M m xm ym →
    tw_L R (fun p => wX_pieces_4 (DX p) d (nI a) 1 (nI n) (nI m) xh xk xy (fun k => by_n (w k)) xm xt xp kp kq kn ke kd kf kb kw) (fun q => wY_pieces_4 (DY q) d (nI a) 1 (nI n) (nI m) w ym yn yo yz) := by
  have hn := hW.1
  intro d
  induction d with
  | zero => intro a m xm ym h; omega
  | succ d ih =>
    intro a m xm ym hd ha hm hM
    refine tw_xf (by decide) (tw_yf (by decide) ?_)
    by_cases hl : a = n
    · subst hl
      exact tw_xt rfl (tw_yt rfl (hK.1 _ m xm ym (Or.inl rfl)))
    refine tw_xf (tw_eqF a n hl) (tw_yf (tw_eqF a n hl) (tw_xr (nI_1 a) (tw_yr (nI_1 a) (tw_xi (pk_in a 120 (by omega)) (tw_yi (pk_in a 120 (by omega)) ?_)))))
    rw [nI_clamp (by omega), by_g (hW.2 a)]
    obtain ⟨c, hc, ew⟩ := hW.2 a
    rw [ew]
    refine tw_yn ?_
    have hz : ∀ xm' ym' (x : Nat), a + 1 + x ≤ n → ∀ b, md_M b xm' ym' → b ≤ a + 1 + x → tw_L R (fun p => wX_pieces_4 (DX p) d (nI (a + 1 + x)) 0 (nI n) (nI b) xh xk xy (fun k => by_n (w k)) xm' xt xp kp kq kn ke kd kf kb kw) (fun q => wY_pieces_4 (DY q) d (nI (a + 1 + x)) 0 (nI n) (nI b) w ym' yn yo yz) := by
      intro xm' ym' x hx b hM' hb
      obtain ⟨d', rfl⟩ : ∃ d', d = d' + 1 := ⟨d - 1, by omega⟩
      exact tw_xt rfl (tw_yt rfl (hK.2 _ b xm' ym' hM' hb hx))
    by_cases h1 : c ≤ 223
    · refine tw_xt (tw_leT c 223 h1) (tw_yt (tw_leT c 223 h1) ?_)
      unfold wX_pieces_49 wY_pieces_47 wX_pieces_50 wY_pieces_48
      refine tw_xt rfl ?_
      by_cases h2 : c = 192
      · subst h2
        refine tw_xt rfl (tw_yf (by decide) (tw_yt rfl ?_))
        unfold wY_pieces_71
        refine tw_yt rfl ?_
        by_cases hl2 : a + 1 = n
        · exact tw_xt (tw_eqT _ _ hl2) (tw_yt (tw_eqT _ _ hl2) (hK.1 _ m xm ym (Or.inl rfl)))
        refine tw_xf (tw_eqF _ _ hl2) (tw_yf (tw_eqF _ _ hl2) ?_)
        unfold wY_pieces_89
        refine tw_yt rfl (tw_yt rfl (tw_xr (nI_1 (a + 1)) (tw_yr (nI_1 (a + 1)) (tw_xi (pk_in (a + 1) 120 (by omega)) (tw_yi (pk_in (a + 1) 120 (by omega)) ?_)))))
        rw [nI_clamp (by omega), by_g (hW.2 (a + 1))]
        obtain ⟨c2, hc2, ew2⟩ := hW.2 (a + 1)
        rw [ew2]
        dsimp only
        rw [show (24 : Int32) = nI 24 from rfl, nI_add]
        refine tw_xn ?_
        refine un_110 (c := 24 + c2) hK hn hM (by omega) (by omega) (by omega) (fun hx xm' ym' hM' => ?_)
        rw [show a + 1 + 1 + (24 + c2) = a + 1 + (1 + (24 + c2)) from by omega]
        exact hz xm' ym' (1 + (24 + c2)) (by omega) _ hM' (by omega)
      · refine tw_xf (tw_eqF c 192 h2) ?_
        by_cases h3 : c ≤ 23
        · refine tw_xt (tw_leT c 23 h3) (tw_yt (tw_leT c 23 h3) ?_)
          unfold wY_pieces_71
          refine tw_yf (tw_eqF c 192 h2) ?_
          unfold wY_pieces_89
          refine tw_yt rfl (tw_yf (tw_eqF c 192 h2) ?_)
          exact un_110 hK hn hM (by omega) (by omega) (by omega) (fun hx xm' ym' hM' => hz xm' ym' c hx _ hM' (by omega))
        · exact tw_xf (tw_leF c 23 (by omega)) (tw_yf (tw_leF c 23 (by omega)) (tw_yf (tw_eqF c 192 h2) (tw_yt rfl (hK.1 _ m xm ym (Or.inr rfl)))))
    · refine tw_xf (tw_leF c 223 (by omega)) (tw_yf (tw_leF c 223 (by omega)) ?_)
      by_cases h2 : 229 ≤ c
      · refine tw_xt (tw_leT 229 c h2) (tw_yt (tw_leT 229 c h2) ?_)
        unfold wX_pieces_49 wY_pieces_47 wX_pieces_50 wY_pieces_48
        exact tw_xt rfl (tw_xf (tw_eqF c 192 (by omega)) (tw_xf (tw_leF c 23 (by omega)) (tw_yf (tw_leF c 23 (by omega)) (tw_yf (tw_eqF c 192 (by omega)) (tw_yt rfl (hK.1 _ m xm ym (Or.inr rfl)))))))
      · refine tw_xf (tw_leF 229 c (by omega)) (tw_yf (tw_leF 229 c (by omega)) ?_)
        unfold wX_pieces_50 wY_pieces_48
        refine tw_xf (by decide) (tw_yf (tw_leF c 23 (by omega)) (tw_yf (tw_eqF c 192 (by omega)) (tw_yf (by decide) ?_)))
        unfold wY_pieces_71
        refine tw_yf (tw_eqF c 192 (by omega)) ?_
        unfold wY_pieces_89
        refine tw_yf (by decide) ?_
        rw [un_p c (by omega) (by omega)]
        refine tw_xn ?_
        have hp : 2 ^ (c - 224) ≤ 2 ^ 5 := Nat.pow_le_pow_right (by omega) (by omega)
        have hp1 : 1 ≤ 2 ^ (c - 224) := Nat.one_le_two_pow
        exact un_110 hK hn hM (by omega) (by omega) (by omega) (fun hx xm' ym' hM' => ih _ _ xm' ym' (by omega) hx (by omega) hM')
theorem un_pc (hK : un_K R n w DX DY xh xk xy xt xp kp kq kn ke kd kf kb kw yn yo yz) (hW : md_W n w) (h1 : 1 ≤ n) :
    tw_L R (fun p => wpX_pieces (DX p) (nI n, nI 0, xh, xk, xy, (fun k => by_n (w k)), xm, xt, xp, kp, kq, kn, ke, kd, kf, kb, kw)) (fun q => wpY_pieces (DY q) (nI n, nI 0, w, ym, yn, yo, yz)) :=
  tw_xe (n + 1) (tw_ye (n + 1) (un_lp hK hW (n + 1) 1 0 xm ym (by omega) h1 (by omega) (md_M0 _ _)))
theorem un_70 {c : Nat} (hK : un_K R n w DX DY xh xk xy xt xp kp kq kn ke kd kf kb kw yn yo yz) (hn : n ≤ 120) (ha : a ≤ n) (hc : c < 100000) :
    tw_L R (fun p => wX_whole_70 (DX p) (nI a) (nI c) (nI n) (nI 0) xh xk xy (fun k => by_n (w k)) xm xt xp kp kq kn ke kd kf kb kw) (fun q => wY_old_68 (DY q) (nI a) (nI c) (nI n) (nI 0) w ym yn yo yz) := by
  unfold wX_whole_70 wY_old_68
  by_cases h : a + c ≤ n
  · refine tw_xt (tw_leT (a + c) n h (nI_add a c)) (tw_yt (tw_leT (a + c) n h (nI_add a c)) ?_)
    rw [nI_add a c]
    exact pu_cp a c rfl rfl rfl (md_M0 _ _) (by omega) (by omega) (fun xm' ym' hM' => hK.2 (a + c) _ xm' ym' hM' (by omega) h)
  · exact tw_xf (tw_leF (a + c) n (by omega) (nI_add a c)) (tw_yf (tw_leF (a + c) n (by omega) (nI_add a c)) (hK.1 _ 0 xm ym (Or.inl rfl)))
theorem un_wh {s : Nat} (hK : un_K R n w DX DY xh xk xy xt xp kp kq kn ke kd kf kb kw yn yo yz) (hW : md_W n w) (h1 : 1 ≤ n) (hs : s < 4) (hs2 : s ≠ 2) :
    tw_L R (fun p => wpX_whole (DX p) (nI n, nI 0, xh, xk, xy, (fun k => by_n (w k)), xm, xt, xp, kp, kq, kn, ke, kd, kf, kb, kw) (nI s)) (fun q => wpY_old (DY q) (nI n, nI 0, w, ym, yn, yo, yz) (nI s)) := by
  have hn := hW.1
  obtain ⟨c1, hc1, e1⟩ := hW.2 1
  obtain ⟨c2, hc2, e2⟩ := hW.2 2
  have g1 : (by_n (w 1)) &&& 255 = nI c1 := by rw [by_g (hW.2 1), e1]
  have g2 : (by_n (w 2)) &&& 255 = nI c2 := by rw [by_g (hW.2 2), e2]
  have k1 : (1 : Int32).toNatClampNeg = 1 := by decide
  have k2 : (2 : Int32).toNatClampNeg = 2 := by decide
  have hcs : s = 0 ∨ s = 1 ∨ s = 3 := by omega
  rcases hcs with rfl | rfl | rfl
  · refine tw_xt rfl (tw_yf (by decide) ?_)
    unfold wX_whole_18 wY_old_12
    by_cases h : 2 ≤ n
    · refine tw_xt (tw_leT 2 n h) (tw_yt (tw_leT 2 n h) (tw_xt rfl (tw_yf (by decide) (tw_yt rfl (tw_xi (pk_in 1 120 (by omega)) ?_)))))
      rw [k1, g1, e1]
      exact un_70 (a := 2) hK hn h (by omega)
    · exact tw_xf (tw_leF 2 n (by omega)) (tw_yf (tw_leF 2 n (by omega)) (hK.1 _ 0 xm ym (Or.inl rfl)))
  · refine tw_xf (by decide) (tw_xt rfl (tw_yf (by decide) ?_))
    unfold wX_whole_18 wY_old_12
    by_cases h : 3 ≤ n
    · refine tw_xt (tw_leT 3 n h) (tw_yt (tw_leT 3 n h) (tw_xf (by decide) (tw_xt rfl (tw_yf (by decide) (tw_yf (by decide) (tw_xi (pk_in 1 120 (by omega)) (tw_xi (pk_in 2 120 (by omega)) ?_)))))))
      rw [k1, k2, g1, g2, e1, e2]
      dsimp only
      rw [un_2 hc1 hc2, show (256 : Int32) = nI 256 from rfl, pk_mul, nI_add]
      exact un_70 (a := 3) hK hn h (by omega)
    · exact tw_xf (tw_leF 3 n (by omega)) (tw_yf (tw_leF 3 n (by omega)) (hK.1 _ 0 xm ym (Or.inl rfl)))
  · refine tw_xf (by decide) (tw_xf (by decide) (tw_yt rfl ?_))
    unfold wX_whole_18 wY_old_12
    refine tw_xt (tw_leT 1 n h1) (tw_yt (tw_leT 1 n h1) (tw_xf (by decide) (tw_xf (by decide) (tw_yt rfl ?_))))
    rw [show nI n - 1 = nI (n - 1) from pk_sub (b := 1) h1]
    exact un_70 (a := 1) hK hn h1 (by omega)
end
section
variable {xl xs xh xk xy : Int32} {xw xm xt xp : Nat → Int32} {kp kq kn ke kd kf kb kw : Nat → Int64} {yl ys : Int32} {yw ym : Nat → Int32} {yn yo yz : Nat → Int64}
variable {n m a : Nat} {w : Nat → Int32}
theorem un_97 {t : Int32} (hW : md_W n w) (hH : md_H n w xh xk) (hK : md_K xy xt xp kp kq kn ke kd kf kb yn yo yz) :
    un_K ed_R n w (fun p r u => match u with | (xl, xs, xh, xk, xy, xw, xm, xt, xp, kp, kq, kn, ke, kd, kf, kb, kw) => wX_unwrap_97 p t r xl xs xh xk xy xw xm xt xp kp kq kn ke kd kf kb kw) (fun q r v => match v with | (yl, ys, yw, ym, yn, yo, yz) => wY_unwrap_102 q t r yl ys yw ym yn yo yz) xh xk xy xt xp kp kq kn ke kd kf kb kw yn yo yz := by
  have hn := hW.1
  refine ⟨fun r m xm ym hr => ?_, fun e m xm ym hM hme hen => ?_⟩
  · have h0 : ¬ 0 ≤ r := by rcases hr with rfl | rfl <;> decide
    exact tw_xf h0 (tw_yf h0 (ed_ret hW hH hK))
  · refine tw_xt (tw_leT 0 e (by omega)) (tw_yt (tw_leT 0 e (by omega)) ?_)
    by_cases h : n ≤ e
    · refine tw_xt (tw_leT n e h) (tw_yt (tw_leT n e h) ?_)
      have hy : ∀ q : Int32 → SY → Prop, q t (nI m, nI m, tu_w m ym w, ym, yn, yo, yz) → ∃ n135, wY_unwrap_135 q t (nI m) (nI m) n135 0 w ym yn yo yz := fun q hq => by
        have h := un_yl (yl := nI m) (t := t) (by omega) hq m 0 (by omega)
        rw [tu_0] at h
        exact ⟨m + 1, h⟩
      refine tw_x (ex := fun p => p t (nI m, nI m, -2128831035, 0, xy, (fun k => by_n (tu_w m ym w k)), xm, xt, xp, kp, kq, kn, ke, kd, kf, kb, kw)) (fun p hp => tu_x (by omega) (fun k hk => (hM k hk (by omega)).2) hp) (tw_y (fun q hq => hy q hq) ?_)
      exact ed_ret ⟨by omega, tu_B hW.2 (fun k hk => (hM k hk (by omega)).1)⟩ (tu_H m _) hK
    · exact tw_xf (tw_leF n e (by omega)) (tw_yf (tw_leF n e (by omega)) (ed_ret hW hH hK))
theorem un_unwrap (hW : md_W n w) (hH : md_H n w xh xk) (hK : md_K xy xt xp kp kq kn ke kd kf kb yn yo yz) :
    tw_L ed_R (fun p => wpX_unwrap p (nI n, xs, xh, xk, xy, (fun k => by_n (w k)), xm, xt, xp, kp, kq, kn, ke, kd, kf, kb, kw)) (fun q => wpY_unwrap q (nI n, ys, w, ym, yn, yo, yz)) := by
  have hn := hW.1
  by_cases h0 : n = 0
  · subst h0
    exact tw_xt rfl (tw_yt rfl (ed_ret hW hH hK))
  refine tw_xf (tw_eqF n 0 h0) (tw_yf (tw_eqF n 0 h0) (tw_xi (pk_in 0 120 (by omega)) (tw_yn ?_)))
  obtain ⟨c, hc, e⟩ := hW.2 0
  have g : (by_n (w (0 : Int32).toNatClampNeg)) &&& 255 = nI c := by
    rw [show (0 : Int32).toNatClampNeg = 0 from by decide, by_g (hW.2 0), e]
  rw [g, e]
  by_cases h1 : c < 192
  · refine tw_xt (tw_ltT c 192 h1) (tw_yt (tw_leT c 191 (by omega)) ?_)
    unfold wX_unwrap_37 wY_unwrap_29
    refine tw_yt rfl ?_
    unfold wY_unwrap_48
    refine tw_br Iff.rfl (fun _ => ed_ret hW hH hK) (fun _ => ?_)
    refine tw_br Iff.rfl (fun _ => ed_ret hW hH hK) (fun _ => ?_)
    refine tw_br Iff.rfl (fun _ => ed_ret hW hH hK) (fun _ => ?_)
    refine tw_xf (tw_leF 192 c h1) (tw_yt rfl ?_)
    rw [pk_andN (by omega) (m := 3) 2 (by decide)]
    have hm : c % 2 ^ 2 < 4 := Nat.mod_lt _ (by omega)
    by_cases h2 : c % 2 ^ 2 = 2
    · exact tw_xt (tw_eqT _ 2 h2) (tw_yt (tw_eqT _ 2 h2) (ed_ret hW hH hK))
    · refine tw_xf (tw_eqF _ 2 h2) (tw_yf (tw_eqF _ 2 h2) ?_)
      unfold wX_unwrap_71 wY_unwrap_79
      rw [pk_andN (by omega) (m := 3) 2 (by decide)]
      exact tw_xt (tw_ltT c 192 h1) (tw_yt rfl (un_wh (un_97 hW hH hK) hW (by omega) hm h2))
  · refine tw_xf (tw_ltF c 192 (by omega)) (tw_yf (tw_leF c 191 (by omega)) ?_)
    unfold wX_unwrap_37 wY_unwrap_29
    refine tw_yf (by decide) ?_
    unfold wY_unwrap_48
    refine tw_br Iff.rfl (fun _ => ed_ret hW hH hK) (fun _ => ?_)
    refine tw_br Iff.rfl (fun _ => ed_ret hW hH hK) (fun _ => ?_)
    refine tw_br Iff.rfl (fun _ => ed_ret hW hH hK) (fun _ => ?_)
    refine tw_xt (tw_leT 192 c (by omega)) (tw_yf (by decide) ?_)
    unfold wX_unwrap_71 wY_unwrap_79
    exact tw_xf (tw_ltF c 192 (by omega)) (tw_yf (by decide) (un_pc (un_97 hW hH hK) hW (by omega)))
end
end
section
/-! ===== runs ===== -/
/-- r bytes alike stand from i on -/
def rn_P (w : Nat → Int32) (n i r : Nat) : Prop := 1 ≤ r ∧ i + r ≤ n ∧ (∀ j, j < r → w (i + j) = w i) ∧ (i + r = n ∨ w (i + r) ≠ w i)
theorem rn_uq {w : Nat → Int32} {n i r s : Nat} (h : rn_P w n i r) (h' : rn_P w n i s) : r = s := by
  obtain ⟨a1, a2, a3, a4⟩ := h
  obtain ⟨b1, b2, b3, b4⟩ := h'
  rcases Nat.lt_trichotomy r s with h | h | h
  · rcases a4 with h4 | h4
    · omega
    · exact absurd (b3 r h) h4
  · exact h
  · rcases b4 with h4 | h4
    · omega
    · exact absurd (a3 s h) h4
theorem rn_ex' {w : Nat → Int32} {n i : Nat} : ∀ d j, i + j + d = n → 1 ≤ j → (∀ t, t < j → w (i + t) = w i) → ∃ r, rn_P w n i r
  | 0, j, h, h1, ha => ⟨j, h1, by omega, ha, Or.inl (by omega)⟩
  | d + 1, j, h, h1, ha => by
    by_cases e : w (i + j) = w i
    · refine rn_ex' d (j + 1) (by omega) (by omega) (fun t ht => ?_)
      by_cases h2 : t = j
      · rw [h2]; exact e
      · exact ha t (by omega)
    · exact ⟨j, h1, by omega, ha, Or.inr e⟩
theorem rn_ex {w : Nat → Int32} {n i : Nat} (h : i < n) : ∃ r, rn_P w n i r :=
  rn_ex' (n - i - 1) 1 (by omega) (by omega) (fun t ht => by rw [show t = 0 from by omega]; rfl)
theorem rn_21 {w : Nat → Int32} {n i : Nat} (h : rn_P w n i 2) : rn_P w n (i + 1) 1 := by
  obtain ⟨a1, a2, a3, a4⟩ := h
  refine ⟨by omega, by omega, fun j hj => by rw [show j = 0 from by omega], ?_⟩
  rcases a4 with h | h
  · exact Or.inl (by omega)
  · exact Or.inr (by rw [show i + 1 + 1 = i + 2 from rfl, a3 1 (by omega)]; exact h)
/-- c bytes stand for themselves from i on -/
def pf_P (w : Nat → Int32) (n i c : Nat) : Prop :=
  (1 ≤ c ∧ c ≤ 64 ∧ i + c ≤ n) ∧ (∀ j, 1 ≤ j → j < c → ∃ r, rn_P w n (i + j) r ∧ r < 3) ∧ (i + c = n ∨ c = 64 ∨ ∃ r, rn_P w n (i + c) r ∧ 3 ≤ r)
theorem pf_ex' {w : Nat → Int32} {n i : Nat} : ∀ d c, c + d = 64 → 1 ≤ c → i + c ≤ n → (∀ j, 1 ≤ j → j < c → ∃ r, rn_P w n (i + j) r ∧ r < 3) → ∃ c, pf_P w n i c
  | 0, c, h, h1, h2, ha => ⟨c, ⟨h1, by omega, h2⟩, ha, Or.inr (Or.inl (by omega))⟩
  | d + 1, c, h, h1, h2, ha => by
    by_cases e : i + c = n
    · exact ⟨c, ⟨h1, by omega, h2⟩, ha, Or.inl e⟩
    · obtain ⟨r, hr⟩ := rn_ex (w := w) (n := n) (i := i + c) (by omega)
      by_cases h3 : 3 ≤ r
      · exact ⟨c, ⟨h1, by omega, h2⟩, ha, Or.inr (Or.inr ⟨r, hr, h3⟩)⟩
      · refine pf_ex' d (c + 1) (by omega) (by omega) (by omega) (fun j hj1 hj2 => ?_)
        by_cases h4 : j = c
        · rw [h4]; exact ⟨r, hr, by omega⟩
        · exact ha j hj1 (by omega)
theorem pf_ex {w : Nat → Int32} {n i : Nat} (h : i < n) : ∃ c, pf_P w n i c := pf_ex' 63 1 (by omega) (by omega) (by omega) (fun j h1 h2 => by omega)
theorem pf_st {w : Nat → Int32} {n i c r : Nat} (h : pf_P w n i c) (hr : rn_P w n i r) (h3 : r < 3) : r ≤ c := by
  obtain ⟨⟨c1, c2, c3⟩, _, he⟩ := h
  have hr1 := hr.1
  rcases Nat.lt_or_ge c r with hc | hc
  · obtain rfl : r = 2 := by omega
    obtain rfl : c = 1 := by omega
    rcases he with e | e | ⟨s, hs, h4⟩
    · have := hr.2.1; omega
    · omega
    · have := rn_uq hs (rn_21 hr); omega
  · exact hc
theorem pf_sp {w : Nat → Int32} {n i c j r : Nat} (h : pf_P w n i c) (hj : 1 ≤ j) (hjc : j < c) (hr : rn_P w n (i + j) r) (h3 : r < 3) : j + r ≤ c ∨ (j + r = 65 ∧ c = 64) := by
  obtain ⟨⟨c1, c2, c3⟩, _, he⟩ := h
  have hr1 := hr.1
  rcases Nat.lt_or_ge c (j + r) with hc | hc
  · obtain rfl : r = 2 := by omega
    obtain rfl : c = j + 1 := by omega
    rcases he with e | e | ⟨s, hs, h4⟩
    · have := hr.2.1; omega
    · exact Or.inr ⟨by omega, e⟩
    · have := rn_uq hs (rn_21 hr); omega
  · exact Or.inl hc
theorem pc_s1 : ∀ t, t < 67 → (125 : Int32) + nI t = (128 + nI t) - 3 := by decide +kernel
section
variable {xl xs xh xk xy : Int32} {xw xm xt xp : Nat → Int32} {kp kq kn ke kd kf kb kw : Nat → Int64} {yl ys : Int32} {yw ym : Nat → Int32} {yn yo yz : Nat → Int64}
variable {n m i : Nat} {w : Nat → Int32}
theorem rn_y {post : Int32 → Prop} {r : Nat} (hn : n ≤ 120) (hr : rn_P w n i r) (hp : post (nI r)) :
    ∀ d j, j + d = r → 1 ≤ j → wY_run_2 post (nI i) (nI n) ys w ym yn yo yz (d + 1) (nI j) := by
  obtain ⟨a1, a2, a3, a4⟩ := hr
  intro d
  induction d with
  | zero =>
    intro j hj h1
    obtain rfl : j = r := hj
    by_cases e : i + j = n
    · exact br_t (tw_leT n (i + j) (by omega) rfl (nI_add i j)) hp
    · refine br_f (tw_leF n (i + j) (by omega) rfl (nI_add i j)) ⟨pk_in (i + j) 120 (by omega) (nI_add i j), pk_in i 120 (by omega), br_f ?_ hp⟩
      rw [pk_cl (i + j) (nI_add i j), nI_clamp (by omega)]
      rcases a4 with h | h
      · omega
      · exact h
  | succ d ih =>
    intro j hj h1
    refine br_f (tw_leF n (i + j) (by omega) rfl (nI_add i j)) ⟨pk_in (i + j) 120 (by omega) (nI_add i j), pk_in i 120 (by omega), br_t ?_ (nm_r (nI_1 j) (ih (j + 1) (by omega) (by omega)))⟩
    rw [pk_cl (i + j) (nI_add i j), nI_clamp (by omega)]
    exact a3 j (by omega)
theorem rn_yr {post : Int32 → Prop} {r : Nat} (hn : n ≤ 120) (hr : rn_P w n i r) (hp : post (nI r)) : wpY_run post (nI n, ys, w, ym, yn, yo, yz) (nI i) :=
  ⟨r - 1 + 1, rn_y hn hr hp (r - 1) 1 (by have := hr.1; omega) (by omega)⟩
theorem rn_x {post : Int32 → Prop} {r : Nat} (hW : md_W n w) (hr : rn_P w n i r) (hp : post (nI (min r 66))) :
    ∀ d j, j + d = min r 66 → 1 ≤ j → wX_run_4 post (nI i) (nI n) xs xh xk xy (fun k => by_n (w k)) xm xt xp kp kq kn ke kd kf kb kw (d + 1) (nI (i + j)) := by
  obtain ⟨a1, a2, a3, a4⟩ := hr
  have hn := hW.1
  have es : ∀ j, nI (i + j) - nI i = nI j := fun j => by rw [pk_sub (by omega)]; exact congrArg nI (by omega)
  intro d
  induction d with
  | zero =>
    intro j hj h1
    obtain rfl : j = min r 66 := hj
    have hp' : post (nI (i + min r 66) - nI i) := by rw [es]; exact hp
    by_cases e : i + min r 66 = n
    · exact br_t (tw_leT n (i + min r 66) (by omega)) hp'
    · refine br_f (tw_leF n (i + min r 66) (by omega)) ?_
      by_cases e2 : 66 ≤ r
      · exact br_t (tw_leT 66 (min r 66) (by omega) rfl (es _)) hp'
      · refine br_f (tw_leF 66 (min r 66) (by omega) rfl (es _)) ⟨pk_in (i + min r 66) 120 (by omega), pk_in i 120 (by omega), br_f ?_ hp'⟩
        rw [nI_clamp (by omega), nI_clamp (by omega), by_in (hW.2 _) (hW.2 _)]
        rw [show min r 66 = r from by omega] at e ⊢
        rcases a4 with h | h
        · omega
        · exact h
  | succ d ih =>
    intro j hj h1
    refine br_f (tw_leF n (i + j) (by omega)) (br_f (tw_leF 66 j (by omega) rfl (es _)) ⟨pk_in (i + j) 120 (by omega), pk_in i 120 (by omega), br_t ?_ (nm_r (nI_1 _) (ih (j + 1) (by omega) (by omega)))⟩)
    rw [nI_clamp (by omega), nI_clamp (by omega), by_in (hW.2 _) (hW.2 _)]
    exact a3 j (by omega)
theorem rn_xr {post : Int32 → Prop} {r : Nat} (hW : md_W n w) (hr : rn_P w n i r) (hp : post (nI (min r 66))) : wpX_run post (nI n, xs, xh, xk, xy, (fun k => by_n (w k)), xm, xt, xp, kp, kq, kn, ke, kd, kf, kb, kw) (nI i) :=
  nm_r (nI_1 i) ⟨min r 66 - 1 + 1, rn_x hW hr hp (min r 66 - 1) 1 (by have := hr.1; omega) (by omega)⟩
theorem pf_y {post : Int32 → Prop} {c : Nat} (hn : n ≤ 120) (hc : pf_P w n i c) (hp : post (nI c)) :
    ∀ d j, j + 1 + d = c → wY_plainFrom_4 post (nI i) (nI n) ys w ym yn yo yz (d + 2) (nI j) 1 := by
  obtain ⟨⟨c1, c2, c3⟩, c4, c5⟩ := hc
  intro d
  induction d with
  | zero =>
    intro j hj
    obtain rfl : c = j + 1 := by omega
    refine br_f (by decide) (nm_r (nI_1 j) ?_)
    have hz : wY_plainFrom_4 post (nI i) (nI n) ys w ym yn yo yz (0 + 1) (nI (j + 1)) 0 := br_t rfl hp
    by_cases e : i + (j + 1) = n
    · exact br_t (tw_leT n (i + (j + 1)) (by omega) rfl (nI_add i _)) (br_t rfl hz)
    · refine br_f (tw_leF n (i + (j + 1)) (by omega) rfl (nI_add i _)) ?_
      by_cases e2 : j + 1 = 64
      · exact br_t (tw_leT 64 (j + 1) (by omega)) (br_t rfl hz)
      · refine br_f (tw_leF 64 (j + 1) (by omega)) (br_f (by decide) ?_)
        rcases c5 with h | h | ⟨r, hr, h3⟩
        · omega
        · omega
        · rw [nI_add]
          have := hr.2.1
          exact rn_yr hn hr (br_t (tw_leT 3 r h3) hz)
  | succ d ih =>
    intro j hj
    obtain ⟨r, hr, h3⟩ := c4 (j + 1) (by omega) (by omega)
    have := hr.2.1
    refine br_f (by decide) (nm_r (nI_1 j) (br_f (tw_leF n (i + (j + 1)) (by omega) rfl (nI_add i _)) (br_f (tw_leF 64 (j + 1) (by omega)) (br_f (by decide) ?_))))
    rw [nI_add]
    exact rn_yr hn hr (br_f (tw_leF 3 r h3) (ih (j + 1) (by omega)))
theorem pf_yr {post : Int32 → Prop} {c : Nat} (hn : n ≤ 120) (hc : pf_P w n i c) (hp : post (nI c)) : wpY_plainFrom post (nI n, ys, w, ym, yn, yo, yz) (nI i) :=
  ⟨c - 1 + 2, pf_y hn hc hp (c - 1) 0 (by have := hc.1.1; omega)⟩
theorem pf_x {post : Int32 → SX → Prop} {J7 : Int32 → Int32 → Int32 → Int32 → Int32 → Int32 → (Nat → Int32) → (Nat → Int32) → (Nat → Int32) → (Nat → Int32) → (Nat → Int64) → (Nat → Int64) → (Nat → Int64) → (Nat → Int64) → (Nat → Int64) → (Nat → Int64) → (Nat → Int64) → (Nat → Int64) → Prop}
    {c : Nat} (hW : md_W n w) (hc : pf_P w n i c) (hp : wX_pack_125 post J7 (nI i) (nI (i + c)) (nI n) xs xh xk xy (fun k => by_n (w k)) xm xt xp kp kq kn ke kd kf kb kw) :
    ∀ d j, c - j + 2 ≤ d → 1 ≤ j → (j ≤ c ∨ (j = 65 ∧ c = 64)) → i + j ≤ n → wX_pack_58 post J7 (nI i) (nI n) xs xh xk xy (fun k => by_n (w k)) xm xt xp kp kq kn ke kd kf kb kw d (nI (i + j)) 1 := by
  have hn := hW.1
  have es : ∀ j, nI (i + j) - nI i = nI j := fun j => by rw [pk_sub (by omega)]; exact congrArg nI (by omega)
  have hc0 := hc
  obtain ⟨⟨c1, c2, c3⟩, c4, c5⟩ := hc
  have h112 : wX_pack_112 post J7 (nI i) (nI (i + c)) (nI n) xs xh xk xy (fun k => by_n (w k)) xm xt xp kp kq kn ke kd kf kb kw := br_t (tw_leT c 64 c2 (es c)) hp
  intro d
  induction d with
  | zero => intro j h; omega
  | succ d ih =>
    intro j hd h1 hj hjn
    refine br_f (by decide) ?_
    by_cases h65 : j = 65
    · have e64 : c = 64 := by omega
      have h112' : wX_pack_112 post J7 (nI i) (nI (i + j)) (nI n) xs xh xk xy (fun k => by_n (w k)) xm xt xp kp kq kn ke kd kf kb kw := br_f (tw_leF j 64 (by omega) (es j)) (nm_r (e' := nI (i + c)) (by rw [e64]; exact nI_add i 64) hp)
      by_cases e : i + j = n
      · exact br_t (tw_leT n (i + j) (by omega)) h112'
      · exact br_f (tw_leF n (i + j) (by omega)) (br_t (tw_leT 64 j (by omega) rfl (es j)) h112')
    have hjc : j ≤ c := by omega
    by_cases hlt : j < c
    · obtain ⟨r, hr, h3⟩ := c4 j h1 hlt
      have hrn := hr.2.1
      have hr1 := hr.1
      refine br_f (tw_leF n (i + j) (by omega)) (br_f (tw_leF 64 j (by omega) rfl (es j)) ?_)
      refine rn_xr hW hr ?_
      refine br_f (tw_leF 3 (min r 66) (by omega)) (br_f (by decide) ?_)
      refine nm_r (e' := nI (i + (j + r))) ?_ (ih (j + r) (by omega) (by omega) (pf_sp hc0 h1 hlt hr h3) (by omega))
      rw [nI_add]
      exact congrArg nI (by omega)
    · obtain rfl : j = c := by omega
      rcases c5 with h | h | ⟨r, hr, h3⟩
      · exact br_t (tw_leT n (i + j) (by omega)) h112
      · by_cases e : i + j = n
        · exact br_t (tw_leT n (i + j) (by omega)) h112
        · exact br_f (tw_leF n (i + j) (by omega)) (br_t (tw_leT 64 j (by omega) rfl (es j)) h112)
      · have hrn := hr.2.1
        have hr1 := hr.1
        by_cases e2 : j = 64
        · exact br_f (tw_leF n (i + j) (by omega)) (br_t (tw_leT 64 j (by omega) rfl (es j)) h112)
        · obtain ⟨d', rfl⟩ : ∃ d', d = d' + 1 := ⟨d - 1, by omega⟩
          refine br_f (tw_leF n (i + j) (by omega)) (br_f (tw_leF 64 j (by omega) rfl (es j)) ?_)
          exact rn_xr hW hr (br_t (tw_leT 3 (min r 66) (by omega)) (br_t rfl (br_t rfl h112)))
theorem pc_38 {t : Nat} {JY : (Int32 → SY → Prop) → Int32 → Int32 → Int32 → (Nat → Int32) → (Nat → Int32) → (Nat → Int64) → (Nat → Int64) → (Nat → Int64) → Prop} {JX : (Int32 → SX → Prop) → SX → Prop}
    (hn : n ≤ 120) (hi : i < n) (ht : t < 67) (hM : md_M m xm ym) (hm : m < 900)
    (k : ∀ xm' ym', md_M (m + 2) xm' ym' → tw_L ed_R (fun p => JX p (nI n, nI (m + 2), xh, xk, xy, (fun k => by_n (w k)), xm', xt, xp, kp, kq, kn, ke, kd, kf, kb, kw)) (fun q => JY q (nI (i + t)) (nI n) (nI (m + 2)) w ym' yn yo yz)) :
    tw_L ed_R (fun p => wpX_put (fun u => match u with | (xl, xs, xh, xk, xy, xw, xm, xt, xp, kp, kq, kn, ke, kd, kf, kb, kw) => vp_in (nI i) 120 ∧ wpX_put (fun u => JX p u) (xl, xs, xh, xk, xy, xw, xm, xt, xp, kp, kq, kn, ke, kd, kf, kb, kw) (xw (nI i).toNatClampNeg)) (nI n, nI m, xh, xk, xy, (fun k => by_n (w k)), xm, xt, xp, kp, kq, kn, ke, kd, kf, kb, kw) (125 + nI t)) (fun q => wY_pack_38 q (JY q) (nI i) (nI t) (nI n) (nI m) w ym yn yo yz) := by
  unfold wY_pack_38
  refine pu_put hM (by omega) (by rw [pc_s1 t ht]) (fun xm' ym' hM' => ?_)
  refine tw_xi (pk_in i 120 (by omega)) (tw_yi (pk_in i 120 (by omega)) ?_)
  refine pu_put hM' (by omega) (by_na _) (fun xm' ym' hM' => ?_)
  exact tw_yr (nI_add i t) (k xm' ym' hM')
theorem pc_lp (hW : md_W n w) (hH : md_H n w xh xk) (hK : md_K xy xt xp kp kq kn ke kd kf kb yn yo yz) :
    ∀ d a m xm ym, n - a < d → a ≤ n → m ≤ 2 * a → md_M m xm ym →
    tw_L ed_R (fun p => wX_pack_7 p d (nI a) (nI n) (nI m) xh xk xy (fun k => by_n (w k)) xm xt xp kp kq kn ke kd kf kb kw) (fun q => wY_pack_7 q d (nI a) (nI n) (nI m) w ym yn yo yz) := by
  have hn := hW.1
  intro d
  induction d with
  | zero => intro a m xm ym h; omega
  | succ d ih =>
    intro a m xm ym hd ha hm hM
    by_cases hl : n ≤ a
    · exact tw_xt (tw_leT n a hl) (tw_yt (tw_leT n a hl) (tu_end (fun _ _ _ _ _ _ _ _ _ _ _ _ _ _ _ _ _ _ _ h => h) (fun _ _ _ _ _ _ _ _ _ h => h) hM (by omega) hW hH hK))
    refine tw_xf (tw_leF n a (by omega)) (tw_yf (tw_leF n a (by omega)) ?_)
    obtain ⟨r, hr⟩ := rn_ex (w := w) (n := n) (i := a) (by omega)
    have hr1 := hr.1
    have hr2 := hr.2.1
    refine tw_x (fun p hp => rn_xr hW hr hp) (tw_y (fun q hq => rn_yr hn hr hq) ?_)
    by_cases h3 : r ≤ 2
    · obtain ⟨c, hc⟩ := pf_ex (w := w) (n := n) (i := a) (by omega)
      refine tw_xt (tw_leT (min r 66) 2 (by omega)) (tw_yt (tw_leT r 2 h3) ?_)
      have hrc := pf_st hc hr (by omega)
      refine tw_xr (nI_add a _) (tw_xe (c + 2) ?_)
      refine tw_x (fun p hp => pf_x hW hc hp (c + 2) (min r 66) (by omega) (by omega) (Or.inl (by omega)) (by omega)) (tw_y (fun q hq => pf_yr hn hc hq) ?_)
      obtain ⟨⟨c1, c2, c3⟩, _⟩ := hc
      have es : nI (a + c) - nI a = nI c := by rw [pk_sub (by omega)]; exact congrArg nI (by omega)
      unfold wX_pack_125
      rw [es]
      refine pu_put hM (by omega) rfl (fun xm' ym' hM' => ?_)
      refine pu_cp a c rfl rfl (nI_add a c) hM' (by omega) (by omega) (fun xm' ym' hM' => ?_)
      exact tw_yr (nI_add a c) (ih (a + c) _ xm' ym' (by omega) (by omega) (by omega) hM')
    · refine tw_xf (tw_leF (min r 66) 2 (by omega)) (tw_yf (tw_leF r 2 (by omega)) ?_)
      have hY : tw_L ed_R (fun p => wpX_put (fun u => match u with | (xl, xs, xh, xk, xy, xw, xm, xt, xp, kp, kq, kn, ke, kd, kf, kb, kw) => vp_in (nI a) 120 ∧ wpX_put (fun u => match u with | (xl, xs, xh, xk, xy, xw, xm, xt, xp, kp, kq, kn, ke, kd, kf, kb, kw) => ∀ y, y = nI a + nI (min r 66) → wX_pack_7 p d y xl xs xh xk xy xw xm xt xp kp kq kn ke kd kf kb kw) (xl, xs, xh, xk, xy, xw, xm, xt, xp, kp, kq, kn, ke, kd, kf, kb, kw) (xw (nI a).toNatClampNeg)) (nI n, nI m, xh, xk, xy, (fun k => by_n (w k)), xm, xt, xp, kp, kq, kn, ke, kd, kf, kb, kw) (125 + nI (min r 66))) (fun q => wY_pack_38 q (wY_pack_7 q d) (nI a) (nI (min r 66)) (nI n) (nI m) w ym yn yo yz) :=
        pc_38 (JX := fun p u => match u with | (xl, xs, xh, xk, xy, xw, xm, xt, xp, kp, kq, kn, ke, kd, kf, kb, kw) => ∀ y, y = nI a + nI (min r 66) → wX_pack_7 p d y xl xs xh xk xy xw xm xt xp kp kq kn ke kd kf kb kw) hn (by omega) (by omega) hM (by omega) (fun xm' ym' hM' => tw_xr (nI_add a _) (ih (a + min r 66) _ xm' ym' (by omega) (by omega) (by omega) hM'))
      by_cases h66 : r ≤ 66
      · refine tw_yt (tw_leT r 66 h66) ?_
        rw [show min r 66 = r from by omega] at hY ⊢
        exact hY
      · refine tw_yf (tw_leF r 66 (by omega)) ?_
        rw [show min r 66 = 66 from by omega] at hY ⊢
        exact hY
theorem pc_pack (hW : md_W n w) (hH : md_H n w xh xk) (hK : md_K xy xt xp kp kq kn ke kd kf kb yn yo yz) :
    tw_L ed_R (fun p => wpX_pack p (nI n, xs, xh, xk, xy, (fun k => by_n (w k)), xm, xt, xp, kp, kq, kn, ke, kd, kf, kb, kw)) (fun q => wpY_pack q (nI n, ys, w, ym, yn, yo, yz)) :=
  tw_xe (n + 1) (tw_ye (n + 1) (pc_lp hW hH hK (n + 1) 0 0 xm ym (by omega) (by omega) (by omega) (md_M0 _ _)))
end
end
section
/-! ===== unpack ===== -/
section
variable {xl xs xh xk xy : Int32} {xw xm xt xp : Nat → Int32} {kp kq kn ke kd kf kb kw : Nat → Int64} {yl ys : Int32} {yw ym : Nat → Int32} {yn yo yz : Nat → Int64}
variable {n : Nat} {w : Nat → Int32}
theorem up_119 {JX : (Int32 → SX → Prop) → Int32 → Int32 → Int32 → Int32 → Int32 → Int32 → (Nat → Int32) → (Nat → Int32) → (Nat → Int32) → (Nat → Int32) → (Nat → Int64) → (Nat → Int64) → (Nat → Int64) → (Nat → Int64) → (Nat → Int64) → (Nat → Int64) → (Nat → Int64) → (Nat → Int64) → Prop}
    {JY : (Int32 → SY → Prop) → Int32 → Int32 → Int32 → (Nat → Int32) → (Nat → Int32) → (Nat → Int64) → (Nat → Int64) → (Nat → Int64) → Prop} {a t : Nat} (ha : a < 120) (ht : t < 1000) :
    ∀ d j m xm ym, j + d = t → m + d < 1000 → md_M m xm ym →
    (∀ xm' ym', md_M (m + d) xm' ym' → tw_L ed_R (fun p => JX p (nI (a + 1)) (nI n) (nI (m + d)) xh xk xy (fun k => by_n (w k)) xm' xt xp kp kq kn ke kd kf kb kw) (fun q => JY q (nI (a + 1)) (nI n) (nI (m + d)) w ym' yn yo yz)) →
    tw_L ed_R (fun p => wX_unpack_119 p (JX p) (nI a) (nI t) (d + 1) (nI j) (nI n) (nI m) xh xk xy (fun k => by_n (w k)) xm xt xp kp kq kn ke kd kf kb kw) (fun q => wY_unpack_126 q (JY q) (nI a) (nI t) (d + 1) (nI j) (nI n) (nI m) w ym yn yo yz) := by
  intro d
  induction d with
  | zero =>
    intro j m xm ym hj hm hM k
    exact tw_xt (tw_leT t j (by omega)) (tw_yt (tw_leT t j (by omega)) (tw_xr (nI_1 a) (tw_yr (nI_1 a) (k xm ym hM))))
  | succ d ih =>
    intro j m xm ym hj hm hM k
    refine tw_xf (tw_leF t j (by omega)) (tw_yf (tw_leF t j (by omega)) (tw_xi (pk_in a 120 ha) (tw_yi (pk_in a 120 ha) ?_)))
    refine pu_put hM (by omega) (by_na _) (fun xm' ym' hM' => ?_)
    refine tw_xr (nI_1 j) (tw_yr (nI_1 j) (ih (j + 1) (m + 1) xm' ym' (by omega) (by omega) hM' (fun xm'' ym'' hM'' => ?_)))
    rw [show m + 1 + d = m + (d + 1) from by omega] at hM'' ⊢
    exact k xm'' ym'' hM''
theorem up_lp (hW : md_W n w) (hH : md_H n w xh xk) (hK : md_K xy xt xp kp kq kn ke kd kf kb yn yo yz) :
    ∀ d a m xm ym, n - a < d → a ≤ n → m ≤ 120 → md_M m xm ym →
    tw_L ed_R (fun p => wX_unpack_7 p d (nI a) (nI n) (nI m) xh xk xy (fun k => by_n (w k)) xm xt xp kp kq kn ke kd kf kb kw) (fun q => wY_unpack_7 q d (nI a) (nI n) (nI m) w ym yn yo yz) := by
  have hn := hW.1
  intro d
  induction d with
  | zero => intro a m xm ym h; omega
  | succ d ih =>
    intro a m xm ym hd ha hm hM
    by_cases hl : n ≤ a
    · exact tw_xt (tw_leT n a hl) (tw_yt (tw_leT n a hl) (tu_end (fun _ _ _ _ _ _ _ _ _ _ _ _ _ _ _ _ _ _ _ h => h) (fun _ _ _ _ _ _ _ _ _ h => h) hM (by omega) hW hH hK))
    refine tw_xf (tw_leF n a (by omega)) (tw_yf (tw_leF n a (by omega)) (tw_xr (nI_1 a) (tw_yr (nI_1 a) (tw_xi (pk_in a 120 (by omega)) (tw_yi (pk_in a 120 (by omega)) ?_)))))
    rw [nI_clamp (by omega), by_g (hW.2 a)]
    obtain ⟨c, hc, ew⟩ := hW.2 a
    rw [ew]
    refine tw_yn ?_
    by_cases h1 : 191 < c
    · exact tw_xt (tw_ltT 191 c h1) (tw_yt (tw_ltT 191 c h1) (ed_ret hW hH hK))
    refine tw_xf (tw_ltF 191 c (by omega)) (tw_yf (tw_ltF 191 c (by omega)) ?_)
    by_cases h2 : c ≤ 63
    · refine tw_xt (tw_leT c 63 h2) (tw_yt (tw_leT c 63 h2) ?_)
      unfold wX_unpack_47 wY_unpack_48
      refine tw_xt (tw_leT c 127 (by omega)) (tw_yf (tw_leF 64 c (by omega)) ?_)
      unfold wX_unpack_58 wY_unpack_64
      refine tw_xt rfl (tw_yf (tw_leF 64 c (by omega)) ?_)
      unfold wX_unpack_73
      refine tw_xt rfl ?_
      rw [nI_1 c]
      unfold wX_unpack_86 wY_unpack_77
      by_cases h3 : a + 1 + (c + 1) ≤ n
      · refine tw_xt (tw_leT _ n h3 (nI_add _ _)) (tw_yt (tw_leT _ n h3 (nI_add _ _)) ?_)
        by_cases h4 : m + (c + 1) ≤ 120
        · refine tw_xt (tw_leT _ 120 h4 (nI_add _ _)) (tw_yt (tw_leT _ 120 h4 (nI_add _ _)) (tw_xt rfl (tw_yf (tw_leF 64 c (by omega)) ?_)))
          refine pu_cp (a + 1) (c + 1) rfl rfl (nI_add _ _) hM (by omega) (by omega) (fun xm' ym' hM' => ?_)
          exact tw_xr (nI_add _ _) (tw_yr (nI_add _ _) (ih _ _ xm' ym' (by omega) h3 h4 hM'))
        · exact tw_xf (tw_leF _ 120 (by omega) (nI_add _ _)) (tw_yf (tw_leF _ 120 (by omega) (nI_add _ _)) (ed_ret hW hH hK))
      · exact tw_xf (tw_leF _ n (by omega) (nI_add _ _)) (tw_yf (tw_leF _ n (by omega) (nI_add _ _)) (ed_ret hW hH hK))
    refine tw_xf (tw_leF c 63 (by omega)) (tw_yf (tw_leF c 63 (by omega)) ?_)
    by_cases h5 : 128 ≤ c
    · refine tw_xt (tw_leT 128 c h5) (tw_yt (tw_leT 128 c h5) ?_)
      unfold wX_unpack_47 wY_unpack_48
      refine tw_xf (tw_leF c 127 (by omega)) (tw_yt (tw_leT 64 c (by omega)) ?_)
      unfold wX_unpack_58 wY_unpack_64
      refine tw_xf (by decide) (tw_yt (tw_leT 64 c (by omega)) ?_)
      unfold wX_unpack_73
      refine tw_xf (by decide) ?_
      rw [show nI c - 125 = nI (c - 125) from pk_sub (b := 125) (by omega)]
      unfold wX_unpack_86 wY_unpack_77
      by_cases h3 : a + 1 + 1 ≤ n
      · refine tw_xt (tw_leT _ n h3 (nI_1 _)) (tw_yt (tw_leT _ n h3 (nI_1 _)) ?_)
        by_cases h4 : m + (c - 125) ≤ 120
        · refine tw_xt (tw_leT _ 120 h4 (nI_add _ _)) (tw_yt (tw_leT _ 120 h4 (nI_add _ _)) (tw_xf (by decide) (tw_yt (tw_leT 64 c (by omega)) ?_)))
          refine tw_xe (c - 125 + 1) (tw_ye (c - 125 + 1) ?_)
          exact up_119 (by omega) (by omega) (c - 125) 0 m xm ym (by omega) (by omega) hM (fun xm' ym' hM' => ih _ _ xm' ym' (by omega) h3 h4 hM')
        · exact tw_xf (tw_leF _ 120 (by omega) (nI_add _ _)) (tw_yf (tw_leF _ 120 (by omega) (nI_add _ _)) (ed_ret hW hH hK))
      · exact tw_xf (tw_leF _ n (by omega) (nI_1 _)) (tw_yf (tw_leF _ n (by omega) (nI_1 _)) (ed_ret hW hH hK))
    · exact tw_xf (tw_leF 128 c (by omega)) (tw_yf (tw_leF 128 c (by omega)) (ed_ret hW hH hK))
theorem up_unpack (hW : md_W n w) (hH : md_H n w xh xk) (hK : md_K xy xt xp kp kq kn ke kd kf kb yn yo yz) :
    tw_L ed_R (fun p => wpX_unpack p (nI n, xs, xh, xk, xy, (fun k => by_n (w k)), xm, xt, xp, kp, kq, kn, ke, kd, kf, kb, kw)) (fun q => wpY_unpack q (nI n, ys, w, ym, yn, yo, yz)) :=
  tw_xe (n + 1) (tw_ye (n + 1) (up_lp hW hH hK (n + 1) 0 0 xm ym (by omega) (by omega) (by omega) (md_M0 _ _)))
end
end
section
/-! ===== stretch ===== -/
def vl_R {α : Type} (ex ey : (α → Prop) → Prop) : Prop := ∃ r : α, ex = (fun p => p r) ∧ ey = (fun q => q r)
theorem vl_ret {α : Type} (r : α) : tw_L vl_R (fun p : α → Prop => p r) (fun q => q r) := tw_ret ⟨r, rfl, rfl⟩
theorem vl_fin {α : Type} {cx cy : (α → Prop) → Prop} (h : tw_L vl_R cx cy) : ∃ r : α, (∀ p, p r → cx p) ∧ (∀ q, q r → cy q) := by
  obtain ⟨ex, ey, ⟨r, e1, e2⟩, h1, h2⟩ := h
  subst e1 e2
  exact ⟨r, h1, h2⟩
theorem st_sh : ∀ k, k < 4 → (24 : Int32) - 8 * nI k = nI (24 - 8 * k) := by decide
/-- a byte of a word, by either shift -/
theorem st_by (x : Int32) (n : Nat) (hn : n ≤ 24) : ((x.toUInt32 >>> ((nI n).toUInt32 &&& Int32.toUInt32 31)).toInt32) &&& 255 = (x >>> (nI n &&& 31)) &&& 255 := by
  apply b_ext
  intro i hi
  rw [b_and, b_and, b_255, b_ushr n (by omega), b_sshr n (by omega) x hi]
  by_cases h : i < 8
  · rw [if_pos (by omega)]
  · rw [decide_eq_false h, Bool.and_false, Bool.and_false]
theorem st_md {i N : Nat} (hN : 0 < N) : (i + 1) % N = if i % N + 1 = N then 0 else i % N + 1 := by
  have h := Nat.mod_lt i hN
  have e : (i + 1) % N = (i % N + 1) % N := by rw [Nat.mod_add_mod]
  rw [e]
  by_cases h2 : i % N + 1 = N
  · rw [if_pos h2, h2, Nat.mod_self]
  · rw [if_neg h2]; exact Nat.mod_eq_of_lt (by omega)
section
variable {xl xs xh xk xy : Int32} {xw xm xt xp : Nat → Int32} {kp kq kn ke kd kf kb kw : Nat → Int64} {yl ys : Int32} {yw ym : Nat → Int32} {yn yo yz : Nat → Int64}
variable {n : Nat} {w : Nat → Int32}
theorem st_lp {c : Nat} (s : Int32) (hW : md_W n w) (hc : c ≤ 2000) :
    ∀ d i (h : Int32), i + d = c → tw_L vl_R (fun p => wX_stretch_30 p s (nI (n + 4)) (nI n) xs xh xk xy (fun k => by_n (w k)) xm xt xp kp kq kn ke kd kf kb kw (d + 1) h (nI (i % (n + 4))) (nI d)) (fun q => wY_stretch_18 q s (nI c) (nI n) ys w ym yn yo yz (d + 1) h (nI i)) := by
  have hn := hW.1
  intro d
  induction d with
  | zero =>
    intro i h hi
    refine tw_xt (tw_leT 0 0 (by omega)) (tw_yt (tw_leT c i (by omega)) ?_)
    exact tw_x (fun p hp => ha_x hp) (tw_y (fun q hq => ha_y hq) (vl_ret _))
  | succ d ih =>
    intro i h hi
    have hm : i % (n + 4) < n + 4 := Nat.mod_lt _ (by omega)
    have e4 : nI n + 4 = nI (n + 4) := nI_add n 4
    refine tw_xf (tw_leF (d + 1) 0 (by omega)) (tw_yf (tw_leF c i (by omega)) ?_)
    rw [e4]
    refine tw_yi (nI_ne0 (by omega) (by omega)) (tw_yr (pk_rem (by omega) (by omega) (by omega)) ?_)
    have key : ∀ z : Int32, tw_L vl_R (fun p => wX_stretch_66 p (wX_stretch_30 p s (nI (n + 4)) (nI n) xs xh xk xy (fun k => by_n (w k)) xm xt xp kp kq kn ke kd kf kb kw (d + 1)) s h (nI (i % (n + 4))) (nI (n + 4)) (nI (d + 1)) z (nI n) xs xh xk xy (fun k => by_n (w k)) xm xt xp kp kq kn ke kd kf kb kw)
        (fun q => wY_stretch_67 q (wY_stretch_18 q s (nI c) (nI n) ys w ym yn yo yz (d + 1)) s (nI c) h (nI i) z (nI n) ys w ym yn yo yz) := by
      intro z
      have hI := ih (i + 1) ((h ^^^ z) * 16777619) (by omega)
      have hY : ∀ q : Int32 → Prop, wY_stretch_18 q s (nI c) (nI n) ys w ym yn yo yz (d + 1) ((h ^^^ z) * 16777619) (nI (i + 1)) → wY_stretch_67 q (wY_stretch_18 q s (nI c) (nI n) ys w ym yn yo yz (d + 1)) s (nI c) h (nI i) z (nI n) ys w ym yn yo yz :=
        fun q hq => nm_r (P := fun y => wY_stretch_18 q s (nI c) (nI n) ys w ym yn yo yz (d + 1) ((h ^^^ z) * 16777619) y) (nI_1 i) hq
      unfold wX_stretch_66
      refine tw_xn (tw_y (fun q hq => hY q hq) ?_)
      rw [st_md (by omega)] at hI
      by_cases h2 : i % (n + 4) + 1 = n + 4
      · rw [if_pos h2] at hI
        exact tw_xt (tw_eqT _ (n + 4) h2 (nI_1 _)) (tw_xr (pk_m1 d) hI)
      · rw [if_neg h2] at hI
        exact tw_xf (tw_eqF _ (n + 4) h2 (nI_1 _)) (tw_xr (nI_1 _) (tw_xr (pk_m1 d) hI))
    by_cases h4 : 4 ≤ i % (n + 4)
    · refine tw_xt (tw_leT 4 _ h4) (tw_yt (tw_leT 4 _ h4) ?_)
      rw [show nI (i % (n + 4)) - 4 = nI (i % (n + 4) - 4) from pk_sub (b := 4) h4]
      refine tw_xi (pk_in (i % (n + 4) - 4) 120 (by omega)) (tw_yi (pk_in (i % (n + 4) - 4) 120 (by omega)) ?_)
      rw [nI_clamp (by omega), by_g (hW.2 _)]
      exact key _
    · refine tw_xf (tw_leF 4 (i % (n + 4)) (by omega)) (tw_yf (tw_leF 4 (i % (n + 4)) (by omega)) ?_)
      rw [st_sh _ (by omega), st_by s _ (by omega)]
      exact key _
theorem st_stretch {post : Int32 → Prop} (v1 v2 : Int32) (hW : md_W n w) (hp : ∀ r, post r) : wpX_stretch (fun r => wpY_stretch (fun r' => r' = r ∧ post r) (nI n, ys, w, ym, yn, yo, yz) v1 v2) (nI n, xs, xh, xk, xy, (fun k => by_n (w k)), xm, xt, xp, kp, kq, kn, ke, kd, kf, kb, kw) v1 v2 := by
  by_cases h0 : v2 < 0
  · exact br_t h0 (br_t h0 (br_f (by decide) ⟨rfl, hp _⟩))
  obtain ⟨c, hc, rfl⟩ := nI_of h0
  by_cases h1 : c ≤ 2000
  · obtain ⟨r, hX, hY⟩ := vl_fin (st_lp (n := n) (w := w) (xs := xs) (xh := xh) (xk := xk) (xy := xy) (xm := xm) (xt := xt) (xp := xp) (kp := kp) (kq := kq) (kn := kn) (ke := ke) (kd := kd) (kf := kf) (kb := kb) (kw := kw) (ys := ys) (ym := ym) (yn := yn) (yo := yo) (yz := yz) v1 hW h1 c 0 (-2128831035) (by omega))
    rw [Nat.zero_mod] at hX
    exact br_f h0 (br_t (tw_leT c 2000 h1) (nm_r (nI_add n 4) ⟨c + 1, hX _ (br_f h0 (br_t (tw_ltT c 2001 (by omega)) (br_t rfl ⟨c + 1, hY _ ⟨rfl, hp _⟩⟩)))⟩))
  · exact br_f h0 (br_f (tw_leF c 2000 (by omega)) (br_f h0 (br_f (tw_ltF c 2001 (by omega)) (br_f (by decide) ⟨rfl, hp _⟩))))
end
end
section
/-! ===== the cipher ===== -/
/-- sixteen bits -/
def en_S (x : Int32) : Prop := ∀ i, 16 ≤ i → bt x i = false
theorem en_Sm (x : Int32) : en_S (x &&& 65535) := fun i h => by rw [b_and, b_65535, decide_eq_false (by omega), Bool.and_false]
theorem en_Sx {x y : Int32} (hx : en_S x) (hy : en_S y) : en_S (x ^^^ y) := fun i h => by rw [b_xor, hx i h, hy i h]; rfl
theorem en_Se {x : Int32} (hx : en_S x) : x &&& 65535 = x := by
  apply b_ext
  intro i hi
  rw [b_and, b_65535]
  by_cases h : i < 16
  · rw [decide_eq_true h, Bool.and_true]
  · rw [hx i (by omega)]; rfl
theorem en_S3 {x : Int32} (hx : en_S x) : en_S (x >>> ((3 : Int32) &&& 31)) := fun i h => by
  by_cases hi : i < 32
  · rw [show (3 : Int32) = nI 3 from rfl, b_sshr 3 (by omega) x hi]
    by_cases h2 : 3 + i < 32
    · rw [if_pos h2]; exact hx _ (by omega)
    · rw [if_neg h2]; exact hx _ (by omega)
  · exact b_big (by omega)
theorem en_S11 {x : Int32} (hx : en_S x) : x >>> ((11 : Int32) &&& 31) = (x.toUInt32 >>> ((11 : Int32).toUInt32 &&& Int32.toUInt32 31)).toInt32 := by
  apply b_ext
  intro i hi
  rw [show (11 : Int32) = nI 11 from rfl, b_sshr 11 (by omega) x hi, b_ushr 11 (by omega)]
  by_cases h2 : 11 + i < 32
  · rw [if_pos h2]
  · rw [if_neg h2, hx _ (by omega), b_big (by omega)]
theorem en_S16 (x : Int32) : en_S ((x.toUInt32 >>> ((16 : Int32).toUInt32 &&& Int32.toUInt32 31)).toInt32) := fun i h => by
  rw [show (16 : Int32) = nI 16 from rfl, b_ushr 16 (by omega)]
  exact b_big (by omega)
theorem en_mx (x y : Int32) : (x ^^^ y) &&& 65535 = (x &&& 65535) ^^^ (y &&& 65535) := by
  apply b_ext
  intro i hi
  rw [b_and, b_xor, b_xor, b_and, b_and, b_65535]
  cases decide (i < 16) <;> simp
theorem en_c : ∀ i, i < 6 → (nI i * 9029) &&& 65535 = nI i * 9029 := by decide +kernel
theorem en_Py (key : Int32) {i : Nat} (h : i < 6) : (en_T key (nI (7 * i % 32)) &&& 65535) ^^^ (nI i * 9029) = en_P key i := by
  unfold en_P
  rw [en_mx, en_c i h]
theorem en_tX {i : Nat} (h : i < 6) : (7 * nI i) &&& 31 = nI (7 * i % 32) := by
  rw [show (7 : Int32) = nI 7 from rfl, pk_mul, pk_andN (by omega) 5 (by decide)]
theorem en_tY {i : Nat} (h : i < 6) : (7 * nI i) - (7 * nI i) / 32 * 32 = nI (7 * i % 32) := by
  rw [show (7 : Int32) = nI 7 from rfl, pk_mul, show (32 : Int32) = nI 32 from rfl, pk_rem (by omega) (by omega) (by omega)]
theorem en_ty {post : Int32 → Prop} {w b : Int32} (hp : post (en_T w b)) : wpY_turned post w b := by
  unfold en_T at hp
  by_cases h : b = 0
  · rw [if_pos h] at hp; exact br_t h hp
  · rw [if_neg h] at hp; exact br_f h hp
section
variable {xl xs xh xk xy : Int32} {xw xm xt xp : Nat → Int32} {kp kq kn ke kd kf kb kw : Nat → Int64} {yl ys : Int32} {yw ym : Nat → Int32} {yn yo yz : Nat → Int64}
variable {n m : Nat} {w : Nat → Int32}
theorem sc_39 {post : SX → Prop} {J7 : Int32 → (Nat → Int32) → (Nat → Int32) → (Nat → Int32) → (Nat → Int32) → (Nat → Int64) → (Nat → Int64) → (Nat → Int64) → (Nat → Int64) → (Nat → Int64) → (Nat → Int64) → (Nat → Int64) → (Nat → Int64) → Prop} {key z : Int32} {i : Nat}
    (hi : i < 6) (hz : z = en_T key (nI (7 * i % 32))) (hJ : J7 (nI (i + 1)) xw xm xt (upd xp i (en_P key i)) kp kq kn ke kd kf kb kw) : wX_schedule_39 post J7 key (nI i) z xl xs xh xk xy xw xm xt xp kp kq kn ke kd kf kb kw :=
  ⟨pk_in i 6 hi, nm_r (by rw [nI_clamp (by omega), hz]; rfl) (nm_r (nI_1 i) hJ)⟩
theorem sc_lp {post : SX → Prop} {key : Int32} (hp : post (xl, xs, xh, xk, xy, xw, xm, xt, tu_w 6 (en_P key) xp, kp, kq, kn, ke, kd, kf, kb, kw)) :
    ∀ d i, i + d = 6 → wX_schedule_7 post key xl xs xh xk xy (d + 1) (nI i) xw xm xt (tu_w i (en_P key) xp) kp kq kn ke kd kf kb kw := by
  intro d
  induction d with
  | zero =>
    intro i hi
    obtain rfl : i = 6 := hi
    exact br_t (tw_leT 6 6 (by omega)) hp
  | succ d ih =>
    intro i hi
    have hJ := ih (i + 1) (by omega)
    rw [← tu_s] at hJ
    refine br_f (tw_leF 6 i (by omega)) (nm_r (en_tX (by omega)) ?_)
    by_cases h0 : nI (7 * i % 32) = 0
    · exact br_t h0 (sc_39 (by omega) (by unfold en_T; rw [if_pos h0]) hJ)
    · exact br_f h0 (sc_39 (by omega) (by unfold en_T; rw [if_neg h0]) hJ)
theorem sc_x {post : SX → Prop} {key : Int32} (hp : post (xl, xs, xh, xk, key, xw, xm, xt, tu_w 6 (en_P key) xp, kp, kq, kn, ke, kd, kf, kb, kw)) : wpX_schedule post (xl, xs, xh, xk, xy, xw, xm, xt, xp, kp, kq, kn, ke, kd, kf, kb, kw) key := by
  have h := sc_lp (xy := key) (xp := xp) hp 6 0 (by omega)
  rw [tu_0] at h
  exact ⟨7, h⟩
theorem sc_K {key : Int32} (hK : md_K xy xt xp kp kq kn ke kd kf kb yn yo yz) : md_K key xt (tu_w 6 (en_P key) xp) kp kq kn ke kd kf kb yn yo yz :=
  ⟨fun i hi => by unfold tu_w; rw [if_pos hi], hK.2⟩
/-- one word, both ways -/
theorem en_lp {key : Int32} (hP : ∀ i, i < 6 → xp i = en_P key i) :
    ∀ d i (l r : Int32), i + d = 6 → en_S l → en_S r → tw_L vl_R (fun p => wX_enciphered_13 p xl xs xh xk xy xw xm xt xp kp kq kn ke kd kf kb kw (d + 1) l r (nI i)) (fun q => wY_enciphered_13 q key (d + 1) l r (nI i)) := by
  intro d
  induction d with
  | zero =>
    intro i l r hi hl hr
    exact tw_xt (tw_leT 6 i (by omega)) (tw_yt (tw_leT 6 i (by omega)) (vl_ret _))
  | succ d ih =>
    intro i l r hi hl hr
    refine tw_xf (tw_leF 6 i (by omega)) (tw_yf (tw_leF 6 i (by omega)) (tw_xi (pk_in i 6 (by omega)) (tw_yi (by decide) ?_)))
    rw [en_tY (by omega), nI_clamp (by omega), hP i (by omega)]
    refine tw_y (fun q hq => en_ty hq) ?_
    refine tw_yr (en_Py key (by omega)) (tw_xn (tw_yn ?_))
    rw [en_S11 (en_Sm _)]
    refine tw_xn (tw_yn ?_)
    have h2 : en_S (((((((r * 40503) + en_P key i) &&& 65535) <<< ((5 : Int32) &&& 31)) ||| (((((r * 40503) + en_P key i) &&& 65535).toUInt32 >>> ((11 : Int32).toUInt32 &&& Int32.toUInt32 31)).toInt32)) &&& 65535) ^^^ (r >>> ((3 : Int32) &&& 31))) :=
      en_Sx (en_Sm _) (en_S3 hr)
    refine tw_xn (tw_yr (en_Se (en_Sx hl h2)) (tw_xr (nI_1 i) (tw_yr (nI_1 i) ?_)))
    exact ih (i + 1) _ _ (by omega) hr (en_Sx hl h2)
theorem en_en {key z : Int32} (hP : ∀ i, i < 6 → xp i = en_P key i) : tw_L vl_R (fun p => wpX_enciphered p (xl, xs, xh, xk, xy, xw, xm, xt, xp, kp, kq, kn, ke, kd, kf, kb, kw) z) (fun q => wpY_enciphered q z key) :=
  tw_xn (tw_xn (tw_xe 7 (tw_yn (tw_yn (tw_ye 7 (en_lp hP 6 0 _ _ (by omega) (en_S16 _) (en_Sm _)))))))
end
theorem by_X {x : Int32} (y : Int32) (h : by_B x) : by_B (x ^^^ (y &&& 255)) := by
  obtain ⟨c, hc, rfl⟩ := h
  obtain ⟨j, hj, e⟩ := by_BA y
  rw [e, nx_xor]
  exact by_Bn (Nat.xor_lt_two_pow (n := 8) hc hj)
theorem md_set {m k : Nat} {xm ym : Nat → Int32} {c : Int32} (h : md_M m xm ym) (hc : by_B c) : md_M m (upd xm k (by_n c)) (upd ym k c) := by
  intro j hj h2
  by_cases e : j = k
  · subst e
    rw [pk_us, pk_us]
    exact ⟨hc, rfl⟩
  · rw [pk_un e, pk_un e]
    exact h j hj h2
section
variable {xl xs xh xk xy : Int32} {xw xm xt xp : Nat → Int32} {kp kq kn ke kd kf kb kw : Nat → Int64} {yl ys : Int32} {yw ym : Nat → Int32} {yn yo yz : Nat → Int64}
variable {P Q : Type} {R : (P → Prop) → (Q → Prop) → Prop} {n m : Nat} {w : Nat → Int32} {DX : P → SX → Prop} {DY : Q → SY → Prop}
theorem fb_in {JX : P → Int32 → Int32 → (Nat → Int32) → (Nat → Int32) → (Nat → Int32) → (Nat → Int32) → (Nat → Int64) → (Nat → Int64) → (Nat → Int64) → (Nat → Int64) → (Nat → Int64) → (Nat → Int64) → (Nat → Int64) → (Nat → Int64) → Prop}
    {JY : Q → Int32 → Int32 → (Nat → Int32) → (Nat → Int32) → (Nat → Int64) → (Nat → Int64) → (Nat → Int64) → Prop} {key bk mask : Int32} {a : Nat} (hm : m ≤ 200) (ha : a < 200)
    (hJ : ∀ z xm' ym', md_M m xm' ym' → tw_L R (fun p => JX p z (nI (a + 4)) xw xm' xt xp kp kq kn ke kd kf kb kw) (fun q => JY q z (nI (a + 4)) yw ym' yn yo yz)) :
    ∀ d k (z : Int32) xm ym, k + d = 4 → md_M m xm ym →
    tw_L R (fun p => wX_feedback_24 (DX p) (JX p) bk (nI a) mask xl (nI m) xh xk xy (d + 1) z (nI k) xw xm xt xp kp kq kn ke kd kf kb kw) (fun q => wY_feed_26 (DY q) (JY q) key bk (nI a) mask yl (nI m) (d + 1) z (nI k) yw ym yn yo yz) := by
  have e4 : nI a + 4 = nI (a + 4) := nI_add a 4
  intro d
  induction d with
  | zero =>
    intro k z xm ym hk hM
    exact tw_xt (tw_leT 4 k (by omega)) (tw_yt (tw_leT 4 k (by omega)) (tw_xr e4 (tw_yr e4 (hJ z xm ym hM))))
  | succ d ih =>
    intro k z xm ym hk hM
    refine tw_xf (tw_leF 4 k (by omega)) (tw_yf (tw_leF 4 k (by omega)) ?_)
    rw [nI_add]
    by_cases h : m ≤ a + k
    · exact tw_xt (tw_leT m (a + k) h) (tw_yt (tw_leT m (a + k) h) (tw_xr e4 (tw_yr e4 (hJ z xm ym hM))))
    refine tw_xf (tw_leF m (a + k) (by omega)) (tw_yf (tw_leF m (a + k) (by omega)) (tw_xi (pk_in (a + k) 200 (by omega)) (tw_yi (pk_in (a + k) 400 (by omega)) ?_)))
    rw [nI_clamp (by omega)]
    obtain ⟨hb, hx⟩ := hM (a + k) (by omega) (by omega)
    refine tw_xr (e' := ym (a + k)) (by rw [hx, by_g hb]) (tw_yn (tw_xn (tw_yn ?_)))
    refine tw_xi (pk_in (a + k) 200 (by omega)) (tw_yi (pk_in (a + k) 400 (by omega)) ?_)
    rw [by_vn]
    refine tw_xn (tw_yn ?_)
    have hM' := md_set (k := a + k) hM (by_X ((mask.toUInt32 >>> ((24 - (8 * nI k)).toUInt32 &&& Int32.toUInt32 31)).toInt32) hb)
    refine tw_br Iff.rfl (fun _ => ?_) (fun _ => ?_)
    · exact tw_xn (tw_yn (tw_xr (nI_1 k) (tw_yr (nI_1 k) (ih (k + 1) _ _ _ (by omega) hM'))))
    · exact tw_xn (tw_yn (tw_xr (nI_1 k) (tw_yr (nI_1 k) (ih (k + 1) _ _ _ (by omega) hM'))))
theorem fb_lp {key bk : Int32} (hm : m ≤ 200) (hP : ∀ i, i < 6 → xp i = en_P key i)
    (hD : ∀ xm' ym', md_M m xm' ym' → tw_L R (fun p => DX p (xl, nI m, xh, xk, xy, xw, xm', xt, xp, kp, kq, kn, ke, kd, kf, kb, kw)) (fun q => DY q (yl, nI m, yw, ym', yn, yo, yz))) :
    ∀ d a (z : Int32) xm ym, m - a < d → a < m + 4 → md_M m xm ym →
    tw_L R (fun p => wX_feedback_4 (DX p) bk xl (nI m) xh xk xy d z (nI a) xw xm xt xp kp kq kn ke kd kf kb kw) (fun q => wY_feed_5 (DY q) key bk yl (nI m) d z (nI a) yw ym yn yo yz) := by
  intro d
  induction d with
  | zero => intro a z xm ym h; omega
  | succ d ih =>
    intro a z xm ym hd ha hM
    by_cases h : m ≤ a
    · exact tw_xt (tw_leT m a h) (tw_yt (tw_leT m a h) (hD xm ym hM))
    refine tw_xf (tw_leF m a (by omega)) (tw_yf (tw_leF m a (by omega)) ?_)
    obtain ⟨r, hX, hY⟩ := vl_fin (en_en (xl := xl) (xs := nI m) (xh := xh) (xk := xk) (xy := xy) (xw := xw) (xm := xm) (xt := xt) (kp := kp) (kq := kq) (kn := kn) (ke := ke) (kd := kd) (kf := kf) (kb := kb) (kw := kw) (z := z) hP)
    refine tw_x (fun p hp => hX _ hp) (tw_y (fun q hq => hY _ hq) ?_)
    exact tw_xe 5 (tw_ye 5 (fb_in hm (by omega) (fun z' xm' ym' hM' => ih (a + 4) z' xm' ym' (by omega) (by omega) hM') 4 0 0 xm ym (by omega) hM))
theorem fb_fb {key bk : Int32} (hm : m ≤ 200) (hP : ∀ i, i < 6 → xp i = en_P key i) (hM : md_M m xm ym)
    (hD : ∀ xm' ym', md_M m xm' ym' → tw_L R (fun p => DX p (xl, nI m, xh, xk, xy, xw, xm', xt, xp, kp, kq, kn, ke, kd, kf, kb, kw)) (fun q => DY q (yl, nI m, yw, ym', yn, yo, yz))) :
    tw_L R (fun p => wpX_feedback (DX p) (xl, nI m, xh, xk, xy, xw, xm, xt, xp, kp, kq, kn, ke, kd, kf, kb, kw) bk) (fun q => wpY_feed (DY q) (yl, nI m, yw, ym, yn, yo, yz) key bk) :=
  tw_xe (m + 1) (tw_ye (m + 1) (fb_lp hm hP hD (m + 1) 0 0 xm ym (by omega) (by omega) hM))
end
/-! encipher -/
theorem ec_k : ∀ k, k < 4 → ¬ (24 : Int32) - 8 * nI k < 0 ∧ ((24 : Int32) - 8 * nI k) + (-8) = 24 - 8 * nI (k + 1) := by decide
section
variable {xl xs xh xk xy : Int32} {xw xm xt xp : Nat → Int32} {kp kq kn ke kd kf kb kw : Nat → Int64} {yl ys : Int32} {yw ym : Nat → Int32} {yn yo yz : Nat → Int64}
variable {n m : Nat} {w : Nat → Int32}
theorem ec_lp {s : Int32} {DY : (Int32 → SY → Prop) → SY → Prop} :
    ∀ d k m xm ym, k + d = 4 → m + d < 1000 → md_M m xm ym →
    (∀ xm' ym', md_M (m + d) xm' ym' → tw_L ed_R (fun p => wX_encipher_20 p s 1 4 xl (nI (m + d)) xh xk xy xw xm' xt xp kp kq kn ke kd kf kb kw) (fun q => DY q (yl, nI (m + d), yw, ym', yn, yo, yz))) →
    tw_L ed_R (fun p => wX_encipher_20 p s (d + 1) (nI k) xl (nI m) xh xk xy xw xm xt xp kp kq kn ke kd kf kb kw) (fun q => wY_putWord_3 (DY q) s (d + 1) (24 - 8 * nI k) yl (nI m) yw ym yn yo yz) := by
  intro d
  induction d with
  | zero =>
    intro k m xm ym hk hm hM kk
    obtain rfl : k = 4 := hk
    exact tw_yt (by decide) (kk xm ym hM)
  | succ d ih =>
    intro k m xm ym hk hm hM kk
    refine tw_xf (tw_leF 4 k (by omega)) (tw_yf (ec_k k (by omega)).1 ?_)
    refine pu_put hM (by omega) ?_ (fun xm' ym' hM' => ?_)
    · rw [st_sh k (by omega)]; exact st_by s _ (by omega)
    refine tw_xr (nI_1 k) (tw_yr (ec_k k (by omega)).2 (ih (k + 1) (m + 1) xm' ym' (by omega) (by omega) hM' (fun xm'' ym'' hM'' => ?_)))
    rw [show m + 1 + d = m + (d + 1) from by omega] at hM'' ⊢
    exact kk xm'' ym'' hM''
theorem ec_20 (v1 v2 : Int32) (hW : md_W n w) (hH : md_H n w xh xk) (hK : md_K xy xt xp kp kq kn ke kd kf kb yn yo yz) (e : v1 = xy) :
    tw_L ed_R (fun p => ∃ n20, wX_encipher_20 p v2 n20 0 (nI n) (nI 0) xh xk xy (fun k => by_n (w k)) xm xt xp kp kq kn ke kd kf kb kw) (fun q => wpY_encipher q (nI n, ys, w, ym, yn, yo, yz) v1 v2) := by
  have hn := hW.1
  refine tw_xe 5 (tw_ye 5 (ec_lp 4 0 0 xm ym (by omega) (by omega) (md_M0 _ _) (fun xm' ym' hM' => ?_)))
  refine tw_xt (by decide) ?_
  refine pu_put hM' (by omega) (st_by v2 8 (by omega)) (fun xm' ym' hM' => ?_)
  refine pu_put hM' (by omega) rfl (fun xm' ym' hM' => ?_)
  refine pu_cp 0 n rfl rfl (congrArg nI (by omega)) hM' (by omega) (by omega) (fun xm' ym' hM' => ?_)
  by_cases h : 0 + 4 + 1 + 1 + n ≤ 120
  · refine tw_xt (tw_leT _ 120 h) (tw_yt (tw_leT _ 120 h) ?_)
    exact fb_fb (by omega) (by rw [e]; exact hK.1) hM' (fun xm' ym' hM' => tu_end (fun _ _ _ _ _ _ _ _ _ _ _ _ _ _ _ _ _ _ _ h => h) (fun _ _ _ _ _ _ _ _ _ h => h) hM' (by omega) hW hH hK)
  · exact tw_xf (tw_leF (0 + 4 + 1 + 1 + n) 120 (by omega)) (tw_yf (tw_leF (0 + 4 + 1 + 1 + n) 120 (by omega)) (ed_ret hW hH hK))
theorem ec_enc (v1 v2 : Int32) (hW : md_W n w) (hH : md_H n w xh xk) (hK : md_K xy xt xp kp kq kn ke kd kf kb yn yo yz) :
    tw_L ed_R (fun p => wpX_encipher p (nI n, xs, xh, xk, xy, (fun k => by_n (w k)), xm, xt, xp, kp, kq, kn, ke, kd, kf, kb, kw) v1 v2) (fun q => wpY_encipher q (nI n, ys, w, ym, yn, yo, yz) v1 v2) := by
  by_cases h : v1 = xy
  · exact tw_xt h (ec_20 v1 v2 hW hH hK h)
  · exact tw_xf h (tw_x (fun p hp => sc_x hp) (ec_20 v1 v2 hW hH (sc_K hK) rfl))
/-! decipher -/
theorem dc_xl {post : Int32 → SX → Prop} {g : Nat → Int32} (hm : m ≤ 120) (h6 : 6 ≤ m) (hg : ∀ k, k < m - 6 → xm (k + 6) = by_n (g k))
    (hp : post (nI (m - 6)) (nI (m - 6), nI (m - 6), -2128831035, 0, xy, (fun k => by_n (tu_w (m - 6) g w k)), tu_w (m - 6) (fun k => xm (k + 6)) xm, xt, xp, kp, kq, kn, ke, kd, kf, kb, kw)) :
    ∀ d j, j + 6 + d = m → wX_decipher_80 post xl (nI m) xh xk xy (d + 1) (nI (j + 6)) (fun k => by_n (w k)) (tu_w j (fun k => xm (k + 6)) xm) xt xp kp kq kn ke kd kf kb kw := by
  intro d
  induction d with
  | zero =>
    intro j hj
    obtain rfl : j = m - 6 := by omega
    refine br_t (tw_leT m (m - 6 + 6) (by omega)) (nm_r (pk_sub (b := 6) h6) ?_)
    refine tu_x (by omega) (fun k hk => ?_) hp
    unfold tu_w
    rw [if_pos hk]
    exact hg k hk
  | succ d ih =>
    intro j hj
    have e6 : nI (j + 6) - 6 = nI j := (pk_sub (b := 6) (by omega)).trans (congrArg nI (by omega))
    refine br_f (tw_leF m (j + 6) (by omega)) ⟨pk_in (j + 6) 200 (by omega), pk_in j 200 (by omega) e6, nm_r (e' := tu_w (j + 1) (fun k => xm (k + 6)) xm) ?_ (nm_r (nI_1 (j + 6)) ?_)⟩
    · rw [nI_clamp (by omega), pk_cl j e6, ← tu_s]
      have e7 : tu_w j (fun k => xm (k + 6)) xm (j + 6) = xm (j + 6) := by unfold tu_w; rw [if_neg (by omega)]
      rw [e7, by_v, hg j (by omega), by_nn]
    · rw [show j + 6 + 1 = j + 1 + 6 from by omega]
      exact ih (j + 1) (by omega)
theorem dc_yl {post : Int32 → SY → Prop} {c : Int32} (hm : m ≤ 114) (hp : post (nI m) (nI m, c, tu_w m (fun k => ym (k + 6)) w, ym, yn, yo, yz)) :
    ∀ d i, i + d = m → wY_decipher_78 post (nI m) c (d + 1) (nI i) (tu_w i (fun k => ym (k + 6)) w) ym yn yo yz := by
  intro d
  induction d with
  | zero =>
    intro i hi
    obtain rfl : i = m := hi
    exact br_t (tw_leT i i (by omega)) hp
  | succ d ih =>
    intro i hi
    have e6 : nI i + 6 = nI (i + 6) := nI_add i 6
    refine br_f (tw_leF m i (by omega)) ⟨pk_in (i + 6) 400 (by omega) e6, pk_in i 120 (by omega), nm_r (e' := tu_w (i + 1) (fun k => ym (k + 6)) w) ?_ (nm_r (nI_1 i) (ih (i + 1) (by omega)))⟩
    rw [nI_clamp (by omega), pk_cl (i + 6) e6, ← tu_s]
theorem dc_25 (v1 : Int32) (h6 : 6 ≤ n) (hW : md_W n w) (hH : md_H n w xh xk) (hK : md_K xy xt xp kp kq kn ke kd kf kb yn yo yz) (e : v1 = xy) :
    tw_L ed_R (fun p => wX_decipher_25 p (nI n) xs xh xk xy (fun k => by_n (w k)) xm xt xp kp kq kn ke kd kf kb kw) (fun q => wpY_decipher q (nI n, ys, w, ym, yn, yo, yz) v1) := by
  have hn := hW.1
  unfold wX_decipher_25
  refine tw_yt (tw_leT 6 n h6) ?_
  refine pu_cp (m := 0) 0 n rfl rfl (congrArg nI (by omega)) (md_M0 _ _) (by omega) (by omega) (fun xm' ym' hM' => ?_)
  refine fb_fb (by omega) (by rw [e]; exact hK.1) hM' (fun xm ym hM => ?_)
  rw [Nat.zero_add] at hM ⊢
  have m2 := hM 2 (by omega) (by omega)
  have m3 := hM 3 (by omega) (by omega)
  have m4 := hM 4 (by omega) (by omega)
  have m5 := hM 5 (by omega) (by omega)
  have c24 : xm 2 = xm 4 ↔ ym 4 = ym 2 := by rw [m2.2, m4.2, by_in m2.1 m4.1]; exact eq_comm
  have c35 : xm 3 = xm 5 ↔ ym 5 = ym 3 := by rw [m3.2, m5.2, by_in m3.1 m5.1]; exact eq_comm
  refine tw_br c24 (fun _ => ?_) (fun _ => ed_ret hW hH hK)
  refine tw_br c35 (fun _ => ?_) (fun _ => ed_ret hW hH hK)
  have hg : ∀ k, k < n - 6 → xm (k + 6) = by_n (ym (k + 6)) := fun k hk => (hM (k + 6) (by omega) (by omega)).2
  refine tw_yr (pk_sub (b := 6) h6) ?_
  refine tw_x (fun p hp => ?_) (tw_y (fun q hq => ?_) (ed_ret (r := nI (n - 6)) (xs := nI (n - 6)) (xm := tu_w (n - 6) (fun k => xm (k + 6)) xm) (xt := xt) (ys := nI n) (ym := ym) (kw := kw) (w := tu_w (n - 6) (fun k => ym (k + 6)) w) ⟨by omega, tu_B hW.2 (fun k hk => (hM (k + 6) (by omega) (by omega)).1)⟩ (tu_H (n - 6) _) hK))
  · have h := dc_xl (w := w) (xl := nI n) (xh := xh) (xk := xk) (xy := xy) (xt := xt) (xp := xp) (kp := kp) (kq := kq) (kn := kn) (ke := ke) (kd := kd) (kf := kf) (kb := kb) (kw := kw) (post := p) (g := fun k => ym (k + 6)) hn h6 hg hp (n - 6) 0 (by omega)
    rw [tu_0] at h
    exact ⟨n - 6 + 1, h⟩
  · have h := dc_yl (w := w) (ym := ym) (yn := yn) (yo := yo) (yz := yz) (post := q) (c := nI n) (m := n - 6) (by omega) hq (n - 6) 0 (by omega)
    rw [tu_0] at h
    exact ⟨n - 6 + 1, h⟩
theorem dc_dec (v1 : Int32) (hW : md_W n w) (hH : md_H n w xh xk) (hK : md_K xy xt xp kp kq kn ke kd kf kb yn yo yz) :
    tw_L ed_R (fun p => wpX_decipher p (nI n, xs, xh, xk, xy, (fun k => by_n (w k)), xm, xt, xp, kp, kq, kn, ke, kd, kf, kb, kw) v1) (fun q => wpY_decipher q (nI n, ys, w, ym, yn, yo, yz) v1) := by
  have hn := hW.1
  by_cases h6 : 6 ≤ n
  · by_cases h : v1 = xy
    · exact tw_xt (tw_leT 6 n h6) (tw_xt h (dc_25 v1 h6 hW hH hK h))
    · exact tw_xt (tw_leT 6 n h6) (tw_xf h (tw_x (fun p hp => sc_x hp) (dc_25 v1 h6 hW hH (sc_K hK) rfl)))
  · exact tw_xf (tw_leF 6 n (by omega)) (tw_yf (tw_leF 6 n (by omega)) (ed_ret hW hH hK))
end
end
section
/-! ===== the checksum: the table's way and bit by bit, both linear ===== -/
def cr_k (b : Bool) : Int32 := if b = true then 8801531 else 0
theorem cr_kx (a b : Bool) : cr_k (a ^^ b) = cr_k a ^^^ cr_k b := by cases a <;> cases b <;> decide
def cr_y (b : Bool) (c : Int32) : Int32 := ((c <<< ((1 : Int32) &&& 31)) &&& 16777215) ^^^ cr_k (bt c 23 ^^ b)
def cr_Y (b c : Int32) : Nat → Int32
  | 0 => c
  | j + 1 => cr_y (bt b (7 - j)) (cr_Y b c j)
theorem cr_4 (a b c d : Int32) : (a ^^^ b) ^^^ (c ^^^ d) = (a ^^^ c) ^^^ (b ^^^ d) := by
  apply b_ext
  intro i _
  rw [b_xor, b_xor, b_xor, b_xor, b_xor, b_xor]
  cases bt a i <;> cases bt b i <;> cases bt c i <;> cases bt d i <;> rfl
theorem cr_mx (x y m : Int32) : (x ^^^ y) &&& m = (x &&& m) ^^^ (y &&& m) := by
  apply b_ext
  intro i _
  rw [b_and, b_xor, b_xor, b_and, b_and]
  cases bt x i <;> cases bt y i <;> cases bt m i <;> rfl
theorem cr_lx (n : Nat) (hn : n < 32) (x y : Int32) : (x ^^^ y) <<< (nI n &&& 31) = (x <<< (nI n &&& 31)) ^^^ (y <<< (nI n &&& 31)) := by
  apply b_ext
  intro i hi
  rw [b_shl n hn _ hi, b_xor, b_xor, b_shl n hn _ hi, b_shl n hn _ hi]
  cases decide (n ≤ i) <;> cases bt x (i - n) <;> cases bt y (i - n) <;> rfl
theorem cr_rx (n : Nat) (hn : n < 32) (x y : Int32) : (x ^^^ y) >>> (nI n &&& 31) = (x >>> (nI n &&& 31)) ^^^ (y >>> (nI n &&& 31)) := by
  apply b_ext
  intro i hi
  rw [b_sshr n hn _ hi, b_xor, b_xor, b_xor, b_sshr n hn _ hi, b_sshr n hn _ hi]
  by_cases h : n + i < 32
  · rw [if_pos h, if_pos h, if_pos h]
  · rw [if_neg h, if_neg h, if_neg h]
theorem cr_yx (a b : Bool) (x y : Int32) : cr_y (a ^^ b) (x ^^^ y) = cr_y a x ^^^ cr_y b y := by
  unfold cr_y
  rw [show ((1 : Int32)) = nI 1 from rfl, cr_lx 1 (by omega), cr_mx, b_xor, show ((bt x 23 ^^ bt y 23) ^^ (a ^^ b)) = ((bt x 23 ^^ a) ^^ (bt y 23 ^^ b)) from by cases bt x 23 <;> cases bt y 23 <;> cases a <;> cases b <;> rfl, cr_kx, cr_4]
theorem cr_Yx (b b' c c' : Int32) : ∀ j, cr_Y (b ^^^ b') (c ^^^ c') j = cr_Y b c j ^^^ cr_Y b' c' j
  | 0 => rfl
  | j + 1 => by
    show cr_y (bt (b ^^^ b') (7 - j)) (cr_Y (b ^^^ b') (c ^^^ c') j) = cr_y (bt b (7 - j)) (cr_Y b c j) ^^^ cr_y (bt b' (7 - j)) (cr_Y b' c' j)
    rw [cr_Yx b b' c c' j, b_xor, cr_yx]
def cr_G (c b : Int32) : Int32 := ((c <<< ((8 : Int32) &&& 31)) ^^^ cr_Y 0 ((((c >>> ((16 : Int32) &&& 31)) ^^^ b) &&& 255) <<< ((16 : Int32) &&& 31)) 8) &&& 16777215
theorem cr_Gx (c b c' b' : Int32) : cr_G (c ^^^ c') (b ^^^ b') = cr_G c b ^^^ cr_G c' b' := by
  unfold cr_G
  rw [show (8 : Int32) = nI 8 from rfl, show (16 : Int32) = nI 16 from rfl, cr_lx 8 (by omega), cr_rx 16 (by omega), cr_4 (c >>> (nI 16 &&& 31)), cr_mx _ _ 255, cr_lx 16 (by omega)]
  have h2 := cr_Yx 0 0 ((((c >>> (nI 16 &&& 31)) ^^^ b) &&& 255) <<< (nI 16 &&& 31)) ((((c' >>> (nI 16 &&& 31)) ^^^ b') &&& 255) <<< (nI 16 &&& 31)) 8
  rw [show (0 : Int32) ^^^ 0 = 0 from by decide] at h2
  rw [h2, cr_4, cr_mx]
theorem cr_n2 {k r : Nat} (hr : r < 2 ^ k) : 2 ^ k ^^^ r = 2 ^ k + r := by
  have hx : (2 ^ k + r) ^^^ 2 ^ k = r := by
    apply Nat.eq_of_testBit_eq
    intro i
    rw [Nat.testBit_xor, Nat.testBit_two_pow]
    rcases Nat.lt_trichotomy i k with h | h | h
    · rw [Nat.testBit_two_pow_add_gt h]
      simp [show ¬ k = i by omega]
    · subst h
      rw [Nat.testBit_two_pow_add_eq]
      simp
    · have a1 : 2 ^ (k + 1) ≤ 2 ^ i := Nat.pow_le_pow_right (by decide) h
      rw [Nat.pow_succ] at a1
      rw [Nat.testBit_lt_two_pow (show 2 ^ k + r < 2 ^ i by omega), Nat.testBit_lt_two_pow (show r < 2 ^ i by omega)]
      simp [show ¬ k = i by omega]
  rw [Nat.xor_comm]
  calc r ^^^ 2 ^ k = ((2 ^ k + r) ^^^ 2 ^ k) ^^^ 2 ^ k := by rw [hx]
    _ = 2 ^ k + r := by rw [Nat.xor_assoc, Nat.xor_self, Nat.xor_zero]
/-- linear, and equal on the single bits: equal -/
theorem cr_ext {f g : Int32 → Int32} (hf : ∀ x y, f (x ^^^ y) = f x ^^^ f y) (hg : ∀ x y, g (x ^^^ y) = g x ^^^ g y) :
    ∀ N, (∀ i, i < N → f (nI (2 ^ i)) = g (nI (2 ^ i))) → ∀ n, n < 2 ^ N → f (nI n) = g (nI n)
  | 0, _, n, hn => by
    have h0 : ∀ f : Int32 → Int32, (∀ x y, f (x ^^^ y) = f x ^^^ f y) → f 0 = 0 := fun f hf => by
      have := hf 0 0
      rwa [Int32.xor_self, Int32.xor_self] at this
    rw [show n = 0 from by omega, nI_0, h0 f hf, h0 g hg]
  | N + 1, hb, n, hn => by
    have ih := cr_ext hf hg N (fun i hi => hb i (by omega))
    rcases Nat.lt_or_ge n (2 ^ N) with h | h
    · exact ih n h
    · obtain ⟨r, rfl⟩ : ∃ r, n = 2 ^ N + r := ⟨n - 2 ^ N, by omega⟩
      have hr : r < 2 ^ N := by rw [Nat.pow_succ] at hn; omega
      rw [← cr_n2 hr, ← nx_xor, hf, hg, hb N (by omega), ih r hr]
theorem cr_b24 : ∀ i, i < 24 → cr_Y 0 (nI (2 ^ i)) 8 = cr_G (nI (2 ^ i)) 0 := by decide +kernel
theorem cr_b8 : ∀ i, i < 8 → cr_Y (nI (2 ^ i)) 0 8 = cr_G 0 (nI (2 ^ i)) := by decide +kernel
theorem cr_FG {c b : Nat} (hc : c < 2 ^ 24) (hb : b < 2 ^ 8) : cr_Y (nI b) (nI c) 8 = cr_G (nI c) (nI b) := by
  have h1 := cr_ext (f := fun x => cr_Y 0 x 8) (g := fun x => cr_G x 0) (fun x y => by have := cr_Yx 0 0 x y 8; rwa [Int32.xor_self] at this) (fun x y => by have := cr_Gx x 0 y 0; rwa [Int32.xor_self] at this) 24 cr_b24 c hc
  have h2 := cr_ext (f := fun x => cr_Y x 0 8) (g := fun x => cr_G 0 x) (fun x y => by have := cr_Yx x y 0 0 8; rwa [Int32.xor_self] at this) (fun x y => by have := cr_Gx 0 x 0 y; rwa [Int32.xor_self] at this) 8 cr_b8 b hb
  have h3 := cr_Yx 0 (nI b) (nI c) 0 8
  have h4 := cr_Gx (nI c) 0 0 (nI b)
  rw [Int32.zero_xor, Int32.xor_zero] at h3 h4
  rw [h3, h4, h1, h2]
/-- twenty-four bits -/
def cr_S (x : Int32) : Prop := ∀ i, 24 ≤ i → bt x i = false
theorem cr_M (i : Nat) : bt 16777215 i = decide (i < 24) := by
  rcases Nat.lt_or_ge i 32 with h | h
  · exact (by decide +kernel : ∀ i, i < 32 → bt 16777215 i = decide (i < 24)) i h
  · rw [b_big h, decide_eq_false (by omega)]
theorem cr_Sk (b : Bool) : cr_S (cr_k b) := fun i h => by
  rcases Nat.lt_or_ge i 32 with hi | hi
  · cases b
    · exact b_0 i
    · exact (by decide +kernel : ∀ i, i < 32 → 24 ≤ i → bt (cr_k true) i = false) i hi h
  · exact b_big hi
theorem cr_Sm (x : Int32) : cr_S (x &&& 16777215) := fun i h => by rw [b_and, cr_M, decide_eq_false (by omega), Bool.and_false]
theorem cr_Sy (b : Bool) (c : Int32) : cr_S (cr_y b c) := fun i h => by unfold cr_y; rw [b_xor, cr_Sm _ i h, cr_Sk _ i h]; rfl
theorem cr_SY {b c : Int32} (hc : cr_S c) : ∀ j, cr_S (cr_Y b c j)
  | 0 => hc
  | _ + 1 => cr_Sy _ _
theorem cr_Sn {c : Int32} (hc : cr_S c) : ∃ n, n < 2 ^ 24 ∧ c = nI n := by
  obtain ⟨n, hn, e⟩ := pk_andE c (m := 16777215) 24 (by decide)
  refine ⟨n, hn, ?_⟩
  rw [← e]
  apply b_ext
  intro i _
  rw [b_and, cr_M]
  by_cases h : i < 24
  · rw [decide_eq_true h, Bool.and_true]
  · rw [hc i (by omega)]; rfl
theorem cr_1b (y : Int32) : y &&& 1 = nI (if bt y 0 = true then 1 else 0) := by
  apply b_ext
  intro i hi
  have h1 : ∀ i, i < 32 → bt 1 i = decide (i = 0) := by decide +kernel
  rw [b_and, h1 i hi]
  by_cases h : i = 0
  · subst h
    cases bt y 0 <;> decide
  · rw [decide_eq_false h, Bool.and_false]
    have h2 : ∀ i, i < 32 → i ≠ 0 → bt (nI 1) i = false := by decide +kernel
    cases bt y 0
    · exact (b_0 i).symm
    · exact (h2 i hi h).symm
theorem cr_bit0 {y : Int32} : y &&& 1 = 0 ↔ bt y 0 = false := by
  rw [cr_1b]
  cases bt y 0 <;> decide
theorem cr_bit1 {y : Int32} : y &&& 1 = 1 ↔ bt y 0 = true := by
  rw [cr_1b]
  cases bt y 0 <;> decide
theorem cr_s0 (n : Nat) (hn : n < 32) (x : Int32) : bt (x >>> (nI n &&& 31)) 0 = bt x n := by
  rw [b_sshr n hn x (by omega), if_pos (by omega)]; rfl
theorem cr_xy {c : Int32} (hc : cr_S c) : cr_x c = cr_y false c := by
  have e1 : ∀ {i}, i < 32 → bt (c <<< ((1 : Int32) &&& 31)) i = (decide (1 ≤ i) && bt c (i - 1)) := fun {i} hi => b_shl 1 (by omega) c hi
  have h23 : bt ((c <<< ((1 : Int32) &&& 31)) >>> ((24 : Int32) &&& 31)) 0 = bt c 23 := by
    rw [show (24 : Int32) = nI 24 from rfl, cr_s0 24 (by omega), e1 (by omega)]; rfl
  unfold cr_x cr_y
  rw [Bool.xor_false]
  by_cases h : bt c 23 = true
  · rw [if_pos (cr_bit1.mpr (by rw [h23]; exact h)), h]
    apply b_ext
    intro i hi
    have hk : ∀ i, i < 32 → bt 25578747 i = (bt (cr_k true) i || decide (i = 24)) := by decide +kernel
    rw [b_xor, b_xor, b_and, cr_M, hk i hi]
    rcases Nat.lt_trichotomy i 24 with h2 | h2 | h2
    · rw [decide_eq_true h2, decide_eq_false (show ¬ i = 24 by omega), Bool.and_true, Bool.or_false]
    · subst h2
      rw [e1 (by omega), show 24 - 1 = 23 from rfl, h]
      decide
    · rw [e1 hi, hc (i - 1) (by omega), decide_eq_false (show ¬ i < 24 by omega), decide_eq_false (show ¬ i = 24 by omega), Bool.and_false, Bool.or_false]
      rfl
  · have h' : bt c 23 = false := by cases hb : bt c 23 <;> simp_all
    rw [if_neg (fun z => h (by rw [← h23]; exact cr_bit1.mp z)), h']
    show _ = _ ^^^ (0 : Int32)
    rw [Int32.xor_zero]
    apply b_ext
    intro i hi
    rw [b_and, cr_M]
    by_cases h2 : i < 24
    · rw [decide_eq_true h2, Bool.and_true]
    · rw [decide_eq_false h2, Bool.and_false, e1 hi]
      by_cases h3 : i = 24
      · rw [h3]; simp [h']
      · rw [hc (i - 1) (by omega), Bool.and_false]
theorem cr_XY {c : Int32} (hc : cr_S c) : ∀ j, cr_X c j = cr_Y 0 c j
  | 0 => rfl
  | j + 1 => by
    show cr_x (cr_X c j) = cr_y (bt 0 (7 - j)) (cr_Y 0 c j)
    rw [cr_XY hc j, cr_xy (cr_SY hc j), b_0]
theorem cr_TY {j : Nat} (hj : j < 256) : cr_T j = cr_Y 0 (nI j <<< ((16 : Int32) &&& 31)) 8 := by
  unfold cr_T
  refine cr_XY (fun i h => ?_) 8
  rcases Nat.lt_or_ge i 32 with hi | hi
  · rw [b_shl16 _ hi]
    have : bt (nI j) (i - 16) = false := by
      unfold bt
      show (BitVec.ofNat 32 j).getLsbD (i - 16) = false
      rw [BitVec.getLsbD_ofNat]
      rw [Nat.testBit_lt_two_pow (Nat.lt_of_lt_of_le hj (show 2 ^ 8 ≤ 2 ^ (i - 16) from Nat.pow_le_pow_right (by omega) (by omega))), Bool.and_false]
    rw [this, Bool.and_false]
  · exact b_big hi
/-- one byte by the table -/
theorem cr_step {c b : Int32} {xt : Nat → Int32} (hT : ∀ j, j < 256 → xt j = cr_T j) (hc : cr_S c) (hb : by_B b) :
    vp_in (((c >>> ((16 : Int32) &&& 31)) ^^^ by_n b) &&& 255) 256 ∧
    ((c <<< ((8 : Int32) &&& 31)) ^^^ (xt (((c >>> ((16 : Int32) &&& 31)) ^^^ by_n b) &&& 255).toNatClampNeg)) &&& 16777215 = cr_Y b c 8 := by
  refine ⟨pk_andIn _ (m := 255) 8 (by decide) (by omega), ?_⟩
  have e : ((c >>> ((16 : Int32) &&& 31)) ^^^ by_n b) &&& 255 = ((c >>> ((16 : Int32) &&& 31)) ^^^ b) &&& 255 := by rw [cr_mx, by_na, ← cr_mx]
  rw [e]
  obtain ⟨j, hj, ej⟩ := by_BA ((c >>> ((16 : Int32) &&& 31)) ^^^ b)
  obtain ⟨n, hn, rfl⟩ := cr_Sn hc
  obtain ⟨b', hb', rfl⟩ := hb
  rw [cr_FG hn hb']
  unfold cr_G
  rw [ej, nI_clamp (by omega), hT j hj, cr_TY hj]
/-- the checksum of the first bytes -/
def cr_C (g : Nat → Int32) : Nat → Int32
  | 0 => 11994318
  | n + 1 => cr_Y (g n) (cr_C g n) 8
theorem cr_CS (g : Nat → Int32) : ∀ n, cr_S (cr_C g n)
  | 0 => fun i h => by
    rcases Nat.lt_or_ge i 32 with hi | hi
    · exact (by decide +kernel : ∀ i, i < 32 → 24 ≤ i → bt 11994318 i = false) i hi h
    · exact b_big hi
  | n + 1 => cr_SY (cr_CS g n) 8
theorem cr_j : ∀ j, j < 8 → ¬ (7 : Int32) - nI j < 0 ∧ ((7 : Int32) - nI j) + (-1) = 7 - nI (j + 1) ∧ (7 : Int32) - nI j = nI (7 - j) := by decide
theorem cr_yl {post : Int32 → Prop} {b c : Int32} (hp : post (cr_Y b c 8)) : ∀ d j, j + d = 8 → wY_checked_5 post b (d + 1) (cr_Y b c j) (7 - nI j) := by
  intro d
  induction d with
  | zero =>
    intro j hj
    obtain rfl : j = 8 := hj
    exact br_t (by decide) hp
  | succ d ih =>
    intro j hj
    obtain ⟨j1, j2, j3⟩ := cr_j j (by omega)
    have hn : cr_y (bt b (7 - j)) (cr_Y b c j) = cr_Y b c (j + 1) := rfl
    have hb : bt ((cr_Y b c j >>> ((23 : Int32) &&& 31)) ^^^ (b >>> ((7 - nI j) &&& 31))) 0 = (bt (cr_Y b c j) 23 ^^ bt b (7 - j)) := by
      rw [b_xor, show (23 : Int32) = nI 23 from rfl, cr_s0 23 (by omega), j3, cr_s0 (7 - j) (by omega)]
    unfold cr_y at hn
    refine br_f j1 (nm_e (nm_e ?_))
    by_cases h : (bt (cr_Y b c j) 23 ^^ bt b (7 - j)) = true
    · rw [h] at hn
      refine br_f (fun z => ?_) (nm_r hn (nm_r j2 (ih (j + 1) (by omega))))
      have := cr_bit0.mp z
      rw [hb, h] at this
      cases this
    · have h' : (bt (cr_Y b c j) 23 ^^ bt b (7 - j)) = false := by cases hx : (bt (cr_Y b c j) 23 ^^ bt b (7 - j)) <;> simp_all
      rw [h'] at hn
      have hn' : (cr_Y b c j <<< ((1 : Int32) &&& 31)) &&& 16777215 = cr_Y b c (j + 1) := by rw [← hn]; exact Int32.xor_zero.symm
      refine br_t (cr_bit0.mpr (by rw [hb, h'])) ?_
      rw [hn']
      exact nm_r j2 (ih (j + 1) (by omega))
theorem cr_yc {post : Int32 → Prop} {b c : Int32} (hp : post (cr_Y b c 8)) : wpY_checked post c b := ⟨9, cr_yl hp 8 0 (by omega)⟩
section
variable {xl xs xh xk xy : Int32} {xw xm xt xp : Nat → Int32} {kp kq kn ke kd kf kb kw : Nat → Int64} {yl ys : Int32} {yw ym : Nat → Int32} {yn yo yz : Nat → Int64}
variable {n m : Nat} {w : Nat → Int32}
theorem cr_xw {post : Int32 → Prop} (hW : md_W n w) (hT : ∀ j, j < 256 → xt j = cr_T j) (hp : post (cr_C w n)) :
    ∀ d i, i + d = n → wX_sum__work_6 post (nI n) xl xs xh xk xy (fun k => by_n (w k)) xm xt xp kp kq kn ke kd kf kb kw (d + 1) (cr_C w i) (nI i) := by
  have hn := hW.1
  intro d
  induction d with
  | zero =>
    intro i hi
    obtain rfl : i = n := hi
    exact br_t (tw_leT i i (by omega)) hp
  | succ d ih =>
    intro i hi
    obtain ⟨h1, h2⟩ := cr_step hT (cr_CS w i) (hW.2 i)
    refine br_f (tw_leF n i (by omega)) ⟨pk_in i 120 (by omega), ?_⟩
    rw [nI_clamp (by omega)]
    exact ⟨h1, nm_r h2 (nm_r (nI_1 i) (ih (i + 1) (by omega)))⟩
theorem cr_xws {post : Int32 → Prop} (hW : md_W n w) (hT : ∀ j, j < 256 → xt j = cr_T j) (hp : post (cr_C w n)) : wpX_sum__work post (xl, xs, xh, xk, xy, (fun k => by_n (w k)), xm, xt, xp, kp, kq, kn, ke, kd, kf, kb, kw) (nI n) :=
  ⟨n + 1, cr_xw hW hT hp n 0 (by omega)⟩
theorem cr_xm {post : Int32 → Prop} (hM : md_M m xm ym) (hm : m ≤ 200) (hT : ∀ j, j < 256 → xt j = cr_T j) (hp : post (cr_C ym m)) :
    ∀ d i, i + d = m → wX_sum__made_6 post (nI m) xl xs xh xk xy xw xm xt xp kp kq kn ke kd kf kb kw (d + 1) (cr_C ym i) (nI i) := by
  intro d
  induction d with
  | zero =>
    intro i hi
    obtain rfl : i = m := hi
    exact br_t (tw_leT i i (by omega)) hp
  | succ d ih =>
    intro i hi
    obtain ⟨hb, hx⟩ := hM i (by omega) (by omega)
    obtain ⟨h1, h2⟩ := cr_step hT (cr_CS ym i) hb
    refine br_f (tw_leF m i (by omega)) ⟨pk_in i 200 (by omega), ?_⟩
    rw [nI_clamp (by omega), hx]
    exact ⟨h1, nm_r h2 (nm_r (nI_1 i) (ih (i + 1) (by omega)))⟩
theorem cr_xms {post : Int32 → Prop} (hM : md_M m xm ym) (hm : m ≤ 200) (hT : ∀ j, j < 256 → xt j = cr_T j) (hp : post (cr_C ym m)) : wpX_sum__made post (xl, xs, xh, xk, xy, xw, xm, xt, xp, kp, kq, kn, ke, kd, kf, kb, kw) (nI m) :=
  ⟨m + 1, cr_xm hM hm hT hp m 0 (by omega)⟩
end
end
section
/-! ===== letters and their numbers ===== -/
def lt_L (v : Int32) : Int32 := if 26 ≤ v then (if 52 ≤ v then (if 62 ≤ v then (if v = 62 then 43 else 47) else v - 4) else 71 + v) else 65 + v
def lt_17 (c : Int32) : Int32 := if c < 97 then (if c < 48 then (if c = 43 then 62 else if c = 47 then 63 else -1) else if 57 < c then (if c = 43 then 62 else if c = 47 then 63 else -1) else c + 4)
  else if 122 < c then (if c < 48 then (if c = 43 then 62 else if c = 47 then 63 else -1) else if 57 < c then (if c = 43 then 62 else if c = 47 then 63 else -1) else c + 4) else c - 71
def lt_N (c : Int32) : Int32 := if c < 65 then lt_17 c else if 90 < c then lt_17 c else c - 65
theorem lt_if {c : Prop} [Decidable c] {α : Type} {post : α → Prop} {x y : α} {A B : Prop} (h : post (if c then x else y)) (f : post x → A) (g : post y → B) : (c → A) ∧ (¬ c → B) :=
  ⟨fun hc => f (by rwa [if_pos hc] at h), fun hc => g (by rwa [if_neg hc] at h)⟩
theorem lt_x {post : Int32 → Prop} {v : Int32} (h : post (lt_L v)) : wpX_letter post v :=
  lt_if h (fun h => lt_if h (fun h => lt_if h (fun h => lt_if h id id) id) id) id
theorem lt_yc : ∀ j, j < 64 → ((48 : Int32) + nI j) - 52 = nI j - 4 ∧ ((97 : Int32) + nI j) - 26 = 71 + nI j := by decide
theorem lt_y {post : Int32 → Prop} {j : Nat} (hj : j < 64) (h : post (lt_L (nI j))) : wpY_letter post (nI j) := by
  obtain ⟨e1, e2⟩ := lt_yc j hj
  unfold wpY_letter
  rw [e1, e2]
  exact lt_if h (fun h => lt_if h (fun h => lt_if h (fun h => lt_if h id id) id) id) id
theorem lt_n50 {post : Int32 → Prop} {c : Int32} (h : post (if c = 43 then 62 else if c = 47 then 63 else -1)) : wX_number_50 post c := lt_if h id (fun h => lt_if h id id)
theorem lt_n34 {post : Int32 → Prop} {c : Int32} (h : post (if c < 48 then (if c = 43 then 62 else if c = 47 then 63 else -1) else if 57 < c then (if c = 43 then 62 else if c = 47 then 63 else -1) else c + 4)) : wX_number_34 post c :=
  lt_if h lt_n50 (fun h => lt_if h lt_n50 id)
theorem lt_n17 {post : Int32 → Prop} {c : Int32} (h : post (lt_17 c)) : wX_number_17 post c := lt_if h lt_n34 (fun h => lt_if h lt_n34 id)
theorem lt_nx {post : Int32 → Prop} {c : Int32} (h : post (lt_N c)) : wpX_number post c := lt_if h lt_n17 (fun h => lt_if h lt_n17 id)
theorem lt_A : ∀ j, j < 64 → lt_N (lt_L (nI j)) = nI j := by decide +kernel
theorem lt_B : ∀ c, c < 256 → lt_N (nI c) = -1 ∨ (lt_N (nI c)).toNatClampNeg < 64 ∧ lt_N (nI c) = nI (lt_N (nI c)).toNatClampNeg ∧ lt_L (lt_N (nI c)) = nI c := by decide +kernel
theorem lt_v {c : Nat} (hc : c < 256) : lt_N (nI c) = -1 ∨ ∃ v, v < 64 ∧ lt_N (nI c) = nI v := by
  rcases lt_B c hc with h | ⟨h1, h2, _⟩
  · exact Or.inl h
  · exact Or.inr ⟨_, h1, h2⟩
theorem lt_nl {post : Int32 → Prop} {c : Nat} (hc : c < 256) (hp : post (lt_N (nI c))) : ∀ d j, j + d = 64 → (∀ t, t < j → lt_L (nI t) ≠ nI c) → wY_number_2 post (nI c) (d + 1) (nI j) := by
  intro d
  induction d with
  | zero =>
    intro j hj ha
    refine br_t (tw_leT 64 j (by omega)) ?_
    rcases lt_B c hc with h | ⟨h1, h2, h3⟩
    · rw [h] at hp; exact hp
    · rw [h2] at h3
      exact absurd h3 (ha _ (by omega))
  | succ d ih =>
    intro j hj ha
    refine br_f (tw_leF 64 j (by omega)) (lt_y (by omega) ?_)
    by_cases e : lt_L (nI j) = nI c
    · refine br_t e ?_
      have := lt_A j (by omega)
      rw [e] at this
      rw [this] at hp
      exact hp
    · refine br_f e (nm_r (nI_1 j) (ih (j + 1) (by omega) (fun t ht => ?_)))
      by_cases h : t = j
      · rw [h]; exact e
      · exact ha t (by omega)
theorem lt_ny {post : Int32 → Prop} {c : Nat} (hc : c < 256) (hp : post (lt_N (nI c))) : wpY_number post (nI c) := ⟨65, lt_nl hc hp 64 0 (by omega) (fun t h => by omega)⟩
theorem lt_k : ∀ k, k < 4 → (18 : Int32) - 6 * nI k = nI (18 - 6 * k) ∧ ¬ (18 : Int32) - 6 * nI k < 0 ∧ ((18 : Int32) - 6 * nI k) + (-6) = 18 - 6 * nI (k + 1) := by decide
section
variable {xl xs xh xk xy : Int32} {xw xm xt xp : Nat → Int32} {kp kq kn ke kd kf kb kw : Nat → Int64} {yl ys : Int32} {yw ym : Nat → Int32} {yn yo yz : Nat → Int64}
variable {P Q : Type} {R : (P → Prop) → (Q → Prop) → Prop} {n m : Nat} {w : Nat → Int32} {DX : P → SX → Prop} {DY : Q → SY → Prop}
/-- one letter is written -/
theorem lt_st {bits v : Int32} {L k d : Nat} (hk : k < 4) (hL : k < L) (hL2 : L < 10) (hM : md_M m xm ym) (hm : m < 1000) (hv : v &&& 63 = (bits >>> (nI (18 - 6 * k) &&& 31)) &&& 63)
    (kk : ∀ xm' ym', md_M (m + 1) xm' ym' → tw_L R (fun p => wX_write_2 (DX p) bits (nI L) d (nI (k + 1)) xl (nI (m + 1)) xh xk xy xw xm' xt xp kp kq kn ke kd kf kb kw) (fun q => DY q (yl, nI (m + 1), yw, ym', yn, yo, yz))) :
    tw_L R (fun p => wX_write_2 (DX p) bits (nI L) (d + 1) (nI k) xl (nI m) xh xk xy xw xm xt xp kp kq kn ke kd kf kb kw) (fun q => wpY_putLetter (DY q) (yl, nI m, yw, ym, yn, yo, yz) v) := by
  obtain ⟨j, hj, ej⟩ := pk_andE v (m := 63) 6 (by decide)
  refine tw_xf (tw_leF 4 k hk) (tw_xf (tw_leF L k hL) ?_)
  rw [(lt_k k hk).1, ← hv, ej]
  unfold wpY_putLetter
  dsimp only
  rw [ej]
  refine tw_x (fun p hp => lt_x hp) (tw_y (fun q hq => lt_y hj hq) ?_)
  exact pu_put hM hm rfl (fun xm' ym' hM' => tw_xr (nI_1 k) (kk xm' ym' hM'))
theorem lt_61 {bits : Int32} {L k d : Nat} (hk : k < 4) (hL : L ≤ k) (hM : md_M m xm ym) (hm : m < 1000)
    (kk : ∀ xm' ym', md_M (m + 1) xm' ym' → tw_L R (fun p => wX_write_2 (DX p) bits (nI L) d (nI (k + 1)) xl (nI (m + 1)) xh xk xy xw xm' xt xp kp kq kn ke kd kf kb kw) (fun q => DY q (yl, nI (m + 1), yw, ym', yn, yo, yz))) :
    tw_L R (fun p => wX_write_2 (DX p) bits (nI L) (d + 1) (nI k) xl (nI m) xh xk xy xw xm xt xp kp kq kn ke kd kf kb kw) (fun q => wpY_put (DY q) (yl, nI m, yw, ym, yn, yo, yz) 61) := by
  refine tw_xf (tw_leF 4 k hk) (tw_xt (tw_leT L k hL) ?_)
  exact pu_put hM hm rfl (fun xm' ym' hM' => tw_xr (nI_1 k) (kk xm' ym' hM'))
end
section
variable {xl xs xh xk xy : Int32} {xw xm xt xp : Nat → Int32} {kp kq kn ke kd kf kb kw : Nat → Int64} {yl ys : Int32} {yw ym : Nat → Int32} {yn yo yz : Nat → Int64}
variable {R : ((Int32 → SX → Prop) → Prop) → ((Int32 → SY → Prop) → Prop) → Prop} {n m a : Nat} {w : Nat → Int32}
/-- four letters of up to three bytes -/
theorem lt_72 {JX : (Int32 → SX → Prop) → Int32 → Int32 → Int32 → Int32 → Int32 → Int32 → (Nat → Int32) → (Nat → Int32) → (Nat → Int32) → (Nat → Int32) → (Nat → Int64) → (Nat → Int64) → (Nat → Int64) → (Nat → Int64) → (Nat → Int64) → (Nat → Int64) → (Nat → Int64) → (Nat → Int64) → Prop}
    {JY : (Int32 → SY → Prop) → Int32 → Int32 → Int32 → (Nat → Int32) → (Nat → Int32) → (Nat → Int64) → (Nat → Int64) → (Nat → Int64) → Prop} {chk bits z0 z1 : Int32} {h : Nat}
    (hn : n ≤ 120) (h1 : 1 ≤ h) (h3 : h ≤ 3) (ha : a + h ≤ n) (ha2 : h < 3 → a + h = n) (hb : z1 ||| z0 = bits) (hM : md_M m xm ym) (hm : m < 900)
    (kk : ∀ xm' ym', md_M (m + 4) xm' ym' → tw_L R (fun p => JX p (nI (a + 3)) (nI n) (nI (m + 4)) xh xk xy xw xm' xt xp kp kq kn ke kd kf kb kw) (fun q => JY q (nI (a + 3)) (nI n) (nI (m + 4)) yw ym' yn yo yz)) :
    tw_L R (fun p => wX_letters_116 p (JX p) chk (nI a) (nI h) bits (nI n) (nI m) xh xk xy xw xm xt xp kp kq kn ke kd kf kb kw) (fun q => wY_letters_72 q (JY q) (nI a) z0 z1 (nI n) (nI m) yw ym yn yo yz) := by
  have e1 : nI a + 1 = nI (a + 1) := nI_1 a
  have e2 : nI a + 2 = nI (a + 2) := nI_add a 2
  have e3 : nI a + 3 = nI (a + 3) := nI_add a 3
  unfold wX_letters_116 wY_letters_72
  rw [nI_1 h]
  refine tw_yr hb (tw_xe 5 ?_)
  refine lt_st (k := 0) (d := 4) (by omega) (by omega) (by omega) hM (by omega) rfl (fun xm ym hM => ?_)
  refine lt_st (k := 1) (d := 3) (by omega) (by omega) (by omega) hM (by omega) rfl (fun xm ym hM => ?_)
  have fin : ∀ xm' ym', md_M (m + 4) xm' ym' → tw_L R (fun p => wX_write_2 (fun u => match u with | (xl, xs, xh, xk, xy, xw, xm, xt, xp, kp, kq, kn, ke, kd, kf, kb, kw) => ∀ y, y = nI a + 3 → JX p y xl xs xh xk xy xw xm xt xp kp kq kn ke kd kf kb kw) bits (nI (h + 1)) 1 (nI 4) (nI n) (nI (m + 4)) xh xk xy xw xm' xt xp kp kq kn ke kd kf kb kw) (fun q => ∀ y, y = nI a + 3 → JY q y (nI n) (nI (m + 4)) yw ym' yn yo yz) :=
    fun xm' ym' hM' => tw_xt (tw_leT 4 4 (by omega)) (tw_xr e3 (tw_yr e3 (kk xm' ym' hM')))
  by_cases c1 : h = 1
  · have hl := ha2 (by omega)
    refine tw_yt (tw_leT n (a + 1) (by omega) rfl e1) ?_
    refine lt_61 (k := 2) (d := 2) (by omega) (by omega) hM (by omega) (fun xm ym hM => ?_)
    unfold wY_letters_117
    refine tw_yt (tw_leT n (a + 2) (by omega) rfl e2) ?_
    exact lt_61 (k := 3) (d := 1) (by omega) (by omega) hM (by omega) (fun xm ym hM => fin xm ym hM)
  · refine tw_yf (tw_leF n (a + 1) (by omega) rfl e1) ?_
    refine lt_st (k := 2) (d := 2) (by omega) (by omega) (by omega) hM (by omega) rfl (fun xm ym hM => ?_)
    unfold wY_letters_117
    by_cases c2 : h = 2
    · have hl := ha2 (by omega)
      refine tw_yt (tw_leT n (a + 2) (by omega) rfl e2) ?_
      exact lt_61 (k := 3) (d := 1) (by omega) (by omega) hM (by omega) (fun xm ym hM => fin xm ym hM)
    · refine tw_yf (tw_leF n (a + 2) (by omega) rfl e2) ?_
      refine lt_st (k := 3) (d := 1) (by omega) (by omega) (by omega) hM (by omega) ?_ (fun xm ym hM => fin xm ym hM)
      rw [show nI (18 - 6 * 3) = (0 : Int32) from rfl, sb_shr0]
/-- the end: the checksum's letters -/
theorem lt_186 {chk : Int32} {DX : (Int32 → SX → Prop) → SX → Prop} {DY : (Int32 → SY → Prop) → SY → Prop}
    (hY : ∀ q d yl ys yw ym yn yo yz, DY q (yl, ys, yw, ym, yn, yo, yz) → wY_letters_186 q chk (d + 1) (18 - 6 * nI 4) yl ys yw ym yn yo yz) :
    ∀ d k m xm ym, k + d = 4 → m + d < 1000 → md_M m xm ym →
    (∀ xm' ym', md_M (m + d) xm' ym' → tw_L R (fun p => DX p (xl, nI (m + d), xh, xk, xy, xw, xm', xt, xp, kp, kq, kn, ke, kd, kf, kb, kw)) (fun q => DY q (yl, nI (m + d), yw, ym', yn, yo, yz))) →
    tw_L R (fun p => wX_write_2 (DX p) chk (nI 4) (d + 1) (nI k) xl (nI m) xh xk xy xw xm xt xp kp kq kn ke kd kf kb kw) (fun q => wY_letters_186 q chk (d + 1) (18 - 6 * nI k) yl (nI m) yw ym yn yo yz) := by
  intro d
  induction d with
  | zero =>
    intro k m xm ym hk hm hM kk
    obtain rfl : k = 4 := hk
    exact tw_xt (by decide) (tw_y (fun q hq => hY q 0 _ _ _ _ _ _ _ hq) (kk xm ym hM))
  | succ d ih =>
    intro k m xm ym hk hm hM kk
    obtain ⟨k1, k2, k3⟩ := lt_k k (by omega)
    refine tw_yf k2 ?_
    refine lt_st (by omega) (by omega) (by omega) hM (by omega) (by rw [k1]) (fun xm' ym' hM' => ?_)
    refine tw_yr k3 (ih (k + 1) (m + 1) xm' ym' (by omega) (by omega) hM' (fun xm'' ym'' hM'' => ?_))
    rw [show m + 1 + d = m + (d + 1) from by omega] at hM'' ⊢
    exact kk xm'' ym'' hM''
/-- the reference's checksum -/
theorem lt_152 {post : Int32 → SY → Prop} (hn : n ≤ 120) (hp : wpY_put (fun u => match u with | (yl, ys, yw, ym, yn, yo, yz) => ∃ n186 : Nat, wY_letters_186 post (cr_C w n) n186 18 yl ys yw ym yn yo yz) (nI n, ys, w, ym, yn, yo, yz) 61) :
    ∀ d i, i + d = n → wY_letters_152 post (nI n) ys w ym yn yo yz (d + 1) (cr_C w i) (nI i) := by
  intro d
  induction d with
  | zero =>
    intro i hi
    obtain rfl : i = n := hi
    exact br_t (tw_leT i i (by omega)) hp
  | succ d ih =>
    intro i hi
    refine br_f (tw_leF n i (by omega)) ⟨pk_in i 120 (by omega), ?_⟩
    rw [nI_clamp (by omega)]
    exact cr_yc (nm_r (nI_1 i) (ih (i + 1) (by omega)))
theorem lt_lp (hW : md_W n w)
    (hE : ∀ m xm ym, m = (n + 2) / 3 * 4 + 5 → md_M m xm ym → tw_L R (fun p => wpX_turn (fun r u => match u with | (xl, xs, xh, xk, xy, xw, xm, xt, xp, kp, kq, kn, ke, kd, kf, kb, kw) => p r (xl, xs, xh, xk, xy, xw, xm, xt, xp, kp, kq, kn, ke, kd, kf, kb, kw)) (nI n, nI m, xh, xk, xy, (fun k => by_n (w k)), xm, xt, xp, kp, kq, kn, ke, kd, kf, kb, kw)) (fun q => wpY_become (fun r u => match u with | (yl, ys, yw, ym, yn, yo, yz) => q r (yl, ys, yw, ym, yn, yo, yz)) (nI n, nI m, w, ym, yn, yo, yz))) :
    ∀ d t xm ym, n - 3 * t < d → t ≤ (n + 2) / 3 → md_M (4 * t) xm ym →
    tw_L R (fun p => wX_letters_40 p (cr_C w n) d (nI (3 * t)) (nI n) (nI (4 * t)) xh xk xy (fun k => by_n (w k)) xm xt xp kp kq kn ke kd kf kb kw) (fun q => wY_letters_7 q d (nI (3 * t)) (nI n) (nI (4 * t)) w ym yn yo yz) := by
  have hn := hW.1
  intro d
  induction d with
  | zero => intro t xm ym h; omega
  | succ d ih =>
    intro t xm ym hd ht hM
    by_cases hl : n ≤ 3 * t
    · refine tw_xt (tw_leT n (3 * t) hl) (tw_yt (tw_leT n (3 * t) hl) (tw_ye (n + 1) (tw_y (fun q hq => lt_152 hn hq n 0 (by omega)) ?_)))
      refine pu_put hM (by omega) rfl (fun xm ym hM => ?_)
      refine tw_xe 5 (tw_ye 5 ?_)
      rw [show (18 : Int32) = 18 - 6 * nI 0 from by decide]
      exact lt_186 (DY := fun q v => wpY_become (fun r u => match u with | (yl, ys, yw, ym, yn, yo, yz) => q r (yl, ys, yw, ym, yn, yo, yz)) v) (fun q d yl ys yw ym yn yo yz h => br_t (by decide) h) 4 0 (4 * t + 1) xm ym (by omega) (by omega) hM (fun xm' ym' hM' => hE _ xm' ym' (by omega) hM')
    have e : nI n - nI (3 * t) = nI (n - 3 * t) := pk_sub (by omega)
    have e1 : nI (3 * t) + 1 = nI (3 * t + 1) := nI_1 _
    have e2 : nI (3 * t) + 2 = nI (3 * t + 2) := nI_add _ 2
    refine tw_xf (tw_leF n (3 * t) (by omega)) (tw_yf (tw_leF n (3 * t) (by omega)) (tw_yi (pk_in (3 * t) 120 (by omega)) ?_))
    by_cases c3 : 3 ≤ n - 3 * t
    · refine tw_xt (tw_leT 3 (n - 3 * t) c3 rfl e) (tw_yf (tw_leF n (3 * t + 1) (by omega) rfl e1) (tw_yi (pk_in (3 * t + 1) 120 (by omega) e1) ?_))
      unfold wX_letters_68 wY_letters_49
      refine tw_xi (pk_in (3 * t) 120 (by omega)) (tw_xn (tw_xf (by decide) (tw_xi (pk_in (3 * t + 1) 120 (by omega) e1) (tw_xn ?_))))
      unfold wX_letters_99
      refine tw_xf (by decide) (tw_xi (pk_in (3 * t + 2) 120 (by omega) e2) (tw_xn ?_))
      refine tw_yf (tw_leF n (3 * t + 2) (by omega) rfl e2) (tw_yi (pk_in (3 * t + 2) 120 (by omega) e2) ?_)
      rw [e1, e2, nI_clamp (by omega), nI_clamp (by omega), nI_clamp (by omega), by_g (hW.2 _), by_g (hW.2 _), by_g (hW.2 _)]
      exact lt_72 (h := 3) hn (by omega) (by omega) (by omega) (by omega) rfl hM (by omega) (fun xm' ym' hM' => ih (t + 1) xm' ym' (by omega) (by omega) hM')
    refine tw_xf (tw_leF 3 (n - 3 * t) (by omega) rfl e) ?_
    rw [e]
    unfold wX_letters_68
    refine tw_xi (pk_in (3 * t) 120 (by omega)) (tw_xn ?_)
    by_cases c2 : n - 3 * t = 2
    · refine tw_xf (tw_leF (n - 3 * t) 1 (by omega)) (tw_yf (tw_leF n (3 * t + 1) (by omega) rfl e1) (tw_yi (pk_in (3 * t + 1) 120 (by omega) e1) (tw_xi (pk_in (3 * t + 1) 120 (by omega) e1) (tw_xn ?_))))
      unfold wX_letters_99 wY_letters_49
      refine tw_xt (tw_leT (n - 3 * t) 2 (by omega)) (tw_yt (tw_leT n (3 * t + 2) (by omega) rfl e2) ?_)
      rw [e1, nI_clamp (by omega), nI_clamp (by omega), by_g (hW.2 _), by_g (hW.2 _)]
      exact lt_72 (h := n - 3 * t) hn (by omega) (by omega) (by omega) (by omega) Int32.or_zero hM (by omega) (fun xm' ym' hM' => ih (t + 1) xm' ym' (by omega) (by omega) hM')
    · refine tw_xt (tw_leT (n - 3 * t) 1 (by omega)) (tw_yt (tw_leT n (3 * t + 1) (by omega) rfl e1) ?_)
      unfold wX_letters_99 wY_letters_49
      refine tw_xt (tw_leT (n - 3 * t) 2 (by omega)) (tw_yt (tw_leT n (3 * t + 2) (by omega) rfl e2) ?_)
      rw [nI_clamp (by omega), by_g (hW.2 _)]
      exact lt_72 (h := n - 3 * t) hn (by omega) (by omega) (by omega) (by omega) (by rw [Int32.or_zero, Int32.or_zero]) hM (by omega) (fun xm' ym' hM' => ih (t + 1) xm' ym' (by omega) (by omega) hM')
/-- as ed_R; and if it is too long, the reference says so with its row as it was -/
def lt_R (n : Nat) (w : Nat → Int32) (yn yo yz : Nat → Int64) (ex : (Int32 → SX → Prop) → Prop) (ey : (Int32 → SY → Prop) → Prop) : Prop :=
  ed_R ex ey ∧ (120 < (n + 2) / 3 * 4 + 5 → ∃ (ys : Int32) (ym : Nat → Int32), ey = fun q => q (-2) (nI n, ys, w, ym, yn, yo, yz))
theorem lt_all (hW : md_W n w) (hH : md_H n w xh xk) (hK : md_K xy xt xp kp kq kn ke kd kf kb yn yo yz) :
    tw_L (lt_R n w yn yo yz) (fun p => ∃ n40, wX_letters_40 p (cr_C w n) n40 0 (nI n) (nI 0) xh xk xy (fun k => by_n (w k)) xm xt xp kp kq kn ke kd kf kb kw) (fun q => wpY_letters q (nI n, ys, w, ym, yn, yo, yz)) := by
  have hn := hW.1
  refine tw_xe (n + 1) (tw_ye (n + 1) (lt_lp hW (fun m xm ym hm hM => ?_) (n + 1) 0 xm ym (by omega) (by omega) (md_M0 _ _)))
  by_cases h : m ≤ 120
  · obtain ⟨ex, ey, hR, h1, h2⟩ := tu_end (n := n) (w := w) (xy := xy) (xt := xt) (xp := xp) (kp := kp) (kq := kq) (kn := kn) (ke := ke) (kd := kd) (kf := kf) (kb := kb) (kw := kw) (yn := yn) (yo := yo) (yz := yz) (PX := fun p r u => match u with | (xl, xs, xh, xk, xy, xw, xm, xt, xp, kp, kq, kn, ke, kd, kf, kb, kw) => p r (xl, xs, xh, xk, xy, xw, xm, xt, xp, kp, kq, kn, ke, kd, kf, kb, kw)) (PY := fun q r u => match u with | (yl, ys, yw, ym, yn, yo, yz) => q r (yl, ys, yw, ym, yn, yo, yz)) (fun _ _ _ _ _ _ _ _ _ _ _ _ _ _ _ _ _ _ _ h => h) (fun _ _ _ _ _ _ _ _ _ h => h) hM (by omega) hW hH hK
    exact ⟨ex, ey, ⟨hR, fun z => by omega⟩, h1, h2⟩
  · refine tw_x (ex := fun p => p (-2) (nI n, nI m, xh, xk, xy, (fun k => by_n (w k)), xm, xt, xp, kp, kq, kn, ke, kd, kf, kb, kw)) (fun p hp => tu_xF (by omega) (by omega) hp) (tw_y (ey := fun q => q (-2) (nI n, nI m, w, ym, yn, yo, yz)) (fun q hq => tu_yF (by omega) (by omega) hq) ?_)
    exact tw_ret ⟨⟨_, _, _, rl_in hW hH hK, rfl, rfl⟩, fun _ => ⟨_, _, rfl⟩⟩
theorem lt_letters (hW : md_W n w) (hH : md_H n w xh xk) (hK : md_K xy xt xp kp kq kn ke kd kf kb yn yo yz) :
    tw_L ed_R (fun p => wpX_letters p (nI n, xs, xh, xk, xy, (fun k => by_n (w k)), xm, xt, xp, kp, kq, kn, ke, kd, kf, kb, kw)) (fun q => wpY_letters q (nI n, ys, w, ym, yn, yo, yz)) := by
  have hn := hW.1
  have e : (((nI n + 2) / 3) * 4) + 5 = nI ((n + 2) / 3 * 4 + 5) := by
    rw [show nI n + 2 = nI (n + 2) from nI_add n 2, show (3 : Int32) = nI 3 from rfl, pk_div (by omega) (by omega) (by omega), show (4 : Int32) = nI 4 from rfl, pk_mul]
    exact nI_add _ 5
  obtain ⟨ex, ey, ⟨hR, hb⟩, h1, h2⟩ := lt_all (n := n) (w := w) (xm := xm) (xy := xy) (xt := xt) (xp := xp) (kp := kp) (kq := kq) (kn := kn) (ke := ke) (kd := kd) (kf := kf) (kb := kb) (kw := kw) (ys := ys) (ym := ym) (yn := yn) (yo := yo) (yz := yz) hW hH hK
  by_cases h : (n + 2) / 3 * 4 + 5 ≤ 120
  · refine tw_xi (by decide) (tw_xt (tw_leT _ 120 h e) (tw_x (fun p hp => cr_xws hW hK.2.1 hp) ?_))
    exact ⟨ex, ey, hR, h1, h2⟩
  · obtain ⟨ys', ym', rfl⟩ := hb (by omega)
    exact tw_xi (by decide) (tw_xf (tw_leF ((n + 2) / 3 * 4 + 5) 120 (by omega) e) (tw_y h2 (ed_ret hW hH hK)))
end
end
section
/-! ===== plain ===== -/
theorem pl_or {B v : Nat} (hv : v < 64) (hB : B < 2 ^ 24) : (nI B <<< ((6 : Int32) &&& 31)) ||| nI v = nI (B * 64 + v) := by
  rw [pk_shlN _ 6 (by decide) (by omega), un_or]
  have h := Nat.two_pow_add_eq_or_of_lt (i := 6) (b := v) (by omega) B
  rw [show B * 2 ^ 6 = 2 ^ 6 * B from Nat.mul_comm _ _, ← h]
theorem pl_B {B v k : Nat} (hv : v < 64) (hB : B < 64 ^ k) : B * 64 + v < 64 ^ (k + 1) := by rw [Nat.pow_succ]; omega
theorem pl_24 {B k : Nat} (hk : k ≤ 4) (hB : B < 64 ^ k) : B < 2 ^ 24 := by
  have : 64 ^ k ≤ 64 ^ 4 := Nat.pow_le_pow_right (by omega) hk
  omega
theorem pl_4w {wo : Nat} (h : wo ≤ 2) : (4 : Int32) - nI wo = nI (4 - wo) := pk_sub (a := 4) (by omega)
theorem pl_3w {wo : Nat} (h : wo ≤ 2) : (3 : Int32) - nI wo = nI (3 - wo) := pk_sub (a := 3) (by omega)
section
variable {xl xs xh xk xy : Int32} {xw xm xt xp : Nat → Int32} {kp kq kn ke kd kf kb kw : Nat → Int64} {yl ys : Int32} {yw ym : Nat → Int32} {yn yo yz : Nat → Int64}
variable {n m b : Nat} {w : Nat → Int32}
theorem pl_107 {JX : (Int32 → SX → Prop) → Int32 → Int32 → Int32 → Int32 → Int32 → Int32 → (Nat → Int32) → (Nat → Int32) → (Nat → Int32) → (Nat → Int32) → (Nat → Int64) → (Nat → Int64) → (Nat → Int64) → (Nat → Int64) → (Nat → Int64) → (Nat → Int64) → (Nat → Int64) → (Nat → Int64) → Prop}
    {DY : (Int32 → SY → Prop) → Int32 → Prop} {x1 x2 : Int32} {i wo : Nat} (hW : md_W n w) (hi : i + 4 ≤ n) (hwo : wo ≤ 2) (h61 : ∀ k, 4 - wo ≤ k → k < 4 → w (i + k) = nI 61)
    (kS : ∀ B, B < 2 ^ 24 → tw_L ed_R (fun p => ∃ n164, wX_plain_164 p (JX p) x1 x2 (nI i) (nI (3 - wo)) (nI B) n164 0 (nI n) (nI m) xh xk xy (fun k => by_n (w k)) xm xt xp kp kq kn ke kd kf kb kw) (fun q => DY q (nI B)))
    (kF : tw_L ed_R (fun p => p (-4) (nI n, nI m, xh, xk, xy, (fun k => by_n (w k)), xm, xt, xp, kp, kq, kn, ke, kd, kf, kb, kw)) (fun q => DY q (-1))) :
    ∀ d k B, k + d = 4 → B < 64 ^ k →
    tw_L ed_R (fun p => wX_plain_107 p (JX p) x1 x2 (nI i) (nI (3 - wo)) (nI n) (nI m) xh xk xy (fun k => by_n (w k)) xm xt xp kp kq kn ke kd kf kb kw (d + 1) (nI B) (nI k)) (fun q => wY_four_5 (DY q) (nI i) (nI wo) (nI n) (nI m) w ym yn yo yz (d + 1) (nI B) (nI k)) := by
  have hn := hW.1
  intro d
  induction d with
  | zero =>
    intro k B hk hB
    exact tw_xt (tw_leT 4 k (by omega)) (tw_yt (tw_leT 4 k (by omega)) (kS B (pl_24 (by omega) hB)))
  | succ d ih =>
    intro k B hk hB
    refine tw_xf (tw_leF 4 k (by omega)) (tw_yf (tw_leF 4 k (by omega)) ?_)
    rw [nI_add, pl_4w hwo]
    refine tw_yi (pk_in (i + k) 120 (by omega)) ?_
    rw [nI_clamp (by omega)]
    refine tw_yn ?_
    by_cases h4 : k < 4 - wo
    · refine tw_xf (tw_ltF (3 - wo) k (by omega)) (tw_yt (tw_ltT k (4 - wo) h4) (tw_xi (pk_in (i + k) 120 (by omega)) ?_))
      rw [nI_clamp (by omega), by_g (hW.2 _)]
      obtain ⟨c, hc, ec⟩ := hW.2 (i + k)
      rw [ec]
      refine tw_x (fun p hp => lt_nx hp) (tw_y (fun q hq => lt_ny hc hq) ?_)
      rcases lt_v hc with hv | ⟨v, hv, ev⟩
      · rw [hv]
        exact tw_xf (by decide) (tw_yf (by decide) kF)
      · rw [ev]
        refine tw_xt (tw_leT 0 v (by omega)) (tw_yt (tw_leT 0 v (by omega)) ?_)
        exact tw_xr (pl_or hv (pl_24 (by omega) hB)) (tw_yr (pl_or hv (pl_24 (by omega) hB)) (tw_xr (nI_1 k) (tw_yr (nI_1 k) (ih (k + 1) _ (by omega) (pl_B hv hB)))))
    · refine tw_xt (tw_ltT (3 - wo) k (by omega)) (tw_yf (tw_ltF k (4 - wo) (by omega)) (tw_yt (h61 k (by omega) (by omega)) ?_))
      refine tw_xt (tw_leT 0 0 (by omega)) (tw_yt (tw_leT 0 0 (by omega)) ?_)
      exact tw_xr (pl_or (v := 0) (by omega) (pl_24 (by omega) hB)) (tw_yr (pl_or (v := 0) (by omega) (pl_24 (by omega) hB)) (tw_xr (nI_1 k) (tw_yr (nI_1 k) (ih (k + 1) _ (by omega) (pl_B (by omega) hB)))))
theorem pl_164 {JX : (Int32 → SX → Prop) → Int32 → Int32 → Int32 → Int32 → Int32 → Int32 → (Nat → Int32) → (Nat → Int32) → (Nat → Int32) → (Nat → Int32) → (Nat → Int64) → (Nat → Int64) → (Nat → Int64) → (Nat → Int64) → (Nat → Int64) → (Nat → Int64) → (Nat → Int64) → (Nat → Int64) → Prop}
    {JY : (Int32 → SY → Prop) → Int32 → Int32 → Int32 → (Nat → Int32) → (Nat → Int32) → (Nat → Int64) → (Nat → Int64) → (Nat → Int64) → Prop} {x1 x2 y1 y2 bits : Int32} {i wo : Nat} (hwo : wo ≤ 2) :
    ∀ d k m xm ym, k + d = 3 - wo → m + d < 1000 → md_M m xm ym →
    (∀ xm' ym', md_M (m + d) xm' ym' → tw_L ed_R (fun p => JX p (nI (i + 4)) xl (nI (m + d)) xh xk xy xw xm' xt xp kp kq kn ke kd kf kb kw) (fun q => JY q (nI (i + 4)) yl (nI (m + d)) yw ym' yn yo yz)) →
    tw_L ed_R (fun p => wX_plain_164 p (JX p) x1 x2 (nI i) (nI (3 - wo)) bits (d + 1) (nI k) xl (nI m) xh xk xy xw xm xt xp kp kq kn ke kd kf kb kw) (fun q => wY_plain_120 q (JY q) y1 y2 (nI i) (nI wo) bits (d + 1) (nI k) yl (nI m) yw ym yn yo yz) := by
  have e4 : nI i + 4 = nI (i + 4) := nI_add i 4
  intro d
  induction d with
  | zero =>
    intro k m xm ym hk hm hM kk
    exact tw_xt (tw_leT (3 - wo) k (by omega)) (tw_yt (tw_leT (3 - wo) k (by omega) (pl_3w hwo)) (tw_xr e4 (tw_yr e4 (kk xm ym hM))))
  | succ d ih =>
    intro k m xm ym hk hm hM kk
    refine tw_xf (tw_leF (3 - wo) k (by omega)) (tw_yf (tw_leF (3 - wo) k (by omega) (pl_3w hwo)) ?_)
    refine pu_put hM (by omega) rfl (fun xm' ym' hM' => ?_)
    refine tw_xr (nI_1 k) (tw_yr (nI_1 k) (ih (k + 1) (m + 1) xm' ym' (by omega) (by omega) hM' (fun xm'' ym'' hM'' => ?_)))
    rw [show m + 1 + d = m + (d + 1) from by omega] at hM'' ⊢
    exact kk xm'' ym'' hM''
theorem pl_98 {JX : (Int32 → SX → Prop) → Int32 → Int32 → Int32 → Int32 → Int32 → Int32 → (Nat → Int32) → (Nat → Int32) → (Nat → Int32) → (Nat → Int32) → (Nat → Int64) → (Nat → Int64) → (Nat → Int64) → (Nat → Int64) → (Nat → Int64) → (Nat → Int64) → (Nat → Int64) → (Nat → Int64) → Prop}
    {JY : (Int32 → SY → Prop) → Int32 → Int32 → Int32 → (Nat → Int32) → (Nat → Int32) → (Nat → Int64) → (Nat → Int64) → (Nat → Int64) → Prop} {x1 x2 y1 y2 : Int32} {i wo : Nat}
    (hW : md_W n w) (hH : md_H n w xh xk) (hK : md_K xy xt xp kp kq kn ke kd kf kb yn yo yz) (hi : i + 4 ≤ n) (hwo : wo ≤ 2) (h61 : ∀ k, 4 - wo ≤ k → k < 4 → w (i + k) = nI 61) (hM : md_M m xm ym) (hm : m < 900)
    (kk : ∀ xm' ym', md_M (m + (3 - wo)) xm' ym' → tw_L ed_R (fun p => JX p (nI (i + 4)) (nI n) (nI (m + (3 - wo))) xh xk xy (fun k => by_n (w k)) xm' xt xp kp kq kn ke kd kf kb kw) (fun q => JY q (nI (i + 4)) (nI n) (nI (m + (3 - wo))) w ym' yn yo yz)) :
    tw_L ed_R (fun p => ∃ n107, wX_plain_107 p (JX p) x1 x2 (nI i) (nI (3 - wo)) (nI n) (nI m) xh xk xy (fun k => by_n (w k)) xm xt xp kp kq kn ke kd kf kb kw n107 0 0) (fun q => wY_plain_98 q (JY q) y1 y2 (nI i) (nI wo) (nI n) (nI m) w ym yn yo yz) := by
  unfold wY_plain_98
  refine tw_xe 5 (tw_ye 5 ?_)
  refine pl_107 hW hi hwo h61 (fun B hB => ?_) ?_ 4 0 0 (by omega) (by omega)
  · refine tw_yt (tw_leT 0 B (by omega)) (tw_xe (3 - wo + 1) (tw_ye (3 - wo + 1) ?_))
    exact pl_164 hwo (3 - wo) 0 m xm ym (by omega) (by omega) hM kk
  · exact tw_yf (by decide) (ed_ret hW hH hK)
/-- the reference's checksum of what came out -/
theorem pl_179 {q : Int32 → SY → Prop} {c : Int32} (hm : m ≤ 400) (hp : (cr_C ym m = c → wpY_become (fun r u => match u with | (yl, ys, yw, ym, yn, yo, yz) => q r (yl, ys, yw, ym, yn, yo, yz)) (yl, nI m, yw, ym, yn, yo, yz)) ∧ (¬ cr_C ym m = c → q (-4) (yl, nI m, yw, ym, yn, yo, yz))) :
    ∀ d i, i + d = m → wY_plain_179 q c yl (nI m) yw ym yn yo yz (d + 1) (cr_C ym i) (nI i) := by
  intro d
  induction d with
  | zero =>
    intro i hi
    obtain rfl : i = m := hi
    exact br_t (tw_leT i i (by omega)) hp
  | succ d ih =>
    intro i hi
    refine br_f (tw_leF m i (by omega)) ⟨pk_in i 400 (by omega), ?_⟩
    rw [nI_clamp (by omega)]
    exact cr_yc (nm_r (nI_1 i) (ih (i + 1) (by omega)))
theorem pl_202 (hW : md_W n w) (hH : md_H n w xh xk) (hK : md_K xy xt xp kp kq kn ke kd kf kb yn yo yz) (hb : b + 5 = n) (hM : md_M m xm ym) (hm : m ≤ 200) :
    ∀ d k B, k + d = 4 → B < 64 ^ k →
    tw_L ed_R (fun p => wX_plain_202 p (nI n) (nI m) xh xk xy (fun k => by_n (w k)) xm xt xp kp kq kn ke kd kf kb kw (d + 1) (nI B) (nI (b + 1 + k)))
      (fun q => wY_four_5 (fun r_9 => (0 ≤ r_9 → (∃ n179 : Nat, wY_plain_179 q r_9 (nI n) (nI m) w ym yn yo yz n179 11994318 0)) ∧ (¬ 0 ≤ r_9 → (q (-4) (nI n, nI m, w, ym, yn, yo, yz)))) (nI (b + 1)) 0 (nI n) (nI m) w ym yn yo yz (d + 1) (nI B) (nI k)) := by
  have hn := hW.1
  intro d
  induction d with
  | zero =>
    intro k B hk hB
    obtain rfl : k = 4 := hk
    have hB' := pl_24 (by omega) hB
    refine tw_xt (tw_leT n (b + 1 + 4) (by omega)) (tw_yt (tw_leT 4 4 (by omega)) (tw_yt (tw_leT 0 B (by omega)) (tw_ye (m + 1) ?_)))
    refine tw_x (fun p hp => cr_xms hM hm hK.2.1 hp) (tw_y (fun q hq => pl_179 (by omega) hq m 0 (by omega)) ?_)
    exact tw_br Iff.rfl (fun _ => tu_end (fun _ _ _ _ _ _ _ _ _ _ _ _ _ _ _ _ _ _ _ h => h) (fun _ _ _ _ _ _ _ _ _ h => h) hM (by omega) hW hH hK) (fun _ => ed_ret hW hH hK)
  | succ d ih =>
    intro k B hk hB
    refine tw_xf (tw_leF n (b + 1 + k) (by omega)) (tw_yf (tw_leF 4 k (by omega)) ?_)
    rw [nI_add]
    refine tw_xi (pk_in (b + 1 + k) 120 (by omega)) (tw_yi (pk_in (b + 1 + k) 120 (by omega)) ?_)
    rw [nI_clamp (by omega), by_g (hW.2 _)]
    refine tw_yn (tw_yt (tw_ltT k 4 (by omega) rfl (by decide)) ?_)
    obtain ⟨c, hc, ec⟩ := hW.2 (b + 1 + k)
    rw [ec]
    refine tw_x (fun p hp => lt_nx hp) (tw_y (fun q hq => lt_ny hc hq) ?_)
    rcases lt_v hc with hv | ⟨v, hv, ev⟩
    · rw [hv]
      exact tw_xf (by decide) (tw_yf (by decide) (tw_yf (by decide) (ed_ret hW hH hK)))
    · rw [ev]
      refine tw_xt (tw_leT 0 v (by omega)) (tw_yt (tw_leT 0 v (by omega)) ?_)
      exact tw_xr (pl_or hv (pl_24 (by omega) hB)) (tw_yr (pl_or hv (pl_24 (by omega) hB)) (tw_xr (nI_1 _) (tw_yr (nI_1 k) (ih (k + 1) _ (by omega) (pl_B hv hB)))))
theorem pl_lp {less : Nat} (hW : md_W n w) (hH : md_H n w xh xk) (hK : md_K xy xt xp kp kq kn ke kd kf kb yn yo yz) (hb : b + 5 = n) (hb4 : b % 4 = 0)
    (hl : (less = 0 ∧ (0 < b → w (b - 1) ≠ nI 61)) ∨ (less = 1 ∧ w (b - 1) = nI 61 ∧ w (b - 2) ≠ nI 61) ∨ (less = 2 ∧ w (b - 1) = nI 61 ∧ w (b - 2) = nI 61)) :
    ∀ d t m xm ym, b - 4 * t < d → 4 * t ≤ b → m ≤ 3 * t → md_M m xm ym →
    tw_L ed_R (fun p => wX_plain_42 p (nI b) 0 d (nI (4 * t)) (nI n) (nI m) xh xk xy (fun k => by_n (w k)) xm xt xp kp kq kn ke kd kf kb kw) (fun q => wY_plain_81 q (nI b) (nI less) d (nI (4 * t)) (nI n) (nI m) w ym yn yo yz) := by
  have hn := hW.1
  intro d
  induction d with
  | zero => intro t m xm ym h; omega
  | succ d ih =>
    intro t m xm ym hd ht hm hM
    by_cases he : b ≤ 4 * t
    · refine tw_xt (tw_leT b (4 * t) he) (tw_yt (tw_leT b (4 * t) he) (tw_xr (nI_1 b) (tw_xe 5 ?_)))
      rw [nI_1 b]
      exact tw_ye 5 (pl_202 hW hH hK hb hM (by omega) 4 0 0 (by omega) (by omega))
    refine tw_xf (tw_leF b (4 * t) (by omega)) (tw_yf (tw_leF b (4 * t) (by omega)) ?_)
    have e4 : nI (4 * t) + 4 = nI (4 * t + 4) := nI_add _ 4
    have e3 : nI (4 * t) + 3 = nI (4 * t + 3) := nI_add _ 3
    have e2 : nI (4 * t) + 2 = nI (4 * t + 2) := nI_add _ 2
    have go : ∀ wo, wo ≤ 2 → (∀ k, 4 - wo ≤ k → k < 4 → w (4 * t + k) = nI 61) → tw_L ed_R (fun p => ∃ n107, wX_plain_107 p (wX_plain_42 p (nI b) 0 d) (nI b) 0 (nI (4 * t)) (nI (3 - wo)) (nI n) (nI m) xh xk xy (fun k => by_n (w k)) xm xt xp kp kq kn ke kd kf kb kw n107 0 0) (fun q => wY_plain_98 q (wY_plain_81 q (nI b) (nI less) d) (nI b) (nI less) (nI (4 * t)) (nI wo) (nI n) (nI m) w ym yn yo yz) :=
      fun wo hwo h61 => pl_98 hW hH hK (by omega) hwo h61 hM (by omega) (fun xm' ym' hM' => ih (t + 1) _ xm' ym' (by omega) (by omega) (by omega) hM')
    by_cases hE : 4 * t + 4 = b
    · refine tw_xt (tw_eqT _ b hE e4) (tw_yt (tw_eqT _ b hE e4) ?_)
      unfold wX_plain_59
      refine tw_xf (by decide) (tw_xi (pk_in (4 * t + 3) 120 (by omega) e3) ?_)
      rw [e3, e2, nI_clamp (by omega), by_g (hW.2 _)]
      rw [show b - 1 = 4 * t + 3 from by omega, show b - 2 = 4 * t + 2 from by omega] at hl
      rcases hl with ⟨rfl, h1⟩ | ⟨rfl, h1, h2⟩ | ⟨rfl, h1, h2⟩
      · refine tw_xf (h1 (by omega)) ?_
        exact go 0 (by omega) (fun k h1 h2 => by omega)
      · refine tw_xt h1 (tw_xi (pk_in (4 * t + 2) 120 (by omega)) ?_)
        rw [nI_clamp (by omega), by_g (hW.2 _)]
        refine tw_xf h2 ?_
        exact go 1 (by omega) (fun k k1 k2 => by rw [show k = 3 from by omega]; exact h1)
      · refine tw_xt h1 (tw_xi (pk_in (4 * t + 2) 120 (by omega)) ?_)
        rw [nI_clamp (by omega), by_g (hW.2 _)]
        refine tw_xt h2 ?_
        exact go 2 (by omega) (fun k k1 k2 => by
          rcases (by omega : k = 2 ∨ k = 3) with rfl | rfl
          · exact h2
          · exact h1)
    · refine tw_xf (tw_eqF _ b hE e4) (tw_yf (tw_eqF _ b hE e4) ?_)
      unfold wX_plain_59
      refine tw_xt rfl ?_
      exact go 0 (by omega) (fun k h1 h2 => by omega)
theorem pl_plain (hW : md_W n w) (hH : md_H n w xh xk) (hK : md_K xy xt xp kp kq kn ke kd kf kb yn yo yz) :
    tw_L ed_R (fun p => wpX_plain p (nI n, xs, xh, xk, xy, (fun k => by_n (w k)), xm, xt, xp, kp, kq, kn, ke, kd, kf, kb, kw)) (fun q => wpY_plain q (nI n, ys, w, ym, yn, yo, yz)) := by
  have hn := hW.1
  refine tw_xn (tw_yn ?_)
  by_cases h5 : n < 5
  · have hneg : nI n - 5 < 0 := pk_sneg (b := 5) (by omega) h5
    exact tw_xt hneg (tw_yt hneg (ed_ret hW hH hK))
  obtain ⟨b, hb⟩ : ∃ b, b + 5 = n := ⟨n - 5, by omega⟩
  have e5 : nI n - 5 = nI b := (pk_sub (b := 5) (by omega)).trans (congrArg nI (by omega))
  rw [e5]
  refine tw_xf (tw_ltF b 0 (by omega)) (tw_yf (tw_ltF b 0 (by omega)) (tw_xi (by decide) (tw_yi (by decide) ?_)))
  rw [show nI b - nI b / 4 * 4 = nI (b % 4) from pk_rem (d := 4) (by omega) (by omega) (by omega)]
  by_cases h4 : b % 4 = 0
  · refine tw_xt (tw_eqT _ 0 h4) (tw_yt (tw_eqT _ 0 h4) (tw_xi (pk_in b 120 (by omega)) (tw_yi (pk_in b 120 (by omega)) ?_)))
    rw [nI_clamp (by omega), by_g (hW.2 _)]
    refine tw_br Iff.rfl (fun _ => ?_) (fun _ => ed_ret hW hH hK)
    have go : ∀ less, _ → tw_L ed_R (fun p => ∃ n42, wX_plain_42 p (nI b) 0 n42 0 (nI n) (nI 0) xh xk xy (fun k => by_n (w k)) xm xt xp kp kq kn ke kd kf kb kw) (fun q => ∃ n81, wY_plain_81 q (nI b) (nI less) n81 0 (nI n) (nI 0) w ym yn yo yz) :=
      fun less hl => tw_xe (b + 1) (tw_ye (b + 1) (pl_lp (less := less) hW hH hK hb h4 hl (b + 1) 0 0 xm ym (by omega) (by omega) (by omega) (md_M0 _ _)))
    by_cases b0 : b = 0
    · refine tw_yt (tw_leT b 0 (by omega)) ?_
      exact go 0 (Or.inl ⟨rfl, fun z => by omega⟩)
    have e1 : nI b - 1 = nI (b - 1) := pk_sub (b := 1) (by omega)
    have e2 : nI b - 2 = nI (b - 2) := pk_sub (b := 2) (by omega)
    refine tw_yf (tw_leF b 0 (by omega)) ?_
    rw [e1, e2]
    refine tw_yi (pk_in (b - 1) 120 (by omega)) ?_
    rw [nI_clamp (by omega)]
    by_cases c1 : w (b - 1) = nI 61
    · refine tw_yt c1 (tw_yi (pk_in (b - 2) 120 (by omega)) ?_)
      rw [nI_clamp (by omega)]
      by_cases c2 : w (b - 2) = nI 61
      · exact tw_yt c2 (go 2 (Or.inr (Or.inr ⟨rfl, c1, c2⟩)))
      · exact tw_yf c2 (go 1 (Or.inr (Or.inl ⟨rfl, c1, c2⟩)))
    · exact tw_yf c1 (go 0 (Or.inl ⟨rfl, fun _ => c1⟩))
  · exact tw_xf (tw_eqF _ 0 h4) (tw_yf (tw_eqF _ 0 h4) (ed_ret hW hH hK))
end
end
section
/-! ===== the constructors ===== -/
section
variable {xl xs xh xk xy : Int32} {xw xm xt xp : Nat → Int32} {kp kq kn ke kd kf kb kw : Nat → Int64} {yl ys : Int32} {yw ym : Nat → Int32} {yn yo yz : Nat → Int64}
theorem in_117 {post : SX → Prop} {J : Int32 → (Nat → Int32) → (Nat → Int32) → (Nat → Int32) → (Nat → Int32) → (Nat → Int64) → (Nat → Int64) → (Nat → Int64) → (Nat → Int64) → (Nat → Int64) → (Nat → Int64) → (Nat → Int64) → (Nat → Int64) → Prop} {b : Nat}
    (hb : b < 256) (hJ : J (nI (b + 1)) xw xm (upd xt b (cr_T b)) xp kp kq kn ke kd kf kb kw) :
    ∀ d k, k + d = 8 → wX_init_117 post J (nI b) xl xs xh xk xy xw xm xt xp kp kq kn ke kd kf kb kw (d + 1) (cr_X (nI b <<< ((16 : Int32) &&& 31)) k) (nI k) := by
  intro d
  induction d with
  | zero =>
    intro k hk
    obtain rfl : k = 8 := hk
    exact br_t (tw_leT 8 8 (by omega)) ⟨pk_in b 256 hb, nm_r (e' := upd xt b (cr_T b)) (by rw [nI_clamp (by omega)]; rfl) (nm_r (nI_1 b) hJ)⟩
  | succ d ih =>
    intro k hk
    have hn : cr_x (cr_X (nI b <<< ((16 : Int32) &&& 31)) k) = cr_X (nI b <<< ((16 : Int32) &&& 31)) (k + 1) := rfl
    have hI := ih (k + 1) (by omega)
    rw [← hn] at hI
    unfold cr_x at hI
    refine br_f (tw_leF 8 k (by omega)) (nm_e ?_)
    refine br_c (fun h => ?_) (fun h => ?_)
    · rw [if_pos h] at hI
      exact nm_e (nm_r (nI_1 k) hI)
    · rw [if_neg h] at hI
      exact nm_r (nI_1 k) hI
theorem in_103 {post : SX → Prop} (hp : post (xl, xs, xh, xk, 0, xw, xm, tu_w 256 cr_T xt, tu_w 6 (en_P 0) xp, kp, kq, kn, ke, kd, kf, kb, kw)) :
    ∀ d b, b + d = 256 → wX_init_103 post xl xs xh xk xy (d + 1) (nI b) xw xm (tu_w b cr_T xt) xp kp kq kn ke kd kf kb kw := by
  intro d
  induction d with
  | zero =>
    intro b hb
    obtain rfl : b = 256 := hb
    exact br_t (tw_leT 256 256 (by omega)) (sc_x hp)
  | succ d ih =>
    intro b hb
    have hI := ih (b + 1) (by omega)
    rw [← tu_s] at hI
    exact br_f (tw_leF 256 b (by omega)) (nm_e ⟨9, in_117 (by omega) hI 8 0 (by omega)⟩)
end
theorem in_0 : wpX_init (fun u => wpY_init (fun v => i_Rel 0 u v)) := by
  have hz : rl_R (0, 0, -2128831035, 0, 0, (fun _ => 0), (fun _ => 0), tu_w 256 cr_T (fun _ => 0), tu_w 6 (en_P 0) (fun _ => 0), (fun _ => 0), (fun _ => 0), (fun _ => 0), (fun _ => 0), (fun _ => 0), (fun _ => 0), (fun _ => 0), (fun _ => 0))
      (0, 0, (fun _ => 0), (fun _ => 0), (fun _ => 0), (fun _ => 0), (fun _ => 0)) := by
    refine ⟨0, ⟨rfl, rfl⟩, funext (fun k => (by decide : (0 : Int32) = by_n 0)), ⟨by omega, fun k => by_B0⟩, ⟨0, by omega, rfl, rfl⟩, fun i hi => ?_, fun j hj => ?_, fun j hj => Or.inl ⟨rfl, rfl⟩⟩
    · unfold tu_w; rw [if_pos hi]
    · unfold tu_w; rw [if_pos hj]
  have h := in_103 (post := fun u => wpY_init (fun v => i_Rel 0 u v)) (xl := 0) (xs := 0) (xh := -2128831035) (xk := 0) (xy := 0) (xw := fun _ => 0) (xm := fun _ => 0) (xt := fun _ => 0) (xp := fun _ => 0)
    (kp := fun _ => 0) (kq := fun _ => 0) (kn := fun _ => 0) (ke := fun _ => 0) (kd := fun _ => 0) (kf := fun _ => 0) (kb := fun _ => 0) (kw := fun _ => 0) hz 256 0 (by omega)
  rw [tu_0] at h
  exact ⟨257, h⟩
end
section
/-! ===== powers by a number, both ways ===== -/
def tl_w (m : Nat) (g w : Nat → Int64) : Nat → Int64 := fun k => if k < m then g k else w k
theorem tl_s (m : Nat) (g w : Nat → Int64) : vp_updL (tl_w m g w) m (g m) = tl_w (m + 1) g w := by
  funext k; unfold tl_w vp_updL; dsimp only
  by_cases h : k = m
  · rw [if_pos h, if_pos (by omega), h]
  · by_cases h2 : k < m
    · rw [if_neg h, if_pos h2, if_pos (by omega)]
    · rw [if_neg h, if_neg h2, if_neg (by omega)]
theorem tl_0 (g w : Nat → Int64) : tl_w 0 g w = w := by funext k; unfold tl_w; rw [if_neg (Nat.not_lt_zero k)]
theorem tl_lt {m k : Nat} {g w : Nat → Int64} (h : k < m) : tl_w m g w k = g k := by unfold tl_w; rw [if_pos h]
theorem po_ne {b : Nat} (h0 : 0 < b) (hb : b < 2 ^ 63) : ¬ lN b = 0 := fun z => by
  have := (pk_lEQ hb (b := 0) (by omega)).mp z
  omega
/-- a product's rest -/
theorem po_r {a c b : Nat} (ha : a < 2 ^ 31) (hc : c < 2 ^ 32) (h0 : 0 < b) (hb : b < 2 ^ 63) : (lN a * lN c) - (lN a * lN c) / lN b * lN b = lN (a * c % b) := by
  rw [lN_mul]
  refine pk_lRem ?_ h0 hb
  have : a * c ≤ 2 ^ 31 * c := Nat.mul_le_mul_right c (Nat.le_of_lt ha)
  omega
theorem po_m {x a c b : Nat} : (x ^ a % b) * (x ^ c % b) % b = x ^ (a + c) % b := by rw [← Nat.mul_mod, ← Nat.pow_add]
theorem po_i : ∀ i, i < 8 → ¬ (28 : Int32) - 4 * nI i < 0 ∧ ((28 : Int32) - 4 * nI i) + (-4) = 28 - 4 * nI (i + 1) ∧ (28 : Int32) - 4 * nI i = nI (28 - 4 * i) := by decide
theorem po_sm : ∀ s, s < 32 → (((nI s).toInt64 &&& 63).toBitVec.smod 64).toNat = s := by decide +kernel
/-- four bits of an exponent -/
theorem po_d {x s : Nat} (hx : x < 2 ^ 32) (hs : s < 32) : ((lN x >>> ((nI s).toInt64 &&& 63)).toInt32) &&& 15 = nI (x / 2 ^ s % 16) := by
  rw [pf_shr (po_sm s hs) (by omega), lN_i, pk_andN (Nat.lt_of_le_of_lt (Nat.div_le_self _ _) hx) 4 (by decide)]
section
variable {xl xs xh xk xy : Int32} {xw xm xt xp : Nat → Int32} {kp kq kn ke kd kf kb kw : Nat → Int64} {yl ys : Int32} {yw ym : Nat → Int32} {yn yo yz : Nat → Int64}
variable {m x b : Nat}
theorem po_67 {post : Int64 → SX → Prop} {J : Int64 → Int32 → Prop} {i E : Nat} (hx : x < 2 ^ 32) (h0 : 0 < b) (hb : b < 2 ^ 31) (hi : i < 8) (hE : E = x / 2 ^ (32 - 4 * i)) (hk : ∀ j, j < 16 → kw j = lN (m ^ j % b))
    (hJ : J (lN (m ^ (x / 2 ^ (28 - 4 * i)) % b)) (28 - 4 * nI (i + 1))) :
    ∀ d k, k + d = 4 → wX_raised_67 post J (lN x) (lN b) (28 - 4 * nI i) xl xs xh xk xy xw xm xt xp kp kq kn ke kd kf kb kw (d + 1) (lN (m ^ (E * 2 ^ k) % b)) (nI k) := by
  obtain ⟨i1, i2, i3⟩ := po_i i hi
  intro d
  induction d with
  | zero =>
    intro k hk4
    obtain rfl : k = 4 := hk4
    have hd : ((lN x >>> ((28 - 4 * nI i).toInt64 &&& 63)).toInt32) &&& 15 = nI (x / 2 ^ (28 - 4 * i) % 16) := by rw [i3]; exact po_d hx (by omega)
    have hm : x / 2 ^ (28 - 4 * i) % 16 < 16 := Nat.mod_lt _ (by omega)
    refine br_t (tw_leT 4 4 (by omega)) ?_
    rw [hd]
    refine ⟨pk_in _ 16 hm, po_ne h0 (by omega), nm_r (e' := lN (m ^ (x / 2 ^ (28 - 4 * i)) % b)) ?_ (nm_r i2 hJ)⟩
    rw [nI_clamp (by omega), hk _ hm, po_r (Nat.lt_trans (Nat.mod_lt _ h0) hb) (Nat.lt_trans (Nat.mod_lt _ h0) (by omega)) h0 (by omega), po_m]
    have e : E * 2 ^ 4 + x / 2 ^ (28 - 4 * i) % 16 = x / 2 ^ (28 - 4 * i) := by
      rw [hE, show 32 - 4 * i = (28 - 4 * i) + 4 from by omega, Nat.pow_add, ← Nat.div_div_eq_div_mul]
      omega
    rw [e]
  | succ d ih =>
    intro k hk4
    refine br_f (tw_leF 4 k (by omega)) ⟨po_ne h0 (by omega), nm_r (e' := lN (m ^ (E * 2 ^ (k + 1)) % b)) ?_ (nm_r (nI_1 k) (ih (k + 1) (by omega)))⟩
    rw [po_r (Nat.lt_trans (Nat.mod_lt _ h0) hb) (Nat.lt_trans (Nat.mod_lt _ h0) (by omega)) h0 (by omega), mr_p2, ← Nat.mul_mod]
theorem po_59 {post : Int64 → SX → Prop} (hx : x < 2 ^ 32) (h0 : 0 < b) (hb : b < 2 ^ 31) (hk : ∀ j, j < 16 → kw j = lN (m ^ j % b)) (hp : post (lN (m ^ x % b)) (xl, xs, xh, xk, xy, xw, xm, xt, xp, kp, kq, kn, ke, kd, kf, kb, kw)) :
    ∀ d i, i + d = 8 → wX_raised_59 post (lN x) (lN b) xl xs xh xk xy xw xm xt xp kp kq kn ke kd kf kb kw (d + 1) (lN (m ^ (x / 2 ^ (32 - 4 * i)) % b)) (28 - 4 * nI i) := by
  intro d
  induction d with
  | zero =>
    intro i hi
    obtain rfl : i = 8 := hi
    refine br_t (by decide) ?_
    rw [show x / 2 ^ (32 - 4 * 8) = x from Nat.div_one x]
    exact hp
  | succ d ih =>
    intro i hi
    have hI := ih (i + 1) (by omega)
    rw [show 32 - 4 * (i + 1) = 28 - 4 * i from by omega] at hI
    have h := po_67 (xl := xl) (xs := xs) (xh := xh) (xk := xk) (xy := xy) (xw := xw) (xm := xm) (xt := xt) (xp := xp) (kp := kp) (kq := kq) (kn := kn) (ke := ke) (kd := kd) (kf := kf) (kb := kb) (kw := kw) (post := post) hx h0 hb (by omega) rfl hk hI 4 0 (by omega)
    rw [Nat.pow_zero, Nat.mul_one] at h
    exact br_f (po_i i (by omega)).1 ⟨5, h⟩
theorem po_13 {post : Int64 → SX → Prop} (hm : m < 2 ^ 32) (hx : x < 2 ^ 32) (h0 : 0 < b) (hb : b < 2 ^ 31) (hp : post (lN (m ^ x % b)) (xl, xs, xh, xk, xy, xw, xm, xt, xp, kp, kq, kn, ke, kd, kf, kb, tl_w 16 (fun j => lN (m ^ j % b)) kw)) :
    ∀ d k, k + d = 16 → 1 ≤ k → wX_raised_13 post (lN m) (lN x) (lN b) xl xs xh xk xy (d + 1) (nI k) xw xm xt xp kp kq kn ke kd kf kb (tl_w k (fun j => lN (m ^ j % b)) kw) := by
  intro d
  induction d with
  | zero =>
    intro k hk h1
    obtain rfl : k = 16 := hk
    refine br_t (tw_leT 16 16 (by omega)) (nm_r (e' := lN (m ^ 0 % b)) (tl_lt (by omega)) ?_)
    have h := po_59 (post := post) (kw := tl_w 16 (fun j => lN (m ^ j % b)) kw) hx h0 hb (fun j hj => tl_lt hj) hp 8 0 (by omega)
    rw [show x / 2 ^ (32 - 4 * 0) = 0 from Nat.div_eq_of_lt hx] at h
    exact ⟨9, h⟩
  | succ d ih =>
    intro k hk h1
    have e1 : nI k - 1 = nI (k - 1) := pk_sub (b := 1) h1
    refine br_f (tw_leF 16 k (by omega)) ?_
    rw [e1]
    refine ⟨pk_in (k - 1) 16 (by omega), po_ne h0 (by omega), pk_in k 16 (by omega), nm_r (e' := tl_w (k + 1) (fun j => lN (m ^ j % b)) kw) ?_ (nm_r (nI_1 k) (ih (k + 1) (by omega) (by omega)))⟩
    rw [nI_clamp (by omega), nI_clamp (by omega), tl_lt (by omega), po_r (Nat.lt_trans (Nat.mod_lt _ h0) hb) hm h0 (by omega), ← tl_s]
    have e : m ^ (k - 1) % b * m % b = m ^ k % b := by
      rw [Nat.mod_mul_mod, ← Nat.pow_succ]
      exact congrArg (fun t => m ^ t % b) (by omega)
    rw [e]
theorem po_x (hm : m < 2 ^ 32) (hx : x < 2 ^ 32) (h0 : 0 < b) (hb : b < 2 ^ 31) :
    ∃ kw' : Nat → Int64, ∀ post : Int64 → SX → Prop, post (lN (m ^ x % b)) (xl, xs, xh, xk, xy, xw, xm, xt, xp, kp, kq, kn, ke, kd, kf, kb, kw') → wpX_raised post (xl, xs, xh, xk, xy, xw, xm, xt, xp, kp, kq, kn, ke, kd, kf, kb, kw) (lN m) (lN x) (lN b) := by
  refine ⟨tl_w 16 (fun j => lN (m ^ j % b)) kw, fun post hp => ⟨po_ne h0 (by omega), nm_r (e' := tl_w 1 (fun j => lN (m ^ j % b)) kw) ?_ ⟨16, po_13 hm hx h0 hb hp 15 1 (by omega) (by omega)⟩⟩⟩
  rw [← tl_s, tl_0]
  have h1 : (1 : Int64) - 1 / lN b * lN b = lN (1 % b) := pk_lRem (a := 1) (by omega) h0 (by omega)
  rw [h1, Nat.pow_zero]
end
/-! the reference's power -/
theorem po_yl {post : Int64 → Prop} {n V : Nat} (h2 : 2 ≤ n) (hn : n < 2 ^ 31) (hp : post (lN V)) :
    ∀ f left r x, left < f → left < 2 ^ 62 → r < n → x < n → r * x ^ left % n = V → wY_power_12 post (lN n) f (lN r) (lN x) (lN left) := by
  intro f
  induction f with
  | zero => intro left r x h; omega
  | succ f ih =>
    intro left r x hf h62 hr hx hV
    by_cases h0 : left = 0
    · subst h0
      refine br_t ((pk_lLE (b := 0) (by omega) (by omega)).mpr (Nat.le_refl 0)) ?_
      rw [Nat.pow_zero, Nat.mul_one, Nat.mod_eq_of_lt hr] at hV
      rw [hV]; exact hp
    refine br_f (fun z => h0 (Nat.le_zero.mp ((pk_lLE (b := 0) (by omega) (by omega)).mp z))) ?_
    rw [wb_a1 (by omega)]
    have es : lN left >>> ((1 : Int32).toInt64 &&& 63) = lN (left / 2) := pf_shr (d := 1) (po_sm 1 (by omega)) h62
    have hxx : x * x % n < n := Nat.mod_lt _ (by omega)
    have h38 : ∀ r', r' < n → r' * (x * x % n) ^ (left / 2) % n = V → wY_power_38 post (wY_power_12 post (lN n) f) (lN n) (lN r') (lN x) (lN left) := fun r' hr' hV' =>
      ⟨po_ne (by omega) (by omega), nm_r (po_r (by omega) (by omega) (by omega) (by omega)) (nm_r es (ih (left / 2) r' (x * x % n) (by omega) (by omega) hr' hxx hV'))⟩
    have hsq : (x * x) ^ (left / 2) = x ^ (2 * (left / 2)) := by rw [Nat.pow_mul]; exact congrArg (· ^ (left / 2)) (by rw [Nat.pow_succ, Nat.pow_one])
    by_cases hodd : left % 2 = 0
    · refine br_t (by rw [hodd]; rfl) (h38 r hr ?_)
      rw [Nat.mul_mod, ← Nat.pow_mod, ← Nat.mul_mod, hsq, show 2 * (left / 2) = left from by omega]
      exact hV
    · refine br_f (fun z => ?_) ⟨po_ne (by omega) (by omega), nm_r (po_r (by omega) (by omega) (by omega) (by omega)) (h38 (r * x % n) (Nat.mod_lt _ (by omega)) ?_)⟩
      · have := (pk_lEQ (b := 0) (by omega) (by omega)).mp z
        omega
      · rw [Nat.mul_mod, ← Nat.pow_mod, Nat.mod_mod, ← Nat.mul_mod, hsq, Nat.mul_assoc]
        have e : x * x ^ (2 * (left / 2)) = x ^ left := by
          rw [Nat.mul_comm, ← Nat.pow_succ]
          exact congrArg (x ^ ·) (by omega)
        rw [e]
        exact hV
theorem po_y {post : Int64 → Prop} {m e n : Nat} (hm : m < 2 ^ 63) (he : e < 2 ^ 62) (h2 : 2 ≤ n) (hn : n < 2 ^ 31) (hp : post (lN (m ^ e % n))) : wpY_power post (lN m) (lN e) (lN n) := by
  refine ⟨po_ne (by omega) (by omega), nm_r (pk_lRem hm (by omega) (by omega)) ⟨e + 1, ?_⟩⟩
  exact po_yl h2 hn hp (e + 1) e 1 (m % n) (by omega) he (by omega) (Nat.mod_lt _ (by omega)) (by rw [Nat.one_mul, ← Nat.pow_mod])
end
section
/-! ===== primes, both ways; inverses ===== -/
section
variable {xl xs xh xk xy : Int32} {xw xm xt xp : Nat → Int32} {kp kq kn ke kd kf kb kw : Nat → Int64} {yl ys : Int32} {yw ym : Nat → Int32} {yn yo yz : Nat → Int64}
variable {x o t b : Nat}
theorem ps_1 {post : Int32 → SX → Prop} {v : Int64} {k f : Nat} (hp : post 1 (xl, xs, xh, xk, xy, xw, xm, xt, xp, kp, kq, kn, ke, kd, kf, kb, kw)) : wX_passes_40 post (nI x) (nI t) xl xs xh xk xy xw xm xt xp kp kq kn ke kd kf kb kw (f + 1) v 1 (nI k) :=
  br_c (fun _ => ⟨narrow_b1, hp⟩) (fun _ => br_f (by decide) ⟨narrow_b1, hp⟩)
theorem ps_lp (h2 : 2 ≤ x) (hx : x < 2 ^ 31) (ht : t < 2 ^ 31) :
    ∀ d k, k + d = t → 1 ≤ k → ∃ r : Int32, ((r = 1 ∧ ∃ j, k ≤ j ∧ j < t ∧ b ^ (o * 2 ^ j) % x = x - 1) ∨ (r = 0 ∧ ¬ ∃ j, k ≤ j ∧ j < t ∧ b ^ (o * 2 ^ j) % x = x - 1)) ∧
      ∀ post : Int32 → SX → Prop, post r (xl, xs, xh, xk, xy, xw, xm, xt, xp, kp, kq, kn, ke, kd, kf, kb, kw) → wX_passes_40 post (nI x) (nI t) xl xs xh xk xy xw xm xt xp kp kq kn ke kd kf kb kw (d + 2) (lN (b ^ (o * 2 ^ (k - 1)) % x)) 0 (nI k) := by
  intro d
  induction d with
  | zero =>
    intro k hk h1
    exact ⟨0, Or.inr ⟨rfl, fun ⟨j, j1, j2, _⟩ => by omega⟩, fun post hp => br_t (tw_leT t k (by omega)) ⟨narrow_b0, hp⟩⟩
  | succ d ih =>
    intro k hk h1
    have hm : b ^ (o * 2 ^ (k - 1)) % x < 2 ^ 31 := Nat.lt_trans (Nat.mod_lt _ (by omega)) hx
    have hv : (lN (b ^ (o * 2 ^ (k - 1)) % x) * lN (b ^ (o * 2 ^ (k - 1)) % x)) - (lN (b ^ (o * 2 ^ (k - 1)) % x) * lN (b ^ (o * 2 ^ (k - 1)) % x)) / (nI x).toInt64 * (nI x).toInt64 = lN (b ^ (o * 2 ^ k) % x) := by
      rw [nI_l hx, po_r hm (by omega) (by omega) (by omega), ← Nat.mul_mod, ← mr_p2, show k - 1 + 1 = k from by omega]
    have e1 : (nI x - 1).toInt64 = lN (x - 1) := by rw [show nI x - 1 = nI (x - 1) from pk_sub (b := 1) (by omega), nI_l (by omega)]
    have hm' : b ^ (o * 2 ^ k) % x < x := Nat.mod_lt _ (by omega)
    by_cases hg : b ^ (o * 2 ^ k) % x = x - 1
    · refine ⟨1, Or.inl ⟨rfl, k, Nat.le_refl k, by omega, hg⟩, fun post hp => br_f (tw_leF t k (by omega)) (br_t rfl ⟨?_, nm_r hv (br_t (by rw [hg, e1]) (nm_r (nI_1 k) (ps_1 hp)))⟩)⟩
      rw [nI_l hx]; exact po_ne (by omega) (by omega)
    · obtain ⟨r, hr, hX⟩ := ih (k + 1) (by omega) (by omega)
      rw [show k + 1 - 1 = k from by omega] at hX
      refine ⟨r, ?_, fun post hp => br_f (tw_leF t k (by omega)) (br_t rfl ⟨?_, nm_r hv (br_f (fun z => hg ?_) (nm_r (nI_1 k) (hX post hp)))⟩)⟩
      · rcases hr with ⟨h, j, j1, j2, j3⟩ | ⟨h, hn⟩
        · exact Or.inl ⟨h, j, by omega, j2, j3⟩
        · refine Or.inr ⟨h, fun ⟨j, j1, j2, j3⟩ => ?_⟩
          by_cases ej : j = k
          · rw [ej] at j3; exact hg j3
          · exact hn ⟨j, by omega, j2, j3⟩
      · rw [nI_l hx]; exact po_ne (by omega) (by omega)
      · rw [e1] at z
        exact (pk_lEQ (by omega) (by omega)).mp z
theorem ps_x (h2 : 2 ≤ x) (hx : x < 2 ^ 31) (ho : o < 2 ^ 31) (ht : t < 2 ^ 31) (h1 : 1 ≤ t) (hb : b < 2 ^ 31) :
    ∃ (r : Int32) (kw' : Nat → Int64), ((r = 1 ∧ mr_P x o t b) ∨ (r = 0 ∧ ¬ mr_P x o t b)) ∧
      ∀ post : Int32 → SX → Prop, post r (xl, xs, xh, xk, xy, xw, xm, xt, xp, kp, kq, kn, ke, kd, kf, kb, kw') → wpX_passes post (xl, xs, xh, xk, xy, xw, xm, xt, xp, kp, kq, kn, ke, kd, kf, kb, kw) (nI x) (nI o) (nI t) (nI b) := by
  obtain ⟨kw', hX⟩ := po_x (xl := xl) (xs := xs) (xh := xh) (xk := xk) (xy := xy) (xw := xw) (xm := xm) (xt := xt) (xp := xp) (kp := kp) (kq := kq) (kn := kn) (ke := ke) (kd := kd) (kf := kf) (kb := kb) (kw := kw) (m := b) (x := o) (b := x) (by omega) (by omega) (by omega) hx
  have e1 : (nI x - 1).toInt64 = lN (x - 1) := by rw [show nI x - 1 = nI (x - 1) from pk_sub (b := 1) (by omega), nI_l (by omega)]
  have hm : b ^ o % x < x := Nat.mod_lt _ (by omega)
  have hgo : ∀ post : Int32 → SX → Prop, ((lN (b ^ o % x) = 1 → (∃ n40 : Nat, wX_passes_40 post (nI x) (nI t) xl xs xh xk xy xw xm xt xp kp kq kn ke kd kf kb kw' n40 (lN (b ^ o % x)) 1 1)) ∧ (¬ lN (b ^ o % x) = 1 → (((lN (b ^ o % x) = ((nI x - 1).toInt64) → (∃ n40 : Nat, wX_passes_40 post (nI x) (nI t) xl xs xh xk xy xw xm xt xp kp kq kn ke kd kf kb kw' n40 (lN (b ^ o % x)) 1 1)) ∧ (¬ lN (b ^ o % x) = ((nI x - 1).toInt64) → (∃ n40 : Nat, wX_passes_40 post (nI x) (nI t) xl xs xh xk xy xw xm xt xp kp kq kn ke kd kf kb kw' n40 (lN (b ^ o % x)) 0 1)))))) →
      wpX_passes post (xl, xs, xh, xk, xy, xw, xm, xt, xp, kp, kq, kn, ke, kd, kf, kb, kw) (nI x) (nI o) (nI t) (nI b) := fun post h => by
    unfold wpX_passes
    dsimp only
    rw [nI_l hx, nI_l ho, nI_l hb]
    exact hX _ h
  by_cases c1 : b ^ o % x = 1
  · exact ⟨1, kw', Or.inl ⟨rfl, Or.inl c1⟩, fun post hp => hgo post (br_t (by rw [c1]; rfl) ⟨1, ps_1 (k := 1) hp⟩)⟩
  have c1' : ¬ lN (b ^ o % x) = 1 := fun z => c1 ((pk_lEQ (b := 1) (by omega) (by omega)).mp z)
  by_cases c2 : b ^ o % x = x - 1
  · exact ⟨1, kw', Or.inl ⟨rfl, Or.inr (Or.inl c2)⟩, fun post hp => hgo post (br_f c1' (br_t (by rw [e1, c2]) ⟨1, ps_1 (k := 1) hp⟩))⟩
  have c2' : ¬ lN (b ^ o % x) = ((nI x - 1).toInt64) := fun z => c2 ((pk_lEQ (by omega) (by omega)).mp (z.trans e1))
  obtain ⟨r, hr, hL⟩ := ps_lp (xl := xl) (xs := xs) (xh := xh) (xk := xk) (xy := xy) (xw := xw) (xm := xm) (xt := xt) (xp := xp) (kp := kp) (kq := kq) (kn := kn) (ke := ke) (kd := kd) (kf := kf) (kb := kb) (kw := kw') (x := x) (o := o) (t := t) (b := b) h2 hx ht (t - 1) 1 (by omega) (by omega)
  rw [show o * 2 ^ (1 - 1) = o from Nat.mul_one o] at hL
  refine ⟨r, kw', ?_, fun post hp => hgo post (br_f c1' (br_f c2' ⟨t - 1 + 2, hL post hp⟩))⟩
  rcases hr with ⟨h, j⟩ | ⟨h, hn⟩
  · exact Or.inl ⟨h, Or.inr (Or.inr j)⟩
  · exact Or.inr ⟨h, fun hP => by
      rcases hP with h | h | h
      · exact c1 h
      · exact c2 h
      · exact hn h⟩
end
section
variable {xl xs xh xk xy : Int32} {xw xm xt xp : Nat → Int32} {kp kq kn ke kd kf kb kw : Nat → Int64} {yl ys : Int32} {yw ym : Nat → Int32} {yn yo yz : Nat → Int64}
variable {x : Nat}
theorem pr_lp (h0 : 257 ≤ x) (h1 : x ≤ 46337) (h2 : x % 2 = 1) : ∀ f o t, o < f → 0 < o → x - 1 = o * 2 ^ t →
    ∃ (r : Int32) (kw' : Nat → Int64), ((r = 1 ∧ fe_P x) ∨ (r = 0 ∧ ¬ fe_P x)) ∧ ∀ post : Int32 → SX → Prop, post r (xl, xs, xh, xk, xy, xw, xm, xt, xp, kp, kq, kn, ke, kd, kf, kb, kw') → wX_isPrime_14 post (nI x) xl xs xh xk xy xw xm xt xp kp kq kn ke kd kf kb kw f (nI o) (nI t) := by
  intro f
  induction f with
  | zero => intro o t h; omega
  | succ f ih =>
    intro o t hf ho hx
    have ht : t < 2 ^ t := Nat.lt_two_pow_self
    have ht2 : 2 ^ t ≤ x - 1 := by rw [hx]; exact Nat.le_mul_of_pos_left _ ho
    have ho2 : o ≤ x - 1 := by rw [hx]; exact Nat.le_mul_of_pos_right _ (Nat.two_pow_pos t)
    have e2 : nI o - nI o / 2 * 2 = nI (o % 2) := pk_rem (d := 2) (by omega) (by omega) (by omega)
    by_cases hev : o % 2 = 0
    · obtain ⟨r, kw', hr, hX⟩ := ih (o / 2) (t + 1) (by omega) (by omega) (by
        rw [hx, Nat.pow_succ, Nat.mul_comm (2 ^ t) 2, ← Nat.mul_assoc]
        exact congrArg (· * 2 ^ t) (by omega))
      refine ⟨r, kw', hr, fun post hp => ⟨by decide, br_t (by rw [e2, hev]; rfl) ⟨by decide, nm_r (pk_div (d := 2) (by omega) (by omega) (by omega)) (nm_r (nI_1 t) (hX post hp))⟩⟩⟩
    have hodd : o % 2 = 1 := by omega
    have h1t : 1 ≤ t := by
      rcases Nat.eq_zero_or_pos t with h | h
      · rw [h, Nat.pow_zero, Nat.mul_one] at hx; omega
      · exact h
    have eo : ¬ nI o - nI o / 2 * 2 = 0 := by rw [e2, hodd]; decide
    obtain ⟨r2, k2, hr2, hX2⟩ := ps_x (xl := xl) (xs := xs) (xh := xh) (xk := xk) (xy := xy) (xw := xw) (xm := xm) (xt := xt) (xp := xp) (kp := kp) (kq := kq) (kn := kn) (ke := ke) (kd := kd) (kf := kf) (kb := kb) (kw := kw) (x := x) (o := o) (t := t) (b := 2) (by omega) (by omega) (by omega) (by omega) h1t (by omega)
    obtain ⟨r3, k3, hr3, hX3⟩ := ps_x (xl := xl) (xs := xs) (xh := xh) (xk := xk) (xy := xy) (xw := xw) (xm := xm) (xt := xt) (xp := xp) (kp := kp) (kq := kq) (kn := kn) (ke := ke) (kd := kd) (kf := kf) (kb := kb) (kw := k2) (x := x) (o := o) (t := t) (b := 3) (by omega) (by omega) (by omega) (by omega) h1t (by omega)
    obtain ⟨r5, k5, hr5, hX5⟩ := ps_x (xl := xl) (xs := xs) (xh := xh) (xk := xk) (xy := xy) (xw := xw) (xm := xm) (xt := xt) (xp := xp) (kp := kp) (kq := kq) (kn := kn) (ke := ke) (kd := kd) (kf := kf) (kb := kb) (kw := k3) (x := x) (o := o) (t := t) (b := 5) (by omega) (by omega) (by omega) (by omega) h1t (by omega)
    obtain ⟨r7, k7, hr7, hX7⟩ := ps_x (xl := xl) (xs := xs) (xh := xh) (xk := xk) (xy := xy) (xw := xw) (xm := xm) (xt := xt) (xp := xp) (kp := kp) (kq := kq) (kn := kn) (ke := ke) (kd := kd) (kf := kf) (kb := kb) (kw := k5) (x := x) (o := o) (t := t) (b := 7) (by omega) (by omega) (by omega) (by omega) h1t (by omega)
    rcases hr2 with ⟨rfl, p2⟩ | ⟨rfl, p2⟩
    · rcases hr3 with ⟨rfl, p3⟩ | ⟨rfl, p3⟩
      · rcases hr5 with ⟨rfl, p5⟩ | ⟨rfl, p5⟩
        · rcases hr7 with ⟨rfl, p7⟩ | ⟨rfl, p7⟩
          · exact ⟨1, k7, Or.inl ⟨rfl, mr_all4 h0 h1 h2 hodd hx p2 p3 p5 p7⟩, fun post hp => ⟨by decide, br_f eo (hX2 _ (br_f (by decide) (hX3 _ (br_f (by decide) (hX5 _ (br_f (by decide) (hX7 _ (br_f (by decide) hp))))))))⟩⟩
          · exact ⟨0, k7, Or.inr ⟨rfl, fun hp => p7 (mr_pp hp hx (by omega) (by omega))⟩, fun post hp => ⟨by decide, br_f eo (hX2 _ (br_f (by decide) (hX3 _ (br_f (by decide) (hX5 _ (br_f (by decide) (hX7 _ (br_t rfl hp))))))))⟩⟩
        · exact ⟨0, k5, Or.inr ⟨rfl, fun hp => p5 (mr_pp hp hx (by omega) (by omega))⟩, fun post hp => ⟨by decide, br_f eo (hX2 _ (br_f (by decide) (hX3 _ (br_f (by decide) (hX5 _ (br_t rfl hp))))))⟩⟩
      · exact ⟨0, k3, Or.inr ⟨rfl, fun hp => p3 (mr_pp hp hx (by omega) (by omega))⟩, fun post hp => ⟨by decide, br_f eo (hX2 _ (br_f (by decide) (hX3 _ (br_t rfl hp))))⟩⟩
    · exact ⟨0, k2, Or.inr ⟨rfl, fun hp => p2 (mr_pp hp hx (by omega) (by omega))⟩, fun post hp => ⟨by decide, br_f eo (hX2 _ (br_t rfl hp))⟩⟩
theorem pr_x (h0 : 257 ≤ x) (h1 : x ≤ 46337) :
    ∃ (r : Int32) (kw' : Nat → Int64), ((r = 1 ∧ fe_P x) ∨ (r = 0 ∧ ¬ fe_P x)) ∧ ∀ post : Int32 → SX → Prop, post r (xl, xs, xh, xk, xy, xw, xm, xt, xp, kp, kq, kn, ke, kd, kf, kb, kw') → wpX_isPrime post (xl, xs, xh, xk, xy, xw, xm, xt, xp, kp, kq, kn, ke, kd, kf, kb, kw) (nI x) := by
  have e2 : nI x - nI x / 2 * 2 = nI (x % 2) := pk_rem (d := 2) (by omega) (by omega) (by omega)
  by_cases h2 : x % 2 = 0
  · exact ⟨0, kw, Or.inr ⟨rfl, fun hp => hp.2 2 (by omega) (by omega) (Nat.dvd_of_mod_eq_zero h2)⟩, fun post hp => ⟨by decide, br_t (by rw [e2, h2]; rfl) hp⟩⟩
  · obtain ⟨r, kw', hr, hX⟩ := pr_lp (xl := xl) (xs := xs) (xh := xh) (xk := xk) (xy := xy) (xw := xw) (xm := xm) (xt := xt) (xp := xp) (kp := kp) (kq := kq) (kn := kn) (ke := ke) (kd := kd) (kf := kf) (kb := kb) (kw := kw) h0 h1 (by omega) x (x - 1) 0 (by omega) (by omega) (by rw [Nat.pow_zero, Nat.mul_one])
    refine ⟨r, kw', hr, fun post hp => ⟨by decide, br_f ?_ (nm_r (pk_sub (b := 1) (by omega)) ⟨x, hX post hp⟩)⟩⟩
    rw [e2, show x % 2 = 1 from by omega]; decide
end
theorem pr_yl {x : Nat} (h0 : 257 ≤ x) (h1 : x ≤ 46337) : ∀ f k, 217 - k < f → 2 ≤ k → k ≤ 216 → (∀ d, 2 ≤ d → d < k → ¬ d ∣ x) →
    ∃ r : Int32, ((r = 1 ∧ fe_P x) ∨ (r = 0 ∧ ¬ fe_P x)) ∧ ∀ post : Int32 → Prop, post r → wY_prime_17 post (nI x) f (nI k) := by
  intro f
  induction f with
  | zero => intro k h; omega
  | succ f ih =>
    intro k hf h2 h216 ha
    by_cases hk : x < k * k
    · have hP : fe_P x := fe_tri (by omega) (fun d hd hdd => ha d hd (by
        rcases Nat.lt_or_ge d k with h | h
        · exact h
        · have := Nat.mul_le_mul h h; omega))
      refine ⟨1, Or.inl ⟨rfl, hP⟩, fun post hp => ?_⟩
      have hbig : k * k ≤ 216 * 216 := Nat.mul_le_mul h216 h216
      exact br_t (tw_ltT x (k * k) hk rfl (pk_mul k k)) hp
    · have hk215 : k ≤ 215 := by
        rcases Nat.lt_or_ge 215 k with h | h
        · have : 216 * 216 ≤ k * k := Nat.mul_le_mul h h
          omega
        · exact h
      have hkx : k < x := by omega
      have e : nI x - nI x / nI k * nI k = nI (x % k) := pk_rem (by omega) (by omega) (by omega)
      have hnlt : ¬ nI x < nI k * nI k := tw_ltF x (k * k) (by omega) rfl (pk_mul k k)
      have hk0 : ¬ nI k = 0 := nI_ne0 (by omega) (by omega)
      by_cases hd : x % k = 0
      · exact ⟨0, Or.inr ⟨rfl, fun hp => hp.2 k h2 hkx (Nat.dvd_of_mod_eq_zero hd)⟩, fun post hp => br_f hnlt ⟨hk0, br_t (by rw [e, hd]; rfl) hp⟩⟩
      · obtain ⟨r, hr, hY⟩ := ih (k + 1) (by omega) (by omega) (by omega) (fun d d2 dk => by
          by_cases h : d = k
          · rw [h]; exact fun z => hd (Nat.mod_eq_zero_of_dvd z)
          · exact ha d d2 (by omega))
        refine ⟨r, hr, fun post hp => br_f hnlt ⟨hk0, br_f ?_ (nm_r (nI_1 k) (hY post hp))⟩⟩
        rw [e]
        exact nI_ne0 (by omega) (Nat.lt_trans (Nat.mod_lt _ (by omega)) (by omega))
/-- a number that is a prime of the range -/
def pr_P (v : Int32) : Prop := ∃ x, v = nI x ∧ 257 ≤ x ∧ x ≤ 46337 ∧ fe_P x
theorem pr_y (v : Int32) : ∃ r : Int32, ((r = 1 ∧ pr_P v) ∨ (r = 0 ∧ ¬ pr_P v)) ∧ ∀ post : Int32 → Prop, post r → wpY_prime post v := by
  by_cases h0 : v < 257
  · refine ⟨0, Or.inr ⟨rfl, fun ⟨x, e, a, b, _⟩ => ?_⟩, fun post hp => br_t h0 hp⟩
    rw [e] at h0
    exact nI_nlt (b := 257) a (by omega) h0
  have hn : ¬ v < 0 := fun z => h0 (Int32.lt_trans z (by decide))
  obtain ⟨x, hx, rfl⟩ := nI_of hn
  have h257 : 257 ≤ x := by
    rcases Nat.lt_or_ge x 257 with h | h
    · exact absurd (nI_lt (b := 257) h (by omega)) h0
    · exact h
  by_cases h1 : x ≤ 46337
  · obtain ⟨r, hr, hY⟩ := pr_yl h257 h1 217 2 (by omega) (by omega) (by omega) (fun d a b => by omega)
    refine ⟨r, ?_, fun post hp => br_f h0 (br_t (tw_leT x 46337 h1) ⟨217, hY post hp⟩)⟩
    rcases hr with ⟨h, hp⟩ | ⟨h, hp⟩
    · exact Or.inl ⟨h, x, rfl, h257, h1, hp⟩
    · refine Or.inr ⟨h, fun ⟨y, e, a, b, c⟩ => hp ?_⟩
      rw [(nI_eq hx (by omega)).mp e]; exact c
  · refine ⟨0, Or.inr ⟨rfl, fun ⟨y, e, a, b, c⟩ => ?_⟩, fun post hp => br_f h0 (br_f (tw_leF x 46337 (by omega)) hp)⟩
    have := (nI_eq hx (by omega)).mp e
    omega
/-! ===== inverses ===== -/
def iv_s (s : Bool) (a : Nat) : Int64 := if s = true then lN a else -lN a
def iv_i (s : Bool) (a : Nat) : Int := if s = true then (a : Int) else -(a : Int)
theorem iv_z (s : Bool) (X Y f : Nat) : iv_s s X - lN f * iv_s (!s) Y = iv_s s (X + f * Y) := by
  cases s
  · show -lN X - lN f * lN Y = -lN (X + f * Y)
    rw [lN_mul, ← lN_add, Int64.neg_add, Int64.sub_eq_add_neg]
  · show lN X - lN f * (-lN Y) = lN (X + f * Y)
    rw [Int64.mul_neg, lN_mul, ← lN_add, Int64.sub_eq_add_neg, Int64.neg_neg]
theorem iv_zi (s : Bool) (X Y f : Nat) : iv_i s X - (f : Int) * iv_i (!s) Y = iv_i s (X + f * Y) := by
  cases s
  · show -(X : Int) - (f : Int) * (Y : Int) = -((X + f * Y : Nat) : Int)
    rw [Int.natCast_add, Int.natCast_mul]; omega
  · show (X : Int) - (f : Int) * (-(Y : Int)) = ((X + f * Y : Nat) : Int)
    rw [Int.natCast_add, Int.natCast_mul, Int.mul_neg]; omega
theorem iv_neg {X : Nat} (h0 : 0 < X) (hX : X < 2 ^ 31) : ¬ 0 ≤ -lN X := by
  rw [Int64.le_iff_toInt_le, Int64.toInt_neg, pk_lT (by omega), show (0 : Int64).toInt = 0 from by decide]
  intro z
  have e : (-(X : Int)).bmod (2 ^ 64) = -(X : Int) := Int.bmod_eq_of_le (by omega) (by omega)
  rw [e] at z
  omega
theorem iv_c {a b d : Nat} (hb : 2 ≤ b) {t : Int} (h : (1 : Int) - (d : Int) * (a : Int) = (b : Int) * t) : a * d % b = 1 := by
  have h2 : ((a * d : Nat) : Int) = 1 + (b : Int) * (-t) := by rw [Int.natCast_mul, Int.mul_comm, Int.mul_neg]; omega
  have h3 : ((a * d % b : Nat) : Int) = 1 := by
    rw [Int.natCast_emod, h2, Int.add_mul_emod_self_left]
    exact Int.emod_eq_of_lt (by omega) (by omega)
  exact_mod_cast h3
theorem iv_lp {a b : Nat} (hb : 2 ≤ b) (hb2 : b < 2 ^ 31) : ∀ f r s X Y (sg : Bool), s < f → 0 < r → r < 2 ^ 31 → s < 2 ^ 31 → X ≤ b → X * s + Y * r = b → Nat.gcd r s = Nat.gcd a b →
    (b : Int) ∣ (r : Int) - iv_i sg X * (a : Int) → (b : Int) ∣ (s : Int) - iv_i (!sg) Y * (a : Int) →
    ∃ d, ((Nat.gcd a b = 1 ∧ 1 ≤ d ∧ d < b ∧ a * d % b = 1) ∨ (Nat.gcd a b ≠ 1 ∧ d = 0)) ∧ ∀ post : Int64 → Prop, post (lN d) → wX_inverse_14 post (lN b) f (lN r) (lN s) (iv_s sg X) (iv_s (!sg) Y) := by
  intro f
  induction f with
  | zero => intro r s X Y sg h; omega
  | succ f ih =>
    intro r s X Y sg hf hr hr2 hs2 hX hXY hg c1 c2
    by_cases h0 : s = 0
    · subst h0
      have hle : lN 0 ≤ 0 := (pk_lLE (b := 0) (by omega) (by omega)).mpr (Nat.le_refl 0)
      rw [Nat.gcd_zero_right] at hg
      by_cases h1 : r = 1
      · subst h1
        obtain ⟨t, ht⟩ := c1
        cases sg
        · have ht' : (1 : Int) - (-(X : Int)) * (a : Int) = (b : Int) * t := ht
          have hX0 : 0 < X := by
            rcases Nat.eq_zero_or_pos X with h | h
            · rw [h] at ht'
              exfalso
              have hd : (b : Int) ∣ 1 := ⟨t, by simpa using ht'⟩
              have := Int.le_of_dvd (by omega) hd
              omega
            · exact h
          have hXb : X < b := by
            rcases Nat.lt_or_ge X b with h | h
            · exact h
            · exfalso
              have hXe : X = b := by omega
              have hd : (b : Int) ∣ 1 := ⟨t - (a : Int), by
                rw [hXe] at ht'
                rw [Int.mul_sub, ← ht', Int.neg_mul]; omega⟩
              have := Int.le_of_dvd (by omega) hd
              omega
          refine ⟨b - X, Or.inl ⟨hg.symm, by omega, by omega, iv_c hb (t := t - (a : Int)) ?_⟩, fun post hp => br_t hle (br_t rfl (br_f (iv_neg hX0 (by omega)) ?_))⟩
          · rw [Int.mul_sub, ← ht', show ((b - X : Nat) : Int) = (b : Int) - (X : Int) from by omega, Int.sub_mul, Int.neg_mul]; omega
          · show post (-lN X + lN b)
            rw [Int64.add_comm, ← Int64.sub_eq_add_neg, lN_sub (by omega)]
            exact hp
        · have ht' : (1 : Int) - (X : Int) * (a : Int) = (b : Int) * t := ht
          have hX0 : 0 < X := by
            rcases Nat.eq_zero_or_pos X with h | h
            · rw [h] at ht'
              exfalso
              have hd : (b : Int) ∣ 1 := ⟨t, by simpa using ht'⟩
              have := Int.le_of_dvd (by omega) hd
              omega
            · exact h
          have hXb : X < b := by
            rcases Nat.lt_or_ge X b with h | h
            · exact h
            · exfalso
              have hXe : X = b := by omega
              have hd : (b : Int) ∣ 1 := ⟨t + (a : Int), by
                rw [hXe] at ht'
                rw [Int.mul_add, ← ht']; omega⟩
              have := Int.le_of_dvd (by omega) hd
              omega
          exact ⟨X, Or.inl ⟨hg.symm, hX0, hXb, iv_c hb ht'⟩, fun post hp => br_t hle (br_t rfl (br_t ((pk_lLE (a := 0) (by omega) (by omega)).mpr (by omega)) hp))⟩
      · exact ⟨0, Or.inr ⟨by omega, rfl⟩, fun post hp => br_t hle (br_f (fun z => h1 ((pk_lEQ (b := 1) (by omega) (by omega)).mp z)) hp)⟩
    · have hle : ¬ lN s ≤ 0 := fun z => h0 (Nat.le_zero.mp ((pk_lLE (b := 0) (by omega) (by omega)).mp z))
      have hm : r % s < s := Nat.mod_lt _ (by omega)
      have hdm := Nat.div_add_mod r s
      have hY : Y ≤ b := by
        have h1 : Y * 1 ≤ Y * r := Nat.mul_le_mul_left Y hr
        omega
      have hq : r / s * s = r - r % s := by rw [Nat.mul_comm]; omega
      obtain ⟨d, hd, hX'⟩ := ih s (r % s) Y (X + r / s * Y) (!sg) (by omega) (by omega) hs2 (by omega) hY (by
          have e1 : Y * (r % s) + Y * (s * (r / s)) = Y * r := by rw [← Nat.mul_add]; exact congrArg (Y * ·) (by omega)
          have e2 : (X + r / s * Y) * s = X * s + Y * (s * (r / s)) := by
            rw [Nat.add_mul, Nat.mul_comm (r / s) Y, Nat.mul_assoc, Nat.mul_comm (r / s) s]
          rw [e2]; omega)
        (by rw [← hg, Nat.gcd_comm r s, Nat.gcd_rec s r, Nat.gcd_comm]) c2 (by
          rw [Bool.not_not, ← iv_zi]
          have e : ((r % s : Nat) : Int) - (iv_i sg X - ((r / s : Nat) : Int) * iv_i (!sg) Y) * (a : Int) = ((r : Int) - iv_i sg X * (a : Int)) - ((r / s : Nat) : Int) * ((s : Int) - iv_i (!sg) Y * (a : Int)) := by
            have h1 : ((r % s : Nat) : Int) = (r : Int) - ((r / s : Nat) : Int) * (s : Int) := by
              have : (s : Int) * ((r / s : Nat) : Int) + ((r % s : Nat) : Int) = (r : Int) := by exact_mod_cast hdm
              rw [Int.mul_comm]; omega
            rw [h1, Int.sub_mul, Int.mul_sub, Int.mul_assoc]; omega
          rw [e]
          exact Int.dvd_sub c1 (Int.dvd_mul_of_dvd_right c2))
      refine ⟨d, hd, fun post hp => br_f hle ⟨po_ne (by omega) (by omega), nm_r (pk_lDiv (by omega) (by omega) (by omega)) (nm_r (e' := lN (r % s)) ?_ (nm_r (iv_z sg X Y (r / s)) ?_))⟩⟩
      · rw [lN_mul, lN_sub (by omega)]
        exact congrArg lN (by omega)
      · have h := hX' post hp
        rw [Bool.not_not] at h
        exact h
theorem iv_x {a b : Nat} (ha : a < 2 ^ 31) (hb : 2 ≤ b) (hb2 : b < 2 ^ 31) :
    ∃ d, ((Nat.gcd a b = 1 ∧ 1 ≤ d ∧ d < b ∧ a * d % b = 1) ∨ (Nat.gcd a b ≠ 1 ∧ d = 0)) ∧ ∀ post : Int64 → Prop, post (lN d) → wpX_inverse post (lN a) (lN b) := by
  have hm : a % b < b := Nat.mod_lt _ (by omega)
  obtain ⟨d, hd, hX⟩ := iv_lp (a := a) hb hb2 (a % b + 1) b (a % b) 0 1 false (by omega) (by omega) hb2 (by omega) (by omega) (by omega) (by rw [Nat.gcd_comm b, ← Nat.gcd_rec, Nat.gcd_comm])
    ⟨1, by show (b : Int) - (-(0 : Int)) * (a : Int) = (b : Int) * 1; simp⟩
    ⟨-((a / b : Nat) : Int), by
      show ((a % b : Nat) : Int) - ((1 : Nat) : Int) * (a : Int) = (b : Int) * (-((a / b : Nat) : Int))
      have h := Nat.div_add_mod a b
      have h2 : (b : Int) * ((a / b : Nat) : Int) + ((a % b : Nat) : Int) = (a : Int) := by exact_mod_cast h
      rw [Int.mul_neg]; omega⟩
  refine ⟨d, hd, fun post hp => ⟨po_ne (by omega) (by omega), nm_r (pk_lRem (by omega) (by omega) (by omega)) ⟨a % b + 1, ?_⟩⟩⟩
  have h := hX post hp
  have e0 : iv_s false 0 = 0 := by decide
  have e1 : iv_s (!false) 1 = 1 := by decide
  rw [e0, e1] at h
  exact h
end
section
/-! ===== key ===== -/
def ky_G (k p q e : Nat) : Prop := k < 3 ∧ (257 ≤ p ∧ p ≤ 46337 ∧ fe_P p) ∧ (257 ≤ q ∧ q ≤ 46337 ∧ fe_P q) ∧ p ≠ q ∧ (3 ≤ e ∧ e ≤ 65537) ∧ Nat.gcd e (p - 1) = 1 ∧ Nat.gcd e (q - 1) = 1
def ky_C (v1 v2 v3 v4 : Int32) : Prop := ∃ k p q e : Nat, (v1 = nI k ∧ v2 = nI p ∧ v3 = nI q ∧ v4 = nI e) ∧ ky_G k p q e
theorem iv_x2 {a b : Nat} {A B : Int64} (hA : A = lN a) (hB : B = lN b) (ha : a < 2 ^ 31) (hb : 2 ≤ b) (hb2 : b < 2 ^ 31) :
    ∃ d, ((Nat.gcd a b = 1 ∧ 1 ≤ d ∧ d < b ∧ a * d % b = 1) ∨ (Nat.gcd a b ≠ 1 ∧ d = 0)) ∧ ∀ post : Int64 → Prop, post (lN d) → wpX_inverse post A B := by
  subst hA hB
  exact iv_x ha hb hb2
theorem wi_n (v : Int32) (lo hi : Nat) (hl : lo < 2 ^ 31) (hh : hi < 2 ^ 31) : (v < nI lo ∨ nI hi < v) ∨ (¬ v < nI lo ∧ ¬ nI hi < v ∧ ∃ x, lo ≤ x ∧ x ≤ hi ∧ v = nI x) := by
  by_cases h1 : v < nI lo
  · exact Or.inl (Or.inl h1)
  by_cases h2 : nI hi < v
  · exact Or.inl (Or.inr h2)
  right
  have h0 : ¬ v < 0 := fun z => h1 (Int32.lt_of_lt_of_le z (nI_le (a := 0) (by omega) hl))
  obtain ⟨x, hx, rfl⟩ := nI_of h0
  refine ⟨h1, h2, x, ?_, ?_, rfl⟩
  · rcases Nat.lt_or_ge x lo with h | h
    · exact absurd (nI_lt h hl) h1
    · exact h
  · rcases Nat.lt_or_ge hi x with h | h
    · exact absurd (nI_lt h hx) h2
    · exact h
theorem wi_f {post : Int32 → Prop} {v lo hi : Int32} (h : v < lo ∨ hi < v) (hp : post 0) : wpX_within post v lo hi :=
  br_c (fun _ => hp) (fun h1 => br_c (fun _ => hp) (fun h2 => absurd h (fun z => z.elim h1 h2)))
theorem wi_t {post : Int32 → Prop} {v lo hi : Int32} (h1 : ¬ v < lo) (h2 : ¬ hi < v) (hp : post 1) : wpX_within post v lo hi := br_f h1 (br_f h2 hp)
theorem wi_r {v : Int32} {x lo hi : Nat} (e : v = nI x) (hx : lo ≤ x) (hx2 : x ≤ hi) (hh : hi < 2 ^ 31) : ¬ v < nI lo ∧ ¬ nI hi < v := by
  subst e
  exact ⟨nI_nlt hx (by omega), nI_nlt hx2 hh⟩
theorem ky_m1 {p : Nat} (h : 1 ≤ p) (hp : p < 2 ^ 31) : (nI p - 1).toInt64 = lN (p - 1) := by rw [show nI p - 1 = nI (p - 1) from pk_sub (b := 1) h, nI_l (by omega)]
section
variable {xl xs xh xk xy : Int32} {xw xm xt xp : Nat → Int32} {kp kq kn ke kd kf kb kw : Nat → Int64} {yl ys : Int32} {yw ym : Nat → Int32} {yn yo yz : Nat → Int64}
/-- the guards are passed -/
theorem kx_gd {post : Int32 → SX → Prop} {v1 v2 v3 v4 : Int32} {k p q e : Nat} (e1 : v1 = nI k) (e2 : v2 = nI p) (e3 : v3 = nI q) (e4 : v4 = nI e) (hk : k < 3) (hp : 257 ≤ p ∧ p ≤ 46337) (hq : 257 ≤ q ∧ q ≤ 46337) (hne : p ≠ q) (he : 3 ≤ e ∧ e ≤ 65537)
    {r1 r2 : Int32} {k1 k2 : Nat → Int64}
    (hX1 : ∀ post : Int32 → SX → Prop, post r1 (xl, xs, xh, xk, xy, xw, xm, xt, xp, kp, kq, kn, ke, kd, kf, kb, k1) → wpX_isPrime post (xl, xs, xh, xk, xy, xw, xm, xt, xp, kp, kq, kn, ke, kd, kf, kb, kw) (nI p)) (hX2 : ∀ post : Int32 → SX → Prop, post r2 (xl, xs, xh, xk, xy, xw, xm, xt, xp, kp, kq, kn, ke, kd, kf, kb, k2) → wpX_isPrime post (xl, xs, xh, xk, xy, xw, xm, xt, xp, kp, kq, kn, ke, kd, kf, kb, k1) (nI q))
    {dp dq : Nat} (hI1 : ∀ post : Int64 → Prop, post (lN dp) → wpX_inverse post (nI e).toInt64 ((nI p - 1).toInt64)) (hI2 : ∀ post : Int64 → Prop, post (lN dq) → wpX_inverse post (nI e).toInt64 ((nI q - 1).toInt64)) :
    ((r1 = 0 → post (-1) (xl, xs, xh, xk, xy, xw, xm, xt, xp, kp, kq, kn, ke, kd, kf, kb, k1)) ∧ (¬ r1 = 0 → (r2 = 0 → post (-1) (xl, xs, xh, xk, xy, xw, xm, xt, xp, kp, kq, kn, ke, kd, kf, kb, k2)) ∧ (¬ r2 = 0 → ((lN dp = 0 → post (-1) (xl, xs, xh, xk, xy, xw, xm, xt, xp, kp, kq, kn, ke, kd, kf, kb, k2)) ∧ (¬ lN dp = 0 → ((lN dq = 0 → post (-1) (xl, xs, xh, xk, xy, xw, xm, xt, xp, kp, kq, kn, ke, kd, kf, kb, k2)) ∧ (¬ lN dq = 0 →
      (vp_in (nI k) 3 ∧ ∀ a_p_53, a_p_53 = vp_updL kp (nI k).toNatClampNeg (nI p).toInt64 → (vp_in (nI k) 3 ∧ ∀ a_q_55, a_q_55 = vp_updL kq (nI k).toNatClampNeg (nI q).toInt64 → (vp_in (nI k) 3 ∧ ∀ a_n_57, a_n_57 = vp_updL kn (nI k).toNatClampNeg ((nI p).toInt64 * (nI q).toInt64) →
        (vp_in (nI k) 3 ∧ ∀ a_e_59, a_e_59 = vp_updL ke (nI k).toNatClampNeg (nI e).toInt64 → (vp_in (nI k) 3 ∧ ∀ a_dp_61, a_dp_61 = vp_updL kd (nI k).toNatClampNeg (lN dp) → (vp_in (nI k) 3 ∧ ∀ a_dq_63, a_dq_63 = vp_updL kf (nI k).toNatClampNeg (lN dq) →
        (wpX_inverse (fun r_64 => (vp_in (nI k) 3 ∧ ∀ a_back_66, a_back_66 = vp_updL kb (nI k).toNatClampNeg r_64 → (post 0 (xl, xs, xh, xk, xy, xw, xm, xt, xp, a_p_53, a_q_55, a_n_57, a_e_59, a_dp_61, a_dq_63, a_back_66, k2)))) (nI q).toInt64 (nI p).toInt64)))))))))))))) →
    wpX_key post (xl, xs, xh, xk, xy, xw, xm, xt, xp, kp, kq, kn, ke, kd, kf, kb, kw) v1 v2 v3 v4 := by
  intro H
  subst e1 e2 e3 e4
  obtain ⟨a1, a2⟩ := wi_r (v := nI k) (lo := 0) (hi := 2) rfl (by omega) (by omega) (by omega)
  obtain ⟨b1, b2⟩ := wi_r (v := nI p) (lo := 257) (hi := 46337) rfl hp.1 hp.2 (by omega)
  obtain ⟨c1, c2⟩ := wi_r (v := nI q) (lo := 257) (hi := 46337) rfl hq.1 hq.2 (by omega)
  obtain ⟨d1, d2⟩ := wi_r (v := nI e) (lo := 3) (hi := 65537) rfl he.1 he.2 (by omega)
  unfold wpX_key
  dsimp only
  refine wi_t a1 a2 (br_f (by decide) (wi_t b1 b2 (br_f (by decide) (wi_t c1 c2 (br_f (by decide) (br_f (tw_eqF p q hne) (wi_t d1 d2 (br_f (by decide) ?_))))))))
  refine hX1 _ (br_c (fun h => H.1 h) (fun h => ?_))
  refine hX2 _ (br_c (fun h2 => (H.2 h).1 h2) (fun h2 => ?_))
  exact hI1 _ (hI2 _ ((H.2 h).2 h2))
theorem kx_b {v1 v2 v3 v4 : Int32} (hC : ¬ ky_C v1 v2 v3 v4) : ∃ kw', ∀ post : Int32 → SX → Prop, post (-1) (xl, xs, xh, xk, xy, xw, xm, xt, xp, kp, kq, kn, ke, kd, kf, kb, kw') → wpX_key post (xl, xs, xh, xk, xy, xw, xm, xt, xp, kp, kq, kn, ke, kd, kf, kb, kw) v1 v2 v3 v4 := by
  rcases wi_n v1 0 2 (by omega) (by omega) with h1 | ⟨a1, a2, k, _, hk, e1⟩
  · exact ⟨kw, fun post hp => by unfold wpX_key; dsimp only; exact wi_f h1 (br_t rfl hp)⟩
  rcases wi_n v2 257 46337 (by omega) (by omega) with h2 | ⟨b1, b2, p, hp1, hp2, e2⟩
  · exact ⟨kw, fun post hp => by unfold wpX_key; dsimp only; exact wi_t a1 a2 (br_f (by decide) (wi_f h2 (br_t rfl hp)))⟩
  rcases wi_n v3 257 46337 (by omega) (by omega) with h3 | ⟨c1, c2, q, hq1, hq2, e3⟩
  · exact ⟨kw, fun post hp => by unfold wpX_key; dsimp only; exact wi_t a1 a2 (br_f (by decide) (wi_t b1 b2 (br_f (by decide) (wi_f h3 (br_t rfl hp)))))⟩
  by_cases hne : v2 = v3
  · exact ⟨kw, fun post hp => by unfold wpX_key; dsimp only; exact wi_t a1 a2 (br_f (by decide) (wi_t b1 b2 (br_f (by decide) (wi_t c1 c2 (br_f (by decide) (br_t hne hp))))))⟩
  rcases wi_n v4 3 65537 (by omega) (by omega) with h4 | ⟨d1, d2, e, he1, he2, e4⟩
  · exact ⟨kw, fun post hp => by unfold wpX_key; dsimp only; exact wi_t a1 a2 (br_f (by decide) (wi_t b1 b2 (br_f (by decide) (wi_t c1 c2 (br_f (by decide) (br_f hne (wi_f h4 (br_t rfl hp))))))))⟩
  have hpq : p ≠ q := fun z => hne (by rw [e2, e3, z])
  obtain ⟨r1, k1, hr1, hX1⟩ := pr_x (xl := xl) (xs := xs) (xh := xh) (xk := xk) (xy := xy) (xw := xw) (xm := xm) (xt := xt) (xp := xp) (kp := kp) (kq := kq) (kn := kn) (ke := ke) (kd := kd) (kf := kf) (kb := kb) (kw := kw) hp1 hp2
  obtain ⟨r2, k2, hr2, hX2⟩ := pr_x (xl := xl) (xs := xs) (xh := xh) (xk := xk) (xy := xy) (xw := xw) (xm := xm) (xt := xt) (xp := xp) (kp := kp) (kq := kq) (kn := kn) (ke := ke) (kd := kd) (kf := kf) (kb := kb) (kw := k1) hq1 hq2
  obtain ⟨dp, hd1, hI1⟩ := iv_x2 (nI_l (n := e) (by omega)) (ky_m1 (p := p) (by omega) (by omega)) (by omega) (by omega) (by omega)
  obtain ⟨dq, hd2, hI2⟩ := iv_x2 (nI_l (n := e) (by omega)) (ky_m1 (p := q) (by omega) (by omega)) (by omega) (by omega) (by omega)
  rcases hr1 with ⟨rfl, P1⟩ | ⟨rfl, P1⟩
  · rcases hr2 with ⟨rfl, P2⟩ | ⟨rfl, P2⟩
    · refine ⟨k2, fun post hp => kx_gd e1 e2 e3 e4 (by omega) ⟨hp1, hp2⟩ ⟨hq1, hq2⟩ hpq ⟨he1, he2⟩ hX1 hX2 hI1 hI2 (br_f (by decide) (br_f (by decide) ?_))⟩
      rcases hd1 with ⟨g1, _⟩ | ⟨g1, rfl⟩
      · rcases hd2 with ⟨g2, _⟩ | ⟨g2, rfl⟩
        · exact absurd ⟨k, p, q, e, ⟨e1, e2, e3, e4⟩, by omega, ⟨hp1, hp2, P1⟩, ⟨hq1, hq2, P2⟩, hpq, ⟨he1, he2⟩, g1, g2⟩ hC
        · exact br_c (fun _ => hp) (fun _ => br_t rfl hp)
      · exact br_t rfl hp
    · exact ⟨k2, fun post hp => kx_gd e1 e2 e3 e4 (by omega) ⟨hp1, hp2⟩ ⟨hq1, hq2⟩ hpq ⟨he1, he2⟩ hX1 hX2 hI1 hI2 (br_f (by decide) (br_t rfl hp))⟩
  · exact ⟨k1, fun post hp => kx_gd e1 e2 e3 e4 (by omega) ⟨hp1, hp2⟩ ⟨hq1, hq2⟩ hpq ⟨he1, he2⟩ hX1 hX2 hI1 hI2 (br_t rfl hp)⟩
theorem kx_g {k p q e : Nat} (hG : ky_G k p q e) : ∃ (DP DQ B : Nat) (kw' : Nat → Int64), (1 ≤ DP ∧ DP < p - 1 ∧ e * DP % (p - 1) = 1) ∧ (1 ≤ DQ ∧ DQ < q - 1 ∧ e * DQ % (q - 1) = 1) ∧ (B < p ∧ q * B % p = 1) ∧
    ∀ post : Int32 → SX → Prop, post 0 (xl, xs, xh, xk, xy, xw, xm, xt, xp, vp_updL kp k (lN p), vp_updL kq k (lN q), vp_updL kn k (lN (p * q)), vp_updL ke k (lN e), vp_updL kd k (lN DP), vp_updL kf k (lN DQ), vp_updL kb k (lN B), kw') → wpX_key post (xl, xs, xh, xk, xy, xw, xm, xt, xp, kp, kq, kn, ke, kd, kf, kb, kw) (nI k) (nI p) (nI q) (nI e) := by
  obtain ⟨hk, ⟨hp1, hp2, P1⟩, ⟨hq1, hq2, P2⟩, hpq, ⟨he1, he2⟩, g1, g2⟩ := hG
  obtain ⟨r1, k1, hr1, hX1⟩ := pr_x (xl := xl) (xs := xs) (xh := xh) (xk := xk) (xy := xy) (xw := xw) (xm := xm) (xt := xt) (xp := xp) (kp := kp) (kq := kq) (kn := kn) (ke := ke) (kd := kd) (kf := kf) (kb := kb) (kw := kw) hp1 hp2
  obtain ⟨r2, k2, hr2, hX2⟩ := pr_x (xl := xl) (xs := xs) (xh := xh) (xk := xk) (xy := xy) (xw := xw) (xm := xm) (xt := xt) (xp := xp) (kp := kp) (kq := kq) (kn := kn) (ke := ke) (kd := kd) (kf := kf) (kb := kb) (kw := k1) hq1 hq2
  obtain ⟨dp, hd1, hI1⟩ := iv_x2 (nI_l (n := e) (by omega)) (ky_m1 (p := p) (by omega) (by omega)) (by omega) (by omega) (by omega)
  obtain ⟨dq, hd2, hI2⟩ := iv_x2 (nI_l (n := e) (by omega)) (ky_m1 (p := q) (by omega) (by omega)) (by omega) (by omega) (by omega)
  obtain ⟨B, hB, hI3⟩ := iv_x2 (nI_l (n := q) (by omega)) (nI_l (n := p) (by omega)) (by omega) (by omega) (by omega)
  have r1e : r1 = 1 := (hr1.resolve_right (fun z => z.2 P1)).1
  have r2e : r2 = 1 := (hr2.resolve_right (fun z => z.2 P2)).1
  have hc : Nat.gcd q p = 1 := by
    rcases fe_cop' (a := q) P1 with h | h
    · exact h.symm
    · exfalso
      have hle := Nat.le_of_dvd (by omega) h
      exact P2.2 p (by omega) (by omega) h
  have d1 : 1 ≤ dp ∧ dp < p - 1 ∧ e * dp % (p - 1) = 1 := (hd1.resolve_right (fun z => z.1 g1)).2
  have d2 : 1 ≤ dq ∧ dq < q - 1 ∧ e * dq % (q - 1) = 1 := (hd2.resolve_right (fun z => z.1 g2)).2
  have d3 : 1 ≤ B ∧ B < p ∧ q * B % p = 1 := (hB.resolve_right (fun z => z.1 hc)).2
  subst r1e r2e
  refine ⟨dp, dq, B, k2, d1, d2, d3.2, fun post hp => kx_gd rfl rfl rfl rfl hk ⟨hp1, hp2⟩ ⟨hq1, hq2⟩ hpq ⟨he1, he2⟩ hX1 hX2 hI1 hI2 (br_f (by decide) (br_f (by decide) (br_f (po_ne d1.1 (by omega)) (br_f (po_ne d2.1 (by omega)) ?_))))⟩
  have hi : vp_in (nI k) 3 := pk_in k 3 hk
  rw [nI_clamp (by omega), nI_l (n := p) (by omega), nI_l (n := q) (by omega), nI_l (n := e) (by omega), lN_mul]
  rw [nI_l (n := p) (by omega), nI_l (n := q) (by omega)] at hI3
  exact ⟨hi, nm_e ⟨hi, nm_e ⟨hi, nm_e ⟨hi, nm_e ⟨hi, nm_e ⟨hi, nm_e (hI3 _ ⟨hi, nm_e hp⟩)⟩⟩⟩⟩⟩⟩
/-! the reference's search -/
theorem kj_113 {post : Int32 → SY → Prop} {x1 x2 x3 : Int32} {E F D : Nat} {j : Int64} {f : Nat} (hD : 1 ≤ D) (hD2 : D < 2 ^ 62) (h : wY_key_113 post x1 x2 x3 (nI E) (lN D) yl ys yw ym yn yo yz) : wY_key_59 post x1 x2 x3 (nI E) (lN F) yl ys yw ym yn yo yz (f + 1) (lN D) j :=
  br_c (fun _ => h) (fun _ => br_f (po_ne hD (by omega)) h)
theorem kj_lp {x1 x2 x3 : Int32} {E F : Nat} (h3 : 3 ≤ E) (hE : E ≤ 65537) (hF : F < 2 ^ 32) : ∀ f j, E - j + 2 ≤ f → 1 ≤ j → j ≤ E → (∀ i, 1 ≤ i → i < j → (i * F + 1) % E ≠ 0) →
    ∃ D, ((Nat.gcd E F = 1 ∧ 1 ≤ D ∧ D < 2 ^ 62 ∧ ∃ i, E * D = i * F + 1) ∨ (Nat.gcd E F ≠ 1 ∧ D = 0)) ∧ ∀ post : Int32 → SY → Prop, wY_key_113 post x1 x2 x3 (nI E) (lN D) yl ys yw ym yn yo yz → wY_key_59 post x1 x2 x3 (nI E) (lN F) yl ys yw ym yn yo yz f 0 (lN j) := by
  intro f
  induction f with
  | zero => intro j h; omega
  | succ f ih =>
    intro j hf h1 hj ha
    have eE : (nI E).toInt64 = lN E := nI_l (by omega)
    by_cases he : j = E
    · subst he
      refine ⟨0, Or.inr ⟨fun hg => ?_, rfl⟩, fun post hp => br_t (by rw [eE]; exact (pk_lLE (by omega) (by omega)).mpr (Nat.le_refl j)) hp⟩
      obtain ⟨i, i1, i2, i3⟩ := iv_j (by omega) hg
      exact ha i i1 i2 i3
    have hlt : ¬ (nI E).toInt64 ≤ lN j := by rw [eE]; exact fun z => by have := (pk_lLE (by omega) (by omega)).mp z; omega
    have hE0 : ¬ (nI E).toInt64 = 0 := by rw [eE]; exact po_ne (by omega) (by omega)
    have ev : lN j * lN F + 1 = lN (j * F + 1) := by rw [lN_mul, lN_1]
    have hb : j * F + 1 < 2 ^ 50 := by
      have := Nat.mul_le_mul (show j ≤ 65537 by omega) (Nat.le_of_lt hF)
      omega
    have er : ((lN j * lN F) + 1) - ((lN j * lN F) + 1) / (nI E).toInt64 * (nI E).toInt64 = lN ((j * F + 1) % E) := by rw [ev, eE]; exact pk_lRem (by omega) (by omega) (by omega)
    by_cases h0 : (j * F + 1) % E = 0
    · have hdm := Nat.div_add_mod (j * F + 1) E
      rw [h0, Nat.add_zero] at hdm
      have hg : Nat.gcd E F = 1 := by
        by_cases g : Nat.gcd E F = 1
        · exact g
        · exact absurd h0 (iv_nj g)
      have hD1 : 1 ≤ (j * F + 1) / E := by
        rcases Nat.eq_zero_or_pos ((j * F + 1) / E) with h | h
        · rw [h, Nat.mul_zero] at hdm; omega
        · exact h
      have hD2 : (j * F + 1) / E < 2 ^ 62 := Nat.lt_of_le_of_lt (Nat.div_le_self _ _) (by omega)
      obtain ⟨f', rfl⟩ : ∃ f', f = f' + 1 := ⟨f - 1, by omega⟩
      refine ⟨(j * F + 1) / E, Or.inl ⟨hg, hD1, hD2, j, hdm⟩, fun post hp => br_f hlt (br_t rfl ⟨hE0, br_t (by rw [er, h0]; rfl) ⟨hE0, nm_r (e' := lN ((j * F + 1) / E)) ?_ (nm_r (lN_1 j) (kj_113 hD1 hD2 hp))⟩⟩)⟩
      rw [ev, eE]; exact pk_lDiv (by omega) (by omega) (by omega)
    · obtain ⟨D, hD, hY⟩ := ih (j + 1) (by omega) (by omega) (by omega) (fun i i1 i2 => by
        by_cases e : i = j
        · rw [e]; exact h0
        · exact ha i i1 (by omega))
      refine ⟨D, hD, fun post hp => br_f hlt (br_t rfl ⟨hE0, br_f ?_ (nm_r (lN_1 j) (hY post hp))⟩)⟩
      rw [er]
      exact po_ne (Nat.pos_of_ne_zero h0) (Nat.lt_trans (Nat.mod_lt _ (by omega)) (by omega))
theorem ky_F {p q : Nat} (hp : 1 ≤ p) (hp2 : p < 2 ^ 31) (hq : 1 ≤ q) (hq2 : q < 2 ^ 31) : ((nI p).toInt64 - 1) * ((nI q).toInt64 - 1) = lN ((p - 1) * (q - 1)) := by
  rw [nI_l hp2, nI_l hq2, show lN p - 1 = lN (p - 1) from lN_sub (b := 1) hp, show lN q - 1 = lN (q - 1) from lN_sub (b := 1) hq, lN_mul]
theorem ky_yb {v1 v2 v3 v4 : Int32} (hC : ¬ ky_C v1 v2 v3 v4) (post : Int32 → SY → Prop) (hp : post (-1) (yl, ys, yw, ym, yn, yo, yz)) : wpY_key post (yl, ys, yw, ym, yn, yo, yz) v1 v2 v3 v4 := by
  by_cases h0 : v1 < 0
  · exact br_t h0 (br_f (by decide) hp)
  obtain ⟨k, hk, e1⟩ := nI_of h0
  by_cases hk3 : k < 3
  · refine br_f h0 (br_t (tw_ltT k 3 hk3 e1) (br_t rfl ?_))
    obtain ⟨r1, hr1, hY1⟩ := pr_y v2
    refine hY1 _ ?_
    rcases hr1 with ⟨rfl, p, e2, hp1, hp2, P1⟩ | ⟨rfl, _⟩
    · refine br_f (by decide) ?_
      obtain ⟨r2, hr2, hY2⟩ := pr_y v3
      refine hY2 _ ?_
      rcases hr2 with ⟨rfl, q, e3, hq1, hq2, P2⟩ | ⟨rfl, _⟩
      · refine br_f (by decide) (br_c (fun _ => hp) (fun hne => ?_))
        by_cases h3 : v4 < 3
        · exact br_t h3 hp
        have h4 : ¬ v4 < 0 := fun z => h3 (Int32.lt_trans z (by decide))
        obtain ⟨e, he, e4⟩ := nI_of h4
        have he3 : 3 ≤ e := by
          rcases Nat.lt_or_ge e 3 with h | h
          · exact absurd (by rw [e4]; exact nI_lt (b := 3) h (by omega)) h3
          · exact h
        by_cases h5 : e ≤ 65537
        · refine br_f h3 (br_t (tw_leT e 65537 h5 e4) ?_)
          have hF : (p - 1) * (q - 1) < 2 ^ 32 := by
            have := Nat.mul_le_mul (show p - 1 ≤ 46336 by omega) (show q - 1 ≤ 46336 by omega)
            omega
          obtain ⟨D, hD, hY⟩ := kj_lp (yl := yl) (ys := ys) (yw := yw) (ym := ym) (yn := yn) (yo := yo) (yz := yz) (x1 := v1) (x2 := v2) (x3 := v3) he3 h5 hF (e + 1) 1 (by omega) (by omega) (by omega) (fun i a b => by omega)
          rw [← e4] at hY
          refine nm_r (e' := lN ((p - 1) * (q - 1))) (by rw [e2, e3]; exact ky_F (by omega) (by omega) (by omega) (by omega)) ⟨e + 1, hY _ ?_⟩
          rcases hD with ⟨hg, _⟩ | ⟨_, rfl⟩
          · have hgg := iv_gm.mp hg
            exact absurd ⟨k, p, q, e, ⟨e1, e2, e3, e4⟩, hk3, ⟨hp1, hp2, P1⟩, ⟨hq1, hq2, P2⟩, fun z => hne (by rw [e2, e3, z]), ⟨he3, h5⟩, hgg.1, hgg.2⟩ hC
          · exact br_t rfl hp
        · exact br_f h3 (br_f (tw_leF e 65537 (by omega) e4) hp)
      · exact br_t rfl hp
    · exact br_t rfl hp
  · exact br_f h0 (br_f (tw_ltF k 3 (by omega) e1) (br_f (by decide) hp))
theorem ky_yg {k p q e : Nat} (hG : ky_G k p q e) : ∃ D, (1 ≤ D ∧ D < 2 ^ 62 ∧ ∃ i, e * D = i * ((p - 1) * (q - 1)) + 1) ∧
    ∀ post : Int32 → SY → Prop, post 0 (yl, ys, yw, ym, vp_updL yn k (lN (p * q)), vp_updL yo k (lN e), vp_updL yz k (lN D)) → wpY_key post (yl, ys, yw, ym, yn, yo, yz) (nI k) (nI p) (nI q) (nI e) := by
  obtain ⟨hk, ⟨hp1, hp2, P1⟩, ⟨hq1, hq2, P2⟩, hpq, ⟨he1, he2⟩, g1, g2⟩ := hG
  have hF : (p - 1) * (q - 1) < 2 ^ 32 := by
    have := Nat.mul_le_mul (show p - 1 ≤ 46336 by omega) (show q - 1 ≤ 46336 by omega)
    omega
  obtain ⟨D, hD, hY⟩ := kj_lp (yl := yl) (ys := ys) (yw := yw) (ym := ym) (yn := yn) (yo := yo) (yz := yz) (x1 := nI k) (x2 := nI p) (x3 := nI q) he1 he2 hF (e + 1) 1 (by omega) (by omega) (by omega) (fun i a b => by omega)
  have hg := iv_gm.mpr ⟨g1, g2⟩
  have hD' : 1 ≤ D ∧ D < 2 ^ 62 ∧ ∃ i, e * D = i * ((p - 1) * (q - 1)) + 1 := (hD.resolve_right (fun z => z.1 hg)).2
  obtain ⟨r1, hr1, hY1⟩ := pr_y (nI p)
  obtain ⟨r2, hr2, hY2⟩ := pr_y (nI q)
  have r1e : r1 = 1 := (hr1.resolve_right (fun z => z.2 ⟨p, rfl, hp1, hp2, P1⟩)).1
  have r2e : r2 = 1 := (hr2.resolve_right (fun z => z.2 ⟨q, rfl, hq1, hq2, P2⟩)).1
  subst r1e r2e
  refine ⟨D, hD', fun post hp => br_f (nI_pos (by omega)) (br_t (tw_ltT k 3 hk) (br_t rfl (hY1 _ (br_f (by decide) (hY2 _ (br_f (by decide) (br_f (tw_eqF p q hpq) (br_f (tw_ltF e 3 he1) (br_t (tw_leT e 65537 he2) ?_)))))))))⟩
  refine nm_r (ky_F (by omega) (by omega) (by omega) (by omega)) ⟨e + 1, hY _ (br_f (po_ne hD'.1 (by omega)) ?_)⟩
  have hi : vp_in (nI k) 3 := pk_in k 3 hk
  rw [nI_clamp (by omega), nI_l (n := p) (by omega), nI_l (n := q) (by omega), nI_l (n := e) (by omega), lN_mul]
  exact ⟨hi, nm_e ⟨hi, nm_e ⟨hi, nm_e hp⟩⟩⟩
theorem ky_key {n : Nat} {w : Nat → Int32} (v1 v2 v3 v4 : Int32) (hW : md_W n w) (hH : md_H n w xh xk) (hK : md_K xy xt xp kp kq kn ke kd kf kb yn yo yz) :
    tw_L ed_R (fun p => wpX_key p (nI n, xs, xh, xk, xy, (fun k => by_n (w k)), xm, xt, xp, kp, kq, kn, ke, kd, kf, kb, kw) v1 v2 v3 v4) (fun q => wpY_key q (nI n, ys, w, ym, yn, yo, yz) v1 v2 v3 v4) := by
  by_cases hC : ky_C v1 v2 v3 v4
  · obtain ⟨k, p, q, e, ⟨rfl, rfl, rfl, rfl⟩, hG⟩ := hC
    obtain ⟨DP, DQ, B, kw', ⟨x1, x2, x3⟩, ⟨y1, y2, y3⟩, ⟨b1, b2⟩, hX⟩ := kx_g (xl := nI n) (xs := xs) (xh := xh) (xk := xk) (xy := xy) (xw := (fun k => by_n (w k))) (xm := xm) (xt := xt) (xp := xp) (kp := kp) (kq := kq) (kn := kn) (ke := ke) (kd := kd) (kf := kf) (kb := kb) (kw := kw) hG
    obtain ⟨D, ⟨d1, d2, i, d3⟩, hY⟩ := ky_yg (yl := nI n) (ys := ys) (yw := w) (ym := ym) (yn := yn) (yo := yo) (yz := yz) hG
    obtain ⟨hk, ⟨hp1, hp2, P1⟩, ⟨hq1, hq2, P2⟩, hpq, ⟨he1, he2⟩, g1, g2⟩ := hG
    have mP : e * D % (p - 1) = 1 := by
      rw [d3, Nat.add_comm, Nat.mul_comm i, Nat.mul_assoc, Nat.add_mul_mod_self_left]
      exact Nat.mod_eq_of_lt (by omega)
    have mQ : e * D % (q - 1) = 1 := by
      rw [d3, Nat.add_comm, Nat.mul_comm (p - 1) (q - 1), Nat.mul_comm i, Nat.mul_assoc, Nat.add_mul_mod_self_left]
      exact Nat.mod_eq_of_lt (by omega)
    refine tw_x (fun p hp => hX p hp) (tw_y (fun q hq => hY q hq) (ed_ret hW hH ⟨hK.1, hK.2.1, fun j hj => ?_⟩))
    by_cases ej : j = k
    · subst ej
      rw [pk_uLs, pk_uLs, pk_uLs, pk_uLs, pk_uLs, pk_uLs, pk_uLs, pk_uLs, pk_uLs, pk_uLs]
      refine Or.inr ⟨p, q, e, D, DP, DQ, B, ⟨P1, P2, hpq⟩, ⟨hp1, hp2, hq1, hq2, he2, by omega, by omega, b1, d1, d2⟩, ⟨rfl, rfl, rfl, rfl, rfl, rfl, rfl⟩, ⟨rfl, rfl, rfl⟩, fun m => ?_, fun m => ?_, ?_⟩
      · exact fe_exp P1 x1 d1 (fe_inv (by omega) x3 mP)
      · exact fe_exp P2 y1 d1 (fe_inv (by omega) y3 mQ)
      · rw [b2, Nat.mod_eq_of_lt (by omega)]
    · rw [pk_uLn ej, pk_uLn ej, pk_uLn ej, pk_uLn ej, pk_uLn ej, pk_uLn ej, pk_uLn ej, pk_uLn ej, pk_uLn ej, pk_uLn ej]
      exact hK.2.2 j hj
  · obtain ⟨kw', hX⟩ := kx_b (xl := nI n) (xs := xs) (xh := xh) (xk := xk) (xy := xy) (xw := (fun k => by_n (w k))) (xm := xm) (xt := xt) (xp := xp) (kp := kp) (kq := kq) (kn := kn) (ke := ke) (kd := kd) (kf := kf) (kb := kb) (kw := kw) hC
    exact tw_x (fun p hp => hX p hp) (tw_y (fun q hq => ky_yb hC q hq) (ed_ret hW hH hK))
end
end
section
/-! ===== the keys at work ===== -/
def ks_F (kp kq kn ke kd kf kb yn yo yz : Nat → Int64) (k P Q E D DP DQ B : Nat) : Prop :=
  (fe_P P ∧ fe_P Q ∧ P ≠ Q) ∧ (257 ≤ P ∧ P ≤ 46337 ∧ 257 ≤ Q ∧ Q ≤ 46337 ∧ E ≤ 65537 ∧ DP < 2 ^ 31 ∧ DQ < 2 ^ 31 ∧ B < P ∧ 1 ≤ D ∧ D < 2 ^ 62) ∧
    (kp k = lN P ∧ kq k = lN Q ∧ kn k = lN (P * Q) ∧ ke k = lN E ∧ kd k = lN DP ∧ kf k = lN DQ ∧ kb k = lN B) ∧ (yn k = lN (P * Q) ∧ yo k = lN E ∧ yz k = lN D) ∧
    (∀ m, m ^ DP % P = m ^ D % P) ∧ (∀ m, m ^ DQ % Q = m ^ D % Q) ∧ Q * B % P = 1 % P
theorem ks_cop {P Q : Nat} (hP : fe_P P) (hQ : fe_P Q) (h : P ≠ Q) (h2 : 2 ≤ P) (h3 : 2 ≤ Q) : Nat.Coprime P Q := by
  rcases fe_cop' (a := Q) hP with hc | hc
  · exact hc
  · exfalso
    have hle := Nat.le_of_dvd (by omega) hc
    exact hQ.2 P h2 (by omega) hc
/-- different primes up to 46337: the product stays below 2^31 -/
theorem ks_N {P Q : Nat} (hP : P ≤ 46337) (hQ : Q ≤ 46337) (h : P ≠ Q) (hp : 257 ≤ P) (hq : 257 ≤ Q) : P * Q < 2 ^ 31 ∧ 2 ≤ P * Q := by
  constructor
  · rcases Nat.lt_or_ge P Q with h1 | h1
    · have := Nat.mul_le_mul (show P ≤ 46336 by omega) hQ
      omega
    · have := Nat.mul_le_mul hP (show Q ≤ 46336 by omega)
      omega
  · have := Nat.mul_le_mul hp hq
    omega
section
variable {xl xs xh xk xy : Int32} {xw xm xt xp : Nat → Int32} {kp kq kn ke kd kf kb kw : Nat → Int64} {yl ys : Int32} {yw ym : Nat → Int32} {yn yo yz : Nat → Int64}
theorem ks_k (v : Int32) (hK : md_K xy xt xp kp kq kn ke kd kf kb yn yo yz) :
    ((∀ post : Int32 → Prop, post 0 → wpX_isKey post (xl, xs, xh, xk, xy, xw, xm, xt, xp, kp, kq, kn, ke, kd, kf, kb, kw) v) ∧ (∀ post : Int32 → Prop, post 1 → wpY_none post (yl, ys, yw, ym, yn, yo, yz) v)) ∨
    ∃ k P Q E D DP DQ B : Nat, k < 3 ∧ v = nI k ∧ ks_F kp kq kn ke kd kf kb yn yo yz k P Q E D DP DQ B ∧ (∀ post : Int32 → Prop, post 1 → wpX_isKey post (xl, xs, xh, xk, xy, xw, xm, xt, xp, kp, kq, kn, ke, kd, kf, kb, kw) v) ∧ (∀ post : Int32 → Prop, post 0 → wpY_none post (yl, ys, yw, ym, yn, yo, yz) v) := by
  by_cases h0 : v < 0
  · exact Or.inl ⟨fun post hp => br_t h0 hp, fun post hp => br_t h0 (br_f (by decide) hp)⟩
  obtain ⟨k, hk, rfl⟩ := nI_of h0
  by_cases h3 : k < 3
  · have hi : vp_in (nI k) 3 := pk_in k 3 h3
    have ec : (nI k).toNatClampNeg = k := nI_clamp (by omega)
    rcases hK.2.2 k h3 with ⟨e1, e2⟩ | ⟨P, Q, E, D, DP, DQ, B, hF⟩
    · refine Or.inl ⟨fun post hp => br_f h0 (br_f (tw_leF 3 k h3) ⟨hi, br_t ?_ hp⟩), fun post hp => br_f h0 (br_t (tw_ltT k 3 h3) (br_t rfl ⟨hi, br_t ?_ hp⟩))⟩
      · rw [ec, e1]; decide
      · rw [ec, e2]
    · refine Or.inr ⟨k, P, Q, E, D, DP, DQ, B, h3, rfl, hF, fun post hp => br_f h0 (br_f (tw_leF 3 k h3) ⟨hi, br_f ?_ hp⟩), fun post hp => br_f h0 (br_t (tw_ltT k 3 h3) (br_t rfl ⟨hi, br_f ?_ hp⟩))⟩
      · obtain ⟨⟨_, _, hne⟩, ⟨a1, a2, a3, a4, _⟩, ⟨_, _, e, _⟩, _⟩ := hF
        have hN := ks_N a2 a4 hne a1 a3
        rw [ec, e]
        intro z
        have := (pk_lLE (b := 0) (by omega) (by omega)).mp z
        omega
      · obtain ⟨⟨_, _, hne⟩, ⟨a1, a2, a3, a4, _⟩, _, ⟨e, _⟩, _⟩ := hF
        have hN := ks_N a2 a4 hne a1 a3
        rw [ec, e]
        exact po_ne (by omega) (by omega)
  · exact Or.inl ⟨fun post hp => br_f h0 (br_t (tw_leT 3 k (by omega)) hp), fun post hp => br_f h0 (br_f (tw_ltF k 3 (by omega)) (br_f (by decide) hp))⟩
/-- the private way gives the power by the product -/
theorem ks_x {k P Q E D DP DQ B M : Nat} (hF : ks_F kp kq kn ke kd kf kb yn yo yz k P Q E D DP DQ B) (hk : k < 3) (hM : M < 2 ^ 63) :
    ∃ kw' : Nat → Int64, ∀ post : Int64 → SX → Prop, post (lN (M ^ D % (P * Q))) (xl, xs, xh, xk, xy, xw, xm, xt, xp, kp, kq, kn, ke, kd, kf, kb, kw') → wpX_secretly post (xl, xs, xh, xk, xy, xw, xm, xt, xp, kp, kq, kn, ke, kd, kf, kb, kw) (nI k) (lN M) := by
  obtain ⟨⟨hP, hQ, hne⟩, ⟨a1, a2, a3, a4, a5, a6, a7, a8, a9, a10⟩, ⟨e1, e2, e3, e4, e5, e6, e7⟩, _, f1, f2, f3⟩ := hF
  have hmP : M % P < P := Nat.mod_lt _ (by omega)
  have hmQ : M % Q < Q := Nat.mod_lt _ (by omega)
  obtain ⟨k1, hX1⟩ := po_x (xl := xl) (xs := xs) (xh := xh) (xk := xk) (xy := xy) (xw := xw) (xm := xm) (xt := xt) (xp := xp) (kp := kp) (kq := kq) (kn := kn) (ke := ke) (kd := kd) (kf := kf) (kb := kb) (kw := kw) (m := M % P) (x := DP) (b := P) (by omega) (by omega) (by omega) (by omega)
  obtain ⟨k2, hX2⟩ := po_x (xl := xl) (xs := xs) (xh := xh) (xk := xk) (xy := xy) (xw := xw) (xm := xm) (xt := xt) (xp := xp) (kp := kp) (kq := kq) (kn := kn) (ke := ke) (kd := kd) (kf := kf) (kb := kb) (kw := k1) (m := M % Q) (x := DQ) (b := Q) (by omega) (by omega) (by omega) (by omega)
  have g1 : (M % P) ^ DP % P = M ^ D % P := by rw [← Nat.pow_mod, f1]
  have g2 : (M % Q) ^ DQ % Q = M ^ D % Q := by rw [← Nat.pow_mod, f2]
  rw [g1] at hX1
  rw [g2] at hX2
  refine ⟨k2, fun post hp => ?_⟩
  have hi : vp_in (nI k) 3 := pk_in k 3 hk
  unfold wpX_secretly
  dsimp only
  rw [nI_clamp (by omega), e1, e5, pk_lRem hM (by omega) (by omega)]
  refine ⟨hi, po_ne (by omega) (by omega), hi, hi, hX1 _ ?_⟩
  dsimp only
  rw [e2, e6, pk_lRem hM (by omega) (by omega)]
  refine ⟨hi, po_ne (by omega) (by omega), hi, hi, hX2 _ ?_⟩
  dsimp only
  rw [e1, e2, e7]
  have hx : M ^ D % P < P := Nat.mod_lt _ (by omega)
  have hy : M ^ D % Q < Q := Nat.mod_lt _ (by omega)
  have hyp : M ^ D % Q % P < P := Nat.mod_lt _ (by omega)
  have es : lN (M ^ D % P) - lN (M ^ D % Q % P) + lN P = lN (M ^ D % P + P - M ^ D % Q % P) := by
    rw [Int64.sub_eq_add_neg, Int64.add_assoc, Int64.add_comm (-lN (M ^ D % Q % P)), ← Int64.add_assoc, ← Int64.sub_eq_add_neg, lN_add, lN_sub (by omega)]
  rw [pk_lRem (a := M ^ D % Q) (by omega) (by omega) (by omega), es, po_r (by omega) (by omega) (by omega) (by omega)]
  refine ⟨hi, po_ne (by omega) (by omega), hi, hi, hi, po_ne (by omega) (by omega), nm_e ⟨hi, ?_⟩⟩
  rw [lN_mul, lN_add, ct_put (by omega) (by omega) (ks_cop hP hQ hne (by omega) (by omega)) f3]
  exact hp
end
/-- a word without its sign -/
theorem hu_x (h : Int32) : ∃ H, H < 2 ^ 32 ∧ h.toInt64 &&& 4294967295 = lN H ∧ ((0 ≤ h.toInt64 ∧ h.toInt64 = lN H) ∨ (¬ 0 ≤ h.toInt64 ∧ h.toInt64 + 4294967296 = lN H)) := by
  obtain ⟨H, hH, rfl⟩ := wb_of32 h
  have eM : (4294967295 : Int64) = lN (2 ^ 32 - 1) := by decide +kernel
  refine ⟨H, hH, ?_⟩
  by_cases h31 : H < 2 ^ 31
  · have e : (nI H).toInt64 = lN H := nI_l h31
    rw [e]
    refine ⟨?_, Or.inl ⟨(pk_lLE (a := 0) (by omega) (by omega)).mpr (by omega), rfl⟩⟩
    rw [eM, wb_mask (by omega) (by omega), Nat.mod_eq_of_lt hH]
  · have et : (nI H).toInt = (H : Int) - 2 ^ 32 := by
      show (nI H).toBitVec.toInt = _
      rw [BitVec.toInt_eq_toNat_cond, pk_tn hH, if_neg (by omega)]
      omega
    have e : (nI H).toInt64 = lN (H + (2 ^ 64 - 2 ^ 32)) := by
      apply Int64.toInt_inj.mp
      rw [Int32.toInt_toInt64, et, lN_ti (by omega), if_neg (by omega)]
      omega
    refine ⟨?_, Or.inr ⟨?_, ?_⟩⟩
    · rw [e, eM, wb_mask (by omega) (by omega)]
      exact congrArg lN (by omega)
    · rw [Int64.le_iff_toInt_le, Int32.toInt_toInt64, et, show (0 : Int64).toInt = 0 from by decide]
      omega
    · rw [e, show (4294967296 : Int64) = lN (2 ^ 32) from by decide +kernel, lN_add, wb_mod]
      exact congrArg lN (by omega)
section
variable {xl xs xh xk xy : Int32} {xw xm xt xp : Nat → Int32} {kp kq kn ke kd kf kb kw : Nat → Int64} {yl ys : Int32} {yw ym : Nat → Int32} {yn yo yz : Nat → Int64}
variable {n : Nat} {w : Nat → Int32}
theorem rd_y {post : Int64 → Prop} {k c N H : Nat} (hk : k < 3) (hc : c ≤ 120) (hN : 0 < N) (hN2 : N < 2 ^ 31) (e : yn k = lN N) (hH : H < 2 ^ 32)
    (hu : (0 ≤ (ha_E (ha_F w c)).toInt64 ∧ (ha_E (ha_F w c)).toInt64 = lN H) ∨ (¬ 0 ≤ (ha_E (ha_F w c)).toInt64 ∧ (ha_E (ha_F w c)).toInt64 + 4294967296 = lN H)) (hp : post (lN (H % N))) :
    wpY_reduced post (yl, ys, w, ym, yn, yo, yz) (nI k) (nI c) := by
  unfold wpY_reduced
  dsimp only
  refine ha_yh hc ?_
  have hi : vp_in (nI k) 3 := pk_in k 3 hk
  rw [nI_clamp (by omega), e]
  rcases hu with ⟨h, e2⟩ | ⟨h, e2⟩
  · refine br_t h ⟨hi, po_ne hN (by omega), ?_⟩
    rw [e2, pk_lRem (by omega) hN (by omega)]
    exact hp
  · refine br_f h ⟨hi, po_ne hN (by omega), ?_⟩
    rw [e2, pk_lRem (by omega) hN (by omega)]
    exact hp
/-! sign -/
def sg_W (n S : Nat) (w : Nat → Int32) : Nat → Nat → Int32
  | 0 => w
  | j + 1 => upd (sg_W n S w j) (n + j) (nI (S / 2 ^ (24 - 8 * j) % 256))
theorem sg_s (n S : Nat) (w : Nat → Int32) (j : Nat) : sg_W n S w (j + 1) = upd (sg_W n S w j) (n + j) (nI (S / 2 ^ (24 - 8 * j) % 256)) := rfl
theorem sg_at (n S : Nat) (w : Nat → Int32) (k : Nat) : ∀ j, sg_W n S w j k = if n ≤ k ∧ k < n + j then nI (S / 2 ^ (24 - 8 * (k - n)) % 256) else w k
  | 0 => by rw [if_neg (by omega)]; rfl
  | j + 1 => by
    rw [sg_s]
    by_cases h : k = n + j
    · subst h
      rw [pk_us, if_pos (by omega), show n + j - n = j from by omega]
    · rw [pk_un h, sg_at n S w k j]
      by_cases h2 : n ≤ k ∧ k < n + j
      · rw [if_pos h2, if_pos (by omega)]
      · rw [if_neg h2, if_neg (by omega)]
theorem sg_B {S : Nat} (hw : ∀ k, by_B (w k)) (j : Nat) : ∀ k, by_B (sg_W n S w j k) := fun k => by
  rw [sg_at]
  by_cases h : n ≤ k ∧ k < n + j
  · rw [if_pos h]; exact by_Bn (Nat.mod_lt _ (by omega))
  · rw [if_neg h]; exact hw k
theorem sg_eq (n S : Nat) (w g : Nat → Int32) : tu_w (n + 4) (sg_W n S (tu_w n w g) 4) w = sg_W n S w 4 := by
  funext k
  rw [sg_at]
  unfold tu_w
  by_cases h : k < n + 4
  · rw [if_pos h]
    show sg_W n S (fun k => if k < n then w k else g k) 4 k = _
    rw [sg_at]
    by_cases h2 : n ≤ k
    · rw [if_pos ⟨h2, h⟩, if_pos ⟨h2, h⟩]
    · have h3 : ¬ (n ≤ k ∧ k < n + 4) := by omega
      rw [if_neg h3, if_neg h3, if_pos (show k < n by omega)]
  · rw [if_neg h, if_neg (by omega)]
theorem sg_add {post : Int32 → SX → Prop} {b : Nat} (hn : n < 120) (hb : b < 256)
    (hp : post (nI (n + 1)) (nI (n + 1), xs, ha_F (upd w n (nI b)) (n + 1), nI (n + 1), xy, (fun k => by_n (upd w n (nI b) k)), xm, xt, xp, kp, kq, kn, ke, kd, kf, kb, kw)) :
    wpX_add post (nI n, xs, ha_F w n, nI n, xy, (fun k => by_n (w k)), xm, xt, xp, kp, kq, kn, ke, kd, kf, kb, kw) (nI b) := by
  refine br_f (nI_pos (by omega)) (br_t (tw_leT b 255 (by omega)) (br_f (tw_eqF n 120 (by omega)) ⟨pk_in n 120 hn, nm_r (e' := fun k => by_n (upd w n (nI b) k)) ?_ (br_t rfl (nm_r (e' := ha_F (upd w n (nI b)) (n + 1)) ?_ (nm_r (nI_1 n) (nm_r (nI_1 n) ?_))))⟩))
  · rw [nI_clamp (by omega), by_vn, by_up]
  · rw [ha_S, ha_up (Nat.le_refl n), pk_us]
  · rw [nI_1 n]; exact hp
theorem sg_b8 {S s : Nat} (hS : S < 2 ^ 31) (hs : s < 32) : ((lN S >>> ((nI s).toInt64 &&& 63)).toInt32) &&& 255 = nI (S / 2 ^ s % 256) := by
  rw [pf_shr (po_sm s hs) (by omega), lN_i, pk_andN (Nat.lt_of_le_of_lt (Nat.div_le_self _ _) (by omega)) 8 (by decide)]
theorem sg_b8y {S s : Nat} (hS : S < 2 ^ 31) (hs : s < 32) : (nI S >>> (nI s &&& 31)) &&& 255 = nI (S / 2 ^ s % 256) := by
  rw [pk_shrN hS _ s (s_l s hs), pk_andN (Nat.lt_of_le_of_lt (Nat.div_le_self _ _) (by omega)) 8 (by decide)]
theorem sg_xl {post : Int32 → SX → Prop} {S : Nat} (hn : n + 4 ≤ 120) (hS : S < 2 ^ 31)
    (hp : post (nI (n + 4)) (nI (n + 4), xs, ha_F (sg_W n S w 4) (n + 4), nI (n + 4), xy, (fun k => by_n (sg_W n S w 4 k)), xm, xt, xp, kp, kq, kn, ke, kd, kf, kb, kw)) :
    ∀ d j, j + d = 4 → wX_sign_53 post (lN S) (d + 1) (24 - 8 * nI j) (nI (n + j)) xs (ha_F (sg_W n S w j) (n + j)) (nI (n + j)) xy (fun k => by_n (sg_W n S w j k)) xm xt xp kp kq kn ke kd kf kb kw := by
  intro d
  induction d with
  | zero =>
    intro j hj
    obtain rfl : j = 4 := hj
    exact br_t (by decide) hp
  | succ d ih =>
    intro j hj
    refine br_f (ec_k j (by omega)).1 ?_
    rw [st_sh j (by omega), sg_b8 hS (by omega), ← st_sh j (by omega)]
    refine sg_add (by omega) (Nat.mod_lt _ (by omega)) ?_
    dsimp only
    exact nm_r (ec_k j (by omega)).2 (ih (j + 1) (by omega))
theorem sg_put {post : SY → Prop} {m : Nat} {b : Int32} (hm : m < 400) (hp : post (yl, nI (m + 1), yw, upd ym m (b &&& 255), yn, yo, yz)) : wpY_put post (yl, nI m, yw, ym, yn, yo, yz) b :=
  br_f (tw_leF 400 m hm) ⟨pk_in m 400 hm, nm_r (by rw [nI_clamp (by omega)]) (nm_r (nI_1 m) hp)⟩
theorem sg_yw {post : SY → Prop} (hW : md_W n w) (hp : post (yl, nI n, w, tu_w n w ym, yn, yo, yz)) :
    ∀ d i, i + d = n → wY_putWork_2 post (nI n) (d + 1) (nI i) yl (nI i) w (tu_w i w ym) yn yo yz := by
  have hn := hW.1
  intro d
  induction d with
  | zero =>
    intro i hi
    obtain rfl : i = n := hi
    exact br_t (tw_leT i i (by omega)) hp
  | succ d ih =>
    intro i hi
    refine br_f (tw_leF n i (by omega)) ⟨pk_in i 120 (by omega), sg_put (by omega) ?_⟩
    dsimp only
    rw [nI_clamp (by omega), by_a (hW.2 i), tu_s]
    exact nm_r (nI_1 i) (ih (i + 1) (by omega))
theorem sg_yd {post : SY → Prop} {S : Nat} {g : Nat → Int32} (hn : n ≤ 120) (hS : S < 2 ^ 31) (hp : post (yl, nI (n + 4), yw, sg_W n S g 4, yn, yo, yz)) :
    ∀ d j, j + d = 4 → wY_putWord_3 post (nI S) (d + 1) (24 - 8 * nI j) yl (nI (n + j)) yw (sg_W n S g j) yn yo yz := by
  intro d
  induction d with
  | zero =>
    intro j hj
    obtain rfl : j = 4 := hj
    exact br_t (by decide) hp
  | succ d ih =>
    intro j hj
    refine br_f (ec_k j (by omega)).1 (sg_put (by omega) ?_)
    dsimp only
    refine nm_r (ec_k j (by omega)).2 ?_
    have h := ih (j + 1) (by omega)
    rw [st_sh j (by omega), sg_b8y hS (by omega)]
    exact h
theorem sg_sign (v1 : Int32) (hW : md_W n w) (hH : md_H n w xh xk) (hK : md_K xy xt xp kp kq kn ke kd kf kb yn yo yz) :
    tw_L ed_R (fun p => wpX_sign p (nI n, xs, xh, xk, xy, (fun k => by_n (w k)), xm, xt, xp, kp, kq, kn, ke, kd, kf, kb, kw) v1) (fun q => wpY_sign q (nI n, ys, w, ym, yn, yo, yz) v1) := by
  have hn := hW.1
  unfold wpX_sign wpY_sign
  dsimp only
  rcases ks_k (xl := nI n) (xs := xs) (xh := xh) (xk := xk) (xy := xy) (xw := (fun k => by_n (w k))) (xm := xm) (xt := xt) (xp := xp) (kp := kp) (kq := kq) (kn := kn) (ke := ke) (kd := kd) (kf := kf) (kb := kb) (kw := kw) (yl := nI n) (ys := ys) (yw := w) (ym := ym) (yn := yn) (yo := yo) (yz := yz) v1 hK with ⟨hX, hY⟩ | ⟨k, P, Q, E, D, DP, DQ, B, hk, rfl, hF, hX, hY⟩
  · exact tw_x (fun p hp => hX _ hp) (tw_y (fun q hq => hY _ hq) (tw_xt rfl (tw_yf (by decide) (ed_ret hW hH hK))))
  refine tw_x (fun p hp => hX _ hp) (tw_y (fun q hq => hY _ hq) (tw_xf (by decide) (tw_yt rfl ?_)))
  obtain ⟨H, hH2, hu1, hu2⟩ := hu_x (ha_E (ha_F w n))
  have hF0 := hF
  obtain ⟨⟨hP, hQ, hne⟩, ⟨a1, a2, a3, a4, a5, a6, a7, a8, a9, a10⟩, ⟨e1, e2, e3, e4, e5, e6, e7⟩, ⟨y1, y2, y3⟩, f1, f2, f3⟩ := hF
  have hN := ks_N a2 a4 hne a1 a3
  have hi : vp_in (nI k) 3 := pk_in k 3 hk
  have hM : H % (P * Q) < P * Q := Nat.mod_lt _ (by omega)
  have hS : (H % (P * Q)) ^ D % (P * Q) < P * Q := Nat.mod_lt _ (by omega)
  have ec : (nI k).toNatClampNeg = k := nI_clamp (by omega)
  refine tw_y (fun q hq => rd_y hk hn (by omega) hN.1 y1 hH2 hu2 hq) ?_
  refine tw_yi hi (tw_yi hi ?_)
  rw [ec, y3, y1]
  refine tw_y (fun q hq => po_y (by omega) a10 hN.2 hN.1 hq) ?_
  refine tw_ye (n + 1) ?_
  have hYW : ∀ post : SY → Prop, post (nI n, nI n, w, tu_w n w ym, yn, yo, yz) → wY_putWork_2 post (nI n) (n + 1) 0 (nI n) 0 w ym yn yo yz := fun post hp => by
    have h := sg_yw (yl := nI n) (ym := ym) hW hp n 0 (by omega)
    rw [tu_0] at h
    exact h
  refine tw_y (fun q hq => hYW _ hq) (tw_ye 5 ?_)
  dsimp only
  rw [lN_i]
  refine tw_y (fun q hq => sg_yd (g := tu_w n w ym) hn (by omega) hq 4 0 (by omega)) ?_
  have e4' : nI n + 4 = nI (n + 4) := nI_add n 4
  by_cases hfull : n + 4 ≤ 120
  · refine tw_xt (tw_leT (n + 4) 120 hfull e4') ?_
    refine tw_x (fun p hp => ha_xh hW hH hp) ?_
    dsimp only
    refine tw_xr hu1 (tw_xi hi ?_)
    rw [e3, pk_lRem (by omega) (by omega) (by omega)]
    refine tw_xi (po_ne (by omega) (by omega)) ?_
    obtain ⟨kw', hXs⟩ := ks_x (xl := nI n) (xs := xs) (xh := ha_F w n) (xk := nI n) (xy := xy) (xw := (fun k => by_n (w k))) (xm := xm) (xt := xt) (xp := xp) (kp := kp) (kq := kq) (kn := kn) (ke := ke) (kd := kd) (kf := kf) (kb := kb) (kw := kw) (M := H % (P * Q)) hF0 hk (by omega)
    refine tw_x (fun p hp => hXs _ hp) (tw_xe 5 ?_)
    refine tw_x (fun p hp => sg_xl hfull (by omega) hp 4 0 (by omega)) ?_
    refine tw_y (ey := fun q => q (nI (n + 4)) (nI (n + 4), nI (n + 4), sg_W n ((H % (P * Q)) ^ D % (P * Q)) w 4, sg_W n ((H % (P * Q)) ^ D % (P * Q)) (tu_w n w ym) 4, yn, yo, yz)) (fun q hq => ?_) ?_
    · refine tu_y hfull ?_
      rw [sg_eq]
      exact hq
    · exact ed_ret ⟨hfull, sg_B hW.2 4⟩ ⟨n + 4, Nat.le_refl _, rfl, rfl⟩ hK
  · refine tw_xf (tw_leF (n + 4) 120 (by omega) e4') ?_
    exact tw_y (fun q hq => tu_yF (by omega) (by omega) hq) (ed_ret hW hH hK)
end
end
section
/-! ===== verify, raise ===== -/
/-- the last bytes as a number -/
def vf_V (w : Nat → Int32) (c : Nat) : Nat → Nat
  | 0 => 0
  | j + 1 => vf_V w c j * 256 + (w (c + j)).toNatClampNeg
theorem vf_b {w : Nat → Int32} (hw : ∀ k, by_B (w k)) (k : Nat) : (w k).toNatClampNeg < 256 ∧ w k = nI (w k).toNatClampNeg := by
  obtain ⟨c, hc, e⟩ := hw k
  rw [e, nI_clamp (by omega)]
  exact ⟨hc, rfl⟩
theorem vf_lt {w : Nat → Int32} (hw : ∀ k, by_B (w k)) (c : Nat) : ∀ j, vf_V w c j < 256 ^ j
  | 0 => by show 0 < 256 ^ 0; omega
  | j + 1 => by
    have h1 := vf_lt hw c j
    have h2 := (vf_b hw (c + j)).1
    show vf_V w c j * 256 + (w (c + j)).toNatClampNeg < 256 ^ (j + 1)
    rw [Nat.pow_succ]; omega
theorem vf_32 {w : Nat → Int32} (hw : ∀ k, by_B (w k)) (c : Nat) {j : Nat} (hj : j ≤ 4) : vf_V w c j < 2 ^ 32 := by
  have h1 := vf_lt hw c j
  have h2 : 256 ^ j ≤ 256 ^ 4 := Nat.pow_le_pow_right (by omega) hj
  omega
section
variable {xl xs xh xk xy : Int32} {xw xm xt xp : Nat → Int32} {kp kq kn ke kd kf kb kw : Nat → Int64} {yl ys : Int32} {yw ym : Nat → Int32} {yn yo yz : Nat → Int64}
variable {n : Nat} {w : Nat → Int32}
theorem vf_37 {post : Int32 → SX → Prop} {k c : Nat} (hW : md_W n w) (hc : c ≤ n) (hp : ∃ n64 : Nat, wX_verify_64 post (nI k) (nI c) (ha_F w c) xl xs xh xk xy (fun k => by_n (w k)) xm xt xp kp kq kn ke kd kf kb kw n64 0 (nI c)) :
    ∀ d i, i + d = c → wX_verify_37 post (nI k) (nI c) 0 xl xs xh xk xy (fun k => by_n (w k)) xm xt xp kp kq kn ke kd kf kb kw (d + 1) (ha_F w i) (nI i) := by
  have hn := hW.1
  intro d
  induction d with
  | zero =>
    intro i hi
    obtain rfl : i = c := hi
    exact br_t (tw_leT i i (by omega)) hp
  | succ d ih =>
    intro i hi
    refine br_f (tw_leF c i (by omega)) ⟨pk_in i 120 (by omega), nm_r (e' := ha_F w (i + 1)) ?_ (nm_r (nI_1 i) (ih (i + 1) (by omega)))⟩
    rw [nI_clamp (by omega), by_g (hW.2 i), ha_S]
theorem vf_64 {post : Int32 → SX → Prop} {k c : Nat} {h : Int32} (hW : md_W n w) (hc : c + 4 = n)
    (hp : wX_verify_64 post (nI k) (nI c) h (nI n) xs xh xk xy (fun k => by_n (w k)) xm xt xp kp kq kn ke kd kf kb kw 1 (lN (vf_V w c 4)) (nI (c + 4))) :
    ∀ d j, j + d = 4 → wX_verify_64 post (nI k) (nI c) h (nI n) xs xh xk xy (fun k => by_n (w k)) xm xt xp kp kq kn ke kd kf kb kw (d + 1) (lN (vf_V w c j)) (nI (c + j)) := by
  have hn := hW.1
  intro d
  induction d with
  | zero =>
    intro j hj
    obtain rfl : j = 4 := hj
    exact hp
  | succ d ih =>
    intro j hj
    have hV := vf_32 hW.2 c (j := j) (by omega)
    obtain ⟨b1, b2⟩ := vf_b hW.2 (c + j)
    refine br_f (tw_leF n (c + j) (by omega)) ⟨pk_in (c + j) 120 (by omega), nm_r (e' := lN (vf_V w c (j + 1))) ?_ (nm_r (nI_1 (c + j)) (ih (j + 1) (by omega)))⟩
    rw [nI_clamp (by omega), by_g (hW.2 _)]
    have e8 : lN (vf_V w c j) <<< ((8 : Int32).toInt64 &&& 63) = lN (vf_V w c j * 2 ^ 8) := wb_shl _ (k := 8) (by omega)
    rw [e8, b2, nI_l (by omega), g_or (k := 8) (p := 2 ^ 8) rfl (by omega) (by omega)]
    rfl
theorem vf_31 {post : Int32 → SY → Prop} {k c : Nat} (hW : md_W n w) (hc : c + 4 = n)
    (hp : wY_verify_31 post (nI k) (nI n) ys w ym yn yo yz 1 (lN (vf_V w c 4)) (nI (c + 4))) :
    ∀ d j, j + d = 4 → wY_verify_31 post (nI k) (nI n) ys w ym yn yo yz (d + 1) (lN (vf_V w c j)) (nI (c + j)) := by
  have hn := hW.1
  intro d
  induction d with
  | zero =>
    intro j hj
    obtain rfl : j = 4 := hj
    exact hp
  | succ d ih =>
    intro j hj
    obtain ⟨b1, b2⟩ := vf_b hW.2 (c + j)
    refine br_f (tw_leF n (c + j) (by omega)) ⟨pk_in (c + j) 120 (by omega), nm_r (e' := lN (vf_V w c (j + 1))) ?_ (nm_r (nI_1 (c + j)) (ih (j + 1) (by omega)))⟩
    rw [nI_clamp (by omega), b2, nI_l (by omega), show (256 : Int64) = lN 256 from rfl, lN_mul, lN_add]
    rfl
theorem vf_verify (v1 : Int32) (hW : md_W n w) (hH : md_H n w xh xk) (hK : md_K xy xt xp kp kq kn ke kd kf kb yn yo yz) :
    tw_L ed_R (fun p => wpX_verify p (nI n, xs, xh, xk, xy, (fun k => by_n (w k)), xm, xt, xp, kp, kq, kn, ke, kd, kf, kb, kw) v1) (fun q => wpY_verify q (nI n, ys, w, ym, yn, yo, yz) v1) := by
  have hn := hW.1
  unfold wpX_verify wpY_verify
  dsimp only
  rcases ks_k (xl := nI n) (xs := xs) (xh := xh) (xk := xk) (xy := xy) (xw := (fun k => by_n (w k))) (xm := xm) (xt := xt) (xp := xp) (kp := kp) (kq := kq) (kn := kn) (ke := ke) (kd := kd) (kf := kf) (kb := kb) (kw := kw) (yl := nI n) (ys := ys) (yw := w) (ym := ym) (yn := yn) (yo := yo) (yz := yz) v1 hK with ⟨hX, hY⟩ | ⟨k, P, Q, E, D, DP, DQ, B, hk, rfl, hF, hX, hY⟩
  · exact tw_x (fun p hp => hX _ hp) (tw_y (fun q hq => hY _ hq) (tw_xt rfl (tw_yf (by decide) (ed_ret hW hH hK))))
  refine tw_x (fun p hp => hX _ hp) (tw_y (fun q hq => hY _ hq) (tw_xf (by decide) (tw_yt rfl ?_)))
  by_cases h4 : 4 ≤ n
  · obtain ⟨c, hc⟩ : ∃ c, c + 4 = n := ⟨n - 4, by omega⟩
    have ec4 : nI n - 4 = nI c := (pk_sub (b := 4) h4).trans (congrArg nI (by omega))
    refine tw_xt (tw_leT 4 n h4) (tw_yt (tw_leT 4 n h4) (tw_xr ec4 (tw_yr ec4 (tw_xe (c + 1) (tw_ye 5 ?_)))))
    refine tw_x (fun p hp => vf_37 hW (by omega) ⟨5, hp⟩ c 0 (by omega)) ?_
    refine tw_x (fun p hp => vf_64 hW hc hp 4 0 (by omega)) (tw_y (fun q hq => vf_31 hW hc hq 4 0 (by omega)) ?_)
    obtain ⟨H, hH2, hu1, hu2⟩ := hu_x (ha_E (ha_F w c))
    obtain ⟨⟨hP, hQ, hne⟩, ⟨a1, a2, a3, a4, a5, a6, a7, a8, a9, a10⟩, ⟨e1, e2, e3, e4, e5, e6, e7⟩, ⟨y1, y2, y3⟩, f1, f2, f3⟩ := hF
    have hN := ks_N a2 a4 hne a1 a3
    have hi : vp_in (nI k) 3 := pk_in k 3 hk
    have ec : (nI k).toNatClampNeg = k := nI_clamp (by omega)
    have hV := vf_32 hW.2 c (j := 4) (by omega)
    refine tw_xt (tw_leT n (c + 4) (by omega)) (tw_yt (tw_leT n (c + 4) (by omega)) (tw_xi hi ?_))
    rw [ec4]
    refine tw_y (fun q hq => rd_y hk (by omega) (by omega) hN.1 y1 hH2 hu2 hq) (tw_yi hi ?_)
    rw [ec, e3, e4, y1, y2]
    by_cases hle : P * Q ≤ vf_V w c 4
    · have hl := (pk_lLE (a := P * Q) (b := vf_V w c 4) (by omega) (by omega)).mpr hle
      exact tw_xt hl (tw_yt hl (ed_ret hW hH hK))
    · have hl : ¬ lN (P * Q) ≤ lN (vf_V w c 4) := fun z => hle ((pk_lLE (by omega) (by omega)).mp z)
      refine tw_xf hl (tw_yf hl (tw_xi hi (tw_xi hi (tw_yi hi (tw_yi hi ?_)))))
      obtain ⟨kw', hXr⟩ := po_x (xl := nI n) (xs := xs) (xh := xh) (xk := xk) (xy := xy) (xw := (fun k => by_n (w k))) (xm := xm) (xt := xt) (xp := xp) (kp := kp) (kq := kq) (kn := kn) (ke := ke) (kd := kd) (kf := kf) (kb := kb) (kw := kw) (m := vf_V w c 4) (x := E) (b := P * Q) (by omega) (by omega) (by omega) hN.1
      refine tw_x (fun p hp => hXr _ hp) (tw_y (fun q hq => po_y (by omega) (by omega) hN.2 hN.1 hq) ?_)
      dsimp only
      refine tw_x (fun p hp => ha_x hp) (tw_xi hi ?_)
      rw [e3, hu1, pk_lRem (by omega) (by omega) (by omega)]
      refine tw_xi (po_ne (by omega) (by omega)) (tw_br Iff.rfl (fun _ => ?_) (fun _ => ed_ret hW hH hK))
      refine tw_yn ?_
      exact ed_ret (n := c) ⟨by omega, hW.2⟩ (tu_H c _) hK
  · exact tw_xf (tw_leF 4 n (by omega)) (tw_yf (tw_leF 4 n (by omega)) (ed_ret hW hH hK))
theorem vf_raise {t : Nat} (v1 : Int32) (a1 : Int64) (z : Int32) (hW : md_W n w) (hH : md_H n w xh xk) (hK : md_K xy xt xp kp kq kn ke kd kf kb yn yo yz) :
    wpX_raise (fun r u' => wpY_raise (fun r' => r' = r ∧ i_Rel t u' (nI n, ys, w, ym, yn, yo, yz)) (nI n, ys, w, ym, yn, yo, yz) v1 a1 z) (nI n, xs, xh, xk, xy, (fun k => by_n (w k)), xm, xt, xp, kp, kq, kn, ke, kd, kf, kb, kw) v1 a1 z := by
  have hR : ∀ kw', i_Rel t (nI n, xs, xh, xk, xy, (fun k => by_n (w k)), xm, xt, xp, kp, kq, kn, ke, kd, kf, kb, kw') (nI n, ys, w, ym, yn, yo, yz) := fun kw' => rl_in hW hH hK
  unfold wpX_raise wpY_raise
  dsimp only
  rcases ks_k (xl := nI n) (xs := xs) (xh := xh) (xk := xk) (xy := xy) (xw := (fun k => by_n (w k))) (xm := xm) (xt := xt) (xp := xp) (kp := kp) (kq := kq) (kn := kn) (ke := ke) (kd := kd) (kf := kf) (kb := kb) (kw := kw) (yl := nI n) (ys := ys) (yw := w) (ym := ym) (yn := yn) (yo := yo) (yz := yz) v1 hK with ⟨hX, hY⟩ | ⟨k, P, Q, E, D, DP, DQ, B, hk, rfl, hF, hX, hY⟩
  · exact hX _ (br_t rfl (hY _ (br_f (by decide) ⟨rfl, hR kw⟩)))
  refine hX _ (br_f (by decide) ?_)
  by_cases h0 : a1 < 0
  · exact br_t h0 (hY _ (br_t rfl (br_t h0 ⟨rfl, hR kw⟩)))
  obtain ⟨M, hM, rfl⟩ := pk_lOf h0
  have hF0 := hF
  obtain ⟨⟨hP, hQ, hne⟩, ⟨a1, a2, a3, a4, a5, a6, a7, a8, a9, a10⟩, ⟨e1, e2, e3, e4, e5, e6, e7⟩, ⟨y1, y2, y3⟩, f1, f2, f3⟩ := hF
  have hN := ks_N a2 a4 hne a1 a3
  have hi : vp_in (nI k) 3 := pk_in k 3 hk
  have ec : (nI k).toNatClampNeg = k := nI_clamp (by omega)
  refine br_f h0 ⟨hi, ?_⟩
  rw [ec, e3, e4]
  by_cases hlt : M < P * Q
  · have hl : lN M < lN (P * Q) := (pk_lLT (by omega) (by omega)).mpr hlt
    refine br_t hl ?_
    have hYr : ∀ (post : Int64 → Prop) (x : Nat), x < 2 ^ 62 → post (lN (M ^ x % (P * Q))) → wY_raise_50 post (nI k) (lN x) (lN M) (nI n) ys w ym yn yo yz := fun post x hx hp => by
      unfold wY_raise_50
      rw [ec, y1]
      exact ⟨hi, po_y hM hx hN.2 hN.1 hp⟩
    by_cases hz : z = 0
    · obtain ⟨kw', hXr⟩ := po_x (xl := nI n) (xs := xs) (xh := xh) (xk := xk) (xy := xy) (xw := (fun k => by_n (w k))) (xm := xm) (xt := xt) (xp := xp) (kp := kp) (kq := kq) (kn := kn) (ke := ke) (kd := kd) (kf := kf) (kb := kb) (kw := kw) (m := M) (x := E) (b := P * Q) (by omega) (by omega) (by omega) hN.1
      refine br_t hz ⟨hi, hi, hXr _ ?_⟩
      dsimp only
      refine hY _ (br_t rfl (br_f h0 ⟨hi, ?_⟩))
      rw [y1, y2]
      exact br_t hl (br_t hz ⟨hi, hYr _ E (by omega) ⟨rfl, hR kw'⟩⟩)
    · obtain ⟨kw', hXs⟩ := ks_x (xl := nI n) (xs := xs) (xh := xh) (xk := xk) (xy := xy) (xw := (fun k => by_n (w k))) (xm := xm) (xt := xt) (xp := xp) (kp := kp) (kq := kq) (kn := kn) (ke := ke) (kd := kd) (kf := kf) (kb := kb) (kw := kw) (M := M) hF0 hk (by omega)
      refine br_f hz (hXs _ ?_)
      dsimp only
      refine hY _ (br_t rfl (br_f h0 ⟨hi, ?_⟩))
      rw [y1, y3]
      exact br_t hl (br_f hz ⟨hi, hYr _ D a10 ⟨rfl, hR kw'⟩⟩)
  · have hl : ¬ lN M < lN (P * Q) := fun z => hlt ((pk_lLT (by omega) (by omega)).mp z)
    refine br_f hl (hY _ (br_t rfl (br_f h0 ⟨hi, ?_⟩)))
    rw [y1]
    exact br_f hl ⟨rfl, hR kw⟩
end
end
section
/-! ===== what is owed ===== -/
theorem i_vc0 : wpX_init (fun u => wpY_init (fun v => i_Rel 0 u v)) := in_0
theorem i_vc_add {k : Nat} {u : SX} {v : SY} (I : i_Rel k u v) (hk : k + 5 ≤ 2560) (v1 : Int32) : wpX_add (fun r u' => wpY_add (fun r' v' => r' = r ∧ i_Rel (k + 5) u' v') v v1) u v1 :=
  ed_go (cx := fun u p => wpX_add p u v1) (cy := fun v q => wpY_add q v v1) (fun _ _ _ _ _ _ _ _ _ _ _ _ _ _ _ _ _ _ _ _ _ _ hW hH hK => ow_add v1 hW hH hK) I
theorem i_vc_at {k : Nat} {u : SX} {v : SY} (I : i_Rel k u v) (hk : k + 5 ≤ 2560) (v1 : Int32) : wpX_at (fun r => wpY_at (fun r' => r' = r ∧ i_Rel (k + 5) u v) v v1) u v1 :=
  rl_el (T := fun u v => wpX_at (fun r => wpY_at (fun r' => r' = r ∧ i_Rel (k + 5) u v) v v1) u v1) (fun n xs xh xk xy w xm xt xp kp kq kn ke kd kf kb kw ys ym yn yo yz hW hH hK => ow_at (post := fun _ => i_Rel (k + 5) (nI n, xs, xh, xk, xy, (fun k => by_n (w k)), xm, xt, xp, kp, kq, kn, ke, kd, kf, kb, kw) (nI n, ys, w, ym, yn, yo, yz)) v1 hW (fun _ => rl_in hW hH hK)) I
theorem i_vc_set {k : Nat} {u : SX} {v : SY} (I : i_Rel k u v) (hk : k + 5 ≤ 2560) (v1 : Int32) (v2 : Int32) : wpX_set (fun r u' => wpY_set (fun r' v' => r' = r ∧ i_Rel (k + 5) u' v') v v1 v2) u v1 v2 :=
  ed_go (cx := fun u p => wpX_set p u v1 v2) (cy := fun v q => wpY_set q v v1 v2) (fun _ _ _ _ _ _ _ _ _ _ _ _ _ _ _ _ _ _ _ _ _ _ hW hH hK => ow_set v1 v2 hW hH hK) I
theorem i_vc_clear {k : Nat} {u : SX} {v : SY} (I : i_Rel k u v) (hk : k + 5 ≤ 2560) : wpX_clear (fun r u' => wpY_clear (fun r' v' => r' = r ∧ i_Rel (k + 5) u' v') v) u :=
  ed_go (cx := fun u p => wpX_clear p u) (cy := fun v q => wpY_clear q v) (fun _ _ _ _ _ _ _ _ _ _ _ _ _ _ _ _ _ _ _ _ _ _ hW _ hK => ow_clear hW hK) I
theorem i_vc_wrap {k : Nat} {u : SX} {v : SY} (I : i_Rel k u v) (hk : k + 5 ≤ 2560) (v1 : Int32) (v2 : Int32) : wpX_wrap (fun r u' => wpY_wrap (fun r' v' => r' = r ∧ i_Rel (k + 5) u' v') v v1 v2) u v1 v2 :=
  ed_go (cx := fun u p => wpX_wrap p u v1 v2) (cy := fun v q => wpY_wrap q v v1 v2) (fun _ _ _ _ _ _ _ _ _ _ _ _ _ _ _ _ _ _ _ _ _ _ hW hH hK => wr_wrap v1 v2 hW hH hK) I
theorem i_vc_unwrap {k : Nat} {u : SX} {v : SY} (I : i_Rel k u v) (hk : k + 5 ≤ 2560) : wpX_unwrap (fun r u' => wpY_unwrap (fun r' v' => r' = r ∧ i_Rel (k + 5) u' v') v) u :=
  ed_go (cx := fun u p => wpX_unwrap p u) (cy := fun v q => wpY_unwrap q v) (fun _ _ _ _ _ _ _ _ _ _ _ _ _ _ _ _ _ _ _ _ _ _ hW hH hK => un_unwrap hW hH hK) I
theorem i_vc_pack {k : Nat} {u : SX} {v : SY} (I : i_Rel k u v) (hk : k + 5 ≤ 2560) : wpX_pack (fun r u' => wpY_pack (fun r' v' => r' = r ∧ i_Rel (k + 5) u' v') v) u :=
  ed_go (cx := fun u p => wpX_pack p u) (cy := fun v q => wpY_pack q v) (fun _ _ _ _ _ _ _ _ _ _ _ _ _ _ _ _ _ _ _ _ _ _ hW hH hK => pc_pack hW hH hK) I
theorem i_vc_unpack {k : Nat} {u : SX} {v : SY} (I : i_Rel k u v) (hk : k + 5 ≤ 2560) : wpX_unpack (fun r u' => wpY_unpack (fun r' v' => r' = r ∧ i_Rel (k + 5) u' v') v) u :=
  ed_go (cx := fun u p => wpX_unpack p u) (cy := fun v q => wpY_unpack q v) (fun _ _ _ _ _ _ _ _ _ _ _ _ _ _ _ _ _ _ _ _ _ _ hW hH hK => up_unpack hW hH hK) I
theorem i_vc_hash {k : Nat} {u : SX} {v : SY} (I : i_Rel k u v) (hk : k + 5 ≤ 2560) : wpX_hash (fun r u' => wpY_hash (fun r' => r' = r ∧ i_Rel (k + 5) u' v) v) u :=
  rl_el (T := fun u v => wpX_hash (fun r u' => wpY_hash (fun r' => r' = r ∧ i_Rel (k + 5) u' v) v) u) (fun _ _ _ _ _ _ _ _ _ _ _ _ _ _ _ _ _ _ _ _ _ _ hW hH hK => ow_hash hW hH hK) I
theorem i_vc_stretch {k : Nat} {u : SX} {v : SY} (I : i_Rel k u v) (hk : k + 5 ≤ 2560) (v1 : Int32) (v2 : Int32) : wpX_stretch (fun r => wpY_stretch (fun r' => r' = r ∧ i_Rel (k + 5) u v) v v1 v2) u v1 v2 :=
  rl_el (T := fun u v => wpX_stretch (fun r => wpY_stretch (fun r' => r' = r ∧ i_Rel (k + 5) u v) v v1 v2) u v1 v2) (fun n xs xh xk xy w xm xt xp kp kq kn ke kd kf kb kw ys ym yn yo yz hW hH hK => st_stretch (post := fun _ => i_Rel (k + 5) (nI n, xs, xh, xk, xy, (fun k => by_n (w k)), xm, xt, xp, kp, kq, kn, ke, kd, kf, kb, kw) (nI n, ys, w, ym, yn, yo, yz)) v1 v2 hW (fun _ => rl_in hW hH hK)) I
theorem i_vc_encipher {k : Nat} {u : SX} {v : SY} (I : i_Rel k u v) (hk : k + 5 ≤ 2560) (v1 : Int32) (v2 : Int32) : wpX_encipher (fun r u' => wpY_encipher (fun r' v' => r' = r ∧ i_Rel (k + 5) u' v') v v1 v2) u v1 v2 :=
  ed_go (cx := fun u p => wpX_encipher p u v1 v2) (cy := fun v q => wpY_encipher q v v1 v2) (fun _ _ _ _ _ _ _ _ _ _ _ _ _ _ _ _ _ _ _ _ _ _ hW hH hK => ec_enc v1 v2 hW hH hK) I
theorem i_vc_decipher {k : Nat} {u : SX} {v : SY} (I : i_Rel k u v) (hk : k + 5 ≤ 2560) (v1 : Int32) : wpX_decipher (fun r u' => wpY_decipher (fun r' v' => r' = r ∧ i_Rel (k + 5) u' v') v v1) u v1 :=
  ed_go (cx := fun u p => wpX_decipher p u v1) (cy := fun v q => wpY_decipher q v v1) (fun _ _ _ _ _ _ _ _ _ _ _ _ _ _ _ _ _ _ _ _ _ _ hW hH hK => dc_dec v1 hW hH hK) I
theorem i_vc_key {k : Nat} {u : SX} {v : SY} (I : i_Rel k u v) (hk : k + 5 ≤ 2560) (v1 : Int32) (v2 : Int32) (v3 : Int32) (v4 : Int32) : wpX_key (fun r u' => wpY_key (fun r' v' => r' = r ∧ i_Rel (k + 5) u' v') v v1 v2 v3 v4) u v1 v2 v3 v4 :=
  ed_go (cx := fun u p => wpX_key p u v1 v2 v3 v4) (cy := fun v q => wpY_key q v v1 v2 v3 v4) (fun _ _ _ _ _ _ _ _ _ _ _ _ _ _ _ _ _ _ _ _ _ _ hW hH hK => ky_key v1 v2 v3 v4 hW hH hK) I
theorem i_vc_sign {k : Nat} {u : SX} {v : SY} (I : i_Rel k u v) (hk : k + 5 ≤ 2560) (v1 : Int32) : wpX_sign (fun r u' => wpY_sign (fun r' v' => r' = r ∧ i_Rel (k + 5) u' v') v v1) u v1 :=
  ed_go (cx := fun u p => wpX_sign p u v1) (cy := fun v q => wpY_sign q v v1) (fun _ _ _ _ _ _ _ _ _ _ _ _ _ _ _ _ _ _ _ _ _ _ hW hH hK => sg_sign v1 hW hH hK) I
theorem i_vc_verify {k : Nat} {u : SX} {v : SY} (I : i_Rel k u v) (hk : k + 5 ≤ 2560) (v1 : Int32) : wpX_verify (fun r u' => wpY_verify (fun r' v' => r' = r ∧ i_Rel (k + 5) u' v') v v1) u v1 :=
  ed_go (cx := fun u p => wpX_verify p u v1) (cy := fun v q => wpY_verify q v v1) (fun _ _ _ _ _ _ _ _ _ _ _ _ _ _ _ _ _ _ _ _ _ _ hW hH hK => vf_verify v1 hW hH hK) I
theorem i_vc_raise {k : Nat} {u : SX} {v : SY} (I : i_Rel k u v) (hk : k + 5 ≤ 2560) (v1 : Int32) (a1 : Int64) (v4 : Int32) : wpX_raise (fun r u' => wpY_raise (fun r' => r' = r ∧ i_Rel (k + 5) u' v) v v1 a1 (lw_bz v4)) u v1 a1 (lw_bz v4) :=
  rl_el (T := fun u v => wpX_raise (fun r u' => wpY_raise (fun r' => r' = r ∧ i_Rel (k + 5) u' v) v v1 a1 (lw_bz v4)) u v1 a1 (lw_bz v4)) (fun _ _ _ _ _ _ _ _ _ _ _ _ _ _ _ _ _ _ _ _ _ _ hW hH hK => vf_raise v1 a1 (lw_bz v4) hW hH hK) I
theorem i_vc_letters {k : Nat} {u : SX} {v : SY} (I : i_Rel k u v) (hk : k + 5 ≤ 2560) : wpX_letters (fun r u' => wpY_letters (fun r' v' => r' = r ∧ i_Rel (k + 5) u' v') v) u :=
  ed_go (cx := fun u p => wpX_letters p u) (cy := fun v q => wpY_letters q v) (fun _ _ _ _ _ _ _ _ _ _ _ _ _ _ _ _ _ _ _ _ _ _ hW hH hK => lt_letters hW hH hK) I
theorem i_vc_plain {k : Nat} {u : SX} {v : SY} (I : i_Rel k u v) (hk : k + 5 ≤ 2560) : wpX_plain (fun r u' => wpY_plain (fun r' v' => r' = r ∧ i_Rel (k + 5) u' v') v) u :=
  ed_go (cx := fun u p => wpX_plain p u) (cy := fun v q => wpY_plain q v) (fun _ _ _ _ _ _ _ _ _ _ _ _ _ _ _ _ _ _ _ _ _ _ hW hH hK => pl_plain hW hH hK) I
end

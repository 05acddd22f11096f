section
/-! pure rows to paste: stores, nI and lN arithmetic, masks, shifts, narrowing, branches by naturals (pk_le, pk_lt, pk_eq), loops (lp1 .. lp16: the measure of the state; rp1 ..: recursion), negatives. Take what you need -/
theorem pk_us {f : Nat → Int32} {k : Nat} {x : Int32} : upd f k x k = x := if_pos rfl
theorem pk_un {f : Nat → Int32} {k j : Nat} {x : Int32} (h : j ≠ k) : upd f k x j = f j := if_neg h
theorem pk_uLs {f : Nat → Int64} {k : Nat} {x : Int64} : vp_updL f k x k = x := if_pos rfl
theorem pk_uLn {f : Nat → Int64} {k j : Nat} {x : Int64} (h : j ≠ k) : vp_updL f k x j = f j := if_neg h
theorem pk_sub {a b : Nat} (h : b ≤ a) : nI a - nI b = nI (a - b) := by
  obtain ⟨c, rfl⟩ : ∃ c, a = c + b := ⟨a - b, by omega⟩
  rw [← nI_add, Int32.add_sub_cancel, Nat.add_sub_cancel]
theorem pk_m1 (n : Nat) : nI (n + 1) + (-1) = nI n := by
  rw [← nI_1, Int32.add_assoc, show (1 : Int32) + (-1) = 0 from rfl, Int32.add_zero]
theorem pk_mul (a b : Nat) : nI a * nI b = nI (a * b) := (Int32.ofNat_mul a b).symm
theorem pk_div {a d : Nat} (ha : a < 2 ^ 31) (h0 : 0 < d) (hd : d < 2 ^ 31) : nI a / nI d = nI (a / d) := by
  apply Int32.toInt_inj.mp
  rw [lg_idiv_nonneg (by rw [nI_toInt ha]; omega) (by rw [nI_toInt hd]; omega), nI_toInt ha, nI_toInt hd, nI_toInt (Nat.lt_of_le_of_lt (Nat.div_le_self a d) ha)]
  first | rfl | exact (Int.natCast_ediv _ _).symm
theorem pk_rem {a d : Nat} (ha : a < 2 ^ 31) (h0 : 0 < d) (hd : d < 2 ^ 31) : nI a - nI a / nI d * nI d = nI (a % d) := by
  rw [pk_div ha h0 hd, pk_mul, pk_sub (Nat.div_mul_le_self a d)]
  exact congrArg nI (by have := Nat.div_add_mod' a d; omega)
theorem pk_sub_toInt {a b : Nat} (ha : a < 2 ^ 30) (hb : b < 2 ^ 30) : (nI a - nI b).toInt = (a : Int) - b := by
  rw [Int32.toInt_sub, nI_toInt (by omega), nI_toInt (by omega)]
  exact Int.bmod_eq_of_le (by omega) (by omega)
theorem pk_sneg {a b : Nat} (hb : b < 2 ^ 30) (h : a < b) : nI a - nI b < 0 := by
  rw [Int32.lt_iff_toInt_lt, pk_sub_toInt (by omega) hb, show (0 : Int32).toInt = 0 from by decide]
  omega
theorem pk_ix (x : Int32) {n : Nat} (hn : n < 2 ^ 31) : x < 0 ∨ nI n ≤ x ∨ ∃ j : Nat, j < n ∧ x = nI j := by
  by_cases h : x < 0
  · exact Or.inl h
  · obtain ⟨j, hj, rfl⟩ := nI_of h
    by_cases h2 : j < n
    · exact Or.inr (Or.inr ⟨j, h2, rfl⟩)
    · exact Or.inr (Or.inl (nI_le (by omega) hj))
theorem pk_le {x y : Int32} {A B : Prop} (a b : Nat) (f : a ≤ b → A) (g : b < a → B) (hx : x = nI a := by rfl) (hy : y = nI b := by rfl) (ha : a < 2 ^ 31 := by omega) (hb : b < 2 ^ 31 := by omega) : (x ≤ y → A) ∧ (¬ x ≤ y → B) := by
  subst hx hy
  rw [nI_leI ha hb]
  exact ⟨f, fun z => g (by omega)⟩
theorem pk_lt {x y : Int32} {A B : Prop} (a b : Nat) (f : a < b → A) (g : b ≤ a → B) (hx : x = nI a := by rfl) (hy : y = nI b := by rfl) (ha : a < 2 ^ 31 := by omega) (hb : b < 2 ^ 31 := by omega) : (x < y → A) ∧ (¬ x < y → B) := by
  subst hx hy
  rw [nI_ltI ha hb]
  exact ⟨f, fun z => g (by omega)⟩
theorem pk_eq {x y : Int32} {A B : Prop} (a b : Nat) (f : a = b → A) (g : a ≠ b → B) (hx : x = nI a := by rfl) (hy : y = nI b := by rfl) (ha : a < 2 ^ 31 := by omega) (hb : b < 2 ^ 31 := by omega) : (x = y → A) ∧ (¬ x = y → B) := by
  subst hx hy
  rw [nI_eq ha hb]
  exact ⟨f, g⟩
theorem pk_in {x : Int32} (n N : Nat) (h : n < N) (hx : x = nI n := by rfl) (hN : N < 2 ^ 31 := by omega) : vp_in x N := by
  subst hx
  exact vp_in_nI h hN
theorem pk_cl {x : Int32} (n : Nat) (hx : x = nI n := by rfl) (h : n < 2 ^ 31 := by omega) : x.toNatClampNeg = n := by
  subst hx
  exact nI_clamp h
theorem pk_tn {n : Nat} (h : n < 2 ^ 32) : (nI n).toBitVec.toNat = n := Nat.mod_eq_of_lt h
theorem pk_and (x : Int32) {m : Int32} (k : Nat) (hm : m.toBitVec.toNat = 2 ^ k - 1) : x &&& m = nI (x.toBitVec.toNat % 2 ^ k) := by
  apply Int32.toBitVec_inj.mp
  apply BitVec.eq_of_toNat_eq
  rw [Int32.toBitVec_and, BitVec.toNat_and, hm, Nat.and_two_pow_sub_one_eq_mod]
  show _ = (BitVec.ofNat 32 _).toNat
  rw [BitVec.toNat_ofNat]
  exact (Nat.mod_eq_of_lt (Nat.lt_of_le_of_lt (Nat.mod_le _ _) x.toBitVec.isLt)).symm
theorem pk_andN {n : Nat} (h : n < 2 ^ 32) {m : Int32} (k : Nat) (hm : m.toBitVec.toNat = 2 ^ k - 1) : nI n &&& m = nI (n % 2 ^ k) := by
  rw [pk_and _ k hm, pk_tn h]
theorem pk_andE (x : Int32) {m : Int32} (k : Nat) (hm : m.toBitVec.toNat = 2 ^ k - 1) : ∃ j : Nat, j < 2 ^ k ∧ x &&& m = nI j := ⟨_, Nat.mod_lt _ (Nat.two_pow_pos k), pk_and x k hm⟩
theorem pk_andIn (x : Int32) {m : Int32} (k : Nat) (hm : m.toBitVec.toNat = 2 ^ k - 1) (hk : k ≤ 30) : vp_in (x &&& m) (2 ^ k) := by
  obtain ⟨j, hj, e⟩ := pk_andE x k hm
  rw [e]
  exact vp_in_nI hj (Nat.lt_of_le_of_lt (Nat.pow_le_pow_right (by decide) hk) (by decide))
theorem pk_shl (a s : Int32) (k : Nat) (hs : (s.toBitVec.smod 32).toNat = k) : (a <<< s).toBitVec.toNat = a.toBitVec.toNat * 2 ^ k % 2 ^ 32 := by
  show (a.toBitVec <<< (s.toBitVec.smod 32).toNat).toNat = _
  rw [hs, BitVec.toNat_shiftLeft, Nat.shiftLeft_eq]
theorem pk_shlN {n : Nat} (s : Int32) (k : Nat) (hs : (s.toBitVec.smod 32).toNat = k) (h : n * 2 ^ k < 2 ^ 32) : nI n <<< s = nI (n * 2 ^ k) := by
  apply Int32.toBitVec_inj.mp
  apply BitVec.eq_of_toNat_eq
  have hn : n < 2 ^ 32 := Nat.lt_of_le_of_lt (Nat.le_mul_of_pos_right n (Nat.two_pow_pos k)) h
  rw [pk_shl _ _ k hs, pk_tn hn, pk_tn h, Nat.mod_eq_of_lt h]
theorem pk_shr (a s : Int32) (k : Nat) (hs : (s.toBitVec.smod 32).toNat = k) : (a >>> s).toInt = a.toInt >>> k := by
  show (a.toBitVec.sshiftRight (s.toBitVec.smod 32).toNat).toInt = _
  rw [hs, BitVec.toInt_sshiftRight]
  rfl
theorem pk_shrN {n : Nat} (h : n < 2 ^ 31) (s : Int32) (k : Nat) (hs : (s.toBitVec.smod 32).toNat = k) : nI n >>> s = nI (n / 2 ^ k) := by
  apply Int32.toInt_inj.mp
  have h2 : n / 2 ^ k ≤ n := Nat.div_le_self _ _
  rw [pk_shr _ _ k hs, nI_toInt h, nI_toInt (by omega), Int.shiftRight_eq_div_pow]
  rfl
theorem pk_ushr (x s : Int32) (k : Nat) (hs : ((s.toUInt32 &&& Int32.toUInt32 31).toBitVec % 32).toNat = k) : (x.toUInt32 >>> (s.toUInt32 &&& Int32.toUInt32 31)).toInt32.toBitVec.toNat = x.toBitVec.toNat / 2 ^ k := by
  have e : (x.toUInt32 >>> (s.toUInt32 &&& Int32.toUInt32 31)).toInt32.toBitVec = x.toBitVec >>> k := by
    rw [← hs]
    exact UInt32.toBitVec_shiftRight _ _
  rw [e, BitVec.toNat_ushiftRight, Nat.shiftRight_eq_div_pow]
theorem pk_ushrN {n : Nat} (hn : n < 2 ^ 32) (s : Int32) (k : Nat) (hs : ((s.toUInt32 &&& Int32.toUInt32 31).toBitVec % 32).toNat = k) : ((nI n).toUInt32 >>> (s.toUInt32 &&& Int32.toUInt32 31)).toInt32 = nI (n / 2 ^ k) := by
  apply Int32.toBitVec_inj.mp
  apply BitVec.eq_of_toNat_eq
  rw [pk_ushr _ s k hs, pk_tn hn, pk_tn (Nat.lt_of_le_of_lt (Nat.div_le_self _ _) hn)]
theorem pk_nb (z : Int32) : narrow .byte (.int z.toInt8.toInt32) = .int z.toInt8.toInt32 := congrArg Value.int (by simp)
theorem pk_ns (z : Int32) : narrow .short (.int z.toInt16.toInt32) = .int z.toInt16.toInt32 := congrArg Value.int (by simp)
theorem pk_fb (r : Int32) : fits .byte (.int r.toInt8.toInt32) = true := by
  have ⟨a, b⟩ := lg_i2b_range r
  have h1 : (-128 : Int32).toInt = -128 := by decide
  have h2 : (127 : Int32).toInt = 127 := by decide
  simp only [fits, Bool.and_eq_true, decide_eq_true_eq, Int32.le_iff_toInt_le, h1, h2]
  omega
theorem pk_fs (r : Int32) : fits .short (.int r.toInt16.toInt32) = true := by
  have ⟨a, b⟩ := lg_i2s_range r
  have h1 : (-32768 : Int32).toInt = -32768 := by decide
  have h2 : (32767 : Int32).toInt = 32767 := by decide
  simp only [fits, Bool.and_eq_true, decide_eq_true_eq, Int32.le_iff_toInt_le, h1, h2]
  omega
theorem pk_charN {q : Nat} (hq : q < 65536) : narrow .char (.int (nI q)) = .int (nI q) ∧ fits .char (.int (nI q)) = true := by
  constructor
  · have e : (nI q).toUInt32.toUInt16.toUInt32.toInt32 = nI q := by
      apply Int32.toBitVec_inj.mp
      apply BitVec.eq_of_toNat_eq
      show (nI q).toUInt32.toUInt16.toUInt32.toNat = q % 2 ^ 32
      rw [UInt16.toNat_toUInt32, UInt32.toNat_toUInt16, show (nI q).toUInt32.toNat = q % 2 ^ 32 from rfl]
      omega
    exact congrArg Value.int e
  · have a : (0 : Int32) ≤ nI q := nI_pos' (by omega)
    have b : nI q ≤ 65535 := nI_le (b := 65535) (by omega) (by decide)
    show (decide ((0 : Int32) ≤ nI q) && decide (nI q ≤ 65535)) = true
    rw [decide_eq_true a, decide_eq_true b]
    rfl
theorem pk_char (x : Int32) : (x.toUInt32 % 65536).toInt32 = nI (x.toBitVec.toNat % 65536) := by
  apply Int32.toBitVec_inj.mp
  apply BitVec.eq_of_toNat_eq
  rw [pk_tn (by omega)]
  show (x.toUInt32 % 65536).toNat = _
  rw [UInt32.toNat_mod]
  rfl
theorem pk_nc (x : Int32) : narrow .char (.int (x.toUInt32 % 65536).toInt32) = .int (x.toUInt32 % 65536).toInt32 := by
  rw [pk_char]
  exact (pk_charN (Nat.mod_lt _ (by decide))).1
theorem pk_fc (x : Int32) : fits .char (.int (x.toUInt32 % 65536).toInt32) = true := by
  rw [pk_char]
  exact (pk_charN (Nat.mod_lt _ (by decide))).2
theorem pk_vb (z : Int32) : vp_nar .byte z.toInt8.toInt32 = z.toInt8.toInt32 := by rw [vp_nar_byte]; simp
theorem pk_vs (z : Int32) : vp_nar .short z.toInt16.toInt32 = z.toInt16.toInt32 := by rw [vp_nar_short]; simp
theorem pk_vc (z : Int32) : vp_nar .char (z.toUInt32 % 65536).toInt32 = (z.toUInt32 % 65536).toInt32 := Value.int.inj (pk_nc z)
theorem pk_lT {n : Nat} (h : n < 2 ^ 63) : (lN n).toInt = (n : Int) := lg_ofNat_toInt h
theorem pk_lLT {a b : Nat} (ha : a < 2 ^ 63) (hb : b < 2 ^ 63) : lN a < lN b ↔ a < b := by
  rw [Int64.lt_iff_toInt_lt, pk_lT ha, pk_lT hb]; omega
theorem pk_lLE {a b : Nat} (ha : a < 2 ^ 63) (hb : b < 2 ^ 63) : lN a ≤ lN b ↔ a ≤ b := by
  rw [Int64.le_iff_toInt_le, pk_lT ha, pk_lT hb]; omega
theorem pk_lEQ {a b : Nat} (ha : a < 2 ^ 63) (hb : b < 2 ^ 63) : lN a = lN b ↔ a = b := by
  rw [← Int64.toInt_inj, pk_lT ha, pk_lT hb]; omega
theorem pk_lOf {x : Int64} (h : ¬ x < 0) : ∃ k : Nat, k < 2 ^ 63 ∧ x = lN k := by
  rw [Int64.lt_iff_toInt_lt] at h
  have h0 : (0 : Int64).toInt = 0 := by decide
  have hx := Int64.toInt_lt x
  refine ⟨x.toInt.toNat, by omega, Int64.toInt_inj.mp ?_⟩
  rw [pk_lT (by omega)]
  omega
theorem pk_lDiv {a b : Nat} (ha : a < 2 ^ 63) (h0 : 0 < b) (hb : b < 2 ^ 63) : lN a / lN b = lN (a / b) := by
  apply Int64.toInt_inj.mp
  rw [lg_ldiv_nonneg (by rw [pk_lT ha]; omega) (by rw [pk_lT hb]; omega), pk_lT ha, pk_lT hb, pk_lT (Nat.lt_of_le_of_lt (Nat.div_le_self a b) ha)]
  rfl
theorem pk_lRem {a b : Nat} (ha : a < 2 ^ 63) (h0 : 0 < b) (hb : b < 2 ^ 63) : lN a - lN a / lN b * lN b = lN (a % b) := by
  rw [pk_lDiv ha h0 hb, lN_mul, lN_sub (Nat.div_mul_le_self a b)]
  exact congrArg lN (by have := Nat.div_add_mod' a b; omega)
theorem pk_loop {σ : Type} (W : Nat → Nat → σ → Prop) (I : Nat → σ → Prop) (e i0 : Nat) (s : σ) (hi : i0 ≤ e) (h0 : I i0 s) (hx : ∀ n s, I e s → W (n + 1) e s)
    (hs : ∀ n i s, i < e → I i s → (∀ s', I (i + 1) s' → W n (i + 1) s') → W (n + 1) i s) : ∃ n, W n i0 s :=
  ⟨e + 1, loop_i W I e hx hs (e + 1) i0 s hi (by omega) h0⟩
theorem pk_loopD {σ : Type} (W : Nat → Nat → σ → Prop) (I : Nat → σ → Prop) (hx : ∀ n s, I 0 s → W (n + 1) 0 s)
    (hs : ∀ n i s, I (i + 1) s → (∀ s', I i s' → W n i s') → W (n + 1) (i + 1) s) : ∀ (e : Nat) (s : σ), I e s → W (e + 1) e s := by
  intro e
  induction e with
  | zero => exact fun s h => hx 0 s h
  | succ e ih => exact fun s h => hs (e + 1) e s h (fun s' h' => ih s' h')
theorem lp1 {A1 : Type} (W : Nat → A1 → Prop) (I : A1 → Prop) (μ : A1 → Nat) (hs : ∀ (n : Nat) (a1 : A1), I a1 → (∀ (b1 : A1), I b1 → μ b1 < μ a1 → W n b1) → W (n + 1) a1) (a1 : A1) (h : I a1) : ∃ n, W n a1 :=
  loop_m (σ := A1) (fun n s => W n s) (fun s => I s) (fun s => μ s) (fun n s hI hk => hs n s hI (fun b1 h9 hm => hk b1 h9 hm)) a1 h
theorem lp2 {A1 A2 : Type} (W : Nat → A1 → A2 → Prop) (I : A1 → A2 → Prop) (μ : A1 → A2 → Nat) (hs : ∀ (n : Nat) (a1 : A1) (a2 : A2), I a1 a2 → (∀ (b1 : A1) (b2 : A2), I b1 b2 → μ b1 b2 < μ a1 a2 → W n b1 b2) → W (n + 1) a1 a2) (a1 : A1) (a2 : A2) (h : I a1 a2) : ∃ n, W n a1 a2 :=
  loop_m (σ := A1 × A2) (fun n s => W n s.1 s.2) (fun s => I s.1 s.2) (fun s => μ s.1 s.2) (fun n s hI hk => hs n s.1 s.2 hI (fun b1 b2 h9 hm => hk (b1, b2) h9 hm)) (a1, a2) h
theorem lp3 {A1 A2 A3 : Type} (W : Nat → A1 → A2 → A3 → Prop) (I : A1 → A2 → A3 → Prop) (μ : A1 → A2 → A3 → Nat) (hs : ∀ (n : Nat) (a1 : A1) (a2 : A2) (a3 : A3), I a1 a2 a3 → (∀ (b1 : A1) (b2 : A2) (b3 : A3), I b1 b2 b3 → μ b1 b2 b3 < μ a1 a2 a3 → W n b1 b2 b3) → W (n + 1) a1 a2 a3) (a1 : A1) (a2 : A2) (a3 : A3) (h : I a1 a2 a3) : ∃ n, W n a1 a2 a3 :=
  loop_m (σ := A1 × A2 × A3) (fun n s => W n s.1 s.2.1 s.2.2) (fun s => I s.1 s.2.1 s.2.2) (fun s => μ s.1 s.2.1 s.2.2) (fun n s hI hk => hs n s.1 s.2.1 s.2.2 hI (fun b1 b2 b3 h9 hm => hk (b1, b2, b3) h9 hm)) (a1, a2, a3) h
theorem lp4 {A1 A2 A3 A4 : Type} (W : Nat → A1 → A2 → A3 → A4 → Prop) (I : A1 → A2 → A3 → A4 → Prop) (μ : A1 → A2 → A3 → A4 → Nat) (hs : ∀ (n : Nat) (a1 : A1) (a2 : A2) (a3 : A3) (a4 : A4), I a1 a2 a3 a4 → (∀ (b1 : A1) (b2 : A2) (b3 : A3) (b4 : A4), I b1 b2 b3 b4 → μ b1 b2 b3 b4 < μ a1 a2 a3 a4 → W n b1 b2 b3 b4) → W (n + 1) a1 a2 a3 a4) (a1 : A1) (a2 : A2) (a3 : A3) (a4 : A4) (h : I a1 a2 a3 a4) : ∃ n, W n a1 a2 a3 a4 :=
  loop_m (σ := A1 × A2 × A3 × A4) (fun n s => W n s.1 s.2.1 s.2.2.1 s.2.2.2) (fun s => I s.1 s.2.1 s.2.2.1 s.2.2.2) (fun s => μ s.1 s.2.1 s.2.2.1 s.2.2.2) (fun n s hI hk => hs n s.1 s.2.1 s.2.2.1 s.2.2.2 hI (fun b1 b2 b3 b4 h9 hm => hk (b1, b2, b3, b4) h9 hm)) (a1, a2, a3, a4) h
theorem lp5 {A1 A2 A3 A4 A5 : Type} (W : Nat → A1 → A2 → A3 → A4 → A5 → Prop) (I : A1 → A2 → A3 → A4 → A5 → Prop) (μ : A1 → A2 → A3 → A4 → A5 → Nat) (hs : ∀ (n : Nat) (a1 : A1) (a2 : A2) (a3 : A3) (a4 : A4) (a5 : A5), I a1 a2 a3 a4 a5 → (∀ (b1 : A1) (b2 : A2) (b3 : A3) (b4 : A4) (b5 : A5), I b1 b2 b3 b4 b5 → μ b1 b2 b3 b4 b5 < μ a1 a2 a3 a4 a5 → W n b1 b2 b3 b4 b5) → W (n + 1) a1 a2 a3 a4 a5) (a1 : A1) (a2 : A2) (a3 : A3) (a4 : A4) (a5 : A5) (h : I a1 a2 a3 a4 a5) : ∃ n, W n a1 a2 a3 a4 a5 :=
  loop_m (σ := A1 × A2 × A3 × A4 × A5) (fun n s => W n s.1 s.2.1 s.2.2.1 s.2.2.2.1 s.2.2.2.2) (fun s => I s.1 s.2.1 s.2.2.1 s.2.2.2.1 s.2.2.2.2) (fun s => μ s.1 s.2.1 s.2.2.1 s.2.2.2.1 s.2.2.2.2) (fun n s hI hk => hs n s.1 s.2.1 s.2.2.1 s.2.2.2.1 s.2.2.2.2 hI (fun b1 b2 b3 b4 b5 h9 hm => hk (b1, b2, b3, b4, b5) h9 hm)) (a1, a2, a3, a4, a5) h
theorem lp6 {A1 A2 A3 A4 A5 A6 : Type} (W : Nat → A1 → A2 → A3 → A4 → A5 → A6 → Prop) (I : A1 → A2 → A3 → A4 → A5 → A6 → Prop) (μ : A1 → A2 → A3 → A4 → A5 → A6 → Nat) (hs : ∀ (n : Nat) (a1 : A1) (a2 : A2) (a3 : A3) (a4 : A4) (a5 : A5) (a6 : A6), I a1 a2 a3 a4 a5 a6 → (∀ (b1 : A1) (b2 : A2) (b3 : A3) (b4 : A4) (b5 : A5) (b6 : A6), I b1 b2 b3 b4 b5 b6 → μ b1 b2 b3 b4 b5 b6 < μ a1 a2 a3 a4 a5 a6 → W n b1 b2 b3 b4 b5 b6) → W (n + 1) a1 a2 a3 a4 a5 a6) (a1 : A1) (a2 : A2) (a3 : A3) (a4 : A4) (a5 : A5) (a6 : A6) (h : I a1 a2 a3 a4 a5 a6) : ∃ n, W n a1 a2 a3 a4 a5 a6 :=
  loop_m (σ := A1 × A2 × A3 × A4 × A5 × A6) (fun n s => W n s.1 s.2.1 s.2.2.1 s.2.2.2.1 s.2.2.2.2.1 s.2.2.2.2.2) (fun s => I s.1 s.2.1 s.2.2.1 s.2.2.2.1 s.2.2.2.2.1 s.2.2.2.2.2) (fun s => μ s.1 s.2.1 s.2.2.1 s.2.2.2.1 s.2.2.2.2.1 s.2.2.2.2.2) (fun n s hI hk => hs n s.1 s.2.1 s.2.2.1 s.2.2.2.1 s.2.2.2.2.1 s.2.2.2.2.2 hI (fun b1 b2 b3 b4 b5 b6 h9 hm => hk (b1, b2, b3, b4, b5, b6) h9 hm)) (a1, a2, a3, a4, a5, a6) h
theorem lp7 {A1 A2 A3 A4 A5 A6 A7 : Type} (W : Nat → A1 → A2 → A3 → A4 → A5 → A6 → A7 → Prop) (I : A1 → A2 → A3 → A4 → A5 → A6 → A7 → Prop) (μ : A1 → A2 → A3 → A4 → A5 → A6 → A7 → Nat) (hs : ∀ (n : Nat) (a1 : A1) (a2 : A2) (a3 : A3) (a4 : A4) (a5 : A5) (a6 : A6) (a7 : A7), I a1 a2 a3 a4 a5 a6 a7 → (∀ (b1 : A1) (b2 : A2) (b3 : A3) (b4 : A4) (b5 : A5) (b6 : A6) (b7 : A7), I b1 b2 b3 b4 b5 b6 b7 → μ b1 b2 b3 b4 b5 b6 b7 < μ a1 a2 a3 a4 a5 a6 a7 → W n b1 b2 b3 b4 b5 b6 b7) → W (n + 1) a1 a2 a3 a4 a5 a6 a7) (a1 : A1) (a2 : A2) (a3 : A3) (a4 : A4) (a5 : A5) (a6 : A6) (a7 : A7) (h : I a1 a2 a3 a4 a5 a6 a7) : ∃ n, W n a1 a2 a3 a4 a5 a6 a7 :=
  loop_m (σ := A1 × A2 × A3 × A4 × A5 × A6 × A7) (fun n s => W n s.1 s.2.1 s.2.2.1 s.2.2.2.1 s.2.2.2.2.1 s.2.2.2.2.2.1 s.2.2.2.2.2.2) (fun s => I s.1 s.2.1 s.2.2.1 s.2.2.2.1 s.2.2.2.2.1 s.2.2.2.2.2.1 s.2.2.2.2.2.2) (fun s => μ s.1 s.2.1 s.2.2.1 s.2.2.2.1 s.2.2.2.2.1 s.2.2.2.2.2.1 s.2.2.2.2.2.2) (fun n s hI hk => hs n s.1 s.2.1 s.2.2.1 s.2.2.2.1 s.2.2.2.2.1 s.2.2.2.2.2.1 s.2.2.2.2.2.2 hI (fun b1 b2 b3 b4 b5 b6 b7 h9 hm => hk (b1, b2, b3, b4, b5, b6, b7) h9 hm)) (a1, a2, a3, a4, a5, a6, a7) h
theorem lp8 {A1 A2 A3 A4 A5 A6 A7 A8 : Type} (W : Nat → A1 → A2 → A3 → A4 → A5 → A6 → A7 → A8 → Prop) (I : A1 → A2 → A3 → A4 → A5 → A6 → A7 → A8 → Prop) (μ : A1 → A2 → A3 → A4 → A5 → A6 → A7 → A8 → Nat) (hs : ∀ (n : Nat) (a1 : A1) (a2 : A2) (a3 : A3) (a4 : A4) (a5 : A5) (a6 : A6) (a7 : A7) (a8 : A8), I a1 a2 a3 a4 a5 a6 a7 a8 → (∀ (b1 : A1) (b2 : A2) (b3 : A3) (b4 : A4) (b5 : A5) (b6 : A6) (b7 : A7) (b8 : A8), I b1 b2 b3 b4 b5 b6 b7 b8 → μ b1 b2 b3 b4 b5 b6 b7 b8 < μ a1 a2 a3 a4 a5 a6 a7 a8 → W n b1 b2 b3 b4 b5 b6 b7 b8) → W (n + 1) a1 a2 a3 a4 a5 a6 a7 a8) (a1 : A1) (a2 : A2) (a3 : A3) (a4 : A4) (a5 : A5) (a6 : A6) (a7 : A7) (a8 : A8) (h : I a1 a2 a3 a4 a5 a6 a7 a8) : ∃ n, W n a1 a2 a3 a4 a5 a6 a7 a8 :=
  loop_m (σ := A1 × A2 × A3 × A4 × A5 × A6 × A7 × A8) (fun n s => W n s.1 s.2.1 s.2.2.1 s.2.2.2.1 s.2.2.2.2.1 s.2.2.2.2.2.1 s.2.2.2.2.2.2.1 s.2.2.2.2.2.2.2) (fun s => I s.1 s.2.1 s.2.2.1 s.2.2.2.1 s.2.2.2.2.1 s.2.2.2.2.2.1 s.2.2.2.2.2.2.1 s.2.2.2.2.2.2.2) (fun s => μ s.1 s.2.1 s.2.2.1 s.2.2.2.1 s.2.2.2.2.1 s.2.2.2.2.2.1 s.2.2.2.2.2.2.1 s.2.2.2.2.2.2.2) (fun n s hI hk => hs n s.1 s.2.1 s.2.2.1 s.2.2.2.1 s.2.2.2.2.1 s.2.2.2.2.2.1 s.2.2.2.2.2.2.1 s.2.2.2.2.2.2.2 hI (fun b1 b2 b3 b4 b5 b6 b7 b8 h9 hm => hk (b1, b2, b3, b4, b5, b6, b7, b8) h9 hm)) (a1, a2, a3, a4, a5, a6, a7, a8) h
theorem lp9 {A1 A2 A3 A4 A5 A6 A7 A8 A9 : Type} (W : Nat → A1 → A2 → A3 → A4 → A5 → A6 → A7 → A8 → A9 → Prop) (I : A1 → A2 → A3 → A4 → A5 → A6 → A7 → A8 → A9 → Prop) (μ : A1 → A2 → A3 → A4 → A5 → A6 → A7 → A8 → A9 → Nat) (hs : ∀ (n : Nat) (a1 : A1) (a2 : A2) (a3 : A3) (a4 : A4) (a5 : A5) (a6 : A6) (a7 : A7) (a8 : A8) (a9 : A9), I a1 a2 a3 a4 a5 a6 a7 a8 a9 → (∀ (b1 : A1) (b2 : A2) (b3 : A3) (b4 : A4) (b5 : A5) (b6 : A6) (b7 : A7) (b8 : A8) (b9 : A9), I b1 b2 b3 b4 b5 b6 b7 b8 b9 → μ b1 b2 b3 b4 b5 b6 b7 b8 b9 < μ a1 a2 a3 a4 a5 a6 a7 a8 a9 → W n b1 b2 b3 b4 b5 b6 b7 b8 b9) → W (n + 1) a1 a2 a3 a4 a5 a6 a7 a8 a9) (a1 : A1) (a2 : A2) (a3 : A3) (a4 : A4) (a5 : A5) (a6 : A6) (a7 : A7) (a8 : A8) (a9 : A9) (h : I a1 a2 a3 a4 a5 a6 a7 a8 a9) : ∃ n, W n a1 a2 a3 a4 a5 a6 a7 a8 a9 :=
  loop_m (σ := A1 × A2 × A3 × A4 × A5 × A6 × A7 × A8 × A9) (fun n s => W n s.1 s.2.1 s.2.2.1 s.2.2.2.1 s.2.2.2.2.1 s.2.2.2.2.2.1 s.2.2.2.2.2.2.1 s.2.2.2.2.2.2.2.1 s.2.2.2.2.2.2.2.2) (fun s => I s.1 s.2.1 s.2.2.1 s.2.2.2.1 s.2.2.2.2.1 s.2.2.2.2.2.1 s.2.2.2.2.2.2.1 s.2.2.2.2.2.2.2.1 s.2.2.2.2.2.2.2.2) (fun s => μ s.1 s.2.1 s.2.2.1 s.2.2.2.1 s.2.2.2.2.1 s.2.2.2.2.2.1 s.2.2.2.2.2.2.1 s.2.2.2.2.2.2.2.1 s.2.2.2.2.2.2.2.2) (fun n s hI hk => hs n s.1 s.2.1 s.2.2.1 s.2.2.2.1 s.2.2.2.2.1 s.2.2.2.2.2.1 s.2.2.2.2.2.2.1 s.2.2.2.2.2.2.2.1 s.2.2.2.2.2.2.2.2 hI (fun b1 b2 b3 b4 b5 b6 b7 b8 b9 h9 hm => hk (b1, b2, b3, b4, b5, b6, b7, b8, b9) h9 hm)) (a1, a2, a3, a4, a5, a6, a7, a8, a9) h
theorem lp10 {A1 A2 A3 A4 A5 A6 A7 A8 A9 A10 : Type} (W : Nat → A1 → A2 → A3 → A4 → A5 → A6 → A7 → A8 → A9 → A10 → Prop) (I : A1 → A2 → A3 → A4 → A5 → A6 → A7 → A8 → A9 → A10 → Prop) (μ : A1 → A2 → A3 → A4 → A5 → A6 → A7 → A8 → A9 → A10 → Nat) (hs : ∀ (n : Nat) (a1 : A1) (a2 : A2) (a3 : A3) (a4 : A4) (a5 : A5) (a6 : A6) (a7 : A7) (a8 : A8) (a9 : A9) (a10 : A10), I a1 a2 a3 a4 a5 a6 a7 a8 a9 a10 → (∀ (b1 : A1) (b2 : A2) (b3 : A3) (b4 : A4) (b5 : A5) (b6 : A6) (b7 : A7) (b8 : A8) (b9 : A9) (b10 : A10), I b1 b2 b3 b4 b5 b6 b7 b8 b9 b10 → μ b1 b2 b3 b4 b5 b6 b7 b8 b9 b10 < μ a1 a2 a3 a4 a5 a6 a7 a8 a9 a10 → W n b1 b2 b3 b4 b5 b6 b7 b8 b9 b10) → W (n + 1) a1 a2 a3 a4 a5 a6 a7 a8 a9 a10) (a1 : A1) (a2 : A2) (a3 : A3) (a4 : A4) (a5 : A5) (a6 : A6) (a7 : A7) (a8 : A8) (a9 : A9) (a10 : A10) (h : I a1 a2 a3 a4 a5 a6 a7 a8 a9 a10) : ∃ n, W n a1 a2 a3 a4 a5 a6 a7 a8 a9 a10 :=
  loop_m (σ := A1 × A2 × A3 × A4 × A5 × A6 × A7 × A8 × A9 × A10) (fun n s => W n s.1 s.2.1 s.2.2.1 s.2.2.2.1 s.2.2.2.2.1 s.2.2.2.2.2.1 s.2.2.2.2.2.2.1 s.2.2.2.2.2.2.2.1 s.2.2.2.2.2.2.2.2.1 s.2.2.2.2.2.2.2.2.2) (fun s => I s.1 s.2.1 s.2.2.1 s.2.2.2.1 s.2.2.2.2.1 s.2.2.2.2.2.1 s.2.2.2.2.2.2.1 s.2.2.2.2.2.2.2.1 s.2.2.2.2.2.2.2.2.1 s.2.2.2.2.2.2.2.2.2) (fun s => μ s.1 s.2.1 s.2.2.1 s.2.2.2.1 s.2.2.2.2.1 s.2.2.2.2.2.1 s.2.2.2.2.2.2.1 s.2.2.2.2.2.2.2.1 s.2.2.2.2.2.2.2.2.1 s.2.2.2.2.2.2.2.2.2) (fun n s hI hk => hs n s.1 s.2.1 s.2.2.1 s.2.2.2.1 s.2.2.2.2.1 s.2.2.2.2.2.1 s.2.2.2.2.2.2.1 s.2.2.2.2.2.2.2.1 s.2.2.2.2.2.2.2.2.1 s.2.2.2.2.2.2.2.2.2 hI (fun b1 b2 b3 b4 b5 b6 b7 b8 b9 b10 h9 hm => hk (b1, b2, b3, b4, b5, b6, b7, b8, b9, b10) h9 hm)) (a1, a2, a3, a4, a5, a6, a7, a8, a9, a10) h
theorem lp11 {A1 A2 A3 A4 A5 A6 A7 A8 A9 A10 A11 : Type} (W : Nat → A1 → A2 → A3 → A4 → A5 → A6 → A7 → A8 → A9 → A10 → A11 → Prop) (I : A1 → A2 → A3 → A4 → A5 → A6 → A7 → A8 → A9 → A10 → A11 → Prop) (μ : A1 → A2 → A3 → A4 → A5 → A6 → A7 → A8 → A9 → A10 → A11 → Nat) (hs : ∀ (n : Nat) (a1 : A1) (a2 : A2) (a3 : A3) (a4 : A4) (a5 : A5) (a6 : A6) (a7 : A7) (a8 : A8) (a9 : A9) (a10 : A10) (a11 : A11), I a1 a2 a3 a4 a5 a6 a7 a8 a9 a10 a11 → (∀ (b1 : A1) (b2 : A2) (b3 : A3) (b4 : A4) (b5 : A5) (b6 : A6) (b7 : A7) (b8 : A8) (b9 : A9) (b10 : A10) (b11 : A11), I b1 b2 b3 b4 b5 b6 b7 b8 b9 b10 b11 → μ b1 b2 b3 b4 b5 b6 b7 b8 b9 b10 b11 < μ a1 a2 a3 a4 a5 a6 a7 a8 a9 a10 a11 → W n b1 b2 b3 b4 b5 b6 b7 b8 b9 b10 b11) → W (n + 1) a1 a2 a3 a4 a5 a6 a7 a8 a9 a10 a11) (a1 : A1) (a2 : A2) (a3 : A3) (a4 : A4) (a5 : A5) (a6 : A6) (a7 : A7) (a8 : A8) (a9 : A9) (a10 : A10) (a11 : A11) (h : I a1 a2 a3 a4 a5 a6 a7 a8 a9 a10 a11) : ∃ n, W n a1 a2 a3 a4 a5 a6 a7 a8 a9 a10 a11 :=
  loop_m (σ := A1 × A2 × A3 × A4 × A5 × A6 × A7 × A8 × A9 × A10 × A11) (fun n s => W n s.1 s.2.1 s.2.2.1 s.2.2.2.1 s.2.2.2.2.1 s.2.2.2.2.2.1 s.2.2.2.2.2.2.1 s.2.2.2.2.2.2.2.1 s.2.2.2.2.2.2.2.2.1 s.2.2.2.2.2.2.2.2.2.1 s.2.2.2.2.2.2.2.2.2.2) (fun s => I s.1 s.2.1 s.2.2.1 s.2.2.2.1 s.2.2.2.2.1 s.2.2.2.2.2.1 s.2.2.2.2.2.2.1 s.2.2.2.2.2.2.2.1 s.2.2.2.2.2.2.2.2.1 s.2.2.2.2.2.2.2.2.2.1 s.2.2.2.2.2.2.2.2.2.2) (fun s => μ s.1 s.2.1 s.2.2.1 s.2.2.2.1 s.2.2.2.2.1 s.2.2.2.2.2.1 s.2.2.2.2.2.2.1 s.2.2.2.2.2.2.2.1 s.2.2.2.2.2.2.2.2.1 s.2.2.2.2.2.2.2.2.2.1 s.2.2.2.2.2.2.2.2.2.2) (fun n s hI hk => hs n s.1 s.2.1 s.2.2.1 s.2.2.2.1 s.2.2.2.2.1 s.2.2.2.2.2.1 s.2.2.2.2.2.2.1 s.2.2.2.2.2.2.2.1 s.2.2.2.2.2.2.2.2.1 s.2.2.2.2.2.2.2.2.2.1 s.2.2.2.2.2.2.2.2.2.2 hI (fun b1 b2 b3 b4 b5 b6 b7 b8 b9 b10 b11 h9 hm => hk (b1, b2, b3, b4, b5, b6, b7, b8, b9, b10, b11) h9 hm)) (a1, a2, a3, a4, a5, a6, a7, a8, a9, a10, a11) h
theorem lp12 {A1 A2 A3 A4 A5 A6 A7 A8 A9 A10 A11 A12 : Type} (W : Nat → A1 → A2 → A3 → A4 → A5 → A6 → A7 → A8 → A9 → A10 → A11 → A12 → Prop) (I : A1 → A2 → A3 → A4 → A5 → A6 → A7 → A8 → A9 → A10 → A11 → A12 → Prop) (μ : A1 → A2 → A3 → A4 → A5 → A6 → A7 → A8 → A9 → A10 → A11 → A12 → Nat) (hs : ∀ (n : Nat) (a1 : A1) (a2 : A2) (a3 : A3) (a4 : A4) (a5 : A5) (a6 : A6) (a7 : A7) (a8 : A8) (a9 : A9) (a10 : A10) (a11 : A11) (a12 : A12), I a1 a2 a3 a4 a5 a6 a7 a8 a9 a10 a11 a12 → (∀ (b1 : A1) (b2 : A2) (b3 : A3) (b4 : A4) (b5 : A5) (b6 : A6) (b7 : A7) (b8 : A8) (b9 : A9) (b10 : A10) (b11 : A11) (b12 : A12), I b1 b2 b3 b4 b5 b6 b7 b8 b9 b10 b11 b12 → μ b1 b2 b3 b4 b5 b6 b7 b8 b9 b10 b11 b12 < μ a1 a2 a3 a4 a5 a6 a7 a8 a9 a10 a11 a12 → W n b1 b2 b3 b4 b5 b6 b7 b8 b9 b10 b11 b12) → W (n + 1) a1 a2 a3 a4 a5 a6 a7 a8 a9 a10 a11 a12) (a1 : A1) (a2 : A2) (a3 : A3) (a4 : A4) (a5 : A5) (a6 : A6) (a7 : A7) (a8 : A8) (a9 : A9) (a10 : A10) (a11 : A11) (a12 : A12) (h : I a1 a2 a3 a4 a5 a6 a7 a8 a9 a10 a11 a12) : ∃ n, W n a1 a2 a3 a4 a5 a6 a7 a8 a9 a10 a11 a12 :=
  loop_m (σ := A1 × A2 × A3 × A4 × A5 × A6 × A7 × A8 × A9 × A10 × A11 × A12) (fun n s => W n s.1 s.2.1 s.2.2.1 s.2.2.2.1 s.2.2.2.2.1 s.2.2.2.2.2.1 s.2.2.2.2.2.2.1 s.2.2.2.2.2.2.2.1 s.2.2.2.2.2.2.2.2.1 s.2.2.2.2.2.2.2.2.2.1 s.2.2.2.2.2.2.2.2.2.2.1 s.2.2.2.2.2.2.2.2.2.2.2) (fun s => I s.1 s.2.1 s.2.2.1 s.2.2.2.1 s.2.2.2.2.1 s.2.2.2.2.2.1 s.2.2.2.2.2.2.1 s.2.2.2.2.2.2.2.1 s.2.2.2.2.2.2.2.2.1 s.2.2.2.2.2.2.2.2.2.1 s.2.2.2.2.2.2.2.2.2.2.1 s.2.2.2.2.2.2.2.2.2.2.2) (fun s => μ s.1 s.2.1 s.2.2.1 s.2.2.2.1 s.2.2.2.2.1 s.2.2.2.2.2.1 s.2.2.2.2.2.2.1 s.2.2.2.2.2.2.2.1 s.2.2.2.2.2.2.2.2.1 s.2.2.2.2.2.2.2.2.2.1 s.2.2.2.2.2.2.2.2.2.2.1 s.2.2.2.2.2.2.2.2.2.2.2) (fun n s hI hk => hs n s.1 s.2.1 s.2.2.1 s.2.2.2.1 s.2.2.2.2.1 s.2.2.2.2.2.1 s.2.2.2.2.2.2.1 s.2.2.2.2.2.2.2.1 s.2.2.2.2.2.2.2.2.1 s.2.2.2.2.2.2.2.2.2.1 s.2.2.2.2.2.2.2.2.2.2.1 s.2.2.2.2.2.2.2.2.2.2.2 hI (fun b1 b2 b3 b4 b5 b6 b7 b8 b9 b10 b11 b12 h9 hm => hk (b1, b2, b3, b4, b5, b6, b7, b8, b9, b10, b11, b12) h9 hm)) (a1, a2, a3, a4, a5, a6, a7, a8, a9, a10, a11, a12) h
theorem lp13 {A1 A2 A3 A4 A5 A6 A7 A8 A9 A10 A11 A12 A13 : Type} (W : Nat → A1 → A2 → A3 → A4 → A5 → A6 → A7 → A8 → A9 → A10 → A11 → A12 → A13 → Prop) (I : A1 → A2 → A3 → A4 → A5 → A6 → A7 → A8 → A9 → A10 → A11 → A12 → A13 → Prop) (μ : A1 → A2 → A3 → A4 → A5 → A6 → A7 → A8 → A9 → A10 → A11 → A12 → A13 → Nat) (hs : ∀ (n : Nat) (a1 : A1) (a2 : A2) (a3 : A3) (a4 : A4) (a5 : A5) (a6 : A6) (a7 : A7) (a8 : A8) (a9 : A9) (a10 : A10) (a11 : A11) (a12 : A12) (a13 : A13), I a1 a2 a3 a4 a5 a6 a7 a8 a9 a10 a11 a12 a13 → (∀ (b1 : A1) (b2 : A2) (b3 : A3) (b4 : A4) (b5 : A5) (b6 : A6) (b7 : A7) (b8 : A8) (b9 : A9) (b10 : A10) (b11 : A11) (b12 : A12) (b13 : A13), I b1 b2 b3 b4 b5 b6 b7 b8 b9 b10 b11 b12 b13 → μ b1 b2 b3 b4 b5 b6 b7 b8 b9 b10 b11 b12 b13 < μ a1 a2 a3 a4 a5 a6 a7 a8 a9 a10 a11 a12 a13 → W n b1 b2 b3 b4 b5 b6 b7 b8 b9 b10 b11 b12 b13) → W (n + 1) a1 a2 a3 a4 a5 a6 a7 a8 a9 a10 a11 a12 a13) (a1 : A1) (a2 : A2) (a3 : A3) (a4 : A4) (a5 : A5) (a6 : A6) (a7 : A7) (a8 : A8) (a9 : A9) (a10 : A10) (a11 : A11) (a12 : A12) (a13 : A13) (h : I a1 a2 a3 a4 a5 a6 a7 a8 a9 a10 a11 a12 a13) : ∃ n, W n a1 a2 a3 a4 a5 a6 a7 a8 a9 a10 a11 a12 a13 :=
  loop_m (σ := A1 × A2 × A3 × A4 × A5 × A6 × A7 × A8 × A9 × A10 × A11 × A12 × A13) (fun n s => W n s.1 s.2.1 s.2.2.1 s.2.2.2.1 s.2.2.2.2.1 s.2.2.2.2.2.1 s.2.2.2.2.2.2.1 s.2.2.2.2.2.2.2.1 s.2.2.2.2.2.2.2.2.1 s.2.2.2.2.2.2.2.2.2.1 s.2.2.2.2.2.2.2.2.2.2.1 s.2.2.2.2.2.2.2.2.2.2.2.1 s.2.2.2.2.2.2.2.2.2.2.2.2) (fun s => I s.1 s.2.1 s.2.2.1 s.2.2.2.1 s.2.2.2.2.1 s.2.2.2.2.2.1 s.2.2.2.2.2.2.1 s.2.2.2.2.2.2.2.1 s.2.2.2.2.2.2.2.2.1 s.2.2.2.2.2.2.2.2.2.1 s.2.2.2.2.2.2.2.2.2.2.1 s.2.2.2.2.2.2.2.2.2.2.2.1 s.2.2.2.2.2.2.2.2.2.2.2.2) (fun s => μ s.1 s.2.1 s.2.2.1 s.2.2.2.1 s.2.2.2.2.1 s.2.2.2.2.2.1 s.2.2.2.2.2.2.1 s.2.2.2.2.2.2.2.1 s.2.2.2.2.2.2.2.2.1 s.2.2.2.2.2.2.2.2.2.1 s.2.2.2.2.2.2.2.2.2.2.1 s.2.2.2.2.2.2.2.2.2.2.2.1 s.2.2.2.2.2.2.2.2.2.2.2.2) (fun n s hI hk => hs n s.1 s.2.1 s.2.2.1 s.2.2.2.1 s.2.2.2.2.1 s.2.2.2.2.2.1 s.2.2.2.2.2.2.1 s.2.2.2.2.2.2.2.1 s.2.2.2.2.2.2.2.2.1 s.2.2.2.2.2.2.2.2.2.1 s.2.2.2.2.2.2.2.2.2.2.1 s.2.2.2.2.2.2.2.2.2.2.2.1 s.2.2.2.2.2.2.2.2.2.2.2.2 hI (fun b1 b2 b3 b4 b5 b6 b7 b8 b9 b10 b11 b12 b13 h9 hm => hk (b1, b2, b3, b4, b5, b6, b7, b8, b9, b10, b11, b12, b13) h9 hm)) (a1, a2, a3, a4, a5, a6, a7, a8, a9, a10, a11, a12, a13) h
theorem lp14 {A1 A2 A3 A4 A5 A6 A7 A8 A9 A10 A11 A12 A13 A14 : Type} (W : Nat → A1 → A2 → A3 → A4 → A5 → A6 → A7 → A8 → A9 → A10 → A11 → A12 → A13 → A14 → Prop) (I : A1 → A2 → A3 → A4 → A5 → A6 → A7 → A8 → A9 → A10 → A11 → A12 → A13 → A14 → Prop) (μ : A1 → A2 → A3 → A4 → A5 → A6 → A7 → A8 → A9 → A10 → A11 → A12 → A13 → A14 → Nat) (hs : ∀ (n : Nat) (a1 : A1) (a2 : A2) (a3 : A3) (a4 : A4) (a5 : A5) (a6 : A6) (a7 : A7) (a8 : A8) (a9 : A9) (a10 : A10) (a11 : A11) (a12 : A12) (a13 : A13) (a14 : A14), I a1 a2 a3 a4 a5 a6 a7 a8 a9 a10 a11 a12 a13 a14 → (∀ (b1 : A1) (b2 : A2) (b3 : A3) (b4 : A4) (b5 : A5) (b6 : A6) (b7 : A7) (b8 : A8) (b9 : A9) (b10 : A10) (b11 : A11) (b12 : A12) (b13 : A13) (b14 : A14), I b1 b2 b3 b4 b5 b6 b7 b8 b9 b10 b11 b12 b13 b14 → μ b1 b2 b3 b4 b5 b6 b7 b8 b9 b10 b11 b12 b13 b14 < μ a1 a2 a3 a4 a5 a6 a7 a8 a9 a10 a11 a12 a13 a14 → W n b1 b2 b3 b4 b5 b6 b7 b8 b9 b10 b11 b12 b13 b14) → W (n + 1) a1 a2 a3 a4 a5 a6 a7 a8 a9 a10 a11 a12 a13 a14) (a1 : A1) (a2 : A2) (a3 : A3) (a4 : A4) (a5 : A5) (a6 : A6) (a7 : A7) (a8 : A8) (a9 : A9) (a10 : A10) (a11 : A11) (a12 : A12) (a13 : A13) (a14 : A14) (h : I a1 a2 a3 a4 a5 a6 a7 a8 a9 a10 a11 a12 a13 a14) : ∃ n, W n a1 a2 a3 a4 a5 a6 a7 a8 a9 a10 a11 a12 a13 a14 :=
  loop_m (σ := A1 × A2 × A3 × A4 × A5 × A6 × A7 × A8 × A9 × A10 × A11 × A12 × A13 × A14) (fun n s => W n s.1 s.2.1 s.2.2.1 s.2.2.2.1 s.2.2.2.2.1 s.2.2.2.2.2.1 s.2.2.2.2.2.2.1 s.2.2.2.2.2.2.2.1 s.2.2.2.2.2.2.2.2.1 s.2.2.2.2.2.2.2.2.2.1 s.2.2.2.2.2.2.2.2.2.2.1 s.2.2.2.2.2.2.2.2.2.2.2.1 s.2.2.2.2.2.2.2.2.2.2.2.2.1 s.2.2.2.2.2.2.2.2.2.2.2.2.2) (fun s => I s.1 s.2.1 s.2.2.1 s.2.2.2.1 s.2.2.2.2.1 s.2.2.2.2.2.1 s.2.2.2.2.2.2.1 s.2.2.2.2.2.2.2.1 s.2.2.2.2.2.2.2.2.1 s.2.2.2.2.2.2.2.2.2.1 s.2.2.2.2.2.2.2.2.2.2.1 s.2.2.2.2.2.2.2.2.2.2.2.1 s.2.2.2.2.2.2.2.2.2.2.2.2.1 s.2.2.2.2.2.2.2.2.2.2.2.2.2) (fun s => μ s.1 s.2.1 s.2.2.1 s.2.2.2.1 s.2.2.2.2.1 s.2.2.2.2.2.1 s.2.2.2.2.2.2.1 s.2.2.2.2.2.2.2.1 s.2.2.2.2.2.2.2.2.1 s.2.2.2.2.2.2.2.2.2.1 s.2.2.2.2.2.2.2.2.2.2.1 s.2.2.2.2.2.2.2.2.2.2.2.1 s.2.2.2.2.2.2.2.2.2.2.2.2.1 s.2.2.2.2.2.2.2.2.2.2.2.2.2) (fun n s hI hk => hs n s.1 s.2.1 s.2.2.1 s.2.2.2.1 s.2.2.2.2.1 s.2.2.2.2.2.1 s.2.2.2.2.2.2.1 s.2.2.2.2.2.2.2.1 s.2.2.2.2.2.2.2.2.1 s.2.2.2.2.2.2.2.2.2.1 s.2.2.2.2.2.2.2.2.2.2.1 s.2.2.2.2.2.2.2.2.2.2.2.1 s.2.2.2.2.2.2.2.2.2.2.2.2.1 s.2.2.2.2.2.2.2.2.2.2.2.2.2 hI (fun b1 b2 b3 b4 b5 b6 b7 b8 b9 b10 b11 b12 b13 b14 h9 hm => hk (b1, b2, b3, b4, b5, b6, b7, b8, b9, b10, b11, b12, b13, b14) h9 hm)) (a1, a2, a3, a4, a5, a6, a7, a8, a9, a10, a11, a12, a13, a14) h
theorem lp15 {A1 A2 A3 A4 A5 A6 A7 A8 A9 A10 A11 A12 A13 A14 A15 : Type} (W : Nat → A1 → A2 → A3 → A4 → A5 → A6 → A7 → A8 → A9 → A10 → A11 → A12 → A13 → A14 → A15 → Prop) (I : A1 → A2 → A3 → A4 → A5 → A6 → A7 → A8 → A9 → A10 → A11 → A12 → A13 → A14 → A15 → Prop) (μ : A1 → A2 → A3 → A4 → A5 → A6 → A7 → A8 → A9 → A10 → A11 → A12 → A13 → A14 → A15 → Nat) (hs : ∀ (n : Nat) (a1 : A1) (a2 : A2) (a3 : A3) (a4 : A4) (a5 : A5) (a6 : A6) (a7 : A7) (a8 : A8) (a9 : A9) (a10 : A10) (a11 : A11) (a12 : A12) (a13 : A13) (a14 : A14) (a15 : A15), I a1 a2 a3 a4 a5 a6 a7 a8 a9 a10 a11 a12 a13 a14 a15 → (∀ (b1 : A1) (b2 : A2) (b3 : A3) (b4 : A4) (b5 : A5) (b6 : A6) (b7 : A7) (b8 : A8) (b9 : A9) (b10 : A10) (b11 : A11) (b12 : A12) (b13 : A13) (b14 : A14) (b15 : A15), I b1 b2 b3 b4 b5 b6 b7 b8 b9 b10 b11 b12 b13 b14 b15 → μ b1 b2 b3 b4 b5 b6 b7 b8 b9 b10 b11 b12 b13 b14 b15 < μ a1 a2 a3 a4 a5 a6 a7 a8 a9 a10 a11 a12 a13 a14 a15 → W n b1 b2 b3 b4 b5 b6 b7 b8 b9 b10 b11 b12 b13 b14 b15) → W (n + 1) a1 a2 a3 a4 a5 a6 a7 a8 a9 a10 a11 a12 a13 a14 a15) (a1 : A1) (a2 : A2) (a3 : A3) (a4 : A4) (a5 : A5) (a6 : A6) (a7 : A7) (a8 : A8) (a9 : A9) (a10 : A10) (a11 : A11) (a12 : A12) (a13 : A13) (a14 : A14) (a15 : A15) (h : I a1 a2 a3 a4 a5 a6 a7 a8 a9 a10 a11 a12 a13 a14 a15) : ∃ n, W n a1 a2 a3 a4 a5 a6 a7 a8 a9 a10 a11 a12 a13 a14 a15 :=
  loop_m (σ := A1 × A2 × A3 × A4 × A5 × A6 × A7 × A8 × A9 × A10 × A11 × A12 × A13 × A14 × A15) (fun n s => W n s.1 s.2.1 s.2.2.1 s.2.2.2.1 s.2.2.2.2.1 s.2.2.2.2.2.1 s.2.2.2.2.2.2.1 s.2.2.2.2.2.2.2.1 s.2.2.2.2.2.2.2.2.1 s.2.2.2.2.2.2.2.2.2.1 s.2.2.2.2.2.2.2.2.2.2.1 s.2.2.2.2.2.2.2.2.2.2.2.1 s.2.2.2.2.2.2.2.2.2.2.2.2.1 s.2.2.2.2.2.2.2.2.2.2.2.2.2.1 s.2.2.2.2.2.2.2.2.2.2.2.2.2.2) (fun s => I s.1 s.2.1 s.2.2.1 s.2.2.2.1 s.2.2.2.2.1 s.2.2.2.2.2.1 s.2.2.2.2.2.2.1 s.2.2.2.2.2.2.2.1 s.2.2.2.2.2.2.2.2.1 s.2.2.2.2.2.2.2.2.2.1 s.2.2.2.2.2.2.2.2.2.2.1 s.2.2.2.2.2.2.2.2.2.2.2.1 s.2.2.2.2.2.2.2.2.2.2.2.2.1 s.2.2.2.2.2.2.2.2.2.2.2.2.2.1 s.2.2.2.2.2.2.2.2.2.2.2.2.2.2) (fun s => μ s.1 s.2.1 s.2.2.1 s.2.2.2.1 s.2.2.2.2.1 s.2.2.2.2.2.1 s.2.2.2.2.2.2.1 s.2.2.2.2.2.2.2.1 s.2.2.2.2.2.2.2.2.1 s.2.2.2.2.2.2.2.2.2.1 s.2.2.2.2.2.2.2.2.2.2.1 s.2.2.2.2.2.2.2.2.2.2.2.1 s.2.2.2.2.2.2.2.2.2.2.2.2.1 s.2.2.2.2.2.2.2.2.2.2.2.2.2.1 s.2.2.2.2.2.2.2.2.2.2.2.2.2.2) (fun n s hI hk => hs n s.1 s.2.1 s.2.2.1 s.2.2.2.1 s.2.2.2.2.1 s.2.2.2.2.2.1 s.2.2.2.2.2.2.1 s.2.2.2.2.2.2.2.1 s.2.2.2.2.2.2.2.2.1 s.2.2.2.2.2.2.2.2.2.1 s.2.2.2.2.2.2.2.2.2.2.1 s.2.2.2.2.2.2.2.2.2.2.2.1 s.2.2.2.2.2.2.2.2.2.2.2.2.1 s.2.2.2.2.2.2.2.2.2.2.2.2.2.1 s.2.2.2.2.2.2.2.2.2.2.2.2.2.2 hI (fun b1 b2 b3 b4 b5 b6 b7 b8 b9 b10 b11 b12 b13 b14 b15 h9 hm => hk (b1, b2, b3, b4, b5, b6, b7, b8, b9, b10, b11, b12, b13, b14, b15) h9 hm)) (a1, a2, a3, a4, a5, a6, a7, a8, a9, a10, a11, a12, a13, a14, a15) h
theorem lp16 {A1 A2 A3 A4 A5 A6 A7 A8 A9 A10 A11 A12 A13 A14 A15 A16 : Type} (W : Nat → A1 → A2 → A3 → A4 → A5 → A6 → A7 → A8 → A9 → A10 → A11 → A12 → A13 → A14 → A15 → A16 → Prop) (I : A1 → A2 → A3 → A4 → A5 → A6 → A7 → A8 → A9 → A10 → A11 → A12 → A13 → A14 → A15 → A16 → Prop) (μ : A1 → A2 → A3 → A4 → A5 → A6 → A7 → A8 → A9 → A10 → A11 → A12 → A13 → A14 → A15 → A16 → Nat) (hs : ∀ (n : Nat) (a1 : A1) (a2 : A2) (a3 : A3) (a4 : A4) (a5 : A5) (a6 : A6) (a7 : A7) (a8 : A8) (a9 : A9) (a10 : A10) (a11 : A11) (a12 : A12) (a13 : A13) (a14 : A14) (a15 : A15) (a16 : A16), I a1 a2 a3 a4 a5 a6 a7 a8 a9 a10 a11 a12 a13 a14 a15 a16 → (∀ (b1 : A1) (b2 : A2) (b3 : A3) (b4 : A4) (b5 : A5) (b6 : A6) (b7 : A7) (b8 : A8) (b9 : A9) (b10 : A10) (b11 : A11) (b12 : A12) (b13 : A13) (b14 : A14) (b15 : A15) (b16 : A16), I b1 b2 b3 b4 b5 b6 b7 b8 b9 b10 b11 b12 b13 b14 b15 b16 → μ b1 b2 b3 b4 b5 b6 b7 b8 b9 b10 b11 b12 b13 b14 b15 b16 < μ a1 a2 a3 a4 a5 a6 a7 a8 a9 a10 a11 a12 a13 a14 a15 a16 → W n b1 b2 b3 b4 b5 b6 b7 b8 b9 b10 b11 b12 b13 b14 b15 b16) → W (n + 1) a1 a2 a3 a4 a5 a6 a7 a8 a9 a10 a11 a12 a13 a14 a15 a16) (a1 : A1) (a2 : A2) (a3 : A3) (a4 : A4) (a5 : A5) (a6 : A6) (a7 : A7) (a8 : A8) (a9 : A9) (a10 : A10) (a11 : A11) (a12 : A12) (a13 : A13) (a14 : A14) (a15 : A15) (a16 : A16) (h : I a1 a2 a3 a4 a5 a6 a7 a8 a9 a10 a11 a12 a13 a14 a15 a16) : ∃ n, W n a1 a2 a3 a4 a5 a6 a7 a8 a9 a10 a11 a12 a13 a14 a15 a16 :=
  loop_m (σ := A1 × A2 × A3 × A4 × A5 × A6 × A7 × A8 × A9 × A10 × A11 × A12 × A13 × A14 × A15 × A16) (fun n s => W n s.1 s.2.1 s.2.2.1 s.2.2.2.1 s.2.2.2.2.1 s.2.2.2.2.2.1 s.2.2.2.2.2.2.1 s.2.2.2.2.2.2.2.1 s.2.2.2.2.2.2.2.2.1 s.2.2.2.2.2.2.2.2.2.1 s.2.2.2.2.2.2.2.2.2.2.1 s.2.2.2.2.2.2.2.2.2.2.2.1 s.2.2.2.2.2.2.2.2.2.2.2.2.1 s.2.2.2.2.2.2.2.2.2.2.2.2.2.1 s.2.2.2.2.2.2.2.2.2.2.2.2.2.2.1 s.2.2.2.2.2.2.2.2.2.2.2.2.2.2.2) (fun s => I s.1 s.2.1 s.2.2.1 s.2.2.2.1 s.2.2.2.2.1 s.2.2.2.2.2.1 s.2.2.2.2.2.2.1 s.2.2.2.2.2.2.2.1 s.2.2.2.2.2.2.2.2.1 s.2.2.2.2.2.2.2.2.2.1 s.2.2.2.2.2.2.2.2.2.2.1 s.2.2.2.2.2.2.2.2.2.2.2.1 s.2.2.2.2.2.2.2.2.2.2.2.2.1 s.2.2.2.2.2.2.2.2.2.2.2.2.2.1 s.2.2.2.2.2.2.2.2.2.2.2.2.2.2.1 s.2.2.2.2.2.2.2.2.2.2.2.2.2.2.2) (fun s => μ s.1 s.2.1 s.2.2.1 s.2.2.2.1 s.2.2.2.2.1 s.2.2.2.2.2.1 s.2.2.2.2.2.2.1 s.2.2.2.2.2.2.2.1 s.2.2.2.2.2.2.2.2.1 s.2.2.2.2.2.2.2.2.2.1 s.2.2.2.2.2.2.2.2.2.2.1 s.2.2.2.2.2.2.2.2.2.2.2.1 s.2.2.2.2.2.2.2.2.2.2.2.2.1 s.2.2.2.2.2.2.2.2.2.2.2.2.2.1 s.2.2.2.2.2.2.2.2.2.2.2.2.2.2.1 s.2.2.2.2.2.2.2.2.2.2.2.2.2.2.2) (fun n s hI hk => hs n s.1 s.2.1 s.2.2.1 s.2.2.2.1 s.2.2.2.2.1 s.2.2.2.2.2.1 s.2.2.2.2.2.2.1 s.2.2.2.2.2.2.2.1 s.2.2.2.2.2.2.2.2.1 s.2.2.2.2.2.2.2.2.2.1 s.2.2.2.2.2.2.2.2.2.2.1 s.2.2.2.2.2.2.2.2.2.2.2.1 s.2.2.2.2.2.2.2.2.2.2.2.2.1 s.2.2.2.2.2.2.2.2.2.2.2.2.2.1 s.2.2.2.2.2.2.2.2.2.2.2.2.2.2.1 s.2.2.2.2.2.2.2.2.2.2.2.2.2.2.2 hI (fun b1 b2 b3 b4 b5 b6 b7 b8 b9 b10 b11 b12 b13 b14 b15 b16 h9 hm => hk (b1, b2, b3, b4, b5, b6, b7, b8, b9, b10, b11, b12, b13, b14, b15, b16) h9 hm)) (a1, a2, a3, a4, a5, a6, a7, a8, a9, a10, a11, a12, a13, a14, a15, a16) h
theorem pk_least (P : Nat → Prop) (h : ∃ k, P k) : ∃ k, P k ∧ ∀ j, j < k → ¬ P j := by
  obtain ⟨k, hk⟩ := h
  induction k using Nat.strongRecOn with
  | ind k ih =>
    by_cases e : ∃ j, j < k ∧ P j
    · obtain ⟨j, hj, pj⟩ := e
      exact ih j hj pj
    · exact ⟨k, hk, fun j hj pj => e ⟨j, hj, pj⟩⟩
theorem rp1 {ρ A1 : Type} (W : Nat → (ρ → Prop) → A1 → Prop) (ok : A1 → Prop) (μ : A1 → Nat) (val : A1 → ρ)
    (hs : ∀ (d : Nat) (post : ρ → Prop) (a1 : A1), ok a1 → post (val a1) → (∀ (post' : ρ → Prop) (b1 : A1), ok b1 → μ b1 < μ a1 → post' (val b1) → W d post' b1) → W (d + 1) post a1) :
    ∀ (d : Nat) (post : ρ → Prop) (a1 : A1), ok a1 → μ a1 < d → post (val a1) → W d post a1 := by
  intro d
  induction d with
  | zero => intro post a1 _ h; omega
  | succ d ih =>
    intro post a1 ho hm hp
    exact hs d post a1 ho hp (fun post' b1 ho' hm' hp' => ih post' b1 ho' (by omega) hp')
theorem rp2 {ρ A1 A2 : Type} (W : Nat → (ρ → Prop) → A1 → A2 → Prop) (ok : A1 → A2 → Prop) (μ : A1 → A2 → Nat) (val : A1 → A2 → ρ)
    (hs : ∀ (d : Nat) (post : ρ → Prop) (a1 : A1) (a2 : A2), ok a1 a2 → post (val a1 a2) → (∀ (post' : ρ → Prop) (b1 : A1) (b2 : A2), ok b1 b2 → μ b1 b2 < μ a1 a2 → post' (val b1 b2) → W d post' b1 b2) → W (d + 1) post a1 a2) :
    ∀ (d : Nat) (post : ρ → Prop) (a1 : A1) (a2 : A2), ok a1 a2 → μ a1 a2 < d → post (val a1 a2) → W d post a1 a2 := by
  intro d
  induction d with
  | zero => intro post a1 a2 _ h; omega
  | succ d ih =>
    intro post a1 a2 ho hm hp
    exact hs d post a1 a2 ho hp (fun post' b1 b2 ho' hm' hp' => ih post' b1 b2 ho' (by omega) hp')
theorem rp3 {ρ A1 A2 A3 : Type} (W : Nat → (ρ → Prop) → A1 → A2 → A3 → Prop) (ok : A1 → A2 → A3 → Prop) (μ : A1 → A2 → A3 → Nat) (val : A1 → A2 → A3 → ρ)
    (hs : ∀ (d : Nat) (post : ρ → Prop) (a1 : A1) (a2 : A2) (a3 : A3), ok a1 a2 a3 → post (val a1 a2 a3) → (∀ (post' : ρ → Prop) (b1 : A1) (b2 : A2) (b3 : A3), ok b1 b2 b3 → μ b1 b2 b3 < μ a1 a2 a3 → post' (val b1 b2 b3) → W d post' b1 b2 b3) → W (d + 1) post a1 a2 a3) :
    ∀ (d : Nat) (post : ρ → Prop) (a1 : A1) (a2 : A2) (a3 : A3), ok a1 a2 a3 → μ a1 a2 a3 < d → post (val a1 a2 a3) → W d post a1 a2 a3 := by
  intro d
  induction d with
  | zero => intro post a1 a2 a3 _ h; omega
  | succ d ih =>
    intro post a1 a2 a3 ho hm hp
    exact hs d post a1 a2 a3 ho hp (fun post' b1 b2 b3 ho' hm' hp' => ih post' b1 b2 b3 ho' (by omega) hp')
theorem rp4 {ρ A1 A2 A3 A4 : Type} (W : Nat → (ρ → Prop) → A1 → A2 → A3 → A4 → Prop) (ok : A1 → A2 → A3 → A4 → Prop) (μ : A1 → A2 → A3 → A4 → Nat) (val : A1 → A2 → A3 → A4 → ρ)
    (hs : ∀ (d : Nat) (post : ρ → Prop) (a1 : A1) (a2 : A2) (a3 : A3) (a4 : A4), ok a1 a2 a3 a4 → post (val a1 a2 a3 a4) → (∀ (post' : ρ → Prop) (b1 : A1) (b2 : A2) (b3 : A3) (b4 : A4), ok b1 b2 b3 b4 → μ b1 b2 b3 b4 < μ a1 a2 a3 a4 → post' (val b1 b2 b3 b4) → W d post' b1 b2 b3 b4) → W (d + 1) post a1 a2 a3 a4) :
    ∀ (d : Nat) (post : ρ → Prop) (a1 : A1) (a2 : A2) (a3 : A3) (a4 : A4), ok a1 a2 a3 a4 → μ a1 a2 a3 a4 < d → post (val a1 a2 a3 a4) → W d post a1 a2 a3 a4 := by
  intro d
  induction d with
  | zero => intro post a1 a2 a3 a4 _ h; omega
  | succ d ih =>
    intro post a1 a2 a3 a4 ho hm hp
    exact hs d post a1 a2 a3 a4 ho hp (fun post' b1 b2 b3 b4 ho' hm' hp' => ih post' b1 b2 b3 b4 ho' (by omega) hp')
theorem rp5 {ρ A1 A2 A3 A4 A5 : Type} (W : Nat → (ρ → Prop) → A1 → A2 → A3 → A4 → A5 → Prop) (ok : A1 → A2 → A3 → A4 → A5 → Prop) (μ : A1 → A2 → A3 → A4 → A5 → Nat) (val : A1 → A2 → A3 → A4 → A5 → ρ)
    (hs : ∀ (d : Nat) (post : ρ → Prop) (a1 : A1) (a2 : A2) (a3 : A3) (a4 : A4) (a5 : A5), ok a1 a2 a3 a4 a5 → post (val a1 a2 a3 a4 a5) → (∀ (post' : ρ → Prop) (b1 : A1) (b2 : A2) (b3 : A3) (b4 : A4) (b5 : A5), ok b1 b2 b3 b4 b5 → μ b1 b2 b3 b4 b5 < μ a1 a2 a3 a4 a5 → post' (val b1 b2 b3 b4 b5) → W d post' b1 b2 b3 b4 b5) → W (d + 1) post a1 a2 a3 a4 a5) :
    ∀ (d : Nat) (post : ρ → Prop) (a1 : A1) (a2 : A2) (a3 : A3) (a4 : A4) (a5 : A5), ok a1 a2 a3 a4 a5 → μ a1 a2 a3 a4 a5 < d → post (val a1 a2 a3 a4 a5) → W d post a1 a2 a3 a4 a5 := by
  intro d
  induction d with
  | zero => intro post a1 a2 a3 a4 a5 _ h; omega
  | succ d ih =>
    intro post a1 a2 a3 a4 a5 ho hm hp
    exact hs d post a1 a2 a3 a4 a5 ho hp (fun post' b1 b2 b3 b4 b5 ho' hm' hp' => ih post' b1 b2 b3 b4 b5 ho' (by omega) hp')
theorem rp6 {ρ A1 A2 A3 A4 A5 A6 : Type} (W : Nat → (ρ → Prop) → A1 → A2 → A3 → A4 → A5 → A6 → Prop) (ok : A1 → A2 → A3 → A4 → A5 → A6 → Prop) (μ : A1 → A2 → A3 → A4 → A5 → A6 → Nat) (val : A1 → A2 → A3 → A4 → A5 → A6 → ρ)
    (hs : ∀ (d : Nat) (post : ρ → Prop) (a1 : A1) (a2 : A2) (a3 : A3) (a4 : A4) (a5 : A5) (a6 : A6), ok a1 a2 a3 a4 a5 a6 → post (val a1 a2 a3 a4 a5 a6) → (∀ (post' : ρ → Prop) (b1 : A1) (b2 : A2) (b3 : A3) (b4 : A4) (b5 : A5) (b6 : A6), ok b1 b2 b3 b4 b5 b6 → μ b1 b2 b3 b4 b5 b6 < μ a1 a2 a3 a4 a5 a6 → post' (val b1 b2 b3 b4 b5 b6) → W d post' b1 b2 b3 b4 b5 b6) → W (d + 1) post a1 a2 a3 a4 a5 a6) :
    ∀ (d : Nat) (post : ρ → Prop) (a1 : A1) (a2 : A2) (a3 : A3) (a4 : A4) (a5 : A5) (a6 : A6), ok a1 a2 a3 a4 a5 a6 → μ a1 a2 a3 a4 a5 a6 < d → post (val a1 a2 a3 a4 a5 a6) → W d post a1 a2 a3 a4 a5 a6 := by
  intro d
  induction d with
  | zero => intro post a1 a2 a3 a4 a5 a6 _ h; omega
  | succ d ih =>
    intro post a1 a2 a3 a4 a5 a6 ho hm hp
    exact hs d post a1 a2 a3 a4 a5 a6 ho hp (fun post' b1 b2 b3 b4 b5 b6 ho' hm' hp' => ih post' b1 b2 b3 b4 b5 b6 ho' (by omega) hp')
theorem rec_p {σ ρ : Type} (W : Nat → (ρ → Prop) → σ → Prop) (ok : σ → Prop) (μ : σ → Nat) (val : σ → ρ)
    (hs : ∀ d s post, ok s → post (val s) → (∀ s' post', ok s' → μ s' < μ s → post' (val s') → W d post' s') → W (d + 1) post s) :
    ∀ d s post, ok s → μ s < d → post (val s) → W d post s := by
  intro d
  induction d with
  | zero => intro s post _ h; omega
  | succ d ih =>
    intro s post ho hm hp
    exact hs d s post ho hp (fun s' post' ho' hm' hp' => ih s' post' ho' (by omega) hp')
theorem rec_q {σ ρ : Type} (W : Nat → (ρ → Prop) → σ → Prop) (ok : σ → Prop) (μ : σ → Nat) (Q : σ → ρ → Prop)
    (hs : ∀ d s post, ok s → (∀ r, Q s r → post r) → (∀ s' post', ok s' → μ s' < μ s → (∀ r, Q s' r → post' r) → W d post' s') → W (d + 1) post s) :
    ∀ d s post, ok s → μ s < d → (∀ r, Q s r → post r) → W d post s := by
  intro d
  induction d with
  | zero => intro s post _ h; omega
  | succ d ih =>
    intro s post ho hm hp
    exact hs d s post ho hp (fun s' post' ho' hm' hp' => ih s' post' ho' (by omega) hp')
def bx_sum (f : Nat → Int32) : Nat → Int32
  | 0 => 0
  | n + 1 => bx_sum f n + f n
theorem ek_u {A : Prop} {B : Nat → Prop} {k N : Nat} (hk : k < N) (h : B k) : (some k = none → A) ∧ (∀ y : Nat, some k = some y → (y < N ∧ B y)) :=
  ⟨fun z => absurd z (Option.some_ne_none k), fun _ e => (by cases e; exact ⟨hk, h⟩)⟩
theorem ek_nu {A : Prop} {B : Nat → Prop} (h : A) : ((none : Option Nat) = none → A) ∧ (∀ y : Nat, (none : Option Nat) = some y → B y) :=
  ⟨fun _ => h, fun _ e => (by cases e)⟩
theorem ek_if {c d A B : Prop} (e : c ↔ d) (f : d → A) (g : ¬ d → B) : (c → A) ∧ (¬ c → B) :=
  ⟨fun z => f (e.mp z), fun z => g (fun y => z (e.mpr y))⟩
theorem ek_v {α : Sort _} {P : α → Prop} {a b : α} (e : a = b) (h : P b) : P a := e ▸ h
theorem co_some {x : Option Nat} {A : Prop} {B : Nat → Prop} (i : Nat) (h : B i) (hx : x = some i := by rfl) : (x = none → A) ∧ (∀ y : Nat, x = some y → B y) := by
  subst hx
  exact ⟨fun e => (nomatch e), fun y e => Option.some.inj e ▸ h⟩
theorem co_none {x : Option Nat} {A : Prop} {B : Nat → Prop} (h : A) (hx : x = none := by rfl) : (x = none → A) ∧ (∀ y : Nat, x = some y → B y) := by
  subst hx
  exact ⟨fun _ => h, fun y e => (nomatch e)⟩
theorem co_any {x : Option Nat} {A : Prop} {B : Nat → Prop} (hn : x = none → A) (hs : ∀ i : Nat, x = some i → B i) : (x = none → A) ∧ (∀ y : Nat, x = some y → B y) := ⟨hn, hs⟩
theorem co_2 {P : Nat → Prop} (h0 : P 0) (h1 : P 1) {i : Nat} (hi : i < 2) : P i :=
  match i, hi with
  | 0, _ => h0
  | 1, _ => h1
theorem co_3 {P : Nat → Prop} (h0 : P 0) (h1 : P 1) (h2 : P 2) {i : Nat} (hi : i < 3) : P i :=
  match i, hi with
  | 0, _ => h0
  | 1, _ => h1
  | 2, _ => h2
theorem co_4 {P : Nat → Prop} (h0 : P 0) (h1 : P 1) (h2 : P 2) (h3 : P 3) {i : Nat} (hi : i < 4) : P i :=
  match i, hi with
  | 0, _ => h0
  | 1, _ => h1
  | 2, _ => h2
  | 3, _ => h3
theorem co_dec {N : Nat} {P : Nat → Prop} [DecidablePred P] (h : (List.range N).all (fun i => decide (P i)) = true) {i : Nat} (hi : i < N) : P i := by
  have := List.all_eq_true.mp h i (List.mem_range.mpr hi)
  exact of_decide_eq_true this
theorem co_tab {α : Type} {l : List α} {d : α} {P : α → Prop} (h : ∀ a, a ∈ l → P a) {i : Nat} (hi : i < l.length) : P (l.getD i d) := by
  rw [List.getD_eq_getElem?_getD, List.getElem?_eq_getElem hi]
  exact h _ (List.getElem_mem hi)
theorem pk_mu {x : Int32} {L : Nat} (h0 : ¬ x < 0) (h : ¬ nI L ≤ x) (hL : L < 2 ^ 31) : ∃ j : Nat, j < L ∧ x = nI j ∧ x + 1 = nI (j + 1) ∧ x.toNatClampNeg = j ∧ L - (x + 1).toNatClampNeg < L - x.toNatClampNeg := by
  obtain ⟨j, hj, rfl⟩ := nI_of h0
  have hl : j < L := Nat.not_le.mp fun q => h (nI_le q hj)
  refine ⟨j, hl, rfl, nI_1 j, nI_clamp hj, ?_⟩
  rw [nI_1, nI_clamp (by omega), nI_clamp hj]
  omega
theorem op_s {α : Type} {r : Option α} {A : Prop} {B : α → Prop} {y : α} (h : r = some y) (b : B y) : (r = none → A) ∧ ∀ z, r = some z → B z :=
  ⟨fun e => (by rw [h] at e; cases e), fun z e => (by rw [h] at e; cases e; exact b)⟩
def l_holds {α : Type} (a : Nat → Option Nat) (LP : List Nat) (p : Nat → α) (c : Nat) (b : Nat → α) : Prop :=
  ∀ j, j < c → ∃ y, a j = some y ∧ y ∈ LP ∧ p y = b j
theorem l_holds_0 {α : Type} {a : Nat → Option Nat} {LP : List Nat} {p b : Nat → α} : l_holds a LP p 0 b := fun j h => absurd h (Nat.not_lt_zero j)
theorem l_in_new (LP : List Nat) (q : Nat) : q ∈ LP ++ [q] := List.mem_append.mpr (Or.inr (List.mem_singleton.mpr rfl))
def l_sum (b : Nat → Int32) : Nat → Int32
  | 0 => 0
  | k + 1 => l_sum b k + b k
theorem sb_shr0 (x : Int32) : x >>> ((0 : Int32) &&& 31) = x := by
  rw [show ((0 : Int32) &&& 31) = 0 by decide]
  simp
theorem sb_shl0 (x : Int32) : x <<< ((0 : Int32) &&& 31) = x := by
  rw [show ((0 : Int32) &&& 31) = 0 by decide]
  simp
theorem sb_cl0 : (0 : Int32).toNatClampNeg = 0 := by decide
theorem sb_m1 {p : Nat} (h : 0 < p) : nI p + (-1) = nI (p - 1) := by
  obtain ⟨q, rfl⟩ : ∃ q, p = q + 1 := ⟨p - 1, by omega⟩
  exact pk_m1 q
def sb_b (c : Nat) : Int32 := (nI c).toInt8.toInt32
theorem sb_byte : ∀ c, c < 256 → sb_b c &&& 255 = nI c ∧ ((nI c).toUInt32 % 65536).toInt32 = nI c ∧ nI c ≤ 255 := by decide +kernel
def sb_Fit (a : Nat → Int32) : Prop := ∀ j, fits .byte (.int (a j)) = true
def sb_Lat (t : Nat → Nat) (n : Nat) (a : Nat → Int32) : Prop := ∀ j, j < n → t j < 256 ∧ a j = sb_b (t j)
theorem sb_fitB (c : Nat) : fits .byte (.int (sb_b c)) = true := pk_fb _
theorem sb_fit0 : sb_Fit (fun _ => 0) := fun _ => by
  show fits .byte (.int 0) = true
  decide
theorem sb_fitU {a : Nat → Int32} {k : Nat} {x : Int32} (h : sb_Fit a) (hx : fits .byte (.int x) = true) : sb_Fit (upd a k x) := by
  intro j
  by_cases e : j = k
  · subst e
    rw [pk_us]
    exact hx
  · rw [pk_un e]
    exact h j
def sb_cat (t : Nat → Nat) (n : Nat) (s : Nat → Nat) : Nat → Nat := fun j => if j < n then t j else s (j - n)
theorem sb_cat_lo {t s : Nat → Nat} {n j : Nat} (h : j < n) : sb_cat t n s j = t j := if_pos h
theorem sb_cat_hi {t s : Nat → Nat} {n j : Nat} : sb_cat t n s (n + j) = s j := by
  show (if n + j < n then t (n + j) else s (n + j - n)) = s j
  rw [if_neg (by omega), Nat.add_sub_cancel_left]
theorem sb_latPut {t s : Nat → Nat} {n w : Nat} {a a' : Nat → Int32} (h : sb_Lat t n a) (hk : ∀ j, j < n → a' j = a j) (hs : ∀ i, i < w → s i < 256 ∧ a' (n + i) = sb_b (s i)) : sb_Lat (sb_cat t n s) (n + w) a' := by
  intro j hj
  by_cases e : j < n
  · rw [sb_cat_lo e, hk j e]
    exact h j e
  · obtain ⟨i, rfl⟩ : ∃ i, j = n + i := ⟨j - n, by omega⟩
    rw [sb_cat_hi]
    exact hs i (by omega)
theorem sb_latKeep {t : Nat → Nat} {n : Nat} {a a' : Nat → Int32} (h : sb_Lat t n a) (hk : ∀ j, j < n → a' j = a j) : sb_Lat t n a' := fun j hj => by
  rw [hk j hj]
  exact h j hj
def sb_cap (q m : Nat) : Nat := if q ≤ m then m else if 2 * m + 2 < q then q else 2 * m + 2
def sb_Room (q m mc ms : Nat) : Prop := q ≤ m ∨ (1 ≤ mc ∧ sb_cap q m ≤ ms ∧ sb_cap q m ≤ 65536)
theorem sb_cap_ge (q m : Nat) : q ≤ sb_cap q m := by
  unfold sb_cap
  split
  · omega
  · split <;> omega
theorem sb_cap_gem (q m : Nat) : m ≤ sb_cap q m := by
  unfold sb_cap
  split
  · omega
  · split <;> omega
theorem sb_cap_le {q m mc ms : Nat} (hm : m ≤ 65536) (hr : sb_Room q m mc ms) : sb_cap q m ≤ 65536 := by
  rcases hr with h | h
  · rw [sb_cap, if_pos h]
    exact hm
  · exact h.2.2
theorem sb_at {P : Int32 → Prop} {x y : Int32} (e : x = y) (h : P y) : P x := e ▸ h
def sb_dg (w : Nat) : Nat := if w < 10 then 1 else if w < 100 then 2 else if w < 1000 then 3 else if w < 10000 then 4 else if w < 100000 then 5 else if w < 1000000 then 6 else if w < 10000000 then 7 else if w < 100000000 then 8 else if w < 1000000000 then 9 else 10
def sb_dec (v : Nat) : Nat → Nat := fun i => 48 + v / 10 ^ (sb_dg v - 1 - i) % 10
theorem sb_dg_in (w : Nat) : 1 ≤ sb_dg w ∧ sb_dg w ≤ 10 := by
  unfold sb_dg
  constructor <;> (repeat' split) <;> omega
theorem sb_dg100 {w : Nat} (h : 100 ≤ w) (hw : w < 2 ^ 31) : sb_dg w = sb_dg (w / 100) + 2 := by
  rw [sb_dg, sb_dg, if_neg (show ¬ w < 10 by omega), if_neg (show ¬ w < 100 by omega)]
  by_cases h3 : w < 1000
  · rw [if_pos h3, if_pos (show w / 100 < 10 by omega)]
  rw [if_neg h3, if_neg (show ¬ w / 100 < 10 by omega)]
  by_cases h4 : w < 10000
  · rw [if_pos h4, if_pos (show w / 100 < 100 by omega)]
  rw [if_neg h4, if_neg (show ¬ w / 100 < 100 by omega)]
  by_cases h5 : w < 100000
  · rw [if_pos h5, if_pos (show w / 100 < 1000 by omega)]
  rw [if_neg h5, if_neg (show ¬ w / 100 < 1000 by omega)]
  by_cases h6 : w < 1000000
  · rw [if_pos h6, if_pos (show w / 100 < 10000 by omega)]
  rw [if_neg h6, if_neg (show ¬ w / 100 < 10000 by omega)]
  by_cases h7 : w < 10000000
  · rw [if_pos h7, if_pos (show w / 100 < 100000 by omega)]
  rw [if_neg h7, if_neg (show ¬ w / 100 < 100000 by omega)]
  by_cases h8 : w < 100000000
  · rw [if_pos h8, if_pos (show w / 100 < 1000000 by omega)]
  rw [if_neg h8, if_neg (show ¬ w / 100 < 1000000 by omega)]
  by_cases h9 : w < 1000000000
  · rw [if_pos h9, if_pos (show w / 100 < 10000000 by omega)]
  rw [if_neg h9, if_neg (show ¬ w / 100 < 10000000 by omega)]
  rw [if_pos (show w / 100 < 100000000 by omega)]
theorem sb_negT {w : Nat} (h : w < 2 ^ 31) : (-nI w).toInt = -(w : Int) := by
  rw [Int32.toInt_neg, nI_toInt h]
  exact Int.bmod_eq_of_le (by omega) (by omega)
theorem sb_nle {a b : Nat} (ha : a < 2 ^ 31) (hb : b < 2 ^ 31) : -nI a ≤ -nI b ↔ b ≤ a := by
  rw [Int32.le_iff_toInt_le, sb_negT ha, sb_negT hb]
  omega
theorem sb_nlt {a b : Nat} (ha : a < 2 ^ 31) (hb : b < 2 ^ 31) : -nI a < -nI b ↔ b < a := by
  rw [Int32.lt_iff_toInt_lt, sb_negT ha, sb_negT hb]
  omega
theorem sb_cmp {A B : Prop} {x : Int32} (v c : Nat) (f : c ≤ v → A) (g : v < c → B) (hv : v < 2 ^ 31) (hx : x = -nI c := by rfl) (hc : c < 2 ^ 31 := by omega) : (-nI v ≤ x → A) ∧ (¬ -nI v ≤ x → B) := by
  subst hx
  rw [sb_nle hv hc]
  exact ⟨f, fun z => g (by omega)⟩
theorem sb_ndiv {w : Nat} (hw : w < 2 ^ 31) : (-nI w) / 100 = -nI (w / 100) := by
  apply Int32.toInt_inj.mp
  have h100 : (100 : Int32).toInt = 100 := by decide
  rw [Int32.toInt_div, sb_negT hw, h100, sb_negT (by omega), Int.neg_tdiv, Int.tdiv_eq_ediv_of_nonneg (by omega), Int.bmod_eq_of_le (by omega) (by omega)]
  omega
theorem sb_nrem {w : Nat} (hw : w < 2 ^ 31) : (-nI (w / 100)) * 100 - (-nI w) = nI (w % 100) := by
  have h := pk_rem (a := w) (d := 100) hw (by decide) (by decide)
  rw [pk_div hw (by decide) (by decide)] at h
  rw [← h]
  show (-nI (w / 100)) * nI 100 - (-nI w) = nI w - nI (w / 100) * nI 100
  rw [Int32.neg_mul, Int32.sub_neg, Int32.add_comm, ← Int32.sub_eq_add_neg]
end
section
/-! rows on bits, shifts and unsigned numbers, to paste: each family out of a closed proof of our own, whole with what it rests on; each by itself clean at Lean in its own claim (generation 39, form 5). Take a family whole -/
/-! ===== Int32 by its bits: bt x i ===== -/
def bt (x : Int32) (i : Nat) : Bool := x.toBitVec.getLsbD i
theorem b_ext {x y : Int32} (h : ∀ i, i < 32 → bt x i = bt y i) : x = y := Int32.toBitVec_inj.mp (BitVec.eq_of_getLsbD_eq (fun i hi => h i hi))
theorem b_or (x y : Int32) (i : Nat) : bt (x ||| y) i = (bt x i || bt y i) := by unfold bt; rw [Int32.toBitVec_or, BitVec.getLsbD_or]
theorem b_and (x y : Int32) (i : Nat) : bt (x &&& y) i = (bt x i && bt y i) := by unfold bt; rw [Int32.toBitVec_and, BitVec.getLsbD_and]
theorem b_xor (x y : Int32) (i : Nat) : bt (x ^^^ y) i = (bt x i ^^ bt y i) := by unfold bt; rw [Int32.toBitVec_xor, BitVec.getLsbD_xor]
theorem b_big {x : Int32} {i : Nat} (h : 32 ≤ i) : bt x i = false := BitVec.getLsbD_of_ge _ _ h
theorem b_255 (i : Nat) : bt 255 i = decide (i < 8) := by
  rcases Nat.lt_or_ge i 32 with h | h
  · exact (by decide +kernel : ∀ i, i < 32 → bt 255 i = decide (i < 8)) i h
  · rw [b_big h, decide_eq_false (by omega)]
theorem b_65535 (i : Nat) : bt 65535 i = decide (i < 16) := by
  rcases Nat.lt_or_ge i 32 with h | h
  · exact (by decide +kernel : ∀ i, i < 32 → bt 65535 i = decide (i < 16)) i h
  · rw [b_big h, decide_eq_false (by omega)]
theorem b_m1 : ∀ i, i < 32 → bt (-1) i = true := by decide +kernel
theorem b_0 (i : Nat) : bt 0 i = false := BitVec.getLsbD_zero
theorem s_l : ∀ n, n < 32 → ((nI n &&& 31).toBitVec.smod 32).toNat = n := by decide +kernel
theorem s_u : ∀ n, n < 32 → (((nI n).toUInt32 &&& Int32.toUInt32 31).toBitVec % 32).toNat = n := by decide +kernel
theorem b_shl (n : Nat) (hn : n < 32) (x : Int32) {i : Nat} (hi : i < 32) : bt (x <<< (nI n &&& 31)) i = (decide (n ≤ i) && bt x (i - n)) := by
  unfold bt
  rw [Int32.toBitVec_shiftLeft]
  show (x.toBitVec <<< ((nI n &&& 31).toBitVec.smod 32).toNat).getLsbD i = _
  rw [s_l n hn, BitVec.getLsbD_shiftLeft]
  rcases Nat.lt_or_ge i n with h | h
  · simp [h, Nat.not_le.mpr h]
  · simp [hi, h, Nat.not_lt.mpr h]
theorem b_ushr (n : Nat) (hn : n < 32) (x : Int32) (i : Nat) : bt ((x.toUInt32 >>> ((nI n).toUInt32 &&& Int32.toUInt32 31)).toInt32) i = bt x (n + i) := by
  show (x.toUInt32 >>> ((nI n).toUInt32 &&& Int32.toUInt32 31)).toBitVec.getLsbD i = x.toUInt32.toBitVec.getLsbD (n + i)
  rw [UInt32.toBitVec_shiftRight]
  show (x.toUInt32.toBitVec >>> (((nI n).toUInt32 &&& Int32.toUInt32 31).toBitVec % 32).toNat).getLsbD i = _
  rw [s_u n hn, BitVec.getLsbD_ushiftRight]
theorem b_sshr (n : Nat) (hn : n < 32) (x : Int32) {i : Nat} (hi : i < 32) : bt (x >>> (nI n &&& 31)) i = if n + i < 32 then bt x (n + i) else bt x 31 := by
  unfold bt
  rw [Int32.toBitVec_shiftRight]
  show (x.toBitVec.sshiftRight ((nI n &&& 31).toBitVec.smod 32).toNat).getLsbD i = _
  rw [s_l n hn, BitVec.getLsbD_sshiftRight, BitVec.msb_eq_getLsbD_last]
  simp [hi]
theorem b_shl8 (x : Int32) {i : Nat} (hi : i < 32) : bt (x <<< ((8 : Int32) &&& 31)) i = (decide (8 ≤ i) && bt x (i - 8)) := b_shl 8 (by omega) x hi
theorem b_shl16 (x : Int32) {i : Nat} (hi : i < 32) : bt (x <<< ((16 : Int32) &&& 31)) i = (decide (16 ≤ i) && bt x (i - 16)) := b_shl 16 (by omega) x hi
theorem b_shl24 (x : Int32) {i : Nat} (hi : i < 32) : bt (x <<< ((24 : Int32) &&& 31)) i = (decide (24 ≤ i) && bt x (i - 24)) := b_shl 24 (by omega) x hi
theorem b_sshr8 (x : Int32) {i : Nat} (hi : i < 32) : bt (x >>> ((8 : Int32) &&& 31)) i = if 8 + i < 32 then bt x (8 + i) else bt x 31 := b_sshr 8 (by omega) x hi
/-! ===== nI under and, xor, >>>, one bit, 65535 ===== -/
theorem nx_and (a b : Nat) : nI a &&& nI b = nI (a &&& b) := by
  apply Int32.toBitVec_inj.1
  show BitVec.ofNat 32 a &&& BitVec.ofNat 32 b = BitVec.ofNat 32 (a &&& b)
  apply BitVec.eq_of_getLsbD_eq
  intro i hi
  simp [hi]
theorem nx_xor (a b : Nat) : nI a ^^^ nI b = nI (a ^^^ b) := by
  apply Int32.toBitVec_inj.1
  show BitVec.ofNat 32 a ^^^ BitVec.ofNat 32 b = BitVec.ofNat 32 (a ^^^ b)
  apply BitVec.eq_of_getLsbD_eq
  intro i hi
  simp [hi]
theorem nx_cnt : ∀ j : Fin 32, (UInt32.ofNat j.val &&& Int32.toUInt32 31).toNat % 32 = j.val := by decide +kernel
theorem nx_ush {k j : Nat} (hk : k < 65536) (hj : j < 32) : ((nI k).toUInt32 >>> ((nI j).toUInt32 &&& Int32.toUInt32 31)).toInt32 = nI (k >>> j) := by
  have hs : k >>> j ≤ k := by
    rw [Nat.shiftRight_eq_div_pow]
    exact Nat.div_le_self _ _
  have e2 : UInt32.ofNat k >>> (UInt32.ofNat j &&& Int32.toUInt32 31) = UInt32.ofNat (k >>> j) := by
    apply UInt32.toNat_inj.1
    have h1 : (UInt32.ofNat k).toNat = k := Nat.mod_eq_of_lt (by omega)
    have h2 : (UInt32.ofNat (k >>> j)).toNat = k >>> j := Nat.mod_eq_of_lt (by omega)
    rw [UInt32.toNat_shiftRight, nx_cnt ⟨j, hj⟩, h1, h2]
  show (UInt32.ofNat k >>> (UInt32.ofNat j &&& Int32.toUInt32 31)).toInt32 = _
  rw [e2]
  rfl
theorem nx_bit {k j : Nat} (hk : k < 65536) (hj : j < 16) : (((nI k).toUInt32 >>> ((nI j).toUInt32 &&& Int32.toUInt32 31)).toInt32 &&& 1) = 0 ↔ k.testBit j = false := by
  rw [nx_ush hk (by omega)]
  show nI (k >>> j) &&& nI 1 = 0 ↔ _
  rw [nx_and, Nat.and_one_is_mod, ← nI_0, nI_eq (by omega) (by omega), Nat.testBit_eq_decide_div_mod_eq, Nat.shiftRight_eq_div_pow, decide_eq_false_iff_not]
  generalize k / 2 ^ j = z
  omega
theorem nx_mod (k : Nat) : nI k &&& 65535 = nI (k % 65536) := by
  show nI k &&& nI 65535 = _
  rw [nx_and, show (65535 : Nat) = 2 ^ 16 - 1 from rfl, Nat.and_two_pow_sub_one_eq_mod]
theorem nx_m16 {k : Nat} (h : k < 65536) : nI k &&& 65535 = nI k := by rw [nx_mod, Nat.mod_eq_of_lt h]
theorem nx_mask (x : Int32) : ∃ k, k < 65536 ∧ x &&& 65535 = nI k := by
  have e : x = nI x.toBitVec.toNat := by
    apply Int32.toBitVec_inj.1
    show x.toBitVec = BitVec.ofNat 32 x.toBitVec.toNat
    simp
  refine ⟨x.toBitVec.toNat % 65536, Nat.mod_lt _ (by omega), ?_⟩
  rw [← nx_mod, ← e]
/-! ===== Int32 as a set of bits: test, set ===== -/
def nf_M (m : Int32) : Nat := 4294967296 - m.toBitVec.toNat
theorem nf_sh : ∀ l, l < 32 → ((1 : Int32) <<< (nI l &&& 31)).toBitVec = BitVec.twoPow 32 l := by decide +kernel
theorem nf_sl : ∀ l, l < 32 → (((nI l).toUInt32 &&& Int32.toUInt32 31).toBitVec % 32).toNat = l := by decide +kernel
theorem nf_tp : ∀ l, l < 32 → BitVec.twoPow 32 l ≠ 0#32 := by decide +kernel
theorem nf_bit (m : Int32) (l : Nat) (hl : l < 32) : ((m.toUInt32 >>> ((nI l).toUInt32 &&& Int32.toUInt32 31)).toInt32 &&& 1) = 0 ↔ (m &&& ((1 : Int32) <<< (nI l &&& 31))) = 0 := by
  have e : ((m.toUInt32 >>> ((nI l).toUInt32 &&& Int32.toUInt32 31)).toInt32).toBitVec = m.toBitVec >>> l := by
    show m.toBitVec >>> (((nI l).toUInt32 &&& Int32.toUInt32 31).toBitVec % 32) = m.toBitVec >>> l
    rw [BitVec.ushiftRight_eq', nf_sl l hl]
  rw [← Int32.toBitVec_inj, ← Int32.toBitVec_inj, Int32.toBitVec_and, Int32.toBitVec_and, nf_sh l hl, e, BitVec.and_twoPow]
  show (m.toBitVec >>> l &&& 1#32) = 0#32 ↔ _ = 0#32
  rw [BitVec.and_one_eq_setWidth_ofBool_getLsbD, BitVec.getLsbD_ushiftRight, Nat.add_zero]
  cases hb : m.toBitVec.getLsbD l
  · exact ⟨fun _ => by simp, fun _ => by decide⟩
  · exact ⟨fun z => absurd z (by decide), fun z => absurd ((if_pos rfl).symm.trans z) (nf_tp l hl)⟩
theorem nf_gr (m k : Int32) (h : m &&& k = 0) (hk : k ≠ 0) : nf_M (m ||| k) < nf_M m := by
  have hm := m.toBitVec.isLt
  have hm' := (m ||| k).toBitVec.isLt
  have h1 : m.toBitVec.toNat ≤ (m ||| k).toBitVec.toNat := by
    rw [Int32.toBitVec_or, BitVec.toNat_or]
    exact Nat.left_le_or
  have h2 : m.toBitVec.toNat ≠ (m ||| k).toBitVec.toNat := by
    intro e
    have e2 : m = m ||| k := Int32.toBitVec_inj.mp (BitVec.eq_of_toNat_eq e)
    apply hk
    apply Int32.toBitVec_inj.mp
    show k.toBitVec = 0#32
    apply BitVec.eq_of_getLsbD_eq
    intro i hi
    have a : m.toBitVec.getLsbD i = (m.toBitVec.getLsbD i || k.toBitVec.getLsbD i) := by rw [← BitVec.getLsbD_or, ← Int32.toBitVec_or, ← e2]
    have b : (m.toBitVec.getLsbD i && k.toBitVec.getLsbD i) = false := by
      rw [← BitVec.getLsbD_and, ← Int32.toBitVec_and, h]
      exact BitVec.getLsbD_zero
    rw [BitVec.getLsbD_zero]
    revert a b
    cases m.toBitVec.getLsbD i <;> cases k.toBitVec.getLsbD i <;> simp
  unfold nf_M
  omega
/-! ===== a byte read unsigned ===== -/
theorem bp_b (x : Int32) : x.toInt8.toInt32 &&& 255 = x &&& 255 := by
  apply Int32.toBitVec_inj.mp
  rw [Int32.toBitVec_and, Int32.toBitVec_and, Int8.toBitVec_toInt32, Int32.toBitVec_toInt8]
  apply BitVec.eq_of_getLsbD_eq
  intro i hi
  rw [BitVec.getLsbD_and, BitVec.getLsbD_and]
  have hm : ∀ i < 32, 8 ≤ i → (255 : Int32).toBitVec.getLsbD i = false := by decide
  rcases Nat.lt_or_ge i 8 with z | z
  · rw [BitVec.getLsbD_signExtend, BitVec.getLsbD_signExtend, if_pos z, if_pos hi]
    simp only [z, hi, decide_true, Bool.true_and]
  · rw [hm i hi z]; simp
/-! ===== the char cast and 65535 ===== -/
theorem em_w (v : Int32) : ∃ w : Nat, w < 65536 ∧ (v.toUInt32 % 65536).toInt32 = nI w ∧ v &&& 65535 = nI w := by
  have hr := lw_u16_r v
  have h0 : (0 : Int32).toInt = 0 := by decide
  obtain ⟨w, h1, h2⟩ := nI_of (x := lw_u16 v) (by rw [Int32.lt_iff_toInt_lt]; omega)
  have h3 : (v.toUInt32 % 65536).toInt32 = nI w := h2
  rw [h2, nI_toInt h1] at hr
  exact ⟨w, by omega, h3, by rw [← lg_i2c_mask, ← lg_i2c_nf, h3]⟩
/-! ===== Int64 as a set of bits: test, set, clear ===== -/
theorem ts_nf {x : Bool} (h : ¬ x = false) : x = true := by cases x <;> first | rfl | exact absurd rfl h
theorem ts_nt {x : Bool} (h : ¬ x = true) : x = false := by cases x <;> first | rfl | exact absurd rfl h
theorem ts_bit {w : Int64} {s : UInt64} {j : Nat} (hj : j < 64) (hs : s.toNat = j) : ((w.toUInt64 >>> s).toInt64 &&& 1) = 0 ↔ w.toBitVec.getLsbD j = false := by
  have e : (w.toUInt64 >>> s).toInt64.toBitVec = w.toBitVec >>> j := by
    apply BitVec.eq_of_toNat_eq
    show (w.toUInt64 >>> s).toNat = _
    rw [UInt64.toNat_shiftRight, hs, Nat.mod_eq_of_lt hj, BitVec.toNat_ushiftRight]
    rfl
  rw [← Int64.toBitVec_inj, Int64.toBitVec_and, e]
  show w.toBitVec >>> j &&& 1#64 = 0#64 ↔ _
  constructor
  · intro h
    have t := congrArg (fun x => x.getLsbD 0) h
    simpa using t
  · intro h
    apply BitVec.eq_of_getLsbD_eq
    intro i hi
    cases i with
    | zero => simp [h]
    | succ i => simp
theorem ts_or {w m : Int64} {j : Nat} (hj : j < 64) (hm : m.toBitVec = BitVec.twoPow 64 j) : (w ||| m) = w ↔ w.toBitVec.getLsbD j = true := by
  rw [← Int64.toBitVec_inj, Int64.toBitVec_or, hm]
  constructor
  · intro h
    have t := congrArg (fun x => x.getLsbD j) h
    simp only [BitVec.getLsbD_or, BitVec.getLsbD_twoPow] at t
    simpa [hj] using t.symm
  · intro h
    apply BitVec.eq_of_getLsbD_eq
    intro i hi
    rw [BitVec.getLsbD_or, BitVec.getLsbD_twoPow]
    by_cases e : j = i
    · subst e; rw [h, Bool.true_or]
    · simp [e]
theorem ts_and {w m : Int64} {j : Nat} (hj : j < 64) (hm : m.toBitVec = BitVec.twoPow 64 j) : (w &&& (m ^^^ (-1))) = w ↔ w.toBitVec.getLsbD j = false := by
  have ha : (-1 : Int64).toBitVec = BitVec.allOnes 64 := by decide
  rw [← Int64.toBitVec_inj, Int64.toBitVec_and, Int64.toBitVec_xor, hm, ha]
  constructor
  · intro h
    have t := congrArg (fun x => x.getLsbD j) h
    simp only [BitVec.getLsbD_and, BitVec.getLsbD_xor, BitVec.getLsbD_twoPow, BitVec.getLsbD_allOnes] at t
    simpa [hj] using t.symm
  · intro h
    apply BitVec.eq_of_getLsbD_eq
    intro i hi
    rw [BitVec.getLsbD_and, BitVec.getLsbD_xor, BitVec.getLsbD_twoPow, BitVec.getLsbD_allOnes]
    by_cases e : j = i
    · subst e; rw [h, Bool.false_and]
    · simp [e, hi]
/-! ===== lN n to 2^64: shifts, and, or, masks, one bit ===== -/
theorem wb_tb (n : Nat) : (lN n).toBitVec = BitVec.ofNat 64 n := rfl
theorem wb_inj {a b : Int64} (h : a.toBitVec = b.toBitVec) : a = b := Int64.toBitVec_inj.mp h
theorem wb_tn {n : Nat} (h : n < 2 ^ 64) : (lN n).toBitVec.toNat = n := by rw [wb_tb, BitVec.toNat_ofNat, Nat.mod_eq_of_lt h]
theorem wb_of (x : Int64) : ∃ n, n < 2 ^ 64 ∧ x = lN n := ⟨x.toBitVec.toNat, x.toBitVec.isLt, wb_inj (by rw [wb_tb]; simp)⟩
theorem wb_of32 (x : Int32) : ∃ n, n < 2 ^ 32 ∧ x = nI n := ⟨x.toBitVec.toNat, x.toBitVec.isLt, Int32.toBitVec_inj.mp (by show _ = BitVec.ofNat 32 _; simp)⟩
theorem wb_c : ∀ k, k < 64 → ((nI k).toInt64 &&& 63) = lN k := by decide +kernel
theorem wb_cu : ∀ k, k < 64 → ((nI k).toInt64.toUInt64 &&& Int64.toUInt64 63) = UInt64.ofNat k := by decide +kernel
theorem wb_sm : ∀ k, k < 64 → (BitVec.ofNat 64 k).smod 64 = BitVec.ofNat 64 k := by decide +kernel
theorem wb_pw {a b : Nat} (h : a ≤ b) : 2 ^ b = 2 ^ a * 2 ^ (b - a) := by rw [← Nat.pow_add]; congr 1; omega
theorem wb_lt2 {a b : Nat} (h : a < b) : 2 ^ a < 2 ^ b := Nat.pow_lt_pow_right (by decide) h
theorem wb_mod (n : Nat) : lN n = lN (n % 2 ^ 64) := wb_inj (by rw [wb_tb, wb_tb]; apply BitVec.eq_of_toNat_eq; rw [BitVec.toNat_ofNat, BitVec.toNat_ofNat, Nat.mod_mod])
theorem wb_shr {n k : Nat} (hn : n < 2 ^ 64) (hk : k < 64) : ((lN n).toUInt64 >>> ((nI k).toInt64.toUInt64 &&& Int64.toUInt64 63)).toInt64 = lN (n / 2 ^ k) := by
  rw [wb_cu k hk]
  apply wb_inj
  apply BitVec.eq_of_toNat_eq
  show ((lN n).toUInt64 >>> UInt64.ofNat k).toNat = (BitVec.ofNat 64 _).toNat
  have h1 : (UInt64.ofNat k).toNat = k := by
    show (BitVec.ofNat 64 k).toNat = k
    rw [BitVec.toNat_ofNat, Nat.mod_eq_of_lt (by omega)]
  have h2 : (lN n).toUInt64.toNat = n := wb_tn hn
  rw [UInt64.toNat_shiftRight, h1, h2, Nat.mod_eq_of_lt hk, Nat.shiftRight_eq_div_pow, BitVec.toNat_ofNat, Nat.mod_eq_of_lt (Nat.lt_of_le_of_lt (Nat.div_le_self _ _) hn)]
theorem wb_shl (n : Nat) {k : Nat} (hk : k < 64) : lN n <<< ((nI k).toInt64 &&& 63) = lN (n * 2 ^ k) := by
  rw [wb_c k hk]
  apply wb_inj
  rw [Int64.toBitVec_shiftLeft, wb_tb, wb_tb, wb_tb, wb_sm k hk]
  apply BitVec.eq_of_toNat_eq
  rw [BitVec.shiftLeft_eq', BitVec.toNat_shiftLeft, BitVec.toNat_ofNat, BitVec.toNat_ofNat, BitVec.toNat_ofNat, Nat.mod_eq_of_lt (show k < 2 ^ 64 by omega), Nat.shiftLeft_eq, Nat.mul_mod, Nat.mod_mod, ← Nat.mul_mod]
theorem wb_and {a b : Nat} (ha : a < 2 ^ 64) (hb : b < 2 ^ 64) : lN a &&& lN b = lN (a &&& b) := by
  apply wb_inj
  rw [Int64.toBitVec_and, wb_tb, wb_tb, wb_tb]
  apply BitVec.eq_of_toNat_eq
  rw [BitVec.toNat_and, BitVec.toNat_ofNat, BitVec.toNat_ofNat, BitVec.toNat_ofNat, Nat.mod_eq_of_lt ha, Nat.mod_eq_of_lt hb, Nat.mod_eq_of_lt (Nat.and_lt_two_pow _ hb)]
theorem wb_or {a b : Nat} (ha : a < 2 ^ 64) (hb : b < 2 ^ 64) : lN a ||| lN b = lN (a ||| b) := by
  apply wb_inj
  rw [Int64.toBitVec_or, wb_tb, wb_tb, wb_tb]
  apply BitVec.eq_of_toNat_eq
  rw [BitVec.toNat_or, BitVec.toNat_ofNat, BitVec.toNat_ofNat, BitVec.toNat_ofNat, Nat.mod_eq_of_lt ha, Nat.mod_eq_of_lt hb, Nat.mod_eq_of_lt (Nat.or_lt_two_pow ha hb)]
theorem wb_mask {n k : Nat} (hn : n < 2 ^ 64) (hk : k < 64) : lN n &&& lN (2 ^ k - 1) = lN (n % 2 ^ k) := by
  rw [wb_and hn (by have := wb_lt2 hk; omega), Nat.and_two_pow_sub_one_eq_mod]
theorem wb_a1 {n : Nat} (hn : n < 2 ^ 64) : lN n &&& 1 = lN (n % 2) := wb_mask (k := 1) hn (by decide)
theorem wb_bit {n k : Nat} (hn : n < 2 ^ 64) (hk : k < 64) : ((lN n).toUInt64 >>> ((nI k).toInt64.toUInt64 &&& Int64.toUInt64 63)).toInt64 &&& 1 = lN (n / 2 ^ k % 2) := by
  rw [wb_shr hn hk, wb_a1 (Nat.lt_of_le_of_lt (Nat.div_le_self _ _) hn)]
theorem wb_xor {q k : Nat} (hk : k < 63) (h : 2 ^ k ≤ q) (h2 : q < 2 ^ (k + 1)) : lN q ^^^ lN (2 ^ k) = lN (q - 2 ^ k) := by
  obtain ⟨r, rfl⟩ : ∃ r, q = 2 ^ k + r := ⟨q - 2 ^ k, by omega⟩
  have hr : r < 2 ^ k := by rw [Nat.pow_succ] at h2; omega
  have hx : (2 ^ k + r) ^^^ 2 ^ k = r := by
    apply Nat.eq_of_testBit_eq
    intro i
    rw [Nat.testBit_xor, Nat.testBit_two_pow]
    rcases Nat.lt_trichotomy i k with h | h | h
    · rw [Nat.testBit_two_pow_add_gt h]
      simp [show ¬ k = i by omega]
    · subst h
      rw [Nat.testBit_two_pow_add_eq]
      simp
    · have a1 : 2 ^ (k + 1) ≤ 2 ^ i := Nat.pow_le_pow_right (by decide) h
      rw [Nat.testBit_lt_two_pow (show 2 ^ k + r < 2 ^ i by omega), Nat.testBit_lt_two_pow (show r < 2 ^ i by omega)]
      simp [show ¬ k = i by omega]
  have b1 := wb_lt2 (show k + 1 < 64 by omega)
  have b2 := wb_lt2 (show k < 64 by omega)
  apply wb_inj
  rw [Int64.toBitVec_xor, wb_tb, wb_tb, wb_tb]
  apply BitVec.eq_of_toNat_eq
  rw [BitVec.toNat_xor, BitVec.toNat_ofNat, BitVec.toNat_ofNat, BitVec.toNat_ofNat, Nat.mod_eq_of_lt (by omega : 2 ^ k + r < 2 ^ 64), Nat.mod_eq_of_lt b2, hx, Nat.add_sub_cancel_left, Nat.mod_eq_of_lt (by omega)]
/-! ===== lN: masks, 'or' of parts that don't overlap is a sum ===== -/
theorem u_tn {n : Nat} (h : n < 2 ^ 64) : (UInt64.ofNat n).toNat = n := Nat.mod_eq_of_lt h
theorem g_and {a b c : Nat} (ha : a < 2 ^ 64) (hb : b < 2 ^ 64) (hc : a &&& b = c) : lN a &&& lN b = lN c := by
  subst hc
  have h : UInt64.ofNat a &&& UInt64.ofNat b = UInt64.ofNat (a &&& b) := UInt64.toNat_inj.mp (by rw [UInt64.toNat_and, u_tn ha, u_tn hb, u_tn (Nat.and_lt_two_pow a hb)])
  have h2 := congrArg UInt64.toInt64 h
  exact h2
theorem g_and1 {a : Nat} (ha : a < 2 ^ 64) : lN a &&& 1 = lN (a % 2) := g_and (b := 1) ha (by decide) (Nat.and_two_pow_sub_one_eq_mod a 1)
theorem g_mask {a s p : Nat} (hp : 2 ^ s = p) (hs : s < 64) (ha : a < 2 ^ 64) : lN a &&& lN (p - 1) = lN (a % p) := by
  subst hp
  have := Nat.pow_lt_pow_right (show 1 < 2 by decide) hs
  exact g_and ha (by omega) (Nat.and_two_pow_sub_one_eq_mod a s)
theorem g_or {k p a b : Nat} (hp : 2 ^ k = p) (ha : a < p) (h : b * p + a < 2 ^ 64) : lN (b * p) ||| lN a = lN (b * p + a) := by
  subst hp
  have h1 : b * 2 ^ k ||| a = b * 2 ^ k + a := by rw [← Nat.shiftLeft_eq, Nat.shiftLeft_add_eq_or_of_lt ha]
  have h3 : UInt64.ofNat (b * 2 ^ k) ||| UInt64.ofNat a = UInt64.ofNat (b * 2 ^ k + a) := UInt64.toNat_inj.mp (by rw [UInt64.toNat_or, u_tn (by omega), u_tn (by omega), u_tn h, h1])
  have h2 := congrArg UInt64.toInt64 h3
  exact h2
theorem g_or' {k p a b : Nat} (hp : 2 ^ k = p) (ha : a < p) (h : a + b * p < 2 ^ 64) : lN a ||| lN (b * p) = lN (a + b * p) := by
  rw [Int64.or_comm, g_or hp ha (by omega), Nat.add_comm]
theorem g_ushr {a k p : Nat} {y : UInt64} (hy : y = UInt64.ofNat k) (hk : k < 64) (hp : 2 ^ k = p) (ha : a < 2 ^ 64) : ((lN a).toUInt64 >>> y).toInt64 = lN (a / p) := by
  subst hy hp
  have h : UInt64.ofNat a >>> UInt64.ofNat k = UInt64.ofNat (a / 2 ^ k) := UInt64.toNat_inj.mp (by rw [UInt64.toNat_shiftRight, u_tn ha, u_tn (by omega), u_tn (Nat.lt_of_le_of_lt (Nat.div_le_self _ _) ha), Nat.mod_eq_of_lt hk, Nat.shiftRight_eq_div_pow])
  have h2 := congrArg UInt64.toInt64 h
  exact h2
theorem g_shl {a k p : Nat} {y : Int64} (hy : y.toBitVec.smod 64 = BitVec.ofNat 64 k) (hk : k < 64) (hp : 2 ^ k = p) (ha : a < 2 ^ 64) : lN a <<< y = lN (a * p) := by
  subst hp
  apply Int64.toBitVec_inj.mp
  rw [Int64.toBitVec_shiftLeft, hy]
  apply BitVec.eq_of_toNat_eq
  have hb : (lN a).toBitVec.toNat = a := Nat.mod_eq_of_lt ha
  have hk' : (BitVec.ofNat 64 k).toNat = k := Nat.mod_eq_of_lt (by omega)
  have h : ((lN a).toBitVec <<< BitVec.ofNat 64 k).toNat = (a * 2 ^ k) % 2 ^ 64 := by simp only [BitVec.shiftLeft_eq', BitVec.toNat_shiftLeft, hb, hk', Nat.shiftLeft_eq]
  exact h
/-! ===== lN to 2^62 under >> and >>> ===== -/
theorem pf_lI {a : Nat} (h : a < 2 ^ 63) : (lN a).toInt = (a : Int) := lg_ofNat_toInt h
theorem pf_shr {a d : Nat} {D : Int64} (hD : (D.toBitVec.smod 64).toNat = d) (h : a < 2 ^ 62) : lN a >>> D = lN (a / 2 ^ d) := by
  have hd : a / 2 ^ d ≤ a := Nat.div_le_self _ _
  apply Int64.toInt_inj.mp
  have e : (lN a >>> D).toInt = (lN a).toInt >>> d := by
    rw [← hD]
    exact BitVec.toInt_sshiftRight ..
  rw [e, Int.shiftRight_eq_div_pow, pf_lI (by omega), pf_lI (by omega)]
  rfl
theorem pf_ushr {a d : Nat} {D : UInt64} (hD : D.toNat % 64 = d) (h : a < 2 ^ 62) : ((lN a).toUInt64 >>> D).toInt64 = lN (a / 2 ^ d) := by
  have hd : a / 2 ^ d ≤ a := Nat.div_le_self _ _
  have e : (lN a).toUInt64 >>> D = UInt64.ofNat (a / 2 ^ d) := UInt64.toNat_inj.mp (by
    rw [UInt64.toNat_shiftRight, hD, Nat.shiftRight_eq_div_pow, UInt64.toNat_ofNat']
    show (UInt64.ofNat a).toNat / 2 ^ d = _
    rw [UInt64.toNat_ofNat', Nat.mod_eq_of_lt (by omega), Nat.mod_eq_of_lt (by omega)])
  rw [e]
  rfl
theorem pf_andw (x : Int64) : ∃ m, m < 2 ^ 32 ∧ x &&& 4294967295 = lN m := ⟨x.toBitVec.toNat % 2 ^ 32, Nat.mod_lt _ (by decide), Int64.toBitVec_inj.mp (BitVec.eq_of_toNat_eq (by
  show (x.toBitVec &&& 4294967295#64).toNat = (BitVec.ofNat 64 (x.toBitVec.toNat % 2 ^ 32)).toNat
  rw [BitVec.toNat_and, show (4294967295#64).toNat = 2 ^ 32 - 1 from by decide, Nat.and_two_pow_sub_one_eq_mod, BitVec.toNat_ofNat]
  omega))⟩
/-! ===== Int64 as an unsigned number: uN x ===== -/
def uN (x : Int64) : Nat := x.toUInt64.toNat
theorem uN_lt (x : Int64) : uN x < 18446744073709551616 := x.toUInt64.toNat_lt
theorem uN_inj {x y : Int64} (h : uN x = uN y) : x = y := congrArg UInt64.toInt64 (UInt64.toNat_inj.mp h)
theorem uN_add (x y : Int64) : uN (x + y) = (uN x + uN y) % 18446744073709551616 := by
  show (x.toUInt64 + y.toUInt64).toNat = _
  exact UInt64.toNat_add _ _
theorem uN_mul (x y : Int64) : uN (x * y) = (uN x * uN y) % 18446744073709551616 := by
  show (x.toUInt64 * y.toUInt64).toNat = _
  exact UInt64.toNat_mul _ _
theorem uN_shl (x : Int64) : uN (x <<< ((1 : Int32).toInt64 &&& 63)) = (2 * uN x) % 18446744073709551616 := by
  have h : (((1 : Int32).toInt64 &&& 63).toBitVec.smod 64).toNat = 1 := by decide
  show (x.toBitVec <<< (((1 : Int32).toInt64 &&& 63).toBitVec.smod 64).toNat).toNat = _
  rw [h, BitVec.toNat_shiftLeft, Nat.shiftLeft_eq, Nat.mul_comm]
  rfl
theorem uN_shr (x : Int64) (s : UInt64) : uN (x.toUInt64 >>> s).toInt64 = uN x / 2 ^ (s.toNat % 64) := by
  show (x.toUInt64 >>> s).toNat = _
  rw [UInt64.toNat_shiftRight, Nat.shiftRight_eq_div_pow]
  rfl
theorem uN_s32 (x : Int64) : uN (x.toUInt64 >>> ((32 : Int32).toInt64.toUInt64 &&& Int64.toUInt64 63)).toInt64 = uN x / 4294967296 := by
  have h : ((32 : Int32).toInt64.toUInt64 &&& Int64.toUInt64 63).toNat % 64 = 32 := by decide
  rw [uN_shr, h]
theorem uN_s63 (x : Int64) : uN (x.toUInt64 >>> ((63 : Int32).toInt64.toUInt64 &&& Int64.toUInt64 63)).toInt64 = uN x / 9223372036854775808 := by
  have h : ((63 : Int32).toInt64.toUInt64 &&& Int64.toUInt64 63).toNat % 64 = 63 := by decide
  rw [uN_shr, h]
theorem uN_lo (x : Int64) : uN (x &&& 4294967295) = uN x % 4294967296 := by
  show (x.toUInt64 &&& Int64.toUInt64 4294967295).toNat = _
  rw [UInt64.toNat_and]
  exact Nat.and_two_pow_sub_one_eq_mod _ 32
theorem uN_bit (x : Int64) : (x &&& 1) = 0 ↔ uN x % 2 = 0 := by
  have h : uN (x &&& 1) = uN x % 2 := by
    show (x.toUInt64 &&& Int64.toUInt64 1).toNat = _
    rw [UInt64.toNat_and]
    exact Nat.and_two_pow_sub_one_eq_mod _ 1
  rw [← h]
  exact ⟨fun z => by rw [z]; rfl, fun z => uN_inj (z.trans rfl)⟩
theorem uN_or {x y : Int64} (hy : uN y < 2) : uN ((x <<< ((1 : Int32).toInt64 &&& 63)) ||| y) = (2 * uN x) % 18446744073709551616 + uN y := by
  have h1 : uN ((x <<< ((1 : Int32).toInt64 &&& 63)) ||| y) = uN (x <<< ((1 : Int32).toInt64 &&& 63)) ||| uN y := UInt64.toNat_or _ _
  have h2 : (2 * uN x) % 18446744073709551616 = 2 ^ 1 * (uN x % 9223372036854775808) := by omega
  rw [h1, uN_shl, h2]
  exact (Nat.two_pow_add_eq_or_of_lt (i := 1) hy _).symm
theorem nat_xor {a : Nat} (h : a < 18446744073709551616) : a ^^^ 2 ^ 63 = (a + 9223372036854775808) % 18446744073709551616 := by
  have h1 : (a ^^^ 2 ^ 63) % 2 ^ 63 = a % 2 ^ 63 := by rw [Nat.xor_mod_two_pow, Nat.mod_self, Nat.xor_zero]
  have h2 : (a ^^^ 2 ^ 63) / 2 ^ 63 = (a / 2 ^ 63) ^^^ 1 := by rw [Nat.xor_div_two_pow, Nat.div_self (Nat.two_pow_pos 63)]
  have h3 : a / 2 ^ 63 = 0 ∨ a / 2 ^ 63 = 1 := by omega
  generalize a ^^^ 2 ^ 63 = t at h1 h2
  rcases h3 with h3 | h3
  · rw [h3] at h2
    have h2 : t / 2 ^ 63 = 1 := h2
    omega
  · rw [h3] at h2
    have h2 : t / 2 ^ 63 = 0 := h2
    omega
theorem uN_xor (x : Int64) : uN (x ^^^ (-9223372036854775808)) = (uN x + 9223372036854775808) % 18446744073709551616 := by
  rw [← nat_xor (uN_lt x)]
  exact UInt64.toNat_xor _ _
theorem uN_int (x : Int64) : x.toInt = if 2 * uN x < 18446744073709551616 then (uN x : Int) else (uN x : Int) - 18446744073709551616 := BitVec.toInt_eq_toNat_cond _
theorem uN_le (x y : Int64) : (x ^^^ (-9223372036854775808)) ≤ (y ^^^ (-9223372036854775808)) ↔ uN x ≤ uN y := by
  have hx := uN_lt x
  have hy := uN_lt y
  rw [Int64.le_iff_toInt_le, uN_int, uN_int, uN_xor, uN_xor]
  omega
theorem uN_sk (x : Int64) {k : Nat} (hk : k < 64) : uN (x.toUInt64 >>> ((nI k).toInt64.toUInt64 &&& Int64.toUInt64 63)).toInt64 = uN x / 2 ^ k := by
  have h : ((nI k).toInt64.toUInt64 &&& Int64.toUInt64 63).toNat % 64 = k := by
    rw [nI_l (by omega), UInt64.toNat_and]
    have e : (lN k).toUInt64.toNat = k % 2 ^ 64 := rfl
    have e2 : (Int64.toUInt64 63).toNat = 2 ^ 6 - 1 := by decide
    rw [e, e2, Nat.and_two_pow_sub_one_eq_mod]
    omega
  rw [uN_shr, h]
/-! ===== unsigned comparison by xor with the least ===== -/
theorem lN_bv (n : Nat) : (lN n).toBitVec = BitVec.ofNat 64 n := rfl
theorem lN_nat {n : Nat} (h : n < 2 ^ 64) : (lN n).toBitVec.toNat = n := by rw [lN_bv, BitVec.toNat_ofNat]; exact Nat.mod_eq_of_lt h
theorem lN_xor (a b : Nat) : lN a ^^^ lN b = lN (a ^^^ b) := by
  apply Int64.toBitVec_inj.mp; rw [Int64.toBitVec_xor, lN_bv, lN_bv, lN_bv]; apply BitVec.eq_of_getLsbD_eq; intro i hi; simp [BitVec.getLsbD_ofNat, Nat.testBit_xor, hi]
theorem lN_ti {m : Nat} (h : m < 2 ^ 64) : (lN m).toInt = if m < 2 ^ 63 then (m : Int) else (m : Int) - 2 ^ 64 := by
  have c := BitVec.toInt_eq_toNat_cond (lN m).toBitVec
  rw [lN_nat h] at c
  show (lN m).toBitVec.toInt = _
  rw [c]
  split <;> split <;> omega
theorem xor63 {x : Nat} (h : x < 2 ^ 63) : x ^^^ 2 ^ 63 = 2 ^ 63 + x := by
  apply Nat.eq_of_testBit_eq
  intro i
  rw [Nat.testBit_xor, Nat.testBit_two_pow]
  rcases Nat.lt_trichotomy i 63 with z | z | z
  · rw [Nat.testBit_two_pow_add_gt z, decide_eq_false (by omega)]; simp
  · subst z; rw [Nat.testBit_two_pow_add_eq]; simp
  · have hp : 2 ^ 64 ≤ 2 ^ i := Nat.pow_le_pow_right (by decide) z
    rw [Nat.testBit_lt_two_pow (show x < 2 ^ i by omega), Nat.testBit_lt_two_pow (show 2 ^ 63 + x < 2 ^ i by omega), decide_eq_false (by omega)]; rfl
theorem xorS {a : Nat} (h : a < 2 ^ 64) : (lN a ^^^ (-9223372036854775808)).toInt = (a : Int) - 2 ^ 63 := by
  rw [show (-9223372036854775808 : Int64) = lN (2 ^ 63) from by decide +kernel, lN_xor]
  rcases Nat.lt_or_ge a (2 ^ 63) with z | z
  · rw [xor63 z, lN_ti (by omega), if_neg (by omega)]; omega
  · obtain ⟨x, rfl⟩ : ∃ x, a = 2 ^ 63 + x := ⟨a - 2 ^ 63, by omega⟩
    rw [← xor63 (by omega), Nat.xor_assoc, Nat.xor_self, Nat.xor_zero, lN_ti (by omega), if_pos (by omega), xor63 (by omega)]; omega
theorem ultL {a b : Nat} (ha : a < 2 ^ 64) (hb : b < 2 ^ 64) : ((lN b ^^^ (-9223372036854775808)) ≤ (lN a ^^^ (-9223372036854775808))) ↔ b ≤ a := by
  rw [Int64.le_iff_toInt_le, xorS ha, xorS hb]; omega
/-! ===== Int64 masks of n low bits ===== -/
theorem cr_bits (W U M : BitVec 64) : ((W &&& U) &&& (U &&& (M ^^^ BitVec.allOnes 64))) = 0#64 ↔ (W &&& U) &&& M = W &&& U := by
  constructor
  · intro h
    apply BitVec.eq_of_getLsbD_eq
    intro i hi
    have e := congrArg (fun x => BitVec.getLsbD x i) h
    simp only [BitVec.getLsbD_and, BitVec.getLsbD_xor, BitVec.getLsbD_allOnes, BitVec.getLsbD_zero, hi, decide_true] at e ⊢
    revert e
    cases W.getLsbD i <;> cases U.getLsbD i <;> cases M.getLsbD i <;> decide
  · intro h
    apply BitVec.eq_of_getLsbD_eq
    intro i hi
    have e := congrArg (fun x => BitVec.getLsbD x i) h
    simp only [BitVec.getLsbD_and, BitVec.getLsbD_xor, BitVec.getLsbD_allOnes, BitVec.getLsbD_zero, hi, decide_true] at e ⊢
    revert e
    cases W.getLsbD i <;> cases U.getLsbD i <;> cases M.getLsbD i <;> decide
theorem cr_mask (w U m : Int64) (n : Nat) (hm : m.toBitVec.toNat = 2 ^ n - 1) : ((w &&& U) &&& (U &&& (m ^^^ (-1)))) = 0 ↔ (w &&& U).toBitVec.toNat < 2 ^ n := by
  have e0 : (-1 : Int64).toBitVec = BitVec.allOnes 64 := by decide
  have z0 : (0 : Int64).toBitVec = 0#64 := by decide
  rw [← Int64.toBitVec_inj, z0, Int64.toBitVec_and, Int64.toBitVec_and, Int64.toBitVec_and, Int64.toBitVec_xor, e0, cr_bits]
  generalize w.toBitVec &&& U.toBitVec = T
  rw [← BitVec.toNat_inj, BitVec.toNat_and, hm, Nat.and_two_pow_sub_one_eq_mod]
  constructor
  · intro h
    have t := Nat.mod_lt T.toNat (Nat.two_pow_pos n)
    rw [h] at t
    exact t
  · exact Nat.mod_eq_of_lt
theorem cr_shr (t : Int64) (x : UInt64) (n : Nat) (hx : x.toNat % 64 = n) : (t.toUInt64 >>> x).toInt64 = 0 ↔ t.toBitVec.toNat < 2 ^ n := by
  rw [← Int64.toBitVec_inj, ← BitVec.toNat_inj]
  show (t.toUInt64 >>> x).toNat = 0 ↔ t.toUInt64.toNat < 2 ^ n
  rw [UInt64.toNat_shiftRight, hx, Nat.shiftRight_eq_div_pow]
  constructor
  · intro h
    have d : t.toUInt64.toNat / 2 ^ n < 1 := by
      rw [h]
      decide
    have e := (Nat.div_lt_iff_lt_mul (Nat.two_pow_pos n)).mp d
    rw [Nat.one_mul] at e
    exact e
  · exact Nat.div_eq_of_lt
theorem cr_amt (s : Int64) : ∃ n, n < 64 ∧ s &&& 63 = lN n ∧ (s.toUInt64 &&& Int64.toUInt64 63).toNat % 64 = n := by
  have e : (s.toUInt64 &&& Int64.toUInt64 63).toNat = s.toUInt64.toNat % 2 ^ 6 := by
    rw [UInt64.toNat_and, show (Int64.toUInt64 63).toNat = 2 ^ 6 - 1 from by decide, Nat.and_two_pow_sub_one_eq_mod]
  refine ⟨s.toUInt64.toNat % 2 ^ 6, by omega, ?_, by omega⟩
  rw [← Int64.toBitVec_inj, ← BitVec.toNat_inj]
  show (s.toUInt64 &&& Int64.toUInt64 63).toNat = (BitVec.ofNat 64 (s.toUInt64.toNat % 2 ^ 6)).toNat
  rw [e, BitVec.toNat_ofNat]
  omega
end
section
/-! paths as lists of numbers: places, codes, lengths -/
def yk_at : List Nat → Nat → Nat
  | [], _ => 0
  | x :: _, 0 => x
  | _ :: r, i + 1 => yk_at r i
theorem yk_at_app1 (q : List Nat) : ∀ (p : List Nat) (i : Nat), i < p.length → yk_at (p ++ q) i = yk_at p i := by
  intro p
  induction p with
  | nil => intro i h; exact absurd h (Nat.not_lt_zero _)
  | cons x p ih =>
    intro i h
    cases i with
    | zero => rfl
    | succ i => exact ih i (Nat.lt_of_succ_lt_succ h)
theorem yk_at_app2 (q : List Nat) : ∀ (p : List Nat) (i : Nat), yk_at (p ++ q) (p.length + i) = yk_at q i := by
  intro p
  induction p with
  | nil => intro i; rw [List.length_nil, Nat.zero_add, List.nil_append]
  | cons x p ih =>
    intro i
    have e : (x :: p).length + i = (p.length + i) + 1 := by rw [List.length_cons]; omega
    rw [e]
    exact ih i
theorem yk_at_snoc (p : List Nat) (x : Nat) : yk_at (p ++ [x]) p.length = x := yk_at_app2 [x] p 0
theorem yk_at_mem : ∀ (p : List Nat) (i : Nat), i < p.length → yk_at p i ∈ p := by
  intro p
  induction p with
  | nil => intro i h; exact absurd h (Nat.not_lt_zero _)
  | cons x p ih =>
    intro i h
    cases i with
    | zero => exact List.mem_cons_self
    | succ i => exact List.mem_cons_of_mem _ (ih i (Nat.lt_of_succ_lt_succ h))
theorem yk_mem_at {x : Nat} : ∀ (p : List Nat), x ∈ p → ∃ i, i < p.length ∧ yk_at p i = x := by
  intro p
  induction p with
  | nil => intro h; exact absurd h List.not_mem_nil
  | cons y p ih =>
    intro h
    rcases List.mem_cons.mp h with e | h
    · exact ⟨0, Nat.succ_pos _, e.symm⟩
    · obtain ⟨i, hi, e⟩ := ih h
      exact ⟨i + 1, Nat.succ_lt_succ hi, e⟩
theorem yk_ext : ∀ (p q : List Nat), p.length = q.length → (∀ i, i < p.length → yk_at p i = yk_at q i) → p = q := by
  intro p
  induction p with
  | nil =>
    intro q h _
    cases q with
    | nil => rfl
    | cons y q => exact absurd h (by simp)
  | cons x p ih =>
    intro q h e
    cases q with
    | nil => exact absurd h (by simp)
    | cons y q =>
      have h0 : x = y := e 0 (Nat.succ_pos _)
      have h1 : p = q := ih q (Nat.succ.inj h) (fun i hi => e (i + 1) (Nat.succ_lt_succ hi))
      rw [h0, h1]
theorem yk_nd : ∀ (p : List Nat), p.Nodup → ∀ i j, i < j → j < p.length → yk_at p i ≠ yk_at p j := by
  intro p
  induction p with
  | nil => intro _ i j _ h; exact absurd h (Nat.not_lt_zero _)
  | cons x p ih =>
    intro h i j hij hj
    have hn := List.nodup_cons.mp h
    cases j with
    | zero => exact absurd hij (Nat.not_lt_zero _)
    | succ j =>
      cases i with
      | zero =>
        intro e
        have e2 : x = yk_at p j := e
        exact hn.1 (e2 ▸ yk_at_mem p j (Nat.lt_of_succ_lt_succ hj))
      | succ i => exact ih hn.2 i j (Nat.lt_of_succ_lt_succ hij) (Nat.lt_of_succ_lt_succ hj)
theorem yk_nd_of : ∀ (p : List Nat), (∀ i j, i < j → j < p.length → yk_at p i ≠ yk_at p j) → p.Nodup := by
  intro p
  induction p with
  | nil => intro _; exact List.nodup_nil
  | cons x p ih =>
    intro h
    refine List.nodup_cons.mpr ⟨fun hx => ?_, ih fun i j hij hj => h (i + 1) (j + 1) (Nat.succ_lt_succ hij) (Nat.succ_lt_succ hj)⟩
    obtain ⟨i, hi, e⟩ := yk_mem_at p hx
    exact h 0 (i + 1) (Nat.succ_pos _) (Nat.succ_lt_succ hi) e.symm
theorem yk_at_lt {B : Nat} (hB : 0 < B) : ∀ (p : List Nat), (∀ x, x ∈ p → x < B) → ∀ i, yk_at p i < B := by
  intro p
  induction p with
  | nil => intro _ i; exact hB
  | cons x p ih =>
    intro h i
    cases i with
    | zero => exact h x List.mem_cons_self
    | succ i => exact ih (fun y hy => h y (List.mem_cons_of_mem _ hy)) i
theorem yk_all_of {P : Nat → Prop} (p : List Nat) (h : ∀ i, i < p.length → P (yk_at p i)) : ∀ x, x ∈ p → P x := by
  intro x hx
  obtain ⟨i, hi, e⟩ := yk_mem_at p hx
  exact e ▸ h i hi
theorem yk_at_out : ∀ (p : List Nat) (i : Nat), p.length ≤ i → yk_at p i = 0 := by
  intro p
  induction p with
  | nil => intro i _; rfl
  | cons x p ih =>
    intro i h
    cases i with
    | zero => exact absurd h (by simp)
    | succ i => exact ih i (Nat.le_of_succ_le_succ h)
theorem yk_at_take : ∀ (p : List Nat) (n i : Nat), i < n → yk_at (p.take n) i = yk_at p i := by
  intro p
  induction p with
  | nil => intro n i _; rw [List.take_nil]
  | cons x p ih =>
    intro n i h
    cases n with
    | zero => exact absurd h (Nat.not_lt_zero _)
    | succ n =>
      cases i with
      | zero => rfl
      | succ i => exact ih n i (Nat.lt_of_succ_lt_succ h)
/-- a list without repetitions inside another is not longer -/
theorem yk_sub_len : ∀ (l m : List Nat), l.Nodup → (∀ x, x ∈ l → x ∈ m) → l.length ≤ m.length := by
  intro l
  induction l with
  | nil => intro m _ _; exact Nat.zero_le _
  | cons a l ih =>
    intro m hn hs
    have hc := List.nodup_cons.mp hn
    have ha : a ∈ m := hs a List.mem_cons_self
    have h1 : l.length ≤ (m.erase a).length := ih (m.erase a) hc.2 fun x hx =>
      (List.mem_erase_of_ne (fun e : x = a => hc.1 (e ▸ hx))).mpr (hs x (List.mem_cons_of_mem _ hx))
    have h2 : (m.erase a).length = m.length - 1 := List.length_erase_of_mem ha
    have h3 : 0 < m.length := List.length_pos_of_mem ha
    rw [List.length_cons]
    omega
theorem yk_len7 (l : List Nat) (hn : l.Nodup) (h : ∀ x, x ∈ l → x < 7) : l.length ≤ 7 := by
  have := yk_sub_len l (List.range 7) hn (fun x hx => List.mem_range.mpr (h x hx))
  rwa [List.length_range] at this
/-- the first n digits to base 8 -/
def yk_cd : Nat → List Nat → Nat
  | 0, _ => 0
  | n + 1, p => 8 * yk_cd n p + yk_at p n
theorem yk_cd_lt {p : List Nat} (h : ∀ i, yk_at p i < 8) : ∀ n, yk_cd n p < 8 ^ n := by
  intro n
  induction n with
  | zero => exact Nat.one_pos
  | succ n ih =>
    have := h n
    rw [yk_cd, Nat.pow_succ]
    omega
theorem yk_cd_div {p : List Nat} (h : ∀ i, yk_at p i < 8) (n : Nat) : ∀ m, yk_cd (n + m) p / 8 ^ m = yk_cd n p := by
  intro m
  induction m with
  | zero => rw [Nat.pow_zero, Nat.div_one]; rfl
  | succ m ih =>
    have e : yk_cd (n + (m + 1)) p = 8 * yk_cd (n + m) p + yk_at p (n + m) := rfl
    have h1 := h (n + m)
    rw [e, Nat.pow_succ, Nat.mul_comm (8 ^ m) 8, ← Nat.div_div_eq_div_mul]
    have h2 : (8 * yk_cd (n + m) p + yk_at p (n + m)) / 8 = yk_cd (n + m) p := by omega
    rw [h2, ih]
theorem yk_cd_dig {p : List Nat} (h : ∀ i, yk_at p i < 8) (n m : Nat) : yk_cd (n + 1 + m) p / 8 ^ m % 8 = yk_at p n := by
  rw [yk_cd_div h (n + 1) m]
  have e : yk_cd (n + 1) p = 8 * yk_cd n p + yk_at p n := rfl
  have := h n
  omega
theorem yk_cd_congr {p q : List Nat} : ∀ n, (∀ j, j < n → yk_at p j = yk_at q j) → yk_cd n p = yk_cd n q := by
  intro n
  induction n with
  | zero => intro _; rfl
  | succ n ih =>
    intro h
    rw [yk_cd, yk_cd, ih fun j hj => h j (by omega), h n (by omega)]
theorem yk_cd_inv {p q : List Nat} (hp : ∀ i, yk_at p i < 8) (hq : ∀ i, yk_at q i < 8) : ∀ n, yk_cd n p = yk_cd n q → ∀ j, j < n → yk_at p j = yk_at q j := by
  intro n
  induction n with
  | zero => intro _ j hj; exact absurd hj (Nat.not_lt_zero _)
  | succ n ih =>
    intro h j hj
    rw [yk_cd, yk_cd] at h
    have h1 := hp n
    have h2 := hq n
    by_cases e : j = n
    · subst e; omega
    · exact ih (by omega) j (by omega)
theorem yk_cd_up {p q : List Nat} (hp : ∀ i, yk_at p i < 8) {n : Nat} (h : yk_cd n p < yk_cd n q) : ∀ m, yk_cd (n + m) p < yk_cd (n + m) q := by
  intro m
  induction m with
  | zero => exact h
  | succ m ih =>
    have e1 : yk_cd (n + (m + 1)) p = 8 * yk_cd (n + m) p + yk_at p (n + m) := rfl
    have e2 : yk_cd (n + (m + 1)) q = 8 * yk_cd (n + m) q + yk_at q (n + m) := rfl
    have := hp (n + m)
    omega
theorem yk_cd_lex {p q : List Nat} (hp : ∀ i, yk_at p i < 8) {i n : Nat} (hi : i < n) (he : ∀ j, j < i → yk_at p j = yk_at q j) (hl : yk_at p i < yk_at q i) : yk_cd n p < yk_cd n q := by
  have h1 : yk_cd (i + 1) p < yk_cd (i + 1) q := by
    rw [yk_cd, yk_cd, yk_cd_congr i he]
    omega
  have h2 := yk_cd_up hp h1 (n - (i + 1))
  have e : i + 1 + (n - (i + 1)) = n := by omega
  rwa [e] at h2
/-- sums of arcs -/
def yk_sm (g : Nat → Nat) (p : List Nat) : Nat → Nat
  | 0 => 0
  | n + 1 => yk_sm g p n + g (7 * yk_at p n + yk_at p (n + 1))
def yk_ln (g : Nat → Nat) (p : List Nat) : Nat := yk_sm g p (p.length - 1)
theorem yk_sm_congr {g : Nat → Nat} {p q : List Nat} : ∀ n, (∀ j, j ≤ n → yk_at p j = yk_at q j) → yk_sm g p n = yk_sm g q n := by
  intro n
  induction n with
  | zero => intro _; rfl
  | succ n ih =>
    intro h
    rw [yk_sm, yk_sm, ih fun j hj => h j (by omega), h n (by omega), h (n + 1) (Nat.le_refl _)]
theorem yk_sm_cons {g : Nat → Nat} {x : Nat} {r : List Nat} : ∀ n, yk_sm g (x :: r) (n + 1) = g (7 * x + yk_at r 0) + yk_sm g r n := by
  intro n
  induction n with
  | zero => exact Nat.add_comm 0 _
  | succ n ih =>
    have e : yk_sm g (x :: r) (n + 1 + 1) = yk_sm g (x :: r) (n + 1) + g (7 * yk_at r n + yk_at r (n + 1)) := rfl
    rw [e, ih, yk_sm]
    omega
theorem yk_sm_le {g : Nat → Nat} (hg : ∀ j, g j ≤ 50) (p : List Nat) : ∀ n, yk_sm g p n ≤ 50 * n := by
  intro n
  induction n with
  | zero => exact Nat.le_refl _
  | succ n ih =>
    have := hg (7 * yk_at p n + yk_at p (n + 1))
    rw [yk_sm]
    omega
theorem yk_sm_g {g h : Nat → Nat} {p : List Nat} : ∀ n, (∀ i, i < n → g (7 * yk_at p i + yk_at p (i + 1)) = h (7 * yk_at p i + yk_at p (i + 1))) → yk_sm g p n = yk_sm h p n := by
  intro n
  induction n with
  | zero => intro _; rfl
  | succ n ih =>
    intro e
    rw [yk_sm, yk_sm, ih fun i hi => e i (by omega), e n (by omega)]
theorem yk_sm_mono {g : Nat → Nat} {p : List Nat} {m : Nat} : ∀ n, m ≤ n → yk_sm g p m ≤ yk_sm g p n := by
  intro n
  induction n with
  | zero => intro h; rw [Nat.le_zero.mp h]; exact Nat.le_refl _
  | succ n ih =>
    intro h
    by_cases e : m = n + 1
    · rw [e]; exact Nat.le_refl _
    · have := ih (by omega)
      rw [yk_sm]
      omega
/-- a path without repetitions -/
def yk_AR (g : Nat → Nat) (p : List Nat) : Prop := ∀ i, i + 1 < p.length → 0 < g (7 * yk_at p i + yk_at p (i + 1))
def yk_PA (g : Nat → Nat) (s t : Nat) (p : List Nat) : Prop :=
  0 < p.length ∧ yk_at p 0 = s ∧ yk_at p (p.length - 1) = t ∧ p.Nodup ∧ (∀ x, x ∈ p → x < 7) ∧ yk_AR g p
def yk_key (g : Nat → Nat) (p : List Nat) : Nat := yk_ln g p * 2097152 + yk_cd 7 p
theorem yk_PA_len {g : Nat → Nat} {s t : Nat} {p : List Nat} (h : yk_PA g s t p) : p.length ≤ 7 := yk_len7 p h.2.2.2.1 h.2.2.2.2.1
theorem yk_PA_7 {g : Nat → Nat} {s t : Nat} {p : List Nat} (h : yk_PA g s t p) (i : Nat) : yk_at p i < 7 := yk_at_lt (by decide) p h.2.2.2.2.1 i
theorem yk_PA_8 {g : Nat → Nat} {s t : Nat} {p : List Nat} (h : yk_PA g s t p) (i : Nat) : yk_at p i < 8 := Nat.lt_succ_of_lt (yk_PA_7 h i)
theorem yk_PA_t {g : Nat → Nat} {s t : Nat} {p : List Nat} (h : yk_PA g s t p) (i : Nat) (hi : i + 1 < p.length) : yk_at p i ≠ t := by
  have h1 := yk_nd p h.2.2.2.1 i (p.length - 1) (by omega) (by omega)
  rwa [h.2.2.1] at h1
theorem yk_PA_ln {g : Nat → Nat} (hg : ∀ j, g j ≤ 50) {s t : Nat} {p : List Nat} (h : yk_PA g s t p) : yk_ln g p ≤ 300 := by
  have h1 := yk_PA_len h
  have h2 := yk_sm_le hg p (p.length - 1)
  show yk_sm g p (p.length - 1) ≤ 300
  omega
theorem yk_PA_cd {g : Nat → Nat} {s t : Nat} {p : List Nat} (h : yk_PA g s t p) : yk_cd 7 p < 2097152 := yk_cd_lt (yk_PA_8 h) 7
/-- q goes with p along the first n places, and p goes further: so does q -/
theorem yk_PA_go {g : Nat → Nat} {s t : Nat} {p q : List Nat} (hp : yk_PA g s t p) (hq : yk_PA g s t q) {n : Nat} (hn : n < p.length) (h : ∀ j, j < n → yk_at q j = yk_at p j) : n < q.length := by
  refine Nat.lt_of_not_le fun hl => ?_
  have h0 := hq.1
  have h1 := h (q.length - 1) (by omega)
  rw [hq.2.2.1] at h1
  exact yk_PA_t hp (q.length - 1) (by omega) h1.symm
theorem yk_PA_eq {g : Nat → Nat} {s t : Nat} {p q : List Nat} (hp : yk_PA g s t p) (hq : yk_PA g s t q) (h : ∀ j, j < p.length → j < q.length → yk_at p j = yk_at q j) : p = q := by
  have h0 := hp.1
  have h1 := hq.1
  have a : ¬ p.length < q.length := fun hl => yk_PA_t hq (p.length - 1) (by omega) ((h (p.length - 1) (by omega) (by omega)).symm.trans hp.2.2.1)
  have b : ¬ q.length < p.length := fun hl => yk_PA_t hp (q.length - 1) (by omega) ((h (q.length - 1) (by omega) (by omega)).trans hq.2.2.1)
  exact yk_ext p q (by omega) fun i hi => h i hi (by omega)
theorem yk_key_cd {g : Nat → Nat} {s t : Nat} {p q : List Nat} (hp : yk_PA g s t p) (hq : yk_PA g s t q) (h : yk_cd 7 p = yk_cd 7 q) : p = q := by
  have hl := yk_PA_len hp
  exact yk_PA_eq hp hq fun j hj _ => yk_cd_inv (yk_PA_8 hp) (yk_PA_8 hq) 7 h j (by omega)
theorem yk_key_lt {g : Nat → Nat} {s t : Nat} {p q : List Nat} (hp : yk_PA g s t p) (hq : yk_PA g s t q) : yk_key g p < yk_key g q ↔ (yk_ln g p < yk_ln g q ∨ (yk_ln g p = yk_ln g q ∧ yk_cd 7 p < yk_cd 7 q)) := by
  have h1 := yk_PA_cd hp
  have h2 := yk_PA_cd hq
  unfold yk_key
  omega
theorem yk_key_inj {g : Nat → Nat} {s t : Nat} {p q : List Nat} (hp : yk_PA g s t p) (hq : yk_PA g s t q) (h : yk_key g p = yk_key g q) : p = q := by
  have h1 := yk_PA_cd hp
  have h2 := yk_PA_cd hq
  unfold yk_key at h
  exact yk_key_cd hp hq (by omega)
end
section
/-! the first twelve of a set in order: only one answer -/
def yk_Top (key : List Nat → Nat) (S : List Nat → Prop) (K : Nat → List Nat) (n : Nat) : Prop :=
  (∀ i j, i < j → j < n → key (K i) < key (K j)) ∧ (∀ i, i < n → S (K i)) ∧ n ≤ 12 ∧
  (∀ p, S p → (∃ i, i < n ∧ K i = p) ∨ (n = 12 ∧ ∀ i, i < n → key (K i) < key p))
theorem yk_Top_at {key : List Nat → Nat} {S : List Nat → Prop} {K K' : Nat → List Nat} {n n' : Nat} (h : yk_Top key S K n) (h' : yk_Top key S K' n') : ∀ k, k < n → k < n' ∧ K k = K' k := by
  obtain ⟨hs, hS, hn, hc⟩ := h
  obtain ⟨hs', hS', hn', hc'⟩ := h'
  intro k
  induction k using Nat.strongRecOn with
  | ind k ih =>
    intro hk
    have A : k < n' ∧ (K k = K' k ∨ key (K' k) < key (K k)) := by
      rcases hc' (K k) (hS k hk) with ⟨i, hi, e⟩ | ⟨e, hl⟩
      · have hki : k ≤ i := by
          refine Nat.le_of_not_lt fun hik => ?_
          obtain ⟨_, e2⟩ := ih i hik (by omega)
          have h3 := hs i k hik hk
          rw [e2, e] at h3
          exact Nat.lt_irrefl _ h3
        by_cases hik : k = i
        · subst hik
          exact ⟨hi, Or.inl e.symm⟩
        · refine ⟨by omega, Or.inr ?_⟩
          have h3 := hs' k i (by omega) hi
          rwa [e] at h3
      · exact ⟨by omega, Or.inr (hl k (by omega))⟩
    refine ⟨A.1, ?_⟩
    rcases A.2 with e | hlt
    · exact e
    · exfalso
      rcases hc (K' k) (hS' k A.1) with ⟨i, hi, e⟩ | ⟨e, hl⟩
      · rw [← e] at hlt
        have hik : i < k := by
          refine Nat.lt_of_not_le fun hki => ?_
          by_cases hik : k = i
          · subst hik; exact Nat.lt_irrefl _ hlt
          · have := hs k i (by omega) hi
            omega
        obtain ⟨h1, e2⟩ := ih i hik hi
        have h3 := hs' i k hik A.1
        rw [← e2, e] at h3
        exact Nat.lt_irrefl _ h3
      · have := hl k hk
        omega
theorem yk_Top_one {key : List Nat → Nat} {S : List Nat → Prop} {K K' : Nat → List Nat} {n n' : Nat} (h : yk_Top key S K n) (h' : yk_Top key S K' n') : n = n' ∧ ∀ k, k < n → K k = K' k := by
  refine ⟨?_, fun k hk => (yk_Top_at h h' k hk).2⟩
  have a : ¬ n < n' := fun hl => Nat.lt_irrefl _ (yk_Top_at h' h n hl).1
  have b : ¬ n' < n := fun hl => Nat.lt_irrefl _ (yk_Top_at h h' n' hl).1
  omega
def yk_ins (K : Nat → List Nat) (a : Nat) (p : List Nat) : Nat → List Nat := fun j => if j < a then K j else if j = a then p else K (j - 1)
theorem yk_ins_lt {K : Nat → List Nat} {a j : Nat} {p : List Nat} (h : j < a) : yk_ins K a p j = K j := if_pos h
theorem yk_ins_eq {K : Nat → List Nat} {a : Nat} {p : List Nat} : yk_ins K a p a = p := by
  unfold yk_ins
  rw [if_neg (Nat.lt_irrefl a), if_pos rfl]
theorem yk_ins_gt {K : Nat → List Nat} {a j : Nat} {p : List Nat} (h : a < j) : yk_ins K a p j = K (j - 1) := by
  unfold yk_ins
  rw [if_neg (by omega), if_neg (by omega)]
theorem yk_Top_ins {key : List Nat → Nat} {S : List Nat → Prop} {K : Nat → List Nat} {n n' a : Nat} {p : List Nat} (h : yk_Top key S K n) (ha : a ≤ n)
    (h1 : ∀ j, j < a → key (K j) < key p) (h2 : ∀ j, a ≤ j → j < n → key p < key (K j)) (hn' : (n < 12 ∧ n' = n + 1) ∨ (n = 12 ∧ n' = 12)) :
    yk_Top key (fun q => S q ∨ q = p) (yk_ins K a p) n' := by
  obtain ⟨hs, hS, hn, hc⟩ := h
  refine ⟨?_, ?_, by omega, ?_⟩
  · intro i j hij hj
    rcases Nat.lt_trichotomy j a with hja | hja | hja
    · rw [yk_ins_lt hja, yk_ins_lt (Nat.lt_trans hij hja)]
      exact hs i j hij (by omega)
    · subst hja
      rw [yk_ins_eq, yk_ins_lt hij]
      exact h1 i hij
    · rw [yk_ins_gt hja]
      rcases Nat.lt_trichotomy i a with hia | hia | hia
      · rw [yk_ins_lt hia]
        exact hs i (j - 1) (by omega) (by omega)
      · subst hia
        rw [yk_ins_eq]
        exact h2 (j - 1) (by omega) (by omega)
      · rw [yk_ins_gt hia]
        exact hs (i - 1) (j - 1) (by omega) (by omega)
  · intro i hi
    rcases Nat.lt_trichotomy i a with hia | hia | hia
    · rw [yk_ins_lt hia]
      exact Or.inl (hS i (by omega))
    · subst hia
      rw [yk_ins_eq]
      exact Or.inr rfl
    · rw [yk_ins_gt hia]
      exact Or.inl (hS (i - 1) (by omega))
  · intro q hq
    rcases hq with hq | hq
    · rcases hc q hq with ⟨i, hi, e⟩ | ⟨e12, hl⟩
      · by_cases hia : i < a
        · exact Or.inl ⟨i, by omega, (yk_ins_lt hia).trans e⟩
        · by_cases hin : i + 1 < n'
          · exact Or.inl ⟨i + 1, hin, (yk_ins_gt (by omega)).trans e⟩
          · refine Or.inr ⟨by omega, fun j hj => ?_⟩
            rw [← e]
            rcases Nat.lt_trichotomy j a with hja | hja | hja
            · rw [yk_ins_lt hja]
              exact hs j i (by omega) hi
            · subst hja
              rw [yk_ins_eq]
              exact h2 i (by omega) hi
            · rw [yk_ins_gt hja]
              exact hs (j - 1) i (by omega) hi
      · refine Or.inr ⟨by omega, fun j hj => ?_⟩
        rcases Nat.lt_trichotomy j a with hja | hja | hja
        · rw [yk_ins_lt hja]
          exact hl j (by omega)
        · subst hja
          rw [yk_ins_eq]
          exact Nat.lt_trans (h2 j (Nat.le_refl _) (by omega)) (hl j (by omega))
        · rw [yk_ins_gt hja]
          exact hl (j - 1) (by omega)
    · subst hq
      by_cases hal : a < n'
      · exact Or.inl ⟨a, hal, yk_ins_eq⟩
      · refine Or.inr ⟨by omega, fun j hj => ?_⟩
        have hja : j < a := by omega
        rw [yk_ins_lt hja]
        exact h1 j hja
theorem yk_Top_S {key : List Nat → Nat} {S S' : List Nat → Prop} {K : Nat → List Nat} {n : Nat} (h : yk_Top key S K n) (e : ∀ p, S p ↔ S' p) : yk_Top key S' K n := by
  obtain ⟨hs, hS, hn, hc⟩ := h
  exact ⟨hs, fun i hi => (e _).mp (hS i hi), hn, fun p hp => hc p ((e p).mpr hp)⟩
end
section
/-! the order of finding paths: known ones K, proposed ones C -/
def yk_AG (p q : List Nat) (n : Nat) : Prop := ∀ j, j < n → yk_at p j = yk_at q j
theorem yk_AG_mono {p q : List Nat} {m n : Nat} (h : yk_AG p q n) (hm : m ≤ n) : yk_AG p q m := fun j hj => h j (by omega)
theorem yk_AG_symm {p q : List Nat} {n : Nat} (h : yk_AG p q n) : yk_AG q p n := fun j hj => (h j hj).symm
theorem yk_AG_trans {p q r : List Nat} {n : Nat} (h : yk_AG p q n) (h' : yk_AG q r n) : yk_AG p r n := fun j hj => (h j hj).trans (h' j hj)
theorem yk_AG_succ {p q : List Nat} {n : Nat} (h : yk_AG p q n) (e : yk_at p n = yk_at q n) : yk_AG p q (n + 1) := by
  intro j hj
  by_cases hjn : j = n
  · rw [hjn]; exact e
  · exact h j (by omega)
def yk_Seg (key : List Nat → Nat) (S : List Nat → Prop) (K : Nat → List Nat) (n : Nat) : Prop :=
  (∀ i j, i < j → j < n → key (K i) < key (K j)) ∧ (∀ i, i < n → S (K i)) ∧ (∀ p, S p → (∀ i, i < n → K i ≠ p) → ∀ i, i < n → key (K i) < key p)
def yk_Cand (S : List Nat → Prop) (K : Nat → List Nat) (n : Nat) (C : Nat → List Nat) (m : Nat) : Prop :=
  (∀ c, c < m → S (C c)) ∧ (∀ c k, c < m → k < n → K k ≠ C c) ∧ (∀ c d, c < d → d < m → C c ≠ C d)
def yk_Cov (key : List Nat → Nat) (S : List Nat → Prop) (K : Nat → List Nat) (n : Nat) (C : Nat → List Nat) (m i0 : Nat) : Prop :=
  ∀ p, S p → (∀ k, k < n → K k ≠ p) → ∀ i, (∃ k, k < n ∧ yk_AG (K k) p (i + 1)) → (∀ k, k < n → ¬ yk_AG (K k) p (i + 2)) →
    (¬ yk_AG (K (n - 1)) p (i + 1) ∨ i < i0) → ∃ c, c < m ∧ yk_AG (C c) p (i + 1) ∧ key (C c) ≤ key p
/-- where a path that isn't known leaves the known ones -/
theorem yk_leave {g : Nat → Nat} {s t : Nat} {K : Nat → List Nat} {n : Nat} {p : List Nat} (hn : 0 < n) (hK : ∀ k, k < n → yk_PA g s t (K k)) (hp : yk_PA g s t p) (h : ∀ k, k < n → K k ≠ p) :
    ∃ i, (∃ k, k < n ∧ yk_AG (K k) p (i + 1)) ∧ (∀ k, k < n → ¬ yk_AG (K k) p (i + 2)) := by
  refine Classical.byContradiction fun hno => ?_
  have H : ∀ i, ∃ k, k < n ∧ yk_AG (K k) p (i + 1) := by
    intro i
    induction i with
    | zero =>
      refine ⟨0, hn, fun j hj => ?_⟩
      have e : j = 0 := by omega
      rw [e, hp.2.1, (hK 0 hn).2.1]
    | succ i ih =>
      refine Classical.byContradiction fun hn2 => hno ⟨i, ih, fun k hk ha => hn2 ⟨k, hk, ha⟩⟩
  obtain ⟨k, hk, ha⟩ := H 6
  have hl := yk_PA_len hp
  exact h k hk (yk_PA_eq (hK k hk) hp fun j _ hj => ha j (by omega))
theorem yk_Cov_0 {key : List Nat → Nat} {S : List Nat → Prop} {K : Nat → List Nat} {C : Nat → List Nat} {m : Nat} : yk_Cov key S K 1 C m 0 := by
  intro p _ _ i hi _ hq
  obtain ⟨k, hk, ha⟩ := hi
  have e : k = 0 := by omega
  rw [e] at ha
  rcases hq with hq | hq
  · exact absurd ha hq
  · exact absurd hq (Nat.not_lt_zero _)
/-- one more vertex of the latest path has been gone through -/
theorem yk_Cov_s {key : List Nat → Nat} {S : List Nat → Prop} {K : Nat → List Nat} {n : Nat} {C C' : Nat → List Nat} {m m' i0 : Nat} (h : yk_Cov key S K n C m i0)
    (hsub : ∀ c, c < m → ∃ d, d < m' ∧ C' d = C c)
    (hnew : ∀ q, S q → (∀ k, k < n → K k ≠ q) → yk_AG (K (n - 1)) q (i0 + 1) → (∀ k, k < n → ¬ yk_AG (K k) q (i0 + 2)) → ∃ c, c < m' ∧ yk_AG (C' c) q (i0 + 1) ∧ key (C' c) ≤ key q) :
    yk_Cov key S K n C' m' (i0 + 1) := by
  intro p hp hk i hi hno hq
  by_cases hc : i = i0 ∧ yk_AG (K (n - 1)) p (i + 1)
  · obtain ⟨e, ha⟩ := hc
    subst e
    exact hnew p hp hk ha hno
  · have hq2 : ¬ yk_AG (K (n - 1)) p (i + 1) ∨ i < i0 := by
      rcases hq with hq | hq
      · exact Or.inl hq
      · by_cases e : i = i0
        · exact Or.inl fun ha => hc ⟨e, ha⟩
        · exact Or.inr (by omega)
    obtain ⟨c, hcm, ha, hke⟩ := h p hp hk i hi hno hq2
    obtain ⟨d, hd, e⟩ := hsub c hcm
    exact ⟨d, hd, by rw [e]; exact ha, by rw [e]; exact hke⟩
/-- when all of the latest path's vertices have been gone through, every unknown path has a proposed one that isn't behind it -/
theorem yk_Cov_all {key : List Nat → Nat} {g : Nat → Nat} {s t : Nat} {K : Nat → List Nat} {n : Nat} {C : Nat → List Nat} {m i0 : Nat} (h : yk_Cov key (yk_PA g s t) K n C m i0) (hn : 0 < n)
    (hK : ∀ k, k < n → yk_PA g s t (K k)) (hi0 : (K (n - 1)).length ≤ i0 + 1) {p : List Nat} (hp : yk_PA g s t p) (hne : ∀ k, k < n → K k ≠ p) : ∃ c, c < m ∧ key (C c) ≤ key p := by
  obtain ⟨i, hi, hno⟩ := yk_leave hn hK hp hne
  have hq : ¬ yk_AG (K (n - 1)) p (i + 1) ∨ i < i0 := by
    by_cases ha : yk_AG (K (n - 1)) p (i + 1)
    · refine Or.inr (Nat.lt_of_not_le fun hle => ?_)
      exact hne (n - 1) (by omega) (yk_PA_eq (hK (n - 1) (by omega)) hp fun j hj _ => ha j (by omega))
    · exact Or.inl ha
  obtain ⟨c, hc, _, hk⟩ := h p hp hne i hi hno hq
  exact ⟨c, hc, hk⟩
def yk_put (K : Nat → List Nat) (n : Nat) (p : List Nat) : Nat → List Nat := fun j => if j = n then p else K j
theorem yk_put_eq {K : Nat → List Nat} {n : Nat} {p : List Nat} : yk_put K n p n = p := if_pos rfl
theorem yk_put_ne {K : Nat → List Nat} {n j : Nat} {p : List Nat} (h : j ≠ n) : yk_put K n p j = K j := if_neg h
/-- the best proposed one becomes known -/
theorem yk_Seg_s {key : List Nat → Nat} {S : List Nat → Prop} {K : Nat → List Nat} {n : Nat} {p : List Nat} (h : yk_Seg key S K n) (hp : S p) (hne : ∀ k, k < n → K k ≠ p)
    (hle : ∀ q, S q → (∀ k, k < n → K k ≠ q) → q ≠ p → key p < key q) : yk_Seg key S (yk_put K n p) (n + 1) := by
  obtain ⟨hs, hS, hc⟩ := h
  refine ⟨?_, ?_, ?_⟩
  · intro i j hij hj
    have hin : i ≠ n := by omega
    rw [yk_put_ne hin]
    by_cases e : j = n
    · rw [e, yk_put_eq]
      exact hc p hp hne i (by omega)
    · rw [yk_put_ne e]
      exact hs i j hij (by omega)
  · intro i hi
    by_cases e : i = n
    · rw [e, yk_put_eq]; exact hp
    · rw [yk_put_ne e]; exact hS i (by omega)
  · intro q hq hqn i hi
    have h1 : ∀ k, k < n → K k ≠ q := fun k hk => by
      have := hqn k (by omega)
      rwa [yk_put_ne (by omega)] at this
    have h2 : q ≠ p := fun e => by
      have := hqn n (by omega)
      rw [yk_put_eq] at this
      exact this e.symm
    by_cases e : i = n
    · rw [e, yk_put_eq]
      exact hle q hq h1 h2
    · rw [yk_put_ne e]
      exact hc q hq h1 i (by omega)
theorem yk_Cand_s {S : List Nat → Prop} {K : Nat → List Nat} {n : Nat} {C : Nat → List Nat} {m b : Nat} (h : yk_Cand S K n C (m + 1)) (hb : b < m + 1) :
    yk_Cand S (yk_put K n (C b)) (n + 1) (yk_put C b (C m)) m := by
  obtain ⟨hS, hK, hd⟩ := h
  refine ⟨?_, ?_, ?_⟩
  · intro c hc
    by_cases e : c = b
    · rw [e, yk_put_eq]; exact hS m (by omega)
    · rw [yk_put_ne e]; exact hS c (by omega)
  · intro c k hc hk
    have h1 : C b ≠ yk_put C b (C m) c := by
      by_cases e : c = b
      · rw [e, yk_put_eq]; exact hd b m (by omega) (by omega)
      · rw [yk_put_ne e]
        by_cases hl : b < c
        · exact hd b c hl (by omega)
        · exact (hd c b (by omega) hb).symm
    by_cases e : k = n
    · rw [e, yk_put_eq]; exact h1
    · rw [yk_put_ne e]
      by_cases e : c = b
      · rw [e, yk_put_eq]; exact hK m k (by omega) (by omega)
      · rw [yk_put_ne e]; exact hK c k (by omega) (by omega)
  · intro c d hcd hdm
    by_cases e : c = b
    · rw [e, yk_put_eq, yk_put_ne (by omega)]
      exact (hd d m hdm (by omega)).symm
    · rw [yk_put_ne e]
      by_cases e2 : d = b
      · rw [e2, yk_put_eq]
        exact hd c m (by omega) (by omega)
      · rw [yk_put_ne e2]
        exact hd c d hcd (by omega)
theorem yk_Cov_n {key : List Nat → Nat} {S : List Nat → Prop} {K : Nat → List Nat} {n : Nat} {C : Nat → List Nat} {m b i0 : Nat} (hn : 0 < n) (h : yk_Cov key S K n C (m + 1) i0) (hb : b < m + 1)
    (hi0 : ∀ p, S p → (∀ k, k < n → K k ≠ p) → ∀ i, yk_AG (K (n - 1)) p (i + 1) → i < i0) :
    yk_Cov key S (yk_put K n (C b)) (n + 1) (yk_put C b (C m)) m 0 := by
  intro p hp hk i hi hno hq
  have hq2 : ¬ yk_AG (C b) p (i + 1) := by
    rcases hq with hq | hq
    · have e : n + 1 - 1 = n := rfl
      rw [e, yk_put_eq] at hq
      exact hq
    · exact absurd hq (Nat.not_lt_zero _)
  have hk1 : ∀ k, k < n → K k ≠ p := fun k hkn => by
    have := hk k (by omega)
    rwa [yk_put_ne (by omega)] at this
  obtain ⟨k, hkn, ha⟩ := hi
  have hkn2 : k < n := by
    refine Nat.lt_of_not_le fun hle => ?_
    have e : k = n := by omega
    rw [e, yk_put_eq] at ha
    exact hq2 ha
  rw [yk_put_ne (by omega)] at ha
  have hno1 : ∀ k, k < n → ¬ yk_AG (K k) p (i + 2) := fun k hkn ha => by
    have := hno k (by omega)
    rw [yk_put_ne (by omega)] at this
    exact this ha
  have hq3 : ¬ yk_AG (K (n - 1)) p (i + 1) ∨ i < i0 := by
    by_cases hx : yk_AG (K (n - 1)) p (i + 1)
    · exact Or.inr (hi0 p hp hk1 i hx)
    · exact Or.inl hx
  obtain ⟨c, hc, ha2, hke⟩ := h p hp hk1 i ⟨k, hkn2, ha⟩ hno1 hq3
  have hcb : c ≠ b := fun e => hq2 (e ▸ ha2)
  by_cases e : c = m
  · refine ⟨b, by omega, ?_, ?_⟩
    · rw [yk_put_eq, ← e]; exact ha2
    · rw [yk_put_eq, ← e]; exact hke
  · exact ⟨c, by omega, by rw [yk_put_ne hcb]; exact ha2, by rw [yk_put_ne hcb]; exact hke⟩
theorem yk_Seg_Top {key : List Nat → Nat} {S : List Nat → Prop} {K : Nat → List Nat} {n : Nat} (h : yk_Seg key S K n) (hn : n ≤ 12) (hc : n = 12 ∨ ∀ p, S p → ∃ i, i < n ∧ K i = p) : yk_Top key S K n := by
  obtain ⟨hs, hS, hx⟩ := h
  refine ⟨hs, hS, hn, fun p hp => ?_⟩
  rcases hc with e | hc
  · by_cases hi : ∃ i, i < n ∧ K i = p
    · exact Or.inl hi
    · exact Or.inr ⟨e, hx p hp fun i hin ei => hi ⟨i, hin, ei⟩⟩
  · exact Or.inl (hc p hp)
end
section
/-! least lengths to the target, and the first shortest way -/
theorem yk_AR_cons {g : Nat → Nat} {x y : Nat} {r : List Nat} (h1 : 0 < g (7 * x + y)) (h2 : yk_AR g (y :: r)) : yk_AR g (x :: y :: r) := by
  intro i hi
  cases i with
  | zero => exact h1
  | succ i => exact h2 i (Nat.lt_of_succ_lt_succ hi)
theorem yk_AR_tail {g : Nat → Nat} {x : Nat} {r : List Nat} (h : yk_AR g (x :: r)) : yk_AR g r := fun i hi => h (i + 1) (Nat.succ_lt_succ hi)
theorem yk_ln_cons {g : Nat → Nat} {x y : Nat} {r : List Nat} : yk_ln g (x :: y :: r) = g (7 * x + y) + yk_ln g (y :: r) := yk_sm_cons (g := g) (x := x) (r := y :: r) r.length
def yk_DB (g : Nat → Nat) (t : Nat) (A : Nat → Prop) (D : Nat → Nat) : Prop :=
  D t = 0 ∧ (∀ u, u < 7 → A u → D u = 1000000) ∧ (∀ u, u < 7 → D u ≤ 1000000) ∧
  (∀ u, u < 7 → u ≠ t → D u < 1000000 → ∃ v, v < 7 ∧ 0 < g (7 * u + v) ∧ D v + g (7 * u + v) ≤ D u)
def yk_RI (g : Nat → Nat) (t : Nat) (A : Nat → Prop) (D0 : Nat → Nat) (a : Nat) (D : Nat → Nat) : Prop :=
  yk_DB g t A D ∧ (∀ u, u < 7 → D u ≤ D0 u) ∧ (∀ u v, u < 7 → v < 7 → 7 * u + v < a → ¬ A u → 0 < g (7 * u + v) → D u ≤ D0 v + g (7 * u + v))
theorem yk_RI_0 {g : Nat → Nat} {t : Nat} {A : Nat → Prop} {D : Nat → Nat} (h : yk_DB g t A D) : yk_RI g t A D 0 D :=
  ⟨h, fun _ _ => Nat.le_refl _, fun _ _ _ _ h => absurd h (Nat.not_lt_zero _)⟩
/-- an arc that changes nothing -/
theorem yk_RI_n {g : Nat → Nat} {t : Nat} {A : Nat → Prop} {D0 D : Nat → Nat} {a : Nat} (h : yk_RI g t A D0 a D) (ha : a < 49) (hno : g a = 0 ∨ A (a / 7) ∨ D (a / 7) ≤ D (a % 7) + g a) :
    yk_RI g t A D0 (a + 1) D := by
  obtain ⟨hb, hd, hr⟩ := h
  refine ⟨hb, hd, fun u v hu hv huv hA hg => ?_⟩
  by_cases e : 7 * u + v = a
  · have e1 : a / 7 = u := by omega
    have e2 : a % 7 = v := by omega
    rw [e1, e2, ← e] at hno
    have := hd v hv
    rcases hno with h | h | h
    · omega
    · exact absurd h hA
    · omega
  · exact hr u v hu hv (by omega) hA hg
/-- an arc that gives a less length -/
theorem yk_RI_s {g : Nat → Nat} {t : Nat} {A : Nat → Prop} {D0 D D' : Nat → Nat} {a : Nat} (h : yk_RI g t A D0 a D) (ha : a < 49) (hg : 0 < g a) (hA : ¬ A (a / 7)) (hl : D (a % 7) + g a < D (a / 7))
    (e1 : D' (a / 7) = D (a % 7) + g a) (e2 : ∀ j, j ≠ a / 7 → D' j = D j) : yk_RI g t A D0 (a + 1) D' := by
  obtain ⟨⟨ht, hc, hf, hx⟩, hd, hr⟩ := h
  have hle : ∀ j, D' j ≤ D j := fun j => by
    by_cases e : j = a / 7
    · rw [e, e1]; omega
    · rw [e2 j e]; exact Nat.le_refl _
  have hut : t ≠ a / 7 := fun e => by rw [← e, ht] at hl; omega
  refine ⟨⟨?_, ?_, ?_, ?_⟩, ?_, ?_⟩
  · rw [e2 t hut]; exact ht
  · intro u hu hAu
    rw [e2 u (fun e => hA (e ▸ hAu))]
    exact hc u hu hAu
  · intro u hu
    exact Nat.le_trans (hle u) (hf u hu)
  · intro u hu hut2 hlt
    by_cases e : u = a / 7
    · refine ⟨a % 7, by omega, ?_, ?_⟩
      · have e3 : 7 * u + a % 7 = a := by omega
        rw [e3]; exact hg
      · have e3 : 7 * u + a % 7 = a := by omega
        have := hle (a % 7)
        rw [e3, e, e1]
        omega
    · rw [e2 u e] at hlt ⊢
      obtain ⟨v, hv, hgv, hdv⟩ := hx u hu hut2 hlt
      have := hle v
      exact ⟨v, hv, hgv, by omega⟩
  · intro u hu
    exact Nat.le_trans (hle u) (hd u hu)
  · intro u v hu hv huv hAu hguv
    by_cases e : 7 * u + v = a
    · have e3 : a / 7 = u := by omega
      have e4 : a % 7 = v := by omega
      have := hd v hv
      rw [e3, e4] at e1
      rw [e1, e]
      omega
    · have h1 := hr u v hu hv (by omega) hAu hguv
      have h2 := hle u
      omega
def yk_UB (g : Nat → Nat) (t : Nat) (A : Nat → Prop) (k : Nat) (D : Nat → Nat) : Prop :=
  ∀ q : List Nat, 0 < q.length → q.length ≤ k + 1 → yk_at q (q.length - 1) = t → (∀ x, x ∈ q → x < 7 ∧ ¬ A x) → yk_AR g q → D (yk_at q 0) ≤ yk_ln g q
theorem yk_UB_0 {g : Nat → Nat} {t : Nat} {A : Nat → Prop} {D : Nat → Nat} (h : D t = 0) : yk_UB g t A 0 D := by
  intro q h0 h1 hl _ _
  have e : q.length - 1 = 0 := by omega
  rw [e] at hl
  rw [hl, h]
  exact Nat.zero_le _
theorem yk_UB_s {g : Nat → Nat} {t : Nat} {A : Nat → Prop} {D0 D : Nat → Nat} {k : Nat} (h : yk_UB g t A k D0) (hr : yk_RI g t A D0 49 D) : yk_UB g t A (k + 1) D := by
  intro q h0 h1 hl hq ha
  cases q with
  | nil => exact absurd h0 (Nat.lt_irrefl _)
  | cons x r =>
    cases r with
    | nil =>
      have e : x = t := hl
      show D x ≤ _
      rw [e, hr.1.1]
      exact Nat.zero_le _
    | cons y r =>
      have hx := hq x List.mem_cons_self
      have hy := hq y (List.mem_cons_of_mem _ List.mem_cons_self)
      have hg : 0 < g (7 * x + y) := ha 0 (by simp)
      have h2 : D x ≤ D0 y + g (7 * x + y) := hr.2.2 x y hx.1 hy.1 (by omega) hx.2 hg
      have h3 : D0 y ≤ yk_ln g (y :: r) := h (y :: r) (Nat.succ_pos _) (Nat.le_of_succ_le_succ h1) hl (fun z hz => hq z (List.mem_cons_of_mem _ hz)) (yk_AR_tail ha)
      show D x ≤ _
      rw [yk_ln_cons]
      omega
theorem yk_desc {g : Nat → Nat} {t : Nat} {A : Nat → Prop} {D : Nat → Nat} (ht : t < 7) (h : yk_DB g t A D) : ∀ n v, D v ≤ n → v < 7 → D v < 1000000 →
    ∃ q : List Nat, 0 < q.length ∧ yk_at q 0 = v ∧ yk_at q (q.length - 1) = t ∧ (∀ x, x ∈ q → x < 7 ∧ D x ≤ D v) ∧ q.Nodup ∧ yk_AR g q ∧ yk_ln g q ≤ D v := by
  obtain ⟨h0, hc, hf, hx⟩ := h
  have base : ∀ v, v = t → ∃ q : List Nat, 0 < q.length ∧ yk_at q 0 = v ∧ yk_at q (q.length - 1) = t ∧ (∀ x, x ∈ q → x < 7 ∧ D x ≤ D v) ∧ q.Nodup ∧ yk_AR g q ∧ yk_ln g q ≤ D v := by
    intro v e
    subst e
    refine ⟨[v], Nat.one_pos, rfl, rfl, ?_, by simp, ?_, Nat.zero_le _⟩
    · intro x hx
      rw [List.mem_singleton.mp hx]
      exact ⟨ht, Nat.le_refl _⟩
    · intro i hi
      exact absurd hi (by simp)
  intro n
  induction n with
  | zero =>
    intro v hv hv7 hlt
    by_cases e : v = t
    · exact base v e
    · obtain ⟨w, hw, hg, hd⟩ := hx v hv7 e hlt
      omega
  | succ n ih =>
    intro v hv hv7 hlt
    by_cases e : v = t
    · exact base v e
    · obtain ⟨w, hw, hg, hd⟩ := hx v hv7 e hlt
      obtain ⟨q, q0, q1, q2, q3, q4, q5, q6⟩ := ih w (by omega) hw (by omega)
      cases q with
      | nil => exact absurd q0 (Nat.lt_irrefl _)
      | cons y r =>
        have ey : y = w := q1
        subst ey
        refine ⟨v :: y :: r, Nat.succ_pos _, rfl, q2, ?_, ?_, yk_AR_cons hg q5, ?_⟩
        · intro x hx
          rcases List.mem_cons.mp hx with e | hx
          · rw [e]; exact ⟨hv7, Nat.le_refl _⟩
          · have := q3 x hx
            exact ⟨this.1, by omega⟩
        · refine List.nodup_cons.mpr ⟨fun hm => ?_, q4⟩
          have := (q3 v hm).2
          omega
        · rw [yk_ln_cons]
          omega
def yk_DF (g : Nat → Nat) (t : Nat) (A : Nat → Prop) (D : Nat → Nat) : Prop :=
  yk_DB g t A D ∧ (∀ u v, u < 7 → v < 7 → ¬ A u → 0 < g (7 * u + v) → D u ≤ D v + g (7 * u + v))
theorem yk_DF_of {g : Nat → Nat} {t : Nat} {A : Nat → Prop} {D : Nat → Nat} (ht : t < 7) (h : yk_DB g t A D) (hu : yk_UB g t A 6 D) : yk_DF g t A D := by
  refine ⟨h, fun u v hu7 hv7 hA hg => ?_⟩
  by_cases hv : D v < 1000000
  · obtain ⟨q, q0, q1, q2, q3, q4, q5, q6⟩ := yk_desc ht h (D v) v (Nat.le_refl _) hv7 hv
    by_cases hm : u ∈ q
    · have := (q3 u hm).2
      omega
    · cases q with
      | nil => exact absurd q0 (Nat.lt_irrefl _)
      | cons y r =>
        have ey : y = v := q1
        subst ey
        have hnd : (u :: y :: r).Nodup := List.nodup_cons.mpr ⟨hm, q4⟩
        have hall : ∀ x, x ∈ u :: y :: r → x < 7 ∧ ¬ A x := by
          intro x hx
          rcases List.mem_cons.mp hx with e | hx
          · rw [e]; exact ⟨hu7, hA⟩
          · have h3 := q3 x hx
            refine ⟨h3.1, fun hAx => ?_⟩
            have := h.2.1 x h3.1 hAx
            omega
        have hlen := yk_len7 (u :: y :: r) hnd (fun x hx => (hall x hx).1)
        have h4 : D u ≤ yk_ln g (u :: y :: r) := hu (u :: y :: r) (Nat.succ_pos _) hlen q2 hall (yk_AR_cons hg q5)
        rw [yk_ln_cons] at h4
        omega
  · have := h.2.2.1 u hu7
    omega
def yk_NR (g : Nat → Nat) (D : Nat → Nat) (u r : Nat) : Prop :=
  r < 7 ∧ 0 < g (7 * u + r) ∧ D r < 1000000 ∧ D r + g (7 * u + r) = D u ∧ ∀ v, v < r → ¬ (0 < g (7 * u + v) ∧ D v < 1000000 ∧ D v + g (7 * u + v) = D u)
theorem yk_NR_ex {g : Nat → Nat} {t : Nat} {A : Nat → Prop} {D : Nat → Nat} (h : yk_DF g t A D) {u : Nat} (hu : u < 7) (hut : u ≠ t) (hd : D u < 1000000) : ∃ r, yk_NR g D u r := by
  obtain ⟨⟨h0, hc, hf, hx⟩, hr⟩ := h
  have hA : ¬ A u := fun hA => by
    have := hc u hu hA
    omega
  obtain ⟨v, hv, hg, hle⟩ := hx u hu hut hd
  have h1 := hr u v hu hv hA hg
  obtain ⟨r, hP, hmin⟩ := pk_least (fun r => r < 7 ∧ 0 < g (7 * u + r) ∧ D r < 1000000 ∧ D r + g (7 * u + r) = D u) ⟨v, hv, hg, by omega, by omega⟩
  obtain ⟨p1, p2, p3, p4⟩ := hP
  exact ⟨r, p1, p2, p3, p4, fun w hw hP => hmin w hw ⟨by omega, hP⟩⟩
/-- what the beginning of a way is -/
def yk_PF (g : Nat → Nat) (s t : Nat) (A : Nat → Prop) (pre : List Nat) : Prop :=
  0 < pre.length ∧ yk_at pre 0 = s ∧ pre.Nodup ∧ (∀ x, x ∈ pre → x < 7 ∧ x ≠ t ∧ A x) ∧ yk_AR g pre
def yk_QP (g : Nat → Nat) (s t : Nat) (A B : Nat → Prop) (pre q : List Nat) : Prop :=
  yk_PA g s t q ∧ yk_AG q pre pre.length ∧ (∀ j, pre.length ≤ j → j < q.length → ¬ A (yk_at q j)) ∧ ¬ B (yk_at q pre.length)
def yk_Bst (g : Nat → Nat) (s t : Nat) (A B : Nat → Prop) (pre L : List Nat) : Prop :=
  yk_QP g s t A B pre L ∧ pre.length < L.length ∧ ∀ q, yk_QP g s t A B pre q → yk_key g L ≤ yk_key g q
def yk_CH (g : Nat → Nat) (D : Nat → Nat) (B : Nat → Prop) (f b : Nat) : Prop :=
  b < 7 ∧ 0 < g (7 * f + b) ∧ ¬ B b ∧ D b + g (7 * f + b) < 1000000 ∧ (∀ v, v < 7 → 0 < g (7 * f + v) → ¬ B v → D b + g (7 * f + b) ≤ D v + g (7 * f + v)) ∧
  (∀ v, v < b → 0 < g (7 * f + v) → ¬ B v → D b + g (7 * f + b) < D v + g (7 * f + v))
theorem yk_QP_len {g : Nat → Nat} {s t : Nat} {A B : Nat → Prop} {pre q : List Nat} (hp : yk_PF g s t A pre) (hq : yk_QP g s t A B pre q) : pre.length < q.length := by
  refine Nat.lt_of_not_le fun hl => ?_
  have h0 := hq.1.1
  have h1 := hq.2.1 (q.length - 1) (by omega)
  rw [hq.1.2.2.1] at h1
  have h2 := hp.2.2.2.1 _ (yk_at_mem pre (q.length - 1) (by omega))
  exact h2.2.1 h1.symm
theorem yk_QP_low {g : Nat → Nat} {s t : Nat} {A B : Nat → Prop} {pre q : List Nat} {D : Nat → Nat} (hD : yk_DF g t A D) (hq : yk_QP g s t A B pre q) : ∀ d j, j + d + 1 = q.length → pre.length ≤ j →
    D (yk_at q j) + yk_sm g q j ≤ yk_ln g q := by
  intro d
  induction d with
  | zero =>
    intro j hj _
    have e : j = q.length - 1 := by omega
    have e2 := hq.1.2.2.1
    rw [← e] at e2
    rw [e2, hD.1.1]
    show 0 + yk_sm g q j ≤ yk_sm g q (q.length - 1)
    rw [e]
    omega
  | succ d ih =>
    intro j hj hn
    have h1 := ih (j + 1) (by omega) (by omega)
    have h2 := hD.2 (yk_at q j) (yk_at q (j + 1)) (yk_PA_7 hq.1 j) (yk_PA_7 hq.1 (j + 1)) (hq.2.2.1 j hn (by omega)) (hq.1.2.2.2.2.2 j (by omega))
    rw [yk_sm] at h1
    omega
theorem yk_none {g : Nat → Nat} (hg : ∀ j, g j ≤ 50) {s t : Nat} {A B : Nat → Prop} {pre : List Nat} {D : Nat → Nat} {f : Nat} (hD : yk_DF g t A D) (hp : yk_PF g s t A pre) (hf : yk_at pre (pre.length - 1) = f)
    (h : ∀ v, v < 7 → 0 < g (7 * f + v) → ¬ B v → 1000000 ≤ D v + g (7 * f + v)) (q : List Nat) : ¬ yk_QP g s t A B pre q := by
  intro hq
  have hl := yk_QP_len hp hq
  have h0 := hp.1
  have h1 := yk_QP_low hD hq (q.length - 1 - pre.length) pre.length (by omega) (Nat.le_refl _)
  have h2 := yk_PA_ln hg hq.1
  have h3 := hq.1.2.2.2.2.2 (pre.length - 1) (by omega)
  have e : pre.length - 1 + 1 = pre.length := by omega
  rw [e, hq.2.1 (pre.length - 1) (by omega), hf] at h3
  have h4 := h _ (yk_PA_7 hq.1 pre.length) h3 hq.2.2.2
  have h5 := hg (7 * f + yk_at q pre.length)
  omega
def yk_WI (g : Nat → Nat) (t : Nat) (D : Nat → Nat) (pre : List Nat) (tot : Nat) (V : List Nat) : Prop :=
  pre.length < V.length ∧ yk_AG V pre pre.length ∧ yk_AR g V ∧ V.Nodup ∧ (∀ x, x ∈ V → x < 7) ∧
  (∀ j, pre.length ≤ j → j < V.length → D (yk_at V j) < 1000000 ∧ D (yk_at V j) + yk_sm g V j = tot) ∧
  (∀ j, pre.length ≤ j → j + 1 < V.length → yk_at V j ≠ t ∧ yk_NR g D (yk_at V j) (yk_at V (j + 1)))
theorem yk_WI_0 {g : Nat → Nat} {s t : Nat} {A B : Nat → Prop} {pre : List Nat} {D : Nat → Nat} {f b : Nat} (hD : yk_DF g t A D) (hp : yk_PF g s t A pre) (hf : yk_at pre (pre.length - 1) = f) (hb : yk_CH g D B f b) :
    yk_WI g t D pre (yk_sm g pre (pre.length - 1) + (D b + g (7 * f + b))) (pre ++ [b]) := by
  obtain ⟨p0, p1, p2, p3, p4⟩ := hp
  obtain ⟨b1, b2, b3, b4, b5, b6⟩ := hb
  have hlen : (pre ++ [b]).length = pre.length + 1 := by simp
  have hA : yk_AG (pre ++ [b]) pre pre.length := fun j hj => yk_at_app1 [b] pre j hj
  have hbA : b ∉ pre := fun hm => by
    have := hD.1.2.1 b b1 (p3 b hm).2.2
    omega
  refine ⟨by omega, hA, ?_, ?_, ?_, ?_, ?_⟩
  · intro i hi
    by_cases e : i + 1 = pre.length
    · have e2 : i = pre.length - 1 := by omega
      rw [hA i (by omega), e, yk_at_snoc, e2, hf]
      exact b2
    · rw [hA i (by omega), hA (i + 1) (by omega)]
      exact p4 i (by omega)
  · refine List.nodup_append.mpr ⟨p2, by simp, ?_⟩
    intro x hx y hy e
    rw [List.mem_singleton.mp hy] at e
    exact hbA (e ▸ hx)
  · intro x hx
    rcases List.mem_append.mp hx with hx | hx
    · exact (p3 x hx).1
    · rw [List.mem_singleton.mp hx]; exact b1
  · intro j hj hj2
    have e : j = pre.length := by omega
    subst e
    rw [yk_at_snoc]
    refine ⟨by omega, ?_⟩
    have e1 : pre.length - 1 + 1 = pre.length := by omega
    have e2 : yk_sm g (pre ++ [b]) (pre.length - 1 + 1) = yk_sm g (pre ++ [b]) (pre.length - 1) + g (7 * yk_at (pre ++ [b]) (pre.length - 1) + yk_at (pre ++ [b]) (pre.length - 1 + 1)) := rfl
    rw [e1, yk_at_snoc, hA (pre.length - 1) (by omega), hf, yk_sm_congr (pre.length - 1) (fun j hj => hA j (by omega))] at e2
    rw [e2]
    omega
  · intro j hj hj2
    exact absurd hj2 (by omega)
theorem yk_WI_s {g : Nat → Nat} {s t : Nat} {A : Nat → Prop} {pre V : List Nat} {D : Nat → Nat} {tot x y : Nat} (hD : yk_DF g t A D) (hp : yk_PF g s t A pre) (h : yk_WI g t D pre tot (V ++ [x])) (hx : x ≠ t) (hy : yk_NR g D x y) :
    yk_WI g t D pre tot (V ++ [x] ++ [y]) := by
  obtain ⟨w1, w2, w3, w4, w5, w6, w7⟩ := h
  obtain ⟨y1, y2, y3, y4, y5⟩ := hy
  have hl1 : (V ++ [x]).length = V.length + 1 := by simp
  have hlen : (V ++ [x] ++ [y]).length = V.length + 2 := by simp
  have hA : ∀ j, j < V.length + 1 → yk_at (V ++ [x] ++ [y]) j = yk_at (V ++ [x]) j := fun j hj => yk_at_app1 [y] (V ++ [x]) j (by omega)
  have hX : yk_at (V ++ [x]) V.length = x := yk_at_snoc V x
  have hY : yk_at (V ++ [x] ++ [y]) (V.length + 1) = y := by
    have := yk_at_snoc (V ++ [x]) y
    rwa [hl1] at this
  have hS : ∀ j, j ≤ V.length → yk_sm g (V ++ [x] ++ [y]) j = yk_sm g (V ++ [x]) j := fun j hj => yk_sm_congr j fun i hi => hA i (by omega)
  have hx6 := w6 V.length (by omega) (by omega)
  rw [hX] at hx6
  have hyV : y ∉ V ++ [x] := by
    intro hm
    obtain ⟨j, hj, e⟩ := yk_mem_at _ hm
    by_cases hjn : j < pre.length
    · rw [w2 j hjn] at e
      have h1 := hp.2.2.2.1 _ (yk_at_mem pre j hjn)
      rw [e] at h1
      have := hD.1.2.1 y y1 h1.2.2
      omega
    · have h1 := w6 j (by omega) hj
      rw [e] at h1
      have h2 := yk_sm_mono (g := g) (p := V ++ [x]) (m := j) V.length (by omega)
      omega
  refine ⟨by omega, fun j hj => (hA j (by omega)).trans (w2 j hj), ?_, ?_, ?_, ?_, ?_⟩
  · intro i hi
    by_cases e : i = V.length
    · rw [e, hY, hA V.length (by omega), hX]
      exact y2
    · rw [hA i (by omega), hA (i + 1) (by omega)]
      exact w3 i (by omega)
  · refine List.nodup_append.mpr ⟨w4, by simp, ?_⟩
    intro a ha c hc e
    rw [List.mem_singleton.mp hc] at e
    exact hyV (e ▸ ha)
  · intro a ha
    rcases List.mem_append.mp ha with ha | ha
    · exact w5 a ha
    · rw [List.mem_singleton.mp ha]; exact y1
  · intro j hj hj2
    by_cases e : j = V.length + 1
    · rw [e, hY]
      refine ⟨y3, ?_⟩
      rw [yk_sm, hY, hS V.length (Nat.le_refl _), hA V.length (by omega), hX]
      omega
    · rw [hA j (by omega), hS j (by omega)]
      exact w6 j hj (by omega)
  · intro j hj hj2
    by_cases e : j = V.length
    · rw [e, hY, hA V.length (by omega), hX]
      exact ⟨hx, y1, y2, y3, y4, y5⟩
    · rw [hA j (by omega), hA (j + 1) (by omega)]
      exact w7 j hj (by omega)
theorem yk_WI_t {g : Nat → Nat} {s t : Nat} {A : Nat → Prop} {pre V : List Nat} {D : Nat → Nat} {tot x : Nat} (ht : t < 7) (hp : yk_PF g s t A pre) (h : yk_WI g t D pre tot (V ++ [x])) (hl : 6 ≤ V.length) : x = t := by
  refine Classical.byContradiction fun hx => ?_
  obtain ⟨w1, w2, w3, w4, w5, w6, w7⟩ := h
  have hl1 : (V ++ [x]).length = V.length + 1 := by simp
  have htV : t ∉ V ++ [x] := by
    intro hm
    obtain ⟨j, hj, e⟩ := yk_mem_at _ hm
    by_cases hjn : j < pre.length
    · rw [w2 j hjn] at e
      have h1 := hp.2.2.2.1 _ (yk_at_mem pre j hjn)
      exact h1.2.1 e
    · by_cases hj2 : j + 1 < (V ++ [x]).length
      · exact (w7 j (by omega) hj2).1 e
      · have e2 : j = V.length := by omega
        rw [e2, yk_at_snoc] at e
        exact hx e
  have := yk_len7 (t :: (V ++ [x])) (List.nodup_cons.mpr ⟨htV, w4⟩) (fun a ha => by
    rcases List.mem_cons.mp ha with e | ha
    · rw [e]; exact ht
    · exact w5 a ha)
  rw [List.length_cons, hl1] at this
  omega
theorem yk_WI_len {g : Nat → Nat} {t : Nat} {pre V : List Nat} {D : Nat → Nat} {tot : Nat} (h : yk_WI g t D pre tot V) : V.length ≤ 7 := yk_len7 V h.2.2.2.1 h.2.2.2.2.1
/-- the way, once it has come to the target, is the best -/
theorem yk_WI_e {g : Nat → Nat} {s t : Nat} {A B : Nat → Prop} {pre V : List Nat} {D : Nat → Nat} {f b : Nat} (hD : yk_DF g t A D) (hp : yk_PF g s t A pre) (hf : yk_at pre (pre.length - 1) = f) (hb : yk_CH g D B f b)
    (h : yk_WI g t D pre (yk_sm g pre (pre.length - 1) + (D b + g (7 * f + b))) V) (hV : yk_at V pre.length = b) (hl : yk_at V (V.length - 1) = t) :
    yk_Bst g s t A B pre V ∧ yk_ln g V = yk_sm g pre (pre.length - 1) + (D b + g (7 * f + b)) := by
  obtain ⟨w1, w2, w3, w4, w5, w6, w7⟩ := h
  obtain ⟨p0, p1, p2, p3, p4⟩ := hp
  have hPA : yk_PA g s t V := ⟨by omega, (w2 0 p0).trans p1, hl, w4, w5, w3⟩
  have hln : yk_ln g V = yk_sm g pre (pre.length - 1) + (D b + g (7 * f + b)) := by
    have h1 := (w6 (V.length - 1) (by omega) (by omega)).2
    rw [hl, hD.1.1] at h1
    show yk_sm g V (V.length - 1) = _
    omega
  have hVA : ∀ j, pre.length ≤ j → j < V.length → ¬ A (yk_at V j) := fun j hj hj2 hA => by
    have h1 := hD.1.2.1 _ (yk_PA_7 hPA j) hA
    have h2 := (w6 j hj hj2).1
    omega
  refine ⟨⟨⟨hPA, w2, hVA, by rw [hV]; exact hb.2.2.1⟩, w1, fun q hq => ?_⟩, hln⟩
  have hql : pre.length < q.length := yk_QP_len ⟨p0, p1, p2, p3, p4⟩ hq
  have hlow : ∀ j, pre.length ≤ j → j < q.length → D (yk_at q j) + yk_sm g q j ≤ yk_ln g q := fun j hj hj2 => yk_QP_low hD hq (q.length - 1 - j) j (by omega) hj
  have e1 : pre.length - 1 + 1 = pre.length := by omega
  have hqf : yk_at q (pre.length - 1) = f := (hq.2.1 (pre.length - 1) (by omega)).trans hf
  have hqg : 0 < g (7 * f + yk_at q pre.length) := by
    have h3 := hq.1.2.2.2.2.2 (pre.length - 1) (by omega)
    rwa [e1, hqf] at h3
  have hqs : yk_sm g q pre.length = yk_sm g pre (pre.length - 1) + g (7 * f + yk_at q pre.length) := by
    have e2 : yk_sm g q (pre.length - 1 + 1) = yk_sm g q (pre.length - 1) + g (7 * yk_at q (pre.length - 1) + yk_at q (pre.length - 1 + 1)) := rfl
    rw [e1, hqf, yk_sm_congr (pre.length - 1) (fun j hj => hq.2.1 j (by omega))] at e2
    exact e2
  have hq1 := hlow pre.length (Nat.le_refl _) hql
  have hch := hb.2.2.2.2.1 _ (yk_PA_7 hq.1 pre.length) hqg hq.2.2.2
  have hle : yk_ln g V ≤ yk_ln g q := by omega
  by_cases hlt : yk_ln g V < yk_ln g q
  · exact Nat.le_of_lt ((yk_key_lt hPA hq.1).mpr (Or.inl hlt))
  · have heq : yk_ln g V = yk_ln g q := by omega
    by_cases hsame : V = q
    · rw [hsame]; exact Nat.le_refl _
    · have hdiff : ∃ j, j < V.length ∧ j < q.length ∧ yk_at V j ≠ yk_at q j := by
        refine Classical.byContradiction fun hno => hsame (yk_PA_eq hPA hq.1 fun j hj hj2 => ?_)
        exact Classical.byContradiction fun hne => hno ⟨j, hj, hj2, hne⟩
      obtain ⟨j, ⟨j1, j2, j3⟩, jmin⟩ := pk_least _ hdiff
      have hag : ∀ i, i < j → yk_at V i = yk_at q i := fun i hi => by
        refine Classical.byContradiction fun hne => jmin i hi ⟨by omega, by omega, hne⟩
      have hjn : pre.length ≤ j := by
        refine Nat.le_of_not_lt fun hlt => j3 ?_
        rw [w2 j hlt, hq.2.1 j hlt]
      have hfin : yk_at V j < yk_at q j := by
        by_cases e : j = pre.length
        · rw [e, hV] at j3 ⊢
          have h4 : ¬ yk_at q pre.length < b := fun hv => by
            have := hb.2.2.2.2.2 _ hv hqg hq.2.2.2
            omega
          omega
        · obtain ⟨i, rfl⟩ : ∃ i, j = i + 1 := ⟨j - 1, by omega⟩
          have hnr := (w7 i (by omega) j1).2
          have h6 := w6 i (by omega) (by omega)
          have h7 := hlow (i + 1) (by omega) j2
          have hxi : yk_at V i = yk_at q i := hag i (by omega)
          have hsm : yk_sm g V i = yk_sm g q i := yk_sm_congr i fun k hk => hag k (by omega)
          have harc := hq.1.2.2.2.2.2 i (by omega)
          rw [yk_sm, ← hxi, ← hsm] at h7
          rw [← hxi] at harc
          have hrel := hD.2 (yk_at V i) (yk_at q (i + 1)) (yk_PA_7 hPA i) (yk_PA_7 hq.1 (i + 1)) (hVA i (by omega) (by omega)) harc
          have hcon : ¬ yk_at q (i + 1) < yk_at V (i + 1) := fun hv => hnr.2.2.2.2 _ hv ⟨harc, by omega, by omega⟩
          omega
      exact Nat.le_of_lt ((yk_key_lt hPA hq.1).mpr (Or.inr ⟨heq, yk_cd_lex (yk_PA_8 hPA) (by have := yk_PA_len hPA; omega) hag hfin⟩))
end
section
/-! going through all paths: which have been found, and how many turns are left -/
def yk_F (g : Nat → Nat) (s t : Nat) (P : List Nat) (tr : Nat) (p : List Nat) : Prop :=
  yk_PA g s t p ∧ ((∃ i, i < P.length ∧ i < p.length ∧ yk_AG p P i ∧ yk_at p i < yk_at P i) ∨ (yk_AG p P P.length ∧ P.length < p.length ∧ yk_at p P.length < tr))
theorem yk_F_start {g : Nat → Nat} {s t : Nat} {p : List Nat} : ¬ yk_F g s t [s] 0 p := by
  intro h
  rcases h.2 with ⟨i, hi, _, _, hl⟩ | ⟨_, _, hl⟩
  · have e : i = 0 := by
      have : i < 1 := hi
      omega
    have h2 := h.1.2.1
    have h3 : yk_at [s] 0 = s := rfl
    rw [e, h3] at hl
    omega
  · exact absurd hl (Nat.not_lt_zero _)
theorem yk_AG_snoc {p P : List Nat} {x i : Nat} (hi : i ≤ P.length) : yk_AG p (P ++ [x]) i ↔ yk_AG p P i :=
  ⟨fun h j hj => (h j hj).trans (yk_at_app1 [x] P j (by omega)), fun h j hj => (h j hj).trans (yk_at_app1 [x] P j (by omega)).symm⟩
theorem yk_len_snoc (P : List Nat) (x : Nat) : (P ++ [x]).length = P.length + 1 := by simp
theorem yk_F_push {g : Nat → Nat} {s t : Nat} {P : List Nat} {x : Nat} (p : List Nat) : yk_F g s t P x p ↔ yk_F g s t (P ++ [x]) 0 p := by
  unfold yk_F
  refine and_congr_right fun hp => ⟨fun h => Or.inl ?_, fun h => ?_⟩
  · rcases h with ⟨i, hi, hip, ha, hl⟩ | ⟨ha, hlen, hl⟩
    · exact ⟨i, by rw [yk_len_snoc]; omega, hip, (yk_AG_snoc (by omega)).mpr ha, by rw [yk_at_app1 [x] P i hi]; exact hl⟩
    · exact ⟨P.length, by rw [yk_len_snoc]; omega, hlen, (yk_AG_snoc (Nat.le_refl _)).mpr ha, by rw [yk_at_snoc]; exact hl⟩
  · rcases h with ⟨i, hi, hip, ha, hl⟩ | ⟨_, _, hl⟩
    · rw [yk_len_snoc] at hi
      by_cases e : i = P.length
      · subst e
        rw [yk_at_snoc] at hl
        exact Or.inr ⟨(yk_AG_snoc (Nat.le_refl _)).mp ha, hip, hl⟩
      · rw [yk_at_app1 [x] P i (by omega)] at hl
        exact Or.inl ⟨i, by omega, hip, (yk_AG_snoc (by omega)).mp ha, hl⟩
    · exact absurd hl (Nat.not_lt_zero _)
theorem yk_F_skip {g : Nat → Nat} {s t : Nat} {P : List Nat} {x : Nat} (hno : ∀ p, yk_PA g s t p → yk_AG p P P.length → P.length < p.length → yk_at p P.length ≠ x) (p : List Nat) :
    yk_F g s t P x p ↔ yk_F g s t P (x + 1) p := by
  unfold yk_F
  refine and_congr_right fun hp => ⟨fun h => ?_, fun h => ?_⟩
  · rcases h with h | ⟨ha, hlen, hl⟩
    · exact Or.inl h
    · exact Or.inr ⟨ha, hlen, by omega⟩
  · rcases h with h | ⟨ha, hlen, hl⟩
    · exact Or.inl h
    · have := hno p hp ha hlen
      exact Or.inr ⟨ha, hlen, by omega⟩
/-- no arc there, or the vertex is on the path already -/
theorem yk_skip {g : Nat → Nat} {s t : Nat} {Q : List Nat} {z x : Nat} (h : g (7 * z + x) = 0 ∨ x ∈ Q ++ [z]) (p : List Nat) (hp : yk_PA g s t p) (ha : yk_AG p (Q ++ [z]) (Q ++ [z]).length) (hl : (Q ++ [z]).length < p.length) : yk_at p (Q ++ [z]).length ≠ x := by
  intro e
  rw [yk_len_snoc] at hl e
  have h1 : yk_at p Q.length = z := by
    rw [ha Q.length (by rw [yk_len_snoc]; omega), yk_at_snoc]
  rcases h with h | h
  · have h2 := hp.2.2.2.2.2 Q.length hl
    rw [h1, e, h] at h2
    exact Nat.lt_irrefl _ h2
  · obtain ⟨j, hj, ej⟩ := yk_mem_at _ h
    have h3 := ha j hj
    rw [ej] at h3
    rw [yk_len_snoc] at hj
    exact yk_nd p hp.2.2.2.1 j (Q.length + 1) hj hl (h3.trans e.symm)
theorem yk_F_pop {g : Nat → Nat} {s t : Nat} {P : List Nat} {x tr : Nat} (hx : x ≠ t) (htr : 7 ≤ tr) (p : List Nat) : yk_F g s t (P ++ [x]) tr p ↔ yk_F g s t P (x + 1) p := by
  unfold yk_F
  refine and_congr_right fun hp => ⟨fun h => ?_, fun h => ?_⟩
  · rcases h with ⟨i, hi, hip, ha, hl⟩ | ⟨ha, hlen, hl⟩
    · rw [yk_len_snoc] at hi
      by_cases e : i = P.length
      · subst e
        rw [yk_at_snoc] at hl
        exact Or.inr ⟨(yk_AG_snoc (Nat.le_refl _)).mp ha, hip, by omega⟩
      · rw [yk_at_app1 [x] P i (by omega)] at hl
        exact Or.inl ⟨i, by omega, hip, (yk_AG_snoc (by omega)).mp ha, hl⟩
    · rw [yk_len_snoc] at ha hlen
      have h1 := ha P.length (by omega)
      rw [yk_at_snoc] at h1
      exact Or.inr ⟨(yk_AG_snoc (Nat.le_refl _)).mp (yk_AG_mono ha (by omega)), by omega, by omega⟩
  · rcases h with ⟨i, hi, hip, ha, hl⟩ | ⟨ha, hlen, hl⟩
    · exact Or.inl ⟨i, by rw [yk_len_snoc]; omega, hip, (yk_AG_snoc (by omega)).mpr ha, by rw [yk_at_app1 [x] P i hi]; exact hl⟩
    · by_cases e : yk_at p P.length = x
      · have h1 : P.length + 1 < p.length := by
          refine Nat.lt_of_not_le fun hle => hx ?_
          have e2 : P.length = p.length - 1 := by omega
          rw [← e, e2]
          exact hp.2.2.1
        refine Or.inr ⟨?_, by rw [yk_len_snoc]; exact h1, Nat.lt_of_lt_of_le (yk_PA_7 hp _) htr⟩
        rw [yk_len_snoc]
        exact yk_AG_succ ((yk_AG_snoc (Nat.le_refl _)).mpr ha) (by rw [yk_at_snoc]; exact e)
      · exact Or.inl ⟨P.length, by rw [yk_len_snoc]; omega, hlen, (yk_AG_snoc (Nat.le_refl _)).mpr ha, by rw [yk_at_snoc]; omega⟩
theorem yk_F_found {g : Nat → Nat} {s t : Nat} {P : List Nat} {tr : Nat} (hP : yk_PA g s t (P ++ [t])) (p : List Nat) : (yk_F g s t (P ++ [t]) tr p ∨ p = P ++ [t]) ↔ yk_F g s t P (t + 1) p := by
  unfold yk_F
  constructor
  · rintro (⟨hp, h⟩ | h)
    · refine ⟨hp, ?_⟩
      rcases h with ⟨i, hi, hip, ha, hl⟩ | ⟨ha, hlen, hl⟩
      · rw [yk_len_snoc] at hi
        by_cases e : i = P.length
        · subst e
          rw [yk_at_snoc] at hl
          exact Or.inr ⟨(yk_AG_snoc (Nat.le_refl _)).mp ha, hip, by omega⟩
        · rw [yk_at_app1 [t] P i (by omega)] at hl
          exact Or.inl ⟨i, by omega, hip, (yk_AG_snoc (by omega)).mp ha, hl⟩
      · rw [yk_len_snoc] at ha hlen
        have h1 := ha P.length (by omega)
        rw [yk_at_snoc] at h1
        exact absurd h1 (yk_PA_t hp P.length hlen)
    · subst h
      refine ⟨hP, Or.inr ⟨fun j hj => yk_at_app1 [t] P j hj, by rw [yk_len_snoc]; omega, by rw [yk_at_snoc]; omega⟩⟩
  · rintro ⟨hp, h⟩
    rcases h with ⟨i, hi, hip, ha, hl⟩ | ⟨ha, hlen, hl⟩
    · exact Or.inl ⟨hp, Or.inl ⟨i, by rw [yk_len_snoc]; omega, hip, (yk_AG_snoc (by omega)).mpr ha, by rw [yk_at_app1 [t] P i hi]; exact hl⟩⟩
    · by_cases e : yk_at p P.length = t
      · refine Or.inr (yk_PA_eq hp hP fun j hj hj2 => ?_)
        rw [yk_len_snoc] at hj2
        by_cases ej : j = P.length
        · rw [ej, yk_at_snoc, e]
        · rw [yk_at_app1 [t] P j (by omega)]
          exact ha j (by omega)
      · exact Or.inl ⟨hp, Or.inl ⟨P.length, by rw [yk_len_snoc]; omega, hlen, (yk_AG_snoc (Nat.le_refl _)).mpr ha, by rw [yk_at_snoc]; omega⟩⟩
theorem yk_F_new {g : Nat → Nat} {s t : Nat} {P : List Nat} {tr : Nat} : ¬ yk_F g s t P tr P := by
  rintro ⟨_, ⟨i, _, _, _, hl⟩ | ⟨_, hl, _⟩⟩
  · exact Nat.lt_irrefl _ hl
  · exact Nat.lt_irrefl _ hl
theorem yk_F_end {g : Nat → Nat} {s t : Nat} (p : List Nat) : yk_F g s t [] (s + 1) p ↔ yk_PA g s t p := by
  constructor
  · intro h; exact h.1
  · intro h
    refine ⟨h, Or.inr ⟨fun j hj => absurd hj (Nat.not_lt_zero _), h.1, ?_⟩⟩
    have e : yk_at p ([] : List Nat).length = s := h.2.1
    rw [e]
    omega
/-- the path being made -/
def yk_PI (g : Nat → Nat) (s t : Nat) (P : List Nat) : Prop :=
  (∀ x, x ∈ P → x < 7) ∧ P.Nodup ∧ yk_AR g P ∧ (∀ i, i + 1 < P.length → yk_at P i ≠ t) ∧ (0 < P.length → yk_at P 0 = s)
theorem yk_PI_pop {g : Nat → Nat} {s t : Nat} {Q : List Nat} {z : Nat} (h : yk_PI g s t (Q ++ [z])) : yk_PI g s t Q := by
  obtain ⟨h1, h2, h3, h4, h5⟩ := h
  have hl := yk_len_snoc Q z
  have hA : ∀ j, j < Q.length → yk_at (Q ++ [z]) j = yk_at Q j := fun j hj => yk_at_app1 [z] Q j hj
  refine ⟨fun x hx => h1 x (List.mem_append_left _ hx), (List.nodup_append.mp h2).1, fun i hi => ?_, fun i hi => ?_, fun h0 => ?_⟩
  · have := h3 i (by omega)
    rwa [hA i (by omega), hA (i + 1) hi] at this
  · have := h4 i (by omega)
    rwa [hA i (by omega)] at this
  · have := h5 (by omega)
    rwa [hA 0 h0] at this
theorem yk_PI_push {g : Nat → Nat} {s t : Nat} {Q : List Nat} {z y : Nat} (h : yk_PI g s t (Q ++ [z])) (hz : z ≠ t) (hy : y < 7) (hg : 0 < g (7 * z + y)) (hm : y ∉ Q ++ [z]) : yk_PI g s t (Q ++ [z] ++ [y]) := by
  obtain ⟨h1, h2, h3, h4, h5⟩ := h
  have hl := yk_len_snoc Q z
  have hl2 := yk_len_snoc (Q ++ [z]) y
  have hA : ∀ j, j < Q.length + 1 → yk_at (Q ++ [z] ++ [y]) j = yk_at (Q ++ [z]) j := fun j hj => yk_at_app1 [y] (Q ++ [z]) j (by omega)
  have hY : yk_at (Q ++ [z] ++ [y]) (Q.length + 1) = y := by
    have := yk_at_snoc (Q ++ [z]) y
    rwa [hl] at this
  have hZ : yk_at (Q ++ [z]) Q.length = z := yk_at_snoc Q z
  refine ⟨?_, ?_, ?_, ?_, ?_⟩
  · intro x hx
    rcases List.mem_append.mp hx with hx | hx
    · exact h1 x hx
    · rw [List.mem_singleton.mp hx]; exact hy
  · refine List.nodup_append.mpr ⟨h2, by simp, ?_⟩
    intro a ha c hc e
    rw [List.mem_singleton.mp hc] at e
    exact hm (e ▸ ha)
  · intro i hi
    by_cases e : i = Q.length
    · rw [e, hY, hA Q.length (by omega), hZ]; exact hg
    · rw [hA i (by omega), hA (i + 1) (by omega)]
      exact h3 i (by omega)
  · intro i hi
    by_cases e : i = Q.length
    · rw [e, hA Q.length (by omega), hZ]; exact hz
    · rw [hA i (by omega)]
      exact h4 i (by omega)
  · intro _
    rw [hA 0 (by omega)]
    exact h5 (by omega)
theorem yk_PI_PA {g : Nat → Nat} {s t : Nat} {Q : List Nat} (h : yk_PI g s t (Q ++ [t])) : yk_PA g s t (Q ++ [t]) := by
  obtain ⟨h1, h2, h3, h4, h5⟩ := h
  have hl := yk_len_snoc Q t
  refine ⟨by omega, h5 (by omega), ?_, h2, h1, h3⟩
  have e : (Q ++ [t]).length - 1 = Q.length := by omega
  rw [e, yk_at_snoc]
/-- how many vertices from 7 - m on are not on the path -/
def yk_cnt (P : List Nat) : Nat → Nat
  | 0 => 0
  | m + 1 => yk_cnt P m + (if 6 - m ∈ P then 0 else 1)
def yk_U : Nat → Nat
  | 0 => 8
  | m + 1 => 8 + (m + 1) * yk_U m
def yk_bud : List Nat → Nat → Nat
  | [], _ => 0
  | x :: R, tr => (8 - tr) + yk_cnt (x :: R) (7 - tr) * yk_U (5 - R.length) + yk_bud R (x + 1)
theorem yk_cnt_cons {x : Nat} {P : List Nat} (hx : x ∉ P) (h7 : x < 7) : ∀ m, m ≤ 7 → yk_cnt (x :: P) m + (if 7 - m ≤ x then 1 else 0) = yk_cnt P m := by
  intro m
  induction m with
  | zero =>
    intro _
    rw [if_neg (by omega)]
    rfl
  | succ m ih =>
    intro hm
    have h := ih (by omega)
    rw [yk_cnt, yk_cnt]
    by_cases e : 6 - m = x
    · rw [if_pos (List.mem_cons.mpr (Or.inl e)), if_pos (by omega), if_neg (e ▸ hx)]
      rw [if_neg (by omega)] at h
      omega
    · have e2 : (6 - m ∈ x :: P) ↔ 6 - m ∈ P := by
        rw [List.mem_cons]
        exact ⟨fun h => h.resolve_left e, Or.inr⟩
      by_cases hmem : 6 - m ∈ P
      · rw [if_pos (e2.mpr hmem), if_pos hmem]
        by_cases hc : 7 - m ≤ x
        · rw [if_pos hc] at h
          rw [if_pos (by omega)]
          omega
        · rw [if_neg hc] at h
          rw [if_neg (by omega)]
          omega
      · rw [if_neg (fun hh => hmem (e2.mp hh)), if_neg hmem]
        by_cases hc : 7 - m ≤ x
        · rw [if_pos hc] at h
          rw [if_pos (by omega)]
          omega
        · rw [if_neg hc] at h
          rw [if_neg (by omega)]
          omega
theorem yk_cnt_len : ∀ P : List Nat, P.Nodup → (∀ x, x ∈ P → x < 7) → yk_cnt P 7 + P.length = 7 := by
  intro P
  induction P with
  | nil => intro _ _; decide
  | cons x P ih =>
    intro hn h
    have hc := List.nodup_cons.mp hn
    have h1 := yk_cnt_cons hc.1 (h x List.mem_cons_self) 7 (Nat.le_refl _)
    have h2 := ih hc.2 fun y hy => h y (List.mem_cons_of_mem _ hy)
    rw [if_pos (by omega)] at h1
    rw [List.length_cons]
    omega
theorem yk_bud_adv {x : Nat} {R : List Nat} {tr : Nat} (h : tr ≤ 6) : yk_bud (x :: R) (tr + 1) + 1 ≤ yk_bud (x :: R) tr := by
  have e : 7 - tr = (7 - (tr + 1)) + 1 := by omega
  have h1 : yk_cnt (x :: R) (7 - (tr + 1)) ≤ yk_cnt (x :: R) (7 - tr) := by
    rw [e, yk_cnt]
    omega
  have h2 := Nat.mul_le_mul_right (yk_U (5 - R.length)) h1
  rw [yk_bud, yk_bud]
  omega
theorem yk_bud_pop {x : Nat} {R : List Nat} {tr : Nat} (h : tr ≤ 7) : yk_bud R (x + 1) + 1 ≤ yk_bud (x :: R) tr := by
  rw [yk_bud]
  omega
theorem yk_bud_push {x y : Nat} {R : List Nat} (hn : (y :: x :: R).Nodup) (h7 : ∀ z, z ∈ y :: x :: R → z < 7) : yk_bud (y :: x :: R) 0 + 1 ≤ yk_bud (x :: R) y := by
  have hy : y < 7 := h7 y List.mem_cons_self
  have hc := (List.nodup_cons.mp hn).1
  have h1 := yk_cnt_len _ hn h7
  have e : 7 - y = (6 - y) + 1 := by omega
  have e2 : yk_cnt (x :: R) (7 - y) = yk_cnt (x :: R) (6 - y) + 1 := by
    have e3 : 6 - (6 - y) = y := by omega
    rw [e, yk_cnt, e3, if_neg hc]
  have e4 : 7 - (y + 1) = 6 - y := by omega
  rw [List.length_cons, List.length_cons] at h1
  have hU : 8 + yk_cnt (y :: x :: R) 7 * yk_U (5 - (x :: R).length) = yk_U (5 - R.length) := by
    by_cases h5 : R.length = 5
    · have e5 : yk_cnt (y :: x :: R) 7 = 0 := by omega
      rw [e5, h5, Nat.zero_mul]
      rfl
    · obtain ⟨m, hm⟩ : ∃ m, 5 - R.length = m + 1 := ⟨4 - R.length, by omega⟩
      have e5 : yk_cnt (y :: x :: R) 7 = m + 1 := by omega
      have e6 : 5 - (x :: R).length = m := by rw [List.length_cons]; omega
      rw [e5, e6, hm, yk_U]
  rw [yk_bud, yk_bud, yk_bud, e2, e4, Nat.succ_mul]
  have e7 : 7 - 0 = 7 := rfl
  rw [e7]
  omega
theorem yk_bud_0 {s : Nat} (hs : s < 7) : yk_bud [s] 0 = 15656 := by
  have h1 := yk_cnt_len [s] (by simp) (fun x hx => by rw [List.mem_singleton.mp hx]; exact hs)
  have e : yk_cnt [s] 7 = 6 := by
    have : [s].length = 1 := rfl
    omega
  show (8 - 0) + yk_cnt [s] 7 * yk_U 5 + 0 = 15656
  rw [e]
  rfl
/-- the lists that Y keeps -/
def yk_RY (g : Nat → Nat) (K : Nat → List Nat) (n : Nat) (le si li : Nat → Int32) : Prop :=
  ∀ k, k < n → le k = nI (yk_ln g (K k)) ∧ si k = nI (K k).length ∧ ∀ i, i < (K k).length → li (7 * k + i) = nI (yk_at (K k) i)
def yk_PS (u v : Int32) (p : List Nat) : Prop := ∃ i, i + 1 < p.length ∧ nI (yk_at p i) = u ∧ nI (yk_at p (i + 1)) = v
def yk_SW (g : Nat → Nat) (u v : Int32) (S : List Nat → Prop) (sw : Int32) : Prop :=
  (sw = -2 ∧ ∀ p, S p → yk_PS u v p) ∨ (∃ p, S p ∧ ¬ yk_PS u v p ∧ sw = nI (yk_ln g p) ∧ ∀ q, S q → ¬ yk_PS u v q → yk_ln g p ≤ yk_ln g q)
def yk_EV (S : List Nat → Prop) (ev : Int32) : Prop := ∃ e : Nat, e < 128 ∧ ev = nI e ∧ ∀ v, v < 7 → (e.testBit v = true ↔ ∀ p, S p → v ∈ p)
theorem yk_SW_S {g : Nat → Nat} {u v : Int32} {S S' : List Nat → Prop} {sw : Int32} (h : yk_SW g u v S sw) (e : ∀ p, S p ↔ S' p) : yk_SW g u v S' sw := by
  rcases h with ⟨h1, h2⟩ | ⟨p, h1, h2, h3, h4⟩
  · exact Or.inl ⟨h1, fun p hp => h2 p ((e p).mpr hp)⟩
  · exact Or.inr ⟨p, (e p).mp h1, h2, h3, fun q hq => h4 q ((e q).mpr hq)⟩
theorem yk_EV_S {S S' : List Nat → Prop} {ev : Int32} (h : yk_EV S ev) (e : ∀ p, S p ↔ S' p) : yk_EV S' ev := by
  obtain ⟨n, h1, h2, h3⟩ := h
  exact ⟨n, h1, h2, fun v hv => (h3 v hv).trans ⟨fun h p hp => h p ((e p).mpr hp), fun h p hp => h p ((e p).mp hp)⟩⟩
theorem yk_SW_pass {g : Nat → Nat} {u v : Int32} {S : List Nat → Prop} {sw : Int32} {p : List Nat} (h : yk_SW g u v S sw) (hp : yk_PS u v p) : yk_SW g u v (fun q => S q ∨ q = p) sw := by
  rcases h with ⟨h1, h2⟩ | ⟨q, h1, h2, h3, h4⟩
  · refine Or.inl ⟨h1, fun q hq => ?_⟩
    rcases hq with hq | hq
    · exact h2 q hq
    · rw [hq]; exact hp
  · refine Or.inr ⟨q, Or.inl h1, h2, h3, fun r hr hn => ?_⟩
    rcases hr with hr | hr
    · exact h4 r hr hn
    · rw [hr] at hn; exact absurd hp hn
theorem yk_SW_first {g : Nat → Nat} {u v : Int32} {S : List Nat → Prop} {p : List Nat} (h : yk_SW g u v S (-2)) (hl : ∀ q, S q → nI (yk_ln g q) ≠ -2) (hp : ¬ yk_PS u v p) : yk_SW g u v (fun q => S q ∨ q = p) (nI (yk_ln g p)) := by
  rcases h with ⟨h1, h2⟩ | ⟨q, h1, h2, h3, h4⟩
  · refine Or.inr ⟨p, Or.inr rfl, hp, rfl, fun q hq hn => ?_⟩
    rcases hq with hq | hq
    · exact absurd (h2 q hq) hn
    · rw [hq]; exact Nat.le_refl _
  · exact absurd h3.symm (hl q h1)
theorem yk_SW_le {g : Nat → Nat} {u v : Int32} {S : List Nat → Prop} {p : List Nat} {m : Nat} (h : yk_SW g u v S (nI m)) (hm : nI m ≠ -2) (hm2 : m < 2 ^ 31) (hl : ∀ q, S q → yk_ln g q < 2 ^ 31) (hle : m ≤ yk_ln g p) : yk_SW g u v (fun q => S q ∨ q = p) (nI m) := by
  rcases h with ⟨h1, h2⟩ | ⟨q, h1, h2, h3, h4⟩
  · exact absurd h1 hm
  · have e := (nI_eq hm2 (hl q h1)).mp h3
    refine Or.inr ⟨q, Or.inl h1, h2, h3, fun r hr hn => ?_⟩
    rcases hr with hr | hr
    · exact h4 r hr hn
    · rw [hr]; omega
theorem yk_SW_lt {g : Nat → Nat} {u v : Int32} {S : List Nat → Prop} {p : List Nat} {m : Nat} (h : yk_SW g u v S (nI m)) (hm : nI m ≠ -2) (hm2 : m < 2 ^ 31) (hl : ∀ q, S q → yk_ln g q < 2 ^ 31) (hp : ¬ yk_PS u v p) (hlt : yk_ln g p < m) : yk_SW g u v (fun q => S q ∨ q = p) (nI (yk_ln g p)) := by
  rcases h with ⟨h1, h2⟩ | ⟨q, h1, h2, h3, h4⟩
  · exact absurd h1 hm
  · have e := (nI_eq hm2 (hl q h1)).mp h3
    refine Or.inr ⟨p, Or.inr rfl, hp, rfl, fun r hr hn => ?_⟩
    rcases hr with hr | hr
    · have := h4 r hr hn
      omega
    · rw [hr]; exact Nat.le_refl _
theorem yk_EV_s {S : List Nat → Prop} {p : List Nat} {e m : Nat} (he : e < 128) (h : ∀ v, v < 7 → (e.testBit v = true ↔ ∀ q, S q → v ∈ q)) (hm : ∀ v, v < 7 → (m.testBit v = true ↔ v ∈ p)) : yk_EV (fun q => S q ∨ q = p) (nI (e &&& m)) := by
  refine ⟨e &&& m, Nat.lt_of_le_of_lt Nat.and_le_left he, rfl, fun v hv => ?_⟩
  rw [Nat.testBit_and, Bool.and_eq_true, h v hv, hm v hv]
  constructor
  · rintro ⟨h1, h2⟩ q (hq | hq)
    · exact h1 q hq
    · rw [hq]; exact h2
  · intro hh
    exact ⟨fun q hq => hh q (Or.inl hq), hh p (Or.inr rfl)⟩
end
section
/-! numbers of the program -/
def yk_W (g : Nat → Nat) : Nat → Int32 := fun j => nI (g j)
theorem yk_W_at {g : Nat → Nat} {j : Nat} (h : j < 2 ^ 31) : yk_W g (nI j).toNatClampNeg = nI (g j) := by
  rw [nI_clamp h]
  rfl
theorem yk_ix (u v : Nat) : 7 * nI u + nI v = nI (7 * u + v) := by
  have h : (7 : Int32) * nI u = nI (7 * u) := pk_mul 7 u
  rw [h, nI_add]
theorem yk_or (a b : Nat) : nI a ||| nI b = nI (a ||| b) := by
  apply Int32.toBitVec_inj.mp
  rw [Int32.toBitVec_or]
  show BitVec.ofNat 32 a ||| BitVec.ofNat 32 b = BitVec.ofNat 32 (a ||| b)
  apply BitVec.eq_of_toNat_eq
  rw [BitVec.toNat_or, BitVec.toNat_ofNat, BitVec.toNat_ofNat, BitVec.toNat_ofNat, Nat.or_mod_two_pow]
theorem yk_and (a b : Nat) : nI a &&& nI b = nI (a &&& b) := by
  apply Int32.toBitVec_inj.mp
  rw [Int32.toBitVec_and]
  show BitVec.ofNat 32 a &&& BitVec.ofNat 32 b = BitVec.ofNat 32 (a &&& b)
  apply BitVec.eq_of_toNat_eq
  rw [BitVec.toNat_and, BitVec.toNat_ofNat, BitVec.toNat_ofNat, BitVec.toNat_ofNat, Nat.and_mod_two_pow]
theorem yk_sh1 {v : Nat} (hv : v < 31) : (1 : Int32) <<< (nI v &&& 31) = nI (2 ^ v) := by
  have h : nI 1 <<< (nI v &&& 31) = nI (1 * 2 ^ v) := pk_shlN (nI v &&& 31) v (s_l v (by omega)) (by
    rw [Nat.one_mul]
    exact Nat.pow_lt_pow_right (by decide) (by omega))
  rw [Nat.one_mul] at h
  exact h
theorem yk_or1 {c v : Nat} (hv : v < 31) : nI c ||| ((1 : Int32) <<< (nI v &&& 31)) = nI (c ||| 2 ^ v) := by
  rw [yk_sh1 hv, yk_or]
theorem yk_bit {c v : Nat} (hc : c < 2 ^ 31) (hv : v < 31) : ((nI c >>> (nI v &&& 31)) &&& 1) = 0 ↔ c.testBit v = false := by
  have h1 : nI c >>> (nI v &&& 31) = nI (c / 2 ^ v) := pk_shrN hc (nI v &&& 31) v (s_l v (by omega))
  have h2 : c / 2 ^ v < 2 ^ 31 := Nat.lt_of_le_of_lt (Nat.div_le_self _ _) hc
  have h3 : nI (c / 2 ^ v) &&& 1 = nI (c / 2 ^ v % 2 ^ 1) := pk_andN (by omega) 1 (by decide)
  have h4 : c / 2 ^ v % 2 ^ 1 < 2 := Nat.mod_lt _ (by decide)
  have h5 : nI (c / 2 ^ v % 2 ^ 1) = 0 ↔ c / 2 ^ v % 2 ^ 1 = 0 := nI_eq (b := 0) (by omega) (by decide)
  rw [h1, h3, h5, Nat.testBit_eq_decide_div_mod_eq, decide_eq_false_iff_not]
  omega
theorem yk_tb2 (c v u : Nat) : (c ||| 2 ^ v).testBit u = true ↔ (c.testBit u = true ∨ u = v) := by
  rw [Nat.testBit_or, Nat.testBit_two_pow, Bool.or_eq_true, decide_eq_true_eq]
  exact ⟨fun h => h.imp_right Eq.symm, fun h => h.imp_right Eq.symm⟩
theorem yk_or128 {c v : Nat} (hc : c < 128) (hv : v < 7) : c ||| 2 ^ v < 128 := by
  have h : c ||| 2 ^ v < 2 ^ 7 := Nat.or_lt_two_pow hc (Nat.pow_lt_pow_right (by decide) hv)
  exact h
theorem yk_nar50 : ∀ n, n < 51 → vp_nar .byte (nI n).toInt8.toInt32 = nI n := by
  intro n h
  rw [pk_vb]
  revert n
  decide +kernel
theorem yk_nar {n : Nat} (h : n < 7) : vp_nar .byte (nI n).toInt8.toInt32 = nI n := yk_nar50 n (by omega)
theorem yk_W_upd {g : Nat → Nat} {i w : Nat} : upd (yk_W g) i (nI w) = yk_W (fun j => if j = i then w else g j) := by
  funext j
  show (if j = i then nI w else nI (g j)) = nI (if j = i then w else g j)
  by_cases h : j = i
  · rw [if_pos h, if_pos h]
  · rw [if_neg h, if_neg h]
/-- one arc less -/
def yk_gx (g : Nat → Nat) (ca : Int32) : Nat → Nat := fun j => if j < 49 ∧ nI j = ca then 0 else g j
theorem yk_gx_0 {g : Nat → Nat} {ca : Int32} {j : Nat} (h : g j = 0) : yk_gx g ca j = 0 := by
  unfold yk_gx
  by_cases e : j < 49 ∧ nI j = ca
  · rw [if_pos e]
  · rw [if_neg e]; exact h
theorem yk_gx_c {g : Nat → Nat} {ca : Int32} {j : Nat} (h : nI j = ca) (hj : j < 49) : yk_gx g ca j = 0 := if_pos ⟨hj, h⟩
theorem yk_gx_n {g : Nat → Nat} {ca : Int32} {j : Nat} (h : ¬ nI j = ca) : yk_gx g ca j = g j := if_neg fun e => h e.2
theorem yk_gx_le {g : Nat → Nat} {ca : Int32} (h : ∀ j, g j ≤ 50) (j : Nat) : yk_gx g ca j ≤ 50 := by
  unfold yk_gx
  by_cases e : j < 49 ∧ nI j = ca
  · rw [if_pos e]; omega
  · rw [if_neg e]; exact h j
/-- a code's digit -/
theorem yk_sub6 : ∀ i, i < 7 → 3 * (6 - nI i) = nI (3 * (6 - i)) := by decide +kernel
theorem yk_dig {c i : Nat} (hc : c < 2 ^ 31) (hi : i < 7) : (nI c >>> ((3 * (6 - nI i)) &&& 31)) &&& 7 = nI (c / 8 ^ (6 - i) % 8) := by
  have h1 : nI c >>> (nI (3 * (6 - i)) &&& 31) = nI (c / 2 ^ (3 * (6 - i))) := pk_shrN hc _ (3 * (6 - i)) (s_l _ (by omega))
  have h2 : c / 2 ^ (3 * (6 - i)) < 2 ^ 31 := Nat.lt_of_le_of_lt (Nat.div_le_self _ _) hc
  have h3 : nI (c / 2 ^ (3 * (6 - i))) &&& 7 = nI (c / 2 ^ (3 * (6 - i)) % 2 ^ 3) := pk_andN (by omega) 3 (by decide)
  rw [yk_sub6 i hi, h1, h3, Nat.pow_mul]
theorem yk_top {c i : Nat} (hc : c < 2 ^ 31) (hi : i < 7) : nI c >>> (nI (3 * (6 - i)) &&& 31) = nI (c / 8 ^ (6 - i)) := by
  have h1 : nI c >>> (nI (3 * (6 - i)) &&& 31) = nI (c / 2 ^ (3 * (6 - i))) := pk_shrN hc _ (3 * (6 - i)) (s_l _ (by omega))
  rw [h1, Nat.pow_mul]
theorem yk_oct {c d : Nat} (hc : c < 2 ^ 20) (hd : d < 8) : (nI c <<< ((3 : Int32) &&& 31)) ||| nI d = nI (8 * c + d) := by
  have h1 : nI c <<< ((3 : Int32) &&& 31) = nI (c * 2 ^ 3) := pk_shlN _ 3 (by decide) (by omega)
  rw [h1, yk_or]
  have h2 : c * 2 ^ 3 ||| d = c * 2 ^ 3 + d := by
    have h3 : 2 ^ 3 * c + d = 2 ^ 3 * c ||| d := Nat.two_pow_add_eq_or_of_lt (i := 3) hd c
    rw [Nat.mul_comm c, ← h3]
  rw [h2]
  exact congrArg nI (by omega)
theorem yk_m2 {n : Nat} (h : n < 2 ^ 31) : nI n ≠ -2 := by
  intro e
  have h1 := nI_toInt h
  rw [e] at h1
  have h2 : (-2 : Int32).toInt = -2 := by decide
  omega
theorem yk_m1 {n : Nat} (h : n < 2 ^ 31) : nI n ≠ -1 := by
  intro e
  have h1 := nI_toInt h
  rw [e] at h1
  have h2 : (-1 : Int32).toInt = -1 := by decide
  omega
theorem yk_gx_m1 {g : Nat → Nat} : yk_gx g (-1) = g := by
  funext j
  exact if_neg fun e => yk_m1 (by have := e.1; omega) e.2
end
section
/-! X: least lengths -/
section
variable {re pn cn ca we wl : Int32} {kc kl ks cc cl cs ad ay : Nat → Int32} {s t : Nat} {g : Nat → Nat}
theorem yk_x53 {post : SX → Prop} {J : Int32 → (Nat → Int32) → (Nat → Int32) → (Nat → Int32) → (Nat → Int32) → (Nat → Int32) → (Nat → Int32) → (Nat → Int32) → (Nat → Int32) → (Nat → Int32) → Prop} {x2 : Int32} {c : Nat} {A : Nat → Prop} {D0 : Nat → Nat}
    (hg : ∀ j, g j ≤ 50) (hc : c < 128) (hA : ∀ u, u < 7 → (c.testBit u = true ↔ A u))
    (K : ∀ (D : Nat → Nat) (ad : Nat → Int32), (∀ j, j < 7 → ad j = nI (D j)) → yk_RI (yk_gx g ca) t A D0 49 D → J (x2 + 1) (yk_W g) kc kl ks cc cl cs ad ay) :
    ∀ (n a : Nat) (D : Nat → Nat) (ad : Nat → Int32), a ≤ 49 → 49 < n + a → (∀ j, j < 7 → ad j = nI (D j)) → yk_RI (yk_gx g ca) t A D0 a D →
      wX_measure_53 post J (nI c) x2 (nI s) (nI t) re pn cn ca we wl n (nI a) (yk_W g) kc kl ks cc cl cs ad ay := by
  intro n
  induction n with
  | zero => intro a D ad h1 h2; exact absurd h2 (by omega)
  | succ n ih =>
    intro a D ad h1 h2 hd hr
    refine pk_le 49 a (fun h => ?_) (fun h => ?_)
    · have e : a = 49 := by omega
      subst e
      exact nm_e (K D ad hd hr)
    · have hga := hg a
      have hu7 : a / 7 < 7 := by omega
      have hv7 : a % 7 < 7 := by omega
      have hdu := hr.1.2.2.1 (a / 7) hu7
      have hdv := hr.1.2.2.1 (a % 7) hv7
      have ediv : nI a / 7 = nI (a / 7) := pk_div (by omega) (by decide) (by decide)
      have erem : nI a - nI a / 7 * 7 = nI (a % 7) := pk_rem (by omega) (by decide) (by decide)
      have skip : (yk_gx g ca a = 0 ∨ A (a / 7) ∨ D (a / 7) ≤ D (a % 7) + yk_gx g ca a) → ∀ x, x = nI a + 1 → wX_measure_53 post J (nI c) x2 (nI s) (nI t) re pn cn ca we wl n x (yk_W g) kc kl ks cc cl cs ad ay :=
        fun hno => nm_r (nI_1 a) (ih (a + 1) D ad (by omega) (by omega) hd (yk_RI_n hr h hno))
      refine ⟨by decide, nm_r ediv ⟨pk_in a 49 h, ?_⟩⟩
      refine pk_eq (g a) 0 (fun hz => skip (Or.inl (yk_gx_0 hz))) (fun hz => ?_) (yk_W_at (by omega))
      refine br_c (fun he => skip (Or.inl (yk_gx_c he (by omega)))) (fun he => ?_)
      have eg := yk_gx_n (g := g) he
      refine ek_if (yk_bit (by omega) (by omega)) (fun hb => ?_) (fun hb => skip (Or.inr (Or.inl ((hA _ hu7).mp (ts_nf hb)))))
      have hnA : ¬ A (a / 7) := fun hx => by
        have := (hA _ hu7).mpr hx
        rw [hb] at this
        exact absurd this (by decide)
      refine ⟨by decide, pk_in (a % 7) 7 hv7 erem, pk_in a 49 h, ?_⟩
      refine nm_r (e' := nI (D (a % 7) + g a)) ?_ ?_
      · rw [erem, nI_clamp (by omega), hd _ hv7, yk_W_at (by omega), nI_add]
      · refine ⟨pk_in (a / 7) 7 hu7, ?_⟩
        have ed : ad (nI (a / 7)).toNatClampNeg = nI (D (a / 7)) := by rw [nI_clamp (by omega), hd _ hu7]
        refine pk_le (D (a / 7)) (D (a % 7) + g a) (fun hl => skip (Or.inr (Or.inr (by rw [eg]; exact hl)))) (fun hl => ?_) ed
        refine ⟨pk_in (a / 7) 7 hu7, nm_r (e' := upd ad (a / 7) (nI (D (a % 7) + g a))) (by rw [nI_clamp (by omega)]) (nm_r (nI_1 a) ?_)⟩
        refine ih (a + 1) (fun j => if j = a / 7 then D (a % 7) + g a else D j) _ (by omega) (by omega) ?_ ?_
        · intro j hj
          by_cases e : j = a / 7
          · subst e
            rw [pk_us, if_pos rfl]
          · rw [pk_un e, if_neg e]
            exact hd j hj
        · refine yk_RI_s hr h (by rw [eg]; omega) hnA (by rw [eg]; exact hl) ?_ (fun j hj => if_neg hj)
          rw [eg]
          exact if_pos rfl
theorem yk_x45 {post : SX → Prop} {c : Nat} {A : Nat → Prop} (hg : ∀ j, g j ≤ 50) (hc : c < 128) (ht : t < 7) (hA : ∀ u, u < 7 → (c.testBit u = true ↔ A u))
    (K : ∀ (D : Nat → Nat) (ad : Nat → Int32), (∀ j, j < 7 → ad j = nI (D j)) → yk_DF (yk_gx g ca) t A D → post (nI s, nI t, re, pn, cn, ca, we, wl, yk_W g, kc, kl, ks, cc, cl, cs, ad, ay)) :
    ∀ (n k : Nat) (D : Nat → Nat) (ad : Nat → Int32), k ≤ 6 → 6 < n + k → (∀ j, j < 7 → ad j = nI (D j)) → yk_DB (yk_gx g ca) t A D → yk_UB (yk_gx g ca) t A k D →
      wX_measure_45 post (nI c) (nI s) (nI t) re pn cn ca we wl n (nI k) (yk_W g) kc kl ks cc cl cs ad ay := by
  intro n
  induction n with
  | zero => intro k D ad h1 h2; exact absurd h2 (by omega)
  | succ n ih =>
    intro k D ad h1 h2 hd hb hu
    refine pk_le 6 k (fun h => ?_) (fun h => ?_)
    · have e : k = 6 := by omega
      subst e
      exact K D ad hd (yk_DF_of ht hb hu)
    · refine ⟨50, yk_x53 hg hc hA (fun D' ad' hd' hr' => ?_) 50 0 D ad (by omega) (by omega) hd (yk_RI_0 hb)⟩
      rw [nI_1 k]
      exact ih (k + 1) D' ad' (by omega) (by omega) hd' hr'.1 (yk_UB_s hu hr')
theorem yk_x2 {post : SX → Prop} {c : Nat} {A : Nat → Prop} (hg : ∀ j, g j ≤ 50) (hc : c < 128) (ht : t < 7) (hA : ∀ u, u < 7 → (c.testBit u = true ↔ A u)) (hAt : ¬ A t)
    (K : ∀ (D : Nat → Nat) (ad : Nat → Int32), (∀ j, j < 7 → ad j = nI (D j)) → yk_DF (yk_gx g ca) t A D → post (nI s, nI t, re, pn, cn, ca, we, wl, yk_W g, kc, kl, ks, cc, cl, cs, ad, ay)) :
    ∀ (n j : Nat) (ad : Nat → Int32), j ≤ 7 → 7 < n + j → (∀ i, i < j → ad i = nI 1000000) → wX_measure_2 post (nI c) (nI s) (nI t) re pn cn ca we wl n (nI j) (yk_W g) kc kl ks cc cl cs ad ay := by
  intro n
  induction n with
  | zero => intro j ad h1 h2; exact absurd h2 (by omega)
  | succ n ih =>
    intro j ad h1 h2 hd
    refine pk_le 7 j (fun h => ?_) (fun h => ?_)
    · have e : j = 7 := by omega
      subst e
      refine ek_if (yk_bit (by omega) (by omega)) (fun hb => ?_) (fun hb => absurd ((hA t ht).mp (ts_nf hb)) hAt)
      refine ⟨pk_in t 7 ht, nm_r (e' := upd ad t (nI 0)) (by rw [nI_clamp (by omega)]; rfl) ?_⟩
      have hDB : yk_DB (yk_gx g ca) t A (fun j => if j = t then 0 else 1000000) := by
        refine ⟨if_pos rfl, fun u _ hAu => if_neg (fun e : u = t => hAt (e ▸ hAu)), fun u _ => ?_, fun u _ hut hlt => ?_⟩
        · by_cases e : u = t
          · show (if u = t then 0 else 1000000) ≤ 1000000
            rw [if_pos e]; omega
          · show (if u = t then 0 else 1000000) ≤ 1000000
            rw [if_neg e]; omega
        · have hlt2 : (if u = t then 0 else 1000000) < 1000000 := hlt
          rw [if_neg hut] at hlt2
          exact absurd hlt2 (Nat.lt_irrefl _)
      refine ⟨7, yk_x45 hg hc ht hA K 7 0 _ _ (by omega) (by omega) ?_ hDB (yk_UB_0 (if_pos rfl))⟩
      intro i hi
      by_cases e : i = t
      · subst e
        rw [pk_us, if_pos rfl]
      · rw [pk_un e, if_neg e]
        exact hd i hi
    · refine ⟨pk_in j 7 h, nm_r (e' := upd ad j (nI 1000000)) (by rw [nI_clamp (by omega)]; rfl) (nm_r (nI_1 j) ?_)⟩
      refine ih (j + 1) _ (by omega) (by omega) ?_
      intro i hi
      by_cases e : i = j
      · subst e
        exact pk_us
      · rw [pk_un e]
        exact hd i (by omega)
theorem yk_xmeasure {post : SX → Prop} {c : Nat} {A : Nat → Prop} (hg : ∀ j, g j ≤ 50) (hc : c < 128) (ht : t < 7) (hA : ∀ u, u < 7 → (c.testBit u = true ↔ A u)) (hAt : ¬ A t)
    (K : ∀ (D : Nat → Nat) (ad : Nat → Int32), (∀ j, j < 7 → ad j = nI (D j)) → yk_DF (yk_gx g ca) t A D → post (nI s, nI t, re, pn, cn, ca, we, wl, yk_W g, kc, kl, ks, cc, cl, cs, ad, ay)) :
    wpX_measure post (nI s, nI t, re, pn, cn, ca, we, wl, yk_W g, kc, kl, ks, cc, cl, cs, ad, ay) (nI c) := by
  unfold wpX_measure
  exact ⟨8, yk_x2 hg hc ht hA hAt K 8 0 ad (by omega) (by omega) (fun i hi => absurd hi (Nat.not_lt_zero _))⟩
theorem yk_xnear2 {post : Int32 → Prop} {D : Nat → Nat} {u r : Nat} (hg : ∀ j, g j ≤ 50) (hu : u < 7) (hd : ∀ j, j < 7 → ad j = nI (D j)) (hD : ∀ j, j < 7 → D j ≤ 1000000) (hr : yk_NR (yk_gx g ca) D u r) (h : post (nI r)) :
    ∀ (n v : Nat), v ≤ r → 7 < n + v → wX_nearer_2 post (nI u) (nI s) (nI t) re pn cn ca we wl (yk_W g) kc kl ks cc cl cs ad ay n (nI v) := by
  obtain ⟨r1, r2, r3, r4, r5⟩ := hr
  intro n
  induction n with
  | zero => intro v h1 h2; exact absurd h2 (by omega)
  | succ n ih =>
    intro v h1 h2
    refine pk_le 7 v (fun h => absurd h (by omega)) (fun h7 => ?_)
    have hgv := hg (7 * u + v)
    have hdv := hD v h7
    have hdu := hD u hu
    have skip : v ≠ r → ∀ x, x = nI v + 1 → wX_nearer_2 post (nI u) (nI s) (nI t) re pn cn ca we wl (yk_W g) kc kl ks cc cl cs ad ay n x := fun hne => nm_r (nI_1 v) (ih (v + 1) (by omega) (by omega))
    have edv : ad (nI v).toNatClampNeg = nI (D v) := by rw [nI_clamp (by omega), hd _ h7]
    have edu : ad (nI u).toNatClampNeg = nI (D u) := by rw [nI_clamp (by omega), hd _ hu]
    refine nm_r (yk_ix u v) ⟨pk_in (7 * u + v) 49 (by omega), ?_⟩
    refine pk_eq (g (7 * u + v)) 0 (fun hz => skip (fun e => ?_)) (fun hz => ?_) (yk_W_at (by omega))
    · subst e
      rw [yk_gx_0 hz] at r2
      exact Nat.lt_irrefl _ r2
    refine br_c (fun he => skip (fun e => ?_)) (fun he => ?_)
    · subst e
      rw [yk_gx_c he (by omega)] at r2
      exact Nat.lt_irrefl _ r2
    have eg := yk_gx_n (g := g) he
    refine ⟨pk_in v 7 h7, ?_⟩
    refine pk_lt (D v) 1000000 (fun hl => ?_) (fun hl => skip (fun e => ?_)) edv
    · refine ⟨pk_in v 7 h7, pk_in (7 * u + v) 49 (by omega), pk_in u 7 hu, ?_⟩
      refine pk_eq (D v + g (7 * u + v)) (D u) (fun he2 => ?_) (fun hne => skip (fun e => ?_)) (by rw [edv, yk_W_at (by omega), nI_add]) edu
      · by_cases e : v = r
        · rw [e]; exact h
        · exact absurd ⟨by rw [eg]; omega, hl, by rw [eg]; exact he2⟩ (r5 v (by omega))
      · subst e
        rw [eg] at r4
        exact hne r4
    · subst e
      omega
theorem yk_xnearer {post : Int32 → Prop} {D : Nat → Nat} {u r : Nat} (hg : ∀ j, g j ≤ 50) (hu : u < 7) (hd : ∀ j, j < 7 → ad j = nI (D j)) (hD : ∀ j, j < 7 → D j ≤ 1000000) (hr : yk_NR (yk_gx g ca) D u r) (h : post (nI r)) :
    wpX_nearer post (nI s, nI t, re, pn, cn, ca, we, wl, yk_W g, kc, kl, ks, cc, cl, cs, ad, ay) (nI u) := by
  unfold wpX_nearer
  exact ⟨8, yk_xnear2 hg hu hd hD hr h 8 0 (Nat.zero_le _) (by omega)⟩
end
end
section
/-! X: the first shortest way -/
section
variable {re pn cn ca we wl : Int32} {kc kl ks cc cl cs ad ay : Nat → Int32} {s t : Nat} {g : Nat → Nat}
theorem yk_hold_snoc {a : Nat → Int32} {V : List Nat} {x : Nat} (h : ∀ i, i < V.length → a i = nI (yk_at V i)) : ∀ i, i < (V ++ [x]).length → upd a V.length (nI x) i = nI (yk_at (V ++ [x]) i) := by
  intro i hi
  rw [yk_len_snoc] at hi
  by_cases e : i = V.length
  · subst e
    rw [pk_us, yk_at_snoc]
  · rw [pk_un e, yk_at_app1 [x] V i (by omega)]
    exact h i (by omega)
theorem yk_x201 {post : Int32 → SX → Prop} {V : List Nat} (ht : t < 7) (hl : V.length ≤ 6) (K : post 1 (nI s, nI t, re, pn, cn, ca, nI (V ++ [t]).length, wl, yk_W g, kc, kl, ks, cc, cl, cs, ad, upd ay V.length (nI t))) : wX_goOn_201 post (nI s) (nI t) re pn cn ca (nI V.length) wl (yk_W g) kc kl ks cc cl cs ad ay := by
  unfold wX_goOn_201
  refine ⟨pk_in V.length 7 (by omega), nm_r (e' := upd ay V.length (nI t)) (by rw [nI_clamp (by omega), yk_nar ht]) (nm_r (e' := nI (V ++ [t]).length) (by rw [yk_len_snoc, nI_1]) K)⟩
theorem yk_x150 {post : Int32 → SX → Prop} {A : Nat → Prop} {D : Nat → Nat} {pre : List Nat} {tot b : Nat} (hg : ∀ j, g j ≤ 50) (ht : t < 7) (hd : ∀ j, j < 7 → ad j = nI (D j)) (hD : yk_DF (yk_gx g ca) t A D) (hp : yk_PF (yk_gx g ca) s t A pre)
    (K : ∀ (L : List Nat) (ay : Nat → Int32), (∀ i, i < L.length → ay i = nI (yk_at L i)) → yk_WI (yk_gx g ca) t D pre tot L → yk_at L pre.length = b → yk_at L (L.length - 1) = t → post 1 (nI s, nI t, re, pn, cn, ca, nI L.length, wl, yk_W g, kc, kl, ks, cc, cl, cs, ad, ay)) :
    ∀ (n : Nat) (V : List Nat) (x : Nat) (ay : Nat → Int32), 7 < n + V.length → (∀ i, i < V.length → ay i = nI (yk_at V i)) → yk_WI (yk_gx g ca) t D pre tot (V ++ [x]) → yk_at (V ++ [x]) pre.length = b →
      wX_goOn_150 post (nI s) (nI t) re pn cn ca wl n (nI x) (nI V.length) (yk_W g) kc kl ks cc cl cs ad ay := by
  intro n
  induction n with
  | zero =>
    intro V x ay h2 _ hw _
    have h3 := yk_WI_len hw
    rw [yk_len_snoc] at h3
    exact absurd h2 (by omega)
  | succ n ih =>
    intro V x ay h2 hay hw hb
    have h3 := yk_WI_len hw
    rw [yk_len_snoc] at h3
    have hx7 : x < 7 := hw.2.2.2.2.1 x (List.mem_append_right _ List.mem_cons_self)
    have fin : x = t → wX_goOn_201 post (nI s) (nI t) re pn cn ca (nI V.length) wl (yk_W g) kc kl ks cc cl cs ad ay := fun e => by
      subst e
      refine yk_x201 hx7 (by omega) (K (V ++ [x]) _ (yk_hold_snoc hay) hw hb ?_)
      rw [yk_len_snoc]
      exact yk_at_snoc V x
    refine pk_eq x t fin (fun hne => ?_)
    refine pk_le 6 V.length (fun h6 => fin (yk_WI_t ht hp hw h6)) (fun h6 => ?_)
    refine ⟨pk_in V.length 7 (by omega), nm_r (e' := upd ay V.length (nI x)) (by rw [nI_clamp (by omega), yk_nar hx7]) (nm_r (e' := nI (V ++ [x]).length) (by rw [yk_len_snoc, nI_1]) ?_)⟩
    have hx6 := (hw.2.2.2.2.2.1 V.length (by have := hw.1; rw [yk_len_snoc] at this; omega) (by rw [yk_len_snoc]; omega)).1
    rw [yk_at_snoc] at hx6
    obtain ⟨r, hr⟩ := yk_NR_ex hD hx7 hne hx6
    refine yk_xnearer (D := D) (r := r) hg hx7 hd hD.1.2.2.1 hr ?_
    refine ih (V ++ [x]) r _ (by rw [yk_len_snoc]; omega) (yk_hold_snoc hay) (yk_WI_s hD hp hw hne hr) ?_
    rw [yk_at_app1 [r] (V ++ [x]) pre.length hw.1]
    exact hb
def yk_CS (G : Nat → Nat) (D : Nat → Nat) (B : Nat → Prop) (f v : Nat) (x4 : Int32) (m : Nat) : Prop :=
  m ≤ 1000000 ∧ (∀ w, w < v → 0 < G (7 * f + w) → ¬ B w → m ≤ D w + G (7 * f + w)) ∧
  ((x4 = -1 ∧ m = 1000000) ∨ ∃ b, b < v ∧ x4 = nI b ∧ m = D b + G (7 * f + b) ∧ 0 < G (7 * f + b) ∧ ¬ B b ∧ m < 1000000 ∧ ∀ w, w < b → 0 < G (7 * f + w) → ¬ B w → m < D w + G (7 * f + w))
theorem yk_CS_n {G : Nat → Nat} {D : Nat → Nat} {B : Nat → Prop} {f v : Nat} {x4 : Int32} {m : Nat} (h : yk_CS G D B f v x4 m) (hno : 0 < G (7 * f + v) → ¬ B v → m ≤ D v + G (7 * f + v)) : yk_CS G D B f (v + 1) x4 m := by
  obtain ⟨h1, h2, h3⟩ := h
  refine ⟨h1, fun w hw hG hB => ?_, ?_⟩
  · by_cases e : w = v
    · subst e; exact hno hG hB
    · exact h2 w (by omega) hG hB
  · rcases h3 with h3 | ⟨b, hb, h3⟩
    · exact Or.inl h3
    · exact Or.inr ⟨b, by omega, h3⟩
theorem yk_CS_s {G : Nat → Nat} {D : Nat → Nat} {B : Nat → Prop} {f v : Nat} {x4 : Int32} {m : Nat} (h : yk_CS G D B f v x4 m) (hG : 0 < G (7 * f + v)) (hB : ¬ B v) (hl : D v + G (7 * f + v) < m) : yk_CS G D B f (v + 1) (nI v) (D v + G (7 * f + v)) := by
  obtain ⟨h1, h2, h3⟩ := h
  refine ⟨by omega, fun w hw hGw hBw => ?_, Or.inr ⟨v, by omega, rfl, rfl, hG, hB, by omega, fun w hw hGw hBw => ?_⟩⟩
  · by_cases e : w = v
    · subst e; exact Nat.le_refl _
    · have := h2 w (by omega) hGw hBw
      omega
  · have := h2 w hw hGw hBw
    omega
theorem yk_x19 {post : Int32 → SX → Prop} {D : Nat → Nat} {B : Nat → Prop} {f bm : Nat} (hg : ∀ j, g j ≤ 50) (hf : f < 7) (hbm : bm < 128) (hd : ∀ j, j < 7 → ad j = nI (D j)) (hD : ∀ j, j < 7 → D j ≤ 1000000) (hB : ∀ v, v < 7 → (bm.testBit v = true ↔ B v))
    (K0 : (∀ v, v < 7 → 0 < yk_gx g ca (7 * f + v) → ¬ B v → 1000000 ≤ D v + yk_gx g ca (7 * f + v)) → post 0 (nI s, nI t, re, pn, cn, ca, we, wl, yk_W g, kc, kl, ks, cc, cl, cs, ad, ay))
    (K1 : ∀ b, yk_CH (yk_gx g ca) D B f b → ∀ n x4 x6, (7 : Int32) ≤ x6 → x4 = nI b → wX_goOn_19 post (nI f) (nI bm) (nI s) (nI t) re pn cn ca we wl (yk_W g) kc kl ks cc cl cs ad ay (n + 1) x4 (nI (D b + yk_gx g ca (7 * f + b))) x6) :
    ∀ (n v : Nat) (x4 : Int32) (m : Nat), v ≤ 7 → 7 < n + v → yk_CS (yk_gx g ca) D B f v x4 m → wX_goOn_19 post (nI f) (nI bm) (nI s) (nI t) re pn cn ca we wl (yk_W g) kc kl ks cc cl cs ad ay n x4 (nI m) (nI v) := by
  intro n
  induction n with
  | zero => intro v x4 m h1 h2; exact absurd h2 (by omega)
  | succ n ih =>
    intro v x4 m h1 h2 hc
    by_cases h7 : v = 7
    · subst h7
      obtain ⟨c1, c2, c3⟩ := hc
      rcases c3 with ⟨e1, e2⟩ | ⟨b, hb, e1, e2, e3, e4, e5, e6⟩
      · subst e1 e2
        exact br_t (Int32.le_refl _) (br_f (by decide) (K0 c2))
      · subst e2
        exact K1 b ⟨hb, e3, e4, e5, c2, e6⟩ n x4 _ (Int32.le_refl _) e1
    · refine pk_le 7 v (fun h => absurd h (by omega)) (fun h => ?_)
      have hgv := hg (7 * f + v)
      have hdv := hD v h
      have hm := hc.1
      have skip : (0 < yk_gx g ca (7 * f + v) → ¬ B v → m ≤ D v + yk_gx g ca (7 * f + v)) → ∀ x, x = nI v + 1 → wX_goOn_19 post (nI f) (nI bm) (nI s) (nI t) re pn cn ca we wl (yk_W g) kc kl ks cc cl cs ad ay n x4 (nI m) x := fun hno => nm_r (nI_1 v) (ih (v + 1) x4 m (by omega) (by omega) (yk_CS_n hc hno))
      have edv : ad (nI v).toNatClampNeg = nI (D v) := by rw [nI_clamp (by omega), hd _ h]
      refine nm_r (yk_ix f v) ⟨pk_in (7 * f + v) 49 (by omega), ?_⟩
      refine pk_eq (g (7 * f + v)) 0 (fun hz => skip (fun hG => ?_)) (fun hz => ?_) (yk_W_at (by omega))
      · rw [yk_gx_0 hz] at hG
        exact absurd hG (Nat.lt_irrefl _)
      refine br_c (fun he => skip (fun hG => ?_)) (fun he => ?_)
      · rw [yk_gx_c he (by omega)] at hG
        exact absurd hG (Nat.lt_irrefl _)
      have eg := yk_gx_n (g := g) he
      refine ek_if (yk_bit (by omega) (by omega)) (fun hb => ?_) (fun hb => skip (fun _ hnB => absurd ((hB v h).mp (ts_nf hb)) hnB))
      have hnB : ¬ B v := fun hx => by
        have := (hB v h).mpr hx
        rw [hb] at this
        exact absurd this (by decide)
      refine ⟨pk_in v 7 h, pk_in (7 * f + v) 49 (by omega), ?_⟩
      have esum : ad (nI v).toNatClampNeg + yk_W g (nI (7 * f + v)).toNatClampNeg = nI (D v + g (7 * f + v)) := by rw [edv, yk_W_at (by omega), nI_add]
      refine pk_lt (D v + g (7 * f + v)) m (fun hl => ?_) (fun hl => skip (fun _ _ => by rw [eg]; exact hl)) esum
      refine ⟨pk_in v 7 h, pk_in (7 * f + v) 49 (by omega), nm_r esum (nm_r (nI_1 v) ?_)⟩
      have hs := yk_CS_s hc (by rw [eg]; omega) hnB (by rw [eg]; exact hl)
      rw [eg] at hs
      exact ih (v + 1) (nI v) _ (by omega) (by omega) hs
theorem yk_goOn {post : Int32 → SX → Prop} {A B : Nat → Prop} {W : List Nat} {f c0 bm : Nat} (hg : ∀ j, g j ≤ 50) (ht : t < 7) (hf : f < 7) (hc : c0 < 128) (hbm : bm < 128)
    (hA : ∀ u, u < 7 → (c0.testBit u = true ∨ u = f ↔ A u)) (hAt : ¬ A t) (hB : ∀ v, v < 7 → (bm.testBit v = true ↔ B v))
    (hp : yk_PF (yk_gx g ca) s t A (W ++ [f])) (hw : ∀ i, i < W.length → ay i = nI (yk_at W i))
    (K0 : (∀ q, ¬ yk_QP (yk_gx g ca) s t A B (W ++ [f]) q) → ∀ ad : Nat → Int32, post 0 (nI s, nI t, re, pn, cn, ca, nI W.length, wl, yk_W g, kc, kl, ks, cc, cl, cs, ad, ay))
    (K1 : ∀ (L : List Nat) (m : Nat) (ad ay : Nat → Int32), yk_Bst (yk_gx g ca) s t A B (W ++ [f]) L → yk_ln (yk_gx g ca) L = yk_sm (yk_gx g ca) (W ++ [f]) W.length + m → (∀ i, i < L.length → ay i = nI (yk_at L i)) → post 1 (nI s, nI t, re, pn, cn, ca, nI L.length, nI m, yk_W g, kc, kl, ks, cc, cl, cs, ad, ay)) :
    wpX_goOn post (nI s, nI t, re, pn, cn, ca, nI W.length, wl, yk_W g, kc, kl, ks, cc, cl, cs, ad, ay) (nI f) (nI c0) (nI bm) := by
  have hW6 : W.length ≤ 6 := by
    have h1 : t ∉ W ++ [f] := fun hm => (hp.2.2.2.1 t hm).2.1 rfl
    have := yk_len7 (t :: (W ++ [f])) (List.nodup_cons.mpr ⟨h1, hp.2.2.1⟩) (fun x hx => by
      rcases List.mem_cons.mp hx with e | hx
      · rw [e]; exact ht
      · exact (hp.2.2.2.1 x hx).1)
    rw [List.length_cons, yk_len_snoc] at this
    omega
  unfold wpX_goOn
  dsimp only
  rw [yk_or1 (by omega)]
  refine yk_xmeasure hg (yk_or128 hc hf) ht (fun u hu => (yk_tb2 c0 f u).trans (hA u hu)) hAt (fun D ad hd hDF => ?_)
  have hlast : yk_at (W ++ [f]) ((W ++ [f]).length - 1) = f := by
    rw [yk_len_snoc]
    exact yk_at_snoc W f
  have hlen1 : (W ++ [f]).length - 1 = W.length := by rw [yk_len_snoc]; rfl
  refine ⟨8, yk_x19 (B := B) (D := D) hg hf hbm hd hDF.1.2.2.1 hB ?_ ?_ 8 0 (-1) 1000000 (by omega) (by omega) ⟨Nat.le_refl _, fun w hw => absurd hw (Nat.not_lt_zero _), Or.inl ⟨rfl, rfl⟩⟩⟩
  · intro hno
    exact K0 (fun q => yk_none (fun j => yk_gx_le hg j) hDF hp hlast hno q) ad
  · intro b hb n x4 x6 h7 e4
    subst e4
    have hw0 := yk_WI_0 hDF hp hlast hb
    refine br_t h7 (br_t (nI_pos' (by have := hb.1; omega)) ?_)
    refine ⟨pk_in W.length 7 (by omega), nm_r (e' := upd ay W.length (nI f)) (by rw [nI_clamp (by omega), yk_nar hf]) (nm_r (e' := nI (W ++ [f]).length) (by rw [yk_len_snoc, nI_1]) ?_)⟩
    refine ⟨8, yk_x150 (b := b) hg ht hd hDF hp (fun L ay' hL hWL hbL htL => ?_) 8 (W ++ [f]) b _ (by rw [yk_len_snoc]; omega) (yk_hold_snoc hw) hw0 (yk_at_snoc (W ++ [f]) b)⟩
    obtain ⟨hB1, hB2⟩ := yk_WI_e hDF hp hlast hb hWL hbL htL
    rw [hlen1] at hB2
    exact K1 L _ ad ay' hB1 hB2 hL
end
end
section
/-! X: codes, keeping, what is taken, proposing, the best one proposed -/
def yk_RX (g : Nat → Nat) (K : Nat → List Nat) (n : Nat) (kc kl ks : Nat → Int32) : Prop :=
  ∀ k, k < n → kc k = nI (yk_cd 7 (K k)) ∧ kl k = nI (yk_ln g (K k)) ∧ ks k = nI (K k).length
theorem yk_RX_put {g : Nat → Nat} {K : Nat → List Nat} {n : Nat} {kc kl ks : Nat → Int32} (h : yk_RX g K n kc kl ks) (p : List Nat) :
    yk_RX g (yk_put K n p) (n + 1) (upd kc n (nI (yk_cd 7 p))) (upd kl n (nI (yk_ln g p))) (upd ks n (nI p.length)) := by
  intro k hk
  by_cases e : k = n
  · subst e
    rw [pk_us, pk_us, pk_us, yk_put_eq]
    exact ⟨rfl, rfl, rfl⟩
  · rw [pk_un e, pk_un e, pk_un e, yk_put_ne e]
    exact h k (by omega)
theorem yk_RX_del {g : Nat → Nat} {K : Nat → List Nat} {m b : Nat} {kc kl ks : Nat → Int32} (h : yk_RX g K (m + 1) kc kl ks) :
    yk_RX g (yk_put K b (K m)) m (upd kc b (kc m)) (upd kl b (kl m)) (upd ks b (ks m)) := by
  intro k hk
  by_cases e : k = b
  · subst e
    rw [pk_us, pk_us, pk_us, yk_put_eq]
    exact h m (by omega)
  · rw [pk_un e, pk_un e, pk_un e, yk_put_ne e]
    exact h k (by omega)
theorem yk_cd31 {p : List Nat} (h : ∀ i, yk_at p i < 8) : yk_cd 7 p < 2 ^ 31 := Nat.lt_of_lt_of_le (yk_cd_lt h 7) (by decide)
section
variable {re pn cn ca we wl : Int32} {kc kl ks cc cl cs ad ay : Nat → Int32} {s t : Nat} {g : Nat → Nat}
theorem yk_xcode4 {post : Int32 → Prop} {L : List Nat} (hl : L.length ≤ 7) (h8 : ∀ i, yk_at L i < 8) (hw : ∀ i, i < L.length → ay i = nI (yk_at L i)) (K : post (nI (yk_cd 7 L))) :
    ∀ (n i : Nat), i ≤ 7 → 7 < n + i → wX_codeOfWay_4 post (nI s) (nI t) re pn cn ca (nI L.length) wl (yk_W g) kc kl ks cc cl cs ad ay n (nI (yk_cd i L)) (nI i) := by
  intro n
  induction n with
  | zero => intro i h1 h2; exact absurd h2 (by omega)
  | succ n ih =>
    intro i h1 h2
    refine pk_le 7 i (fun h => ?_) (fun h => ?_)
    · have e : i = 7 := by omega
      subst e
      exact K
    · have hcd : yk_cd i L < 2 ^ 20 := by
        have h3 := yk_cd_lt h8 i
        have h4 : 8 ^ i ≤ 8 ^ 6 := Nat.pow_le_pow_right (by decide) (by omega)
        omega
      have e1 : yk_cd (i + 1) L = 8 * yk_cd i L + yk_at L i := rfl
      refine pk_le L.length i (fun hi => ?_) (fun hi => ?_)
      · refine nm_r (e' := nI (yk_cd (i + 1) L)) ?_ (nm_r (nI_1 i) (ih (i + 1) (by omega) (by omega)))
        rw [e1, yk_at_out L i hi]
        exact yk_oct hcd (d := 0) (by decide)
      · refine ⟨pk_in i 7 h, nm_r (e' := nI (yk_cd (i + 1) L)) ?_ (nm_r (nI_1 i) (ih (i + 1) (by omega) (by omega)))⟩
        rw [nI_clamp (by omega), hw i hi, e1]
        exact yk_oct hcd (h8 i)
theorem yk_xcode {post : Int32 → Prop} {L : List Nat} (hl : L.length ≤ 7) (h8 : ∀ i, yk_at L i < 8) (hw : ∀ i, i < L.length → ay i = nI (yk_at L i)) (K : post (nI (yk_cd 7 L))) :
    wpX_codeOfWay post (nI s, nI t, re, pn, cn, ca, nI L.length, wl, yk_W g, kc, kl, ks, cc, cl, cs, ad, ay) := by
  unfold wpX_codeOfWay
  exact ⟨8, yk_xcode4 hl h8 hw K 8 0 (by omega) (by omega)⟩
theorem yk_xkeep {post : SX → Prop} {n : Nat} {c l z : Int32} (hn : n < 12) (K : post (nI s, nI t, re, nI (n + 1), cn, ca, we, wl, yk_W g, upd kc n c, upd kl n l, upd ks n z, cc, cl, cs, ad, ay)) : wpX_keep post (nI s, nI t, re, nI n, cn, ca, we, wl, yk_W g, kc, kl, ks, cc, cl, cs, ad, ay) c l z := by
  unfold wpX_keep
  refine ⟨pk_in n 12 hn, nm_r (e' := upd kc n c) (by rw [nI_clamp (by omega)]) ⟨pk_in n 12 hn, nm_r (e' := upd kl n l) (by rw [nI_clamp (by omega)]) ⟨pk_in n 12 hn, nm_r (e' := upd ks n z) (by rw [nI_clamp (by omega)]) (nm_r (nI_1 n) K)⟩⟩⟩
theorem yk_xvert {post : Int32 → Prop} {q : List Nat} {i : Nat} {c x : Int32} (hc : c = nI (yk_cd 7 q)) (hx : x = nI i) (hi : i < 7) (h8 : ∀ j, yk_at q j < 8) (K : post (nI (yk_at q i))) : wpX_vertexIn post (nI s, nI t, re, pn, cn, ca, we, wl, yk_W g, kc, kl, ks, cc, cl, cs, ad, ay) c x := by
  unfold wpX_vertexIn
  dsimp only
  rw [hc, hx, yk_dig (yk_cd31 h8) hi]
  have e : i + 1 + (6 - i) = 7 := by omega
  have h := yk_cd_dig h8 i (6 - i)
  rw [e] at h
  rw [h]
  exact K
def yk_TK (K : Nat → List Nat) (n : Nat) (p : List Nat) (i v : Nat) : Prop := ∃ k, k < n ∧ yk_AG (K k) p (i + 1) ∧ yk_at (K k) (i + 1) = v
theorem yk_xtaken13 {post : Int32 → Prop} {K : Nat → List Nat} {n i : Nat} {p : List Nat} {G : Nat → Nat} (hn : n ≤ 12) (hK : ∀ k, k < n → yk_PA G s t (K k)) (hp : yk_PA G s t p) (hi : i + 1 < p.length) (hR : yk_RX g K n kc kl ks)
    (H : ∀ bm, bm < 128 → (∀ v, v < 7 → (bm.testBit v = true ↔ yk_TK K n p i v)) → post (nI bm)) :
    ∀ (f k bm : Nat), k ≤ n → n < f + k → bm < 128 → (∀ v, v < 7 → (bm.testBit v = true ↔ yk_TK K k p i v)) →
      wX_takenAfter_13 post (nI (yk_cd 7 p)) (nI i) (nI (3 * (6 - i))) (nI s) (nI t) re (nI n) cn ca we wl (yk_W g) kc kl ks cc cl cs ad ay f (nI bm) (nI k) := by
  have hpl := yk_PA_len hp
  intro f
  induction f with
  | zero => intro k bm h1 h2; exact absurd h2 (by omega)
  | succ f ih =>
    intro k bm h1 h2 hbm hb
    refine pk_le n k (fun h => ?_) (fun h => ?_)
    · have e : k = n := by omega
      subst e
      exact H bm hbm hb
    · obtain ⟨r1, r2, r3⟩ := hR k h
      have hk := hK k h
      have hkl := yk_PA_len hk
      have skip : (¬ yk_AG (K k) p (i + 1)) → ∀ x, x = nI k + 1 → wX_takenAfter_13 post (nI (yk_cd 7 p)) (nI i) (nI (3 * (6 - i))) (nI s) (nI t) re (nI n) cn ca we wl (yk_W g) kc kl ks cc cl cs ad ay f (nI bm) x := fun hno => nm_r (nI_1 k) (ih (k + 1) bm (by omega) (by omega) hbm (fun v hv => (hb v hv).trans (by
        constructor
        · rintro ⟨j, hj, hh⟩
          exact ⟨j, by omega, hh⟩
        · rintro ⟨j, hj, hh⟩
          refine ⟨j, ?_, hh⟩
          refine Nat.lt_of_not_le fun hle => hno ?_
          have e : j = k := by omega
          rw [← e]; exact hh.1)))
      have e6 : i + 1 + (6 - i) = 7 := by omega
      have ek : kc (nI k).toNatClampNeg >>> (nI (3 * (6 - i)) &&& 31) = nI (yk_cd (i + 1) (K k)) := by
        have h3 := yk_cd_div (yk_PA_8 hk) (i + 1) (6 - i)
        rw [e6] at h3
        rw [nI_clamp (by omega), r1, yk_top (yk_cd31 (yk_PA_8 hk)) (by omega), h3]
      have ep : nI (yk_cd 7 p) >>> (nI (3 * (6 - i)) &&& 31) = nI (yk_cd (i + 1) p) := by
        have h3 := yk_cd_div (yk_PA_8 hp) (i + 1) (6 - i)
        rw [e6] at h3
        rw [yk_top (yk_cd31 (yk_PA_8 hp)) (by omega), h3]
      have b1 : yk_cd (i + 1) (K k) < 2 ^ 31 := Nat.lt_of_lt_of_le (yk_cd_lt (yk_PA_8 hk) (i + 1)) (Nat.le_trans (Nat.pow_le_pow_right (by decide) (by omega : i + 1 ≤ 7)) (by decide))
      have b2 : yk_cd (i + 1) p < 2 ^ 31 := Nat.lt_of_lt_of_le (yk_cd_lt (yk_PA_8 hp) (i + 1)) (Nat.le_trans (Nat.pow_le_pow_right (by decide) (by omega : i + 1 ≤ 7)) (by decide))
      refine ⟨pk_in k 12 (by omega), ?_⟩
      refine pk_eq (yk_cd (i + 1) (K k)) (yk_cd (i + 1) p) (fun he => ?_) (fun hne => skip (fun ha => hne (yk_cd_congr (i + 1) ha))) ek ep b1 b2
      have hag : yk_AG (K k) p (i + 1) := yk_cd_inv (yk_PA_8 hk) (yk_PA_8 hp) (i + 1) he
      have hlen := yk_PA_go hp hk hi hag
      refine ⟨pk_in k 12 (by omega), ?_⟩
      refine pk_le (K k).length (i + 1) (fun hle => absurd hle (by omega)) (fun _ => ?_) (by rw [nI_clamp (by omega)]; exact r3) (nI_1 i)
      refine ⟨pk_in k 12 (by omega), ?_⟩
      refine yk_xvert (q := K k) (i := i + 1) (by rw [nI_clamp (by omega)]; exact r1) (nI_1 i) (by omega) (yk_PA_8 hk) ?_
      have h7 := yk_PA_7 hk (i + 1)
      refine nm_r (yk_or1 (by omega)) (nm_r (nI_1 k) (ih (k + 1) _ (by omega) (by omega) (yk_or128 hbm h7) (fun v hv => ?_)))
      rw [yk_tb2, hb v hv]
      constructor
      · rintro (⟨j, hj, hh⟩ | e)
        · exact ⟨j, by omega, hh⟩
        · exact ⟨k, by omega, hag, e.symm⟩
      · rintro ⟨j, hj, hh⟩
        by_cases e : j = k
        · subst e
          exact Or.inr hh.2.symm
        · exact Or.inl ⟨j, by omega, hh⟩
theorem yk_xtaken {post : Int32 → Prop} {K : Nat → List Nat} {n i : Nat} {p : List Nat} {G : Nat → Nat} {c : Int32} (hc : c = nI (yk_cd 7 p)) (hn : n ≤ 12) (hK : ∀ k, k < n → yk_PA G s t (K k)) (hp : yk_PA G s t p) (hi : i + 1 < p.length) (hR : yk_RX g K n kc kl ks)
    (H : ∀ bm, bm < 128 → (∀ v, v < 7 → (bm.testBit v = true ↔ yk_TK K n p i v)) → post (nI bm)) : wpX_takenAfter post (nI s, nI t, re, nI n, cn, ca, we, wl, yk_W g, kc, kl, ks, cc, cl, cs, ad, ay) c (nI i) := by
  have hpl := yk_PA_len hp
  subst hc
  unfold wpX_takenAfter
  refine nm_r (yk_sub6 i (by omega)) ⟨n + 1, yk_xtaken13 hn hK hp hi hR H (n + 1) 0 0 (by omega) (by omega) (by omega) (fun v _ => ?_)⟩
  rw [Nat.zero_testBit]
  constructor
  · intro h; exact absurd h (by decide)
  · rintro ⟨k, hk, _⟩; exact absurd hk (Nat.not_lt_zero _)
theorem yk_xprop3 {post : SX → Prop} {C : Nat → List Nat} {m : Nat} {L : List Nat} {G : Nat → Nat} {x2 x3 : Int32} (hm : m < 72) (hC : ∀ c, c < m → yk_PA G s t (C c)) (hL : yk_PA G s t L) (hR : yk_RX g C m cc cl cs)
    (K0 : ∀ c, c < m → C c = L → post (nI s, nI t, re, pn, nI m, ca, we, wl, yk_W g, kc, kl, ks, cc, cl, cs, ad, ay))
    (K1 : (∀ c, c < m → C c ≠ L) → post (nI s, nI t, re, pn, nI (m + 1), ca, we, wl, yk_W g, kc, kl, ks, upd cc m (nI (yk_cd 7 L)), upd cl m x2, upd cs m x3, ad, ay)) :
    ∀ (f c : Nat), c ≤ m → m < f + c → (∀ d, d < c → C d ≠ L) → wX_propose_3 post (nI (yk_cd 7 L)) x2 x3 (nI s) (nI t) re pn (nI m) ca we wl (yk_W g) kc kl ks cc cl cs ad ay f (nI c) := by
  intro f
  induction f with
  | zero => intro c h1 h2; exact absurd h2 (by omega)
  | succ f ih =>
    intro c h1 h2 hd
    refine pk_le m c (fun h => ?_) (fun h => ?_)
    · have e : c = m := by omega
      subst e
      refine ⟨pk_in c 72 hm, nm_r (e' := upd cc c (nI (yk_cd 7 L))) (by rw [nI_clamp (by omega)]) ⟨pk_in c 72 hm, nm_r (e' := upd cl c x2) (by rw [nI_clamp (by omega)]) ⟨pk_in c 72 hm, nm_r (e' := upd cs c x3) (by rw [nI_clamp (by omega)]) (nm_r (nI_1 c) (K1 hd))⟩⟩⟩
    · obtain ⟨r1, r2, r3⟩ := hR c h
      refine ⟨pk_in c 72 (by omega), ?_⟩
      refine pk_eq (yk_cd 7 (C c)) (yk_cd 7 L) (fun he => K0 c h (yk_key_cd (hC c h) hL he)) (fun hne => ?_) (by rw [nI_clamp (by omega)]; exact r1) rfl (yk_cd31 (yk_PA_8 (hC c h))) (yk_cd31 (yk_PA_8 hL))
      refine nm_r (nI_1 c) (ih (c + 1) (by omega) (by omega) (fun d hdc => ?_))
      by_cases e : d = c
      · subst e
        exact fun e2 => hne (by rw [e2])
      · exact hd d (by omega)
theorem yk_xprop {post : SX → Prop} {C : Nat → List Nat} {m : Nat} {L : List Nat} {G : Nat → Nat} {x2 x3 : Int32} (hm : m < 72) (hC : ∀ c, c < m → yk_PA G s t (C c)) (hL : yk_PA G s t L) (hR : yk_RX g C m cc cl cs)
    (K0 : ∀ c, c < m → C c = L → post (nI s, nI t, re, pn, nI m, ca, we, wl, yk_W g, kc, kl, ks, cc, cl, cs, ad, ay))
    (K1 : (∀ c, c < m → C c ≠ L) → post (nI s, nI t, re, pn, nI (m + 1), ca, we, wl, yk_W g, kc, kl, ks, upd cc m (nI (yk_cd 7 L)), upd cl m x2, upd cs m x3, ad, ay)) :
    wpX_propose post (nI s, nI t, re, pn, nI m, ca, we, wl, yk_W g, kc, kl, ks, cc, cl, cs, ad, ay) (nI (yk_cd 7 L)) x2 x3 := by
  unfold wpX_propose
  exact ⟨m + 1, yk_xprop3 hm hC hL hR K0 K1 (m + 1) 0 (by omega) (by omega) (fun d hd => absurd hd (Nat.not_lt_zero _))⟩
theorem yk_xbest4 {post : Int32 → Prop} {C : Nat → List Nat} {m : Nat} {G : Nat → Nat} (hG : ∀ j, G j ≤ 50) (hm : m ≤ 72) (hC : ∀ c, c < m → yk_PA G s t (C c)) (hR : yk_RX G C m cc cl cs)
    (K0 : m = 0 → post (-1)) (K1 : ∀ b, b < m → (∀ c, c < m → yk_key G (C b) ≤ yk_key G (C c)) → post (nI b)) :
    ∀ (f c : Nat) (x1 : Int32), c ≤ m → m < f + c → ((x1 = -1 ∧ c = 0) ∨ ∃ b, b < c ∧ x1 = nI b ∧ ∀ d, d < c → yk_key G (C b) ≤ yk_key G (C d)) →
      wX_bestCandidate_4 post (nI s) (nI t) re pn (nI m) ca we wl (yk_W g) kc kl ks cc cl cs ad ay f x1 (nI c) := by
  intro f
  induction f with
  | zero => intro c x1 h1 h2; exact absurd h2 (by omega)
  | succ f ih =>
    intro c x1 h1 h2 hx
    refine pk_le m c (fun h => ?_) (fun h => ?_)
    · have e : c = m := by omega
      subst e
      rcases hx with ⟨e1, e2⟩ | ⟨b, hb, e1, hmin⟩
      · rw [e1]; exact K0 e2
      · rw [e1]; exact K1 b hb hmin
    · have hC1 := hC c h
      obtain ⟨r1, r2, r3⟩ := hR c h
      have hl1 := yk_PA_ln hG hC1
      have hc1 := yk_PA_cd hC1
      rcases hx with ⟨e1, e2⟩ | ⟨b, hb, e1, hmin⟩
      · subst e1 e2
        refine br_t (by decide) ?_
        unfold wX_bestCandidate_61 wX_bestCandidate_66
        refine br_f (by decide) (nm_r (nI_1 0) (ih 1 _ (by omega) (by omega) (Or.inr ⟨0, by omega, rfl, fun d hd => ?_⟩)))
        have e : d = 0 := by omega
        rw [e]
        exact Nat.le_refl _
      · subst e1
        have hC2 := hC b (by omega)
        obtain ⟨q1, q2, q3⟩ := hR b (by omega)
        have hl2 := yk_PA_ln hG hC2
        have hc2 := yk_PA_cd hC2
        have hkey := yk_key_lt hC1 hC2
        have take : yk_key G (C c) < yk_key G (C b) → wX_bestCandidate_61 post (wX_bestCandidate_4 post (nI s) (nI t) re pn (nI m) ca we wl (yk_W g) kc kl ks cc cl cs ad ay f) (nI b) (nI c) (nI s) (nI t) re pn (nI m) ca we wl (yk_W g) kc kl ks cc cl cs ad ay := by
          intro hlt
          unfold wX_bestCandidate_61 wX_bestCandidate_66
          refine br_f (by decide) (nm_r (nI_1 c) (ih (c + 1) _ (by omega) (by omega) (Or.inr ⟨c, by omega, rfl, fun d hd => ?_⟩)))
          by_cases e : d = c
          · rw [e]; exact Nat.le_refl _
          · have := hmin d (by omega)
            omega
        have leave : ¬ yk_key G (C c) < yk_key G (C b) → wX_bestCandidate_65 post (wX_bestCandidate_4 post (nI s) (nI t) re pn (nI m) ca we wl (yk_W g) kc kl ks cc cl cs ad ay f) (nI b) (nI c) (nI s) (nI t) re pn (nI m) ca we wl (yk_W g) kc kl ks cc cl cs ad ay := by
          intro hnl
          unfold wX_bestCandidate_65 wX_bestCandidate_66
          refine br_t rfl (nm_r (nI_1 c) (ih (c + 1) _ (by omega) (by omega) (Or.inr ⟨b, by omega, rfl, fun d hd => ?_⟩)))
          by_cases e : d = c
          · rw [e]; omega
          · exact hmin d (by omega)
        have ec : cl (nI c).toNatClampNeg = nI (yk_ln G (C c)) := by rw [nI_clamp (by omega)]; exact r2
        have eb : cl (nI b).toNatClampNeg = nI (yk_ln G (C b)) := by rw [nI_clamp (by omega)]; exact q2
        refine br_f (nI_pos (by omega)) ⟨pk_in c 72 (by omega), pk_in b 72 (by omega), ?_⟩
        refine pk_lt (yk_ln G (C c)) (yk_ln G (C b)) (fun hl => take (hkey.mpr (Or.inl hl))) (fun hl => ?_) ec eb
        refine ⟨pk_in c 72 (by omega), pk_in b 72 (by omega), ?_⟩
        refine pk_eq (yk_ln G (C c)) (yk_ln G (C b)) (fun he => ?_) (fun hne => leave (fun hk => ?_)) ec eb
        · refine ⟨pk_in c 72 (by omega), pk_in b 72 (by omega), ?_⟩
          refine pk_le (yk_cd 7 (C b)) (yk_cd 7 (C c)) (fun hle => leave (fun hk => ?_)) (fun hlt => take (hkey.mpr (Or.inr ⟨he, hlt⟩))) (by rw [nI_clamp (by omega)]; exact q1) (by rw [nI_clamp (by omega)]; exact r1)
          have := hkey.mp hk
          omega
        · have := hkey.mp hk
          omega
theorem yk_xbest {post : Int32 → Prop} {C : Nat → List Nat} {m : Nat} {G : Nat → Nat} (hG : ∀ j, G j ≤ 50) (hm : m ≤ 72) (hC : ∀ c, c < m → yk_PA G s t (C c)) (hR : yk_RX G C m cc cl cs)
    (K0 : m = 0 → post (-1)) (K1 : ∀ b, b < m → (∀ c, c < m → yk_key G (C b) ≤ yk_key G (C c)) → post (nI b)) : wpX_bestCandidate post (nI s, nI t, re, pn, nI m, ca, we, wl, yk_W g, kc, kl, ks, cc, cl, cs, ad, ay) := by
  unfold wpX_bestCandidate
  exact ⟨m + 1, yk_xbest4 hG hm hC hR K0 K1 (m + 1) 0 (-1) (by omega) (by omega) (Or.inl ⟨rfl, rfl⟩)⟩
end
end
section
/-! X: leaving a known path -/
theorem yk_take_len {p : List Nat} {i : Nat} (h : i < p.length) : (p.take i).length = i := by
  rw [List.length_take]
  omega
theorem yk_take_at {p : List Nat} {i : Nat} (h : i < p.length) : ∀ j, j < i + 1 → yk_at (p.take i ++ [yk_at p i]) j = yk_at p j := by
  intro j hj
  have hl := yk_take_len h
  by_cases e : j = i
  · have h2 := yk_at_snoc (p.take i) (yk_at p i)
    rw [hl] at h2
    rw [e]
    exact h2
  · rw [yk_at_app1 [yk_at p i] (p.take i) j (by omega)]
    exact yk_at_take p i j (by omega)
def yk_AA (p : List Nat) (i u : Nat) : Prop := ∃ j, j < i + 1 ∧ yk_at p j = u
theorem yk_pre_PF {g : Nat → Nat} {s t : Nat} {p : List Nat} {i : Nat} (hp : yk_PA g s t p) (hi : i + 1 < p.length) : yk_PF g s t (yk_AA p i) (p.take i ++ [yk_at p i]) := by
  have hl : (p.take i ++ [yk_at p i]).length = i + 1 := by rw [yk_len_snoc, yk_take_len (by omega)]
  have ha := yk_take_at (p := p) (i := i) (by omega)
  refine ⟨by omega, (ha 0 (by omega)).trans hp.2.1, ?_, ?_, ?_⟩
  · refine yk_nd_of _ fun j k hjk hk => ?_
    rw [ha j (by omega), ha k (by omega)]
    exact yk_nd p hp.2.2.2.1 j k hjk (by omega)
  · refine yk_all_of _ fun j hj => ?_
    rw [ha j (by omega)]
    exact ⟨yk_PA_7 hp j, yk_PA_t hp j (by omega), j, by omega, rfl⟩
  · intro j hj
    rw [ha j (by omega), ha (j + 1) (by omega)]
    exact hp.2.2.2.2.2 j (by omega)
theorem yk_pre_QP {g : Nat → Nat} {s t : Nat} {K : Nat → List Nat} {n : Nat} {p q : List Nat} {i : Nat} (hp : yk_PA g s t p) (hi : i + 1 < p.length) (hq : yk_PA g s t q) (ha : yk_AG p q (i + 1)) (hno : ∀ k, k < n → ¬ yk_AG (K k) q (i + 2)) :
    yk_QP g s t (yk_AA p i) (yk_TK K n p i) (p.take i ++ [yk_at p i]) q := by
  have hl : (p.take i ++ [yk_at p i]).length = i + 1 := by rw [yk_len_snoc, yk_take_len (by omega)]
  have hat := yk_take_at (p := p) (i := i) (by omega)
  refine ⟨hq, ?_, ?_, ?_⟩
  · intro j hj
    rw [hl] at hj
    rw [hat j hj]
    exact (ha j hj).symm
  · intro j hj hjq
    rw [hl] at hj
    rintro ⟨k, hk, e⟩
    rw [ha k hk] at e
    exact yk_nd q hq.2.2.2.1 k j (by omega) hjq e
  · rw [hl]
    rintro ⟨k, hk, h1, h2⟩
    exact hno k hk (yk_AG_succ (yk_AG_trans h1 ha) h2)
/-- a proposed path: none of the known ones -/
theorem yk_new {g : Nat → Nat} {s t : Nat} {K : Nat → List Nat} {n : Nat} {p L : List Nat} {i : Nat} (hi : i < p.length) (h : yk_QP g s t (yk_AA p i) (yk_TK K n p i) (p.take i ++ [yk_at p i]) L) : yk_AG L p (i + 1) ∧ ∀ k, k < n → K k ≠ L := by
  have hl : (p.take i ++ [yk_at p i]).length = i + 1 := by rw [yk_len_snoc, yk_take_len hi]
  obtain ⟨h1, h2, h3, h4⟩ := h
  rw [hl] at h2 h4
  have ha : yk_AG L p (i + 1) := fun j hj => (h2 j hj).trans (yk_take_at hi j hj)
  refine ⟨ha, fun k hk e => h4 ⟨k, hk, ?_, ?_⟩⟩
  · rw [e]; exact ha
  · rw [e]
section
variable {re pn cn ca we wl : Int32} {kc kl ks cc cl cs ad ay : Nat → Int32} {s t : Nat} {g : Nat → Nat}
theorem yk_goOn1 {post : Int32 → SX → Prop} {A B : Nat → Prop} {W : List Nat} {f c0 bm i : Nat} (hg : ∀ j, g j ≤ 50) (ht : t < 7) (hf : f < 7) (hc : c0 < 128) (hbm : bm < 128)
    (hA : ∀ u, u < 7 → (c0.testBit u = true ∨ u = f ↔ A u)) (hAt : ¬ A t) (hB : ∀ v, v < 7 → (bm.testBit v = true ↔ B v))
    (hp : yk_PF g s t A (W ++ [f])) (hW : W.length = i) (hw : ∀ k, k < i → ay k = nI (yk_at W k))
    (K0 : (∀ q, ¬ yk_QP g s t A B (W ++ [f]) q) → ∀ ad : Nat → Int32, post 0 (nI s, nI t, re, pn, cn, -1, nI i, wl, yk_W g, kc, kl, ks, cc, cl, cs, ad, ay))
    (K1 : ∀ (L : List Nat) (m : Nat) (ad ay : Nat → Int32), yk_Bst g s t A B (W ++ [f]) L → yk_ln g L = yk_sm g (W ++ [f]) i + m → (∀ k, k < L.length → ay k = nI (yk_at L k)) → post 1 (nI s, nI t, re, pn, cn, -1, nI L.length, nI m, yk_W g, kc, kl, ks, cc, cl, cs, ad, ay)) :
    wpX_goOn post (nI s, nI t, re, pn, cn, -1, nI i, wl, yk_W g, kc, kl, ks, cc, cl, cs, ad, ay) (nI f) (nI c0) (nI bm) := by
  subst hW
  have h := yk_goOn (post := post) (g := g) (ca := -1) (s := s) (t := t) (re := re) (pn := pn) (cn := cn) (wl := wl) (kc := kc) (kl := kl) (ks := ks) (cc := cc) (cl := cl) (cs := cs) (ad := ad) (ay := ay)
    (A := A) (B := B) (W := W) (f := f) (c0 := c0) (bm := bm)
  rw [yk_gx_m1] at h
  exact h hg ht hf hc hbm hA hAt hB hp hw K0 K1
theorem yk_x124 {post : SX → Prop} {J : Int32 → Int32 → Int32 → Int32 → Int32 → Int32 → Int32 → Int32 → Int32 → Int32 → Int32 → (Nat → Int32) → (Nat → Int32) → (Nat → Int32) → (Nat → Int32) → (Nat → Int32) → (Nat → Int32) → (Nat → Int32) → (Nat → Int32) → (Nat → Int32) → Prop}
    {K : Nat → List Nat} {n x c i : Nat} (hx : x < n) (hn : n ≤ 12) (hp : yk_PA g s t (K x)) (hi : i + 1 < (K x).length) (hR : yk_RX g K n kc kl ks)
    (H : J (nI (yk_sm g (K x) (i + 1))) (nI (c ||| 2 ^ yk_at (K x) i)) (nI (i + 1)) (nI s) (nI t) re pn cn ca we wl (yk_W g) kc kl ks cc cl cs ad ay) :
    wX_branchOff_124 post J (nI x) (nI (yk_sm g (K x) i)) (nI c) (nI i) (nI (yk_at (K x) i)) (nI s) (nI t) re pn cn ca we wl (yk_W g) kc kl ks cc cl cs ad ay := by
  have hl := yk_PA_len hp
  have h7 := yk_PA_7 hp i
  have h8 := yk_PA_7 hp (i + 1)
  obtain ⟨r1, r2, r3⟩ := hR x hx
  unfold wX_branchOff_124
  refine nm_r (yk_or1 (by omega)) ⟨pk_in x 12 (by omega), yk_xvert (q := K x) (i := i + 1) (by rw [nI_clamp (by omega)]; exact r1) (nI_1 i) (by omega) (yk_PA_8 hp) ?_⟩
  refine ⟨pk_in (7 * yk_at (K x) i + yk_at (K x) (i + 1)) 49 (by omega) (yk_ix _ _), nm_r (e' := nI (yk_sm g (K x) (i + 1))) ?_ (nm_r (nI_1 i) H)⟩
  rw [yk_ix, yk_W_at (by omega), nI_add]
  rfl
theorem yk_x57 {post : SX → Prop} {J : Int32 → Int32 → Int32 → Int32 → Int32 → Int32 → Int32 → Int32 → Int32 → Int32 → Int32 → (Nat → Int32) → (Nat → Int32) → (Nat → Int32) → (Nat → Int32) → (Nat → Int32) → (Nat → Int32) → (Nat → Int32) → (Nat → Int32) → (Nat → Int32) → Prop}
    {K : Nat → List Nat} {n x i : Nat} {x2 x3 x5 x6 : Int32} (hx : x < n) (hn : n ≤ 12) (hp : yk_PA g s t (K x)) (hi : i < (K x).length) (hR : yk_RX g K n kc kl ks)
    (H : ∀ (f : Nat) (ay : Nat → Int32), (∀ k, k < i → ay k = nI (yk_at (K x) k)) → wX_branchOff_57 post J (nI x) x2 x3 (nI i) x5 x6 (nI s) (nI t) re pn cn ca (nI i) wl (f + 1) (nI i) (yk_W g) kc kl ks cc cl cs ad ay) :
    ∀ (f j : Nat) (ay : Nat → Int32), j ≤ i → i < f + j → (∀ k, k < j → ay k = nI (yk_at (K x) k)) → wX_branchOff_57 post J (nI x) x2 x3 (nI i) x5 x6 (nI s) (nI t) re pn cn ca (nI i) wl f (nI j) (yk_W g) kc kl ks cc cl cs ad ay := by
  have hl := yk_PA_len hp
  obtain ⟨r1, r2, r3⟩ := hR x hx
  intro f
  induction f with
  | zero => intro j ay h1 h2; exact absurd h2 (by omega)
  | succ f ih =>
    intro j ay h1 h2 hw
    by_cases e : j = i
    · subst e
      exact H f ay hw
    · refine pk_le i j (fun h => absurd h (by omega)) (fun h => ?_)
      refine ⟨pk_in x 12 (by omega), yk_xvert (q := K x) (i := j) (by rw [nI_clamp (by omega)]; exact r1) rfl (by omega) (yk_PA_8 hp) ?_⟩
      refine ⟨pk_in j 7 (by omega), nm_r (e' := upd ay j (nI (yk_at (K x) j))) (by rw [nI_clamp (by omega), yk_nar (yk_PA_7 hp j)]) (nm_r (nI_1 j) (ih (j + 1) _ (by omega) (by omega) (fun k hk => ?_)))⟩
      by_cases e2 : k = j
      · subst e2
        exact pk_us
      · rw [pk_un e2]
        exact hw k (by omega)
theorem yk_x7 {post : SX → Prop} {K : Nat → List Nat} {n M : Nat} (hg : ∀ j, g j ≤ 50) (ht : t < 7) (hn0 : 0 < n) (hn : n ≤ 12) (hK : ∀ k, k < n → yk_PA g s t (K k)) (hR : yk_RX g K n kc kl ks) (hM : M + 6 ≤ 72)
    (H : ∀ (C : Nat → List Nat) (m i : Nat) (we wl : Int32) (cc cl cs ad ay : Nat → Int32), (K (n - 1)).length ≤ i + 1 → m ≤ M + 6 → yk_RX g C m cc cl cs → yk_Cand (yk_PA g s t) K n C m → yk_Cov (yk_key g) (yk_PA g s t) K n C m i → post (nI s, nI t, re, nI n, nI m, -1, we, wl, yk_W g, kc, kl, ks, cc, cl, cs, ad, ay)) :
    ∀ (f i c : Nat) (C : Nat → List Nat) (m : Nat) (we wl : Int32) (cc cl cs ad ay : Nat → Int32), i < (K (n - 1)).length → (K (n - 1)).length < f + i + 1 → c < 128 → (∀ u, u < 7 → (c.testBit u = true ↔ ∃ j, j < i ∧ yk_at (K (n - 1)) j = u)) →
      m ≤ M + i → yk_RX g C m cc cl cs → yk_Cand (yk_PA g s t) K n C m → yk_Cov (yk_key g) (yk_PA g s t) K n C m i →
      wX_branchOff_7 post (nI (n - 1)) f (nI (yk_sm g (K (n - 1)) i)) (nI c) (nI i) (nI s) (nI t) re (nI n) (nI m) (-1) we wl (yk_W g) kc kl ks cc cl cs ad ay := by
  have hp := hK (n - 1) (by omega)
  have hl := yk_PA_len hp
  obtain ⟨r1, r2, r3⟩ := hR (n - 1) (by omega)
  intro f
  induction f with
  | zero => intro i c C m we wl cc cl cs ad ay h1 h2; exact absurd h2 (by omega)
  | succ f ih =>
    intro i c C m we wl cc cl cs ad ay h1 h2 hc hcb hm hRC hCa hCo
    refine And.intro (pk_in (n - 1) 12 (by omega)) ?_
    refine pk_le (K (n - 1)).length (i + 1) (fun h => H C m i we wl cc cl cs ad ay h (by omega) hRC hCa hCo) (fun hi => ?_) (by rw [nI_clamp (by omega)]; exact r3) (nI_1 i)
    refine ⟨pk_in (n - 1) 12 (by omega), yk_xvert (q := K (n - 1)) (i := i) (by rw [nI_clamp (by omega)]; exact r1) rfl (by omega) (yk_PA_8 hp) ?_⟩
    refine ⟨pk_in (n - 1) 12 (by omega), yk_xtaken (K := K) (n := n) (i := i) (p := K (n - 1)) (G := g) (by rw [nI_clamp (by omega)]; exact r1) hn hK hp hi hR (fun bm hbm hB => ?_)⟩
    have h7 := yk_PA_7 hp i
    have hWl : ((K (n - 1)).take i).length = i := yk_take_len (by omega)
    have next : ∀ (C' : Nat → List Nat) (m' : Nat) (we wl : Int32) (cc cl cs ad ay : Nat → Int32), m' ≤ M + (i + 1) → yk_RX g C' m' cc cl cs → yk_Cand (yk_PA g s t) K n C' m' → yk_Cov (yk_key g) (yk_PA g s t) K n C' m' (i + 1) →
        wX_branchOff_124 post (wX_branchOff_7 post (nI (n - 1)) f) (nI (n - 1)) (nI (yk_sm g (K (n - 1)) i)) (nI c) (nI i) (nI (yk_at (K (n - 1)) i)) (nI s) (nI t) re (nI n) (nI m') (-1) we wl (yk_W g) kc kl ks cc cl cs ad ay := by
      intro C' m' we wl cc cl cs ad ay hm' hR' hCa' hCo'
      refine yk_x124 (K := K) (n := n) (by omega) hn hp hi hR ?_
      refine ih (i + 1) _ C' m' we wl cc cl cs ad ay hi (by omega) (yk_or128 hc h7) (fun u hu => ?_) hm' hR' hCa' hCo'
      rw [yk_tb2, hcb u hu]
      constructor
      · rintro (⟨j, hj, e⟩ | e)
        · exact ⟨j, by omega, e⟩
        · exact ⟨i, by omega, e.symm⟩
      · rintro ⟨j, hj, e⟩
        by_cases e2 : j = i
        · subst e2
          exact Or.inr e.symm
        · exact Or.inl ⟨j, by omega, e⟩
    refine ⟨i + 1, yk_x57 (K := K) (n := n) (by omega) hn hp (by omega) hR (fun f2 ay2 hay2 => ?_) (i + 1) 0 ay (by omega) (by omega) (fun k hk => absurd hk (Nat.not_lt_zero _))⟩
    refine br_t (Int32.le_refl _) ?_
    refine yk_goOn1 (A := yk_AA (K (n - 1)) i) (B := yk_TK K n (K (n - 1)) i) (W := (K (n - 1)).take i) hg ht h7 hc hbm (fun u hu => ?_) ?_ hB (yk_pre_PF hp hi) hWl (fun k hk => ?_) (fun hno ad3 => ?_) (fun L m3 ad3 ay3 hL hln hay3 => ?_)
    · rw [hcb u hu]
      constructor
      · rintro (⟨j, hj, e⟩ | e)
        · exact ⟨j, by omega, e⟩
        · exact ⟨i, by omega, e.symm⟩
      · rintro ⟨j, hj, e⟩
        by_cases e2 : j = i
        · subst e2
          exact Or.inr e.symm
        · exact Or.inl ⟨j, by omega, e⟩
    · rintro ⟨j, hj, e⟩
      exact yk_PA_t hp j (by omega) e
    · rw [hay2 k hk, yk_at_take _ _ _ hk]
    · refine br_t rfl (next C m _ _ _ _ _ _ _ (by omega) hRC hCa (yk_Cov_s hCo (fun d hd => ⟨d, hd, rfl⟩) (fun q hq hqk hqa hqn => ?_)))
      exact absurd (yk_pre_QP hp hi hq hqa hqn) (hno q)
    · obtain ⟨hQ, hlL, hmin⟩ := hL
      have hPL := hQ.1
      obtain ⟨hLa, hLk⟩ := yk_new (by omega) hQ
      have hlen7 := yk_PA_len hPL
      have hsm : yk_sm g ((K (n - 1)).take i ++ [yk_at (K (n - 1)) i]) i = yk_sm g (K (n - 1)) i := yk_sm_congr i fun j hj => yk_take_at (by omega) j (by omega)
      rw [hsm] at hln
      refine br_f (by decide) ?_
      refine yk_xcode (L := L) hlen7 (yk_PA_8 hPL) hay3 ?_
      have esum : nI (yk_sm g (K (n - 1)) i) + nI m3 = nI (yk_ln g L) := by rw [hln, nI_add]
      rw [esum]
      refine yk_xprop (C := C) (m := m) (L := L) (G := g) (by omega) hCa.1 hPL hRC (fun d hd e => ?_) (fun hne => ?_)
      · refine next C m _ _ _ _ _ _ _ (by omega) hRC hCa (yk_Cov_s hCo (fun d hd => ⟨d, hd, rfl⟩) (fun q hq hqk hqa hqn => ?_))
        refine ⟨d, hd, ?_, ?_⟩
        · rw [e]; exact yk_AG_trans hLa hqa
        · rw [e]; exact hmin q (yk_pre_QP hp hi hq hqa hqn)
      · refine next (yk_put C m L) (m + 1) _ _ _ _ _ _ _ (by omega) (yk_RX_put hRC L) ⟨?_, ?_, ?_⟩ (yk_Cov_s hCo (fun d hd => ⟨d, by omega, yk_put_ne (by omega)⟩) (fun q hq hqk hqa hqn => ?_))
        · intro d hd
          by_cases e : d = m
          · rw [e, yk_put_eq]; exact hPL
          · rw [yk_put_ne e]; exact hCa.1 d (by omega)
        · intro d k hd hk
          by_cases e : d = m
          · rw [e, yk_put_eq]; exact hLk k hk
          · rw [yk_put_ne e]; exact hCa.2.1 d k (by omega) hk
        · intro d e hde he
          rw [yk_put_ne (by omega : d ≠ m)]
          by_cases e2 : e = m
          · rw [e2, yk_put_eq]; exact hne d (by omega)
          · rw [yk_put_ne e2]; exact hCa.2.2 d e hde (by omega)
        · refine ⟨m, by omega, ?_, ?_⟩
          · rw [yk_put_eq]; exact yk_AG_trans hLa hqa
          · rw [yk_put_eq]; exact hmin q (yk_pre_QP hp hi hq hqa hqn)
theorem yk_xbranch {post : SX → Prop} {K : Nat → List Nat} {n M : Nat} {C : Nat → List Nat} {m : Nat} (hg : ∀ j, g j ≤ 50) (ht : t < 7) (hn0 : 0 < n) (hn : n ≤ 12) (hK : ∀ k, k < n → yk_PA g s t (K k)) (hR : yk_RX g K n kc kl ks) (hM : M + 6 ≤ 72)
    (hm : m ≤ M) (hRC : yk_RX g C m cc cl cs) (hCa : yk_Cand (yk_PA g s t) K n C m) (hCo : yk_Cov (yk_key g) (yk_PA g s t) K n C m 0)
    (H : ∀ (C : Nat → List Nat) (m i : Nat) (we wl : Int32) (cc cl cs ad ay : Nat → Int32), (K (n - 1)).length ≤ i + 1 → m ≤ M + 6 → yk_RX g C m cc cl cs → yk_Cand (yk_PA g s t) K n C m → yk_Cov (yk_key g) (yk_PA g s t) K n C m i → post (nI s, nI t, re, nI n, nI m, -1, we, wl, yk_W g, kc, kl, ks, cc, cl, cs, ad, ay)) :
    wpX_branchOff post (nI s, nI t, re, nI n, nI m, -1, we, wl, yk_W g, kc, kl, ks, cc, cl, cs, ad, ay) (nI (n - 1)) := by
  have hp := hK (n - 1) (by omega)
  have hl := yk_PA_len hp
  unfold wpX_branchOff
  refine ⟨8, yk_x7 hg ht hn0 hn hK hR hM H 8 0 0 C m we wl cc cl cs ad ay hp.1 (by omega) (by omega) (fun u hu => ?_) (by omega) hRC hCa hCo⟩
  rw [Nat.zero_testBit]
  constructor
  · intro h; exact absurd h (by decide)
  · rintro ⟨k, hk, _⟩; exact absurd hk (Nat.not_lt_zero _)
end
end
section
/-! X: all that is found -/
section
variable {re pn cn ca we wl : Int32} {kc kl ks cc cl cs ad ay : Nat → Int32} {s t : Nat} {g : Nat → Nat}
theorem yk_x60 {post : SX → Prop} (hg : ∀ j, g j ≤ 50) (ht : t < 7)
    (H : ∀ (K : Nat → List Nat) (n : Nat) (cn we wl : Int32) (kc kl ks cc cl cs ad ay : Nat → Int32), yk_Top (yk_key g) (yk_PA g s t) K n → yk_RX g K n kc kl ks → post (nI s, nI t, re, nI n, cn, -1, we, wl, yk_W g, kc, kl, ks, cc, cl, cs, ad, ay)) :
    ∀ (f n : Nat) (K C : Nat → List Nat) (m : Nat) (we wl : Int32) (kc kl ks cc cl cs ad ay : Nat → Int32), 0 < n → n ≤ 12 → 12 < f + n → yk_RX g K n kc kl ks → yk_Seg (yk_key g) (yk_PA g s t) K n → m ≤ 6 * (n - 1) → yk_RX g C m cc cl cs →
      yk_Cand (yk_PA g s t) K n C m → yk_Cov (yk_key g) (yk_PA g s t) K n C m 0 → wX_findPaths_60 post f (nI s) (nI t) re (nI n) (nI m) (-1) we wl (yk_W g) kc kl ks cc cl cs ad ay := by
  intro f
  induction f with
  | zero => intro n K C m we wl kc kl ks cc cl cs ad ay h0 h1 h2; exact absurd h2 (by omega)
  | succ f ih =>
    intro n K C m we wl kc kl ks cc cl cs ad ay h0 h1 h2 hR hS hm hRC hCa hCo
    refine pk_le 12 n (fun h => ?_) (fun h => ?_)
    · exact H K n _ _ _ _ _ _ _ _ _ _ _ (yk_Seg_Top hS h1 (Or.inl (by omega))) hR
    · have epred : nI n - 1 = nI (n - 1) := by
        have := nI_pred (n - 1)
        rwa [Nat.sub_add_cancel h0] at this
      rw [epred]
      refine yk_xbranch (K := K) (n := n) (M := 6 * (n - 1)) (C := C) (m := m) hg ht h0 h1 hS.2.1 hR (by omega) hm hRC hCa hCo ?_
      intro C m i we wl cc cl cs ad ay hi hm hRC hCa hCo
      have hall : ∀ p, yk_PA g s t p → (∀ k, k < n → K k ≠ p) → ∃ c, c < m ∧ yk_key g (C c) ≤ yk_key g p := fun p hp hne => yk_Cov_all hCo h0 hS.2.1 hi hp hne
      refine yk_xbest (C := C) (m := m) (G := g) hg (by omega) hCa.1 hRC (fun hm0 => ?_) (fun b hb hmin => ?_)
      · refine br_f (by decide) (H K n _ _ _ _ _ _ _ _ _ _ _ (yk_Seg_Top hS h1 (Or.inr fun p hp => ?_)) hR)
        refine Classical.byContradiction fun hno => ?_
        obtain ⟨c, hc, _⟩ := hall p hp (fun k hk e => hno ⟨k, hk, e⟩)
        omega
      · obtain ⟨m', rfl⟩ : ∃ m', m = m' + 1 := ⟨m - 1, by omega⟩
        obtain ⟨r1, r2, r3⟩ := hRC b hb
        refine br_t (nI_pos' (by omega)) ⟨pk_in b 72 (by omega), pk_in b 72 (by omega), pk_in b 72 (by omega), ?_⟩
        rw [nI_clamp (by omega), r1, r2, r3]
        refine yk_xkeep (by omega) ?_
        refine nm_r (nI_pred m') ⟨pk_in m' 72 (by omega), pk_in b 72 (by omega), nm_r (e' := upd cc b (cc m')) (by rw [nI_clamp (by omega)])
          ⟨pk_in m' 72 (by omega), pk_in b 72 (by omega), nm_r (e' := upd cl b (cl m')) (by rw [nI_clamp (by omega)])
          ⟨pk_in m' 72 (by omega), pk_in b 72 (by omega), nm_r (e' := upd cs b (cs m')) (by rw [nI_clamp (by omega)]) ?_⟩⟩⟩
        have hbK : ∀ k, k < n → K k ≠ C b := fun k hk => hCa.2.1 b k hb hk
        refine ih (n + 1) (yk_put K n (C b)) (yk_put C b (C m')) m' we wl _ _ _ _ _ _ ad ay (by omega) (by omega) (by omega) (yk_RX_put hR (C b)) ?_ (by omega) (yk_RX_del hRC) (yk_Cand_s hCa hb) ?_
        · refine yk_Seg_s hS (hCa.1 b hb) hbK (fun q hq hqk hqne => ?_)
          obtain ⟨c, hc, hle⟩ := hall q hq hqk
          have h3 := hmin c hc
          have h4 : yk_key g (C b) ≠ yk_key g q := fun e => hqne (yk_key_inj (hCa.1 b hb) hq e).symm
          omega
        · refine yk_Cov_n h0 hCo hb (fun p hp hpk j hj => ?_)
          refine Nat.lt_of_not_le fun hle => ?_
          exact hpk (n - 1) (by omega) (yk_PA_eq (hS.2.1 (n - 1) (by omega)) hp fun l hl _ => hj l (by omega))
theorem yk_find {post : SX → Prop} (hg : ∀ j, g j ≤ 50) (hs : s < 7) (ht : t < 7) (hst : s ≠ t)
    (hr : re = 0 ∨ (¬ re = 0 ∧ ∃ (K : Nat → List Nat) (n : Nat), pn = nI n ∧ yk_Top (yk_key g) (yk_PA g s t) K n ∧ yk_RX g K n kc kl ks))
    (H : ∀ (K : Nat → List Nat) (n : Nat) (re cn we wl : Int32) (kc kl ks cc cl cs ad ay : Nat → Int32), ¬ re = 0 → yk_Top (yk_key g) (yk_PA g s t) K n → yk_RX g K n kc kl ks → post (nI s, nI t, re, nI n, cn, -1, we, wl, yk_W g, kc, kl, ks, cc, cl, cs, ad, ay)) :
    wpX_findPaths post (nI s, nI t, re, pn, cn, -1, we, wl, yk_W g, kc, kl, ks, cc, cl, cs, ad, ay) := by
  unfold wpX_findPaths
  rcases hr with hr | ⟨hr, K, n, rfl, hT, hR⟩
  · refine br_t hr ?_
    have hQP : ∀ q, yk_PA g s t q → yk_QP g s t (fun u => u = s) (fun _ => False) ([] ++ [s]) q := by
      intro q hq
      refine ⟨hq, fun j hj => ?_, fun j hj hjq e => ?_, fun h => h⟩
      · have e : j = 0 := by
          have : j < 1 := hj
          omega
        rw [e, hq.2.1]
        rfl
      · have h1 : 1 ≤ j := hj
        exact yk_nd q hq.2.2.2.1 0 j (by omega) hjq (hq.2.1.trans e.symm)
    refine yk_goOn1 (A := fun u => u = s) (B := fun _ => False) (W := []) (f := s) (c0 := 0) (bm := 0) (i := 0) hg ht hs (by omega) (by omega) (fun u hu => ?_) (fun e => hst e.symm) (fun v hv => ?_) ⟨Nat.one_pos, rfl, by simp, fun x hx => ?_, fun i hi => absurd hi (by simp)⟩ rfl (fun i hi => absurd hi (Nat.not_lt_zero _)) (fun hno ad3 => ?_) (fun L m3 ad3 ay3 hL hln hay3 => ?_)
    · rw [Nat.zero_testBit]
      simp
    · rw [Nat.zero_testBit]
      simp
    · have e : x = s := List.mem_singleton.mp hx
      rw [e]
      exact ⟨hs, hst, rfl⟩
    · refine br_t rfl (H (fun _ => []) 0 _ _ _ _ _ _ _ _ _ _ _ _ (by decide) ?_ (fun k hk => absurd hk (Nat.not_lt_zero _)))
      exact ⟨fun i j _ hj => absurd hj (Nat.not_lt_zero _), fun i hi => absurd hi (Nat.not_lt_zero _), by omega, fun p hp => absurd (hQP p hp) (hno p)⟩
    · obtain ⟨hQ, hlL, hmin⟩ := hL
      have hPL := hQ.1
      have hlen7 := yk_PA_len hPL
      have e0 : yk_sm g ([] ++ [s]) 0 = 0 := rfl
      rw [e0, Nat.zero_add] at hln
      refine br_f (by decide) ?_
      refine yk_xcode (L := L) hlen7 (yk_PA_8 hPL) hay3 ?_
      rw [← hln]
      refine yk_xkeep (n := 0) (by omega) ?_
      refine ⟨13, yk_x60 hg ht (fun K n cn we wl kc kl ks cc cl cs ad ay hT hR => H K n _ _ _ _ _ _ _ _ _ _ _ _ (by decide) hT hR) 13 1 (yk_put (fun _ => []) 0 L) (fun _ => []) 0 _ _ _ _ _ _ _ _ _ _ (by omega) (by omega) (by omega) ?_ ?_ (by omega) ?_ ?_ yk_Cov_0⟩
      · exact yk_RX_put (fun k hk => absurd hk (Nat.not_lt_zero _)) L
      · refine yk_Seg_s (n := 0) ⟨fun i j _ hj => absurd hj (Nat.not_lt_zero _), fun i hi => absurd hi (Nat.not_lt_zero _), fun p _ _ i hi => absurd hi (Nat.not_lt_zero _)⟩ hPL (fun k hk => absurd hk (Nat.not_lt_zero _)) (fun q hq _ hqne => ?_)
        have h3 := hmin q (hQP q hq)
        have h4 : yk_key g L ≠ yk_key g q := fun e => hqne (yk_key_inj hPL hq e).symm
        omega
      · exact fun k hk => absurd hk (Nat.not_lt_zero _)
      · exact ⟨fun c hc => absurd hc (Nat.not_lt_zero _), fun c k hc => absurd hc (Nat.not_lt_zero _), fun c d _ hd => absurd hd (Nat.not_lt_zero _)⟩
  · exact br_f hr (H K n _ _ _ _ _ _ _ _ _ _ _ _ hr hT hR)
end
end
section
/-! Y: the path being made -/
section
variable {dp ke sw ev : Int32} {pa tl le si li : Nat → Int32} {s t : Nat} {g : Nat → Nat}
theorem yk_yon2 {post : Int32 → Prop} {P : List Nat} {v : Nat} (hl : P.length ≤ 7) (h7 : ∀ x, x ∈ P → x < 7) (hv : v < 7) (hP : ∀ i, i < P.length → pa i = nI (yk_at P i)) (K0 : v ∉ P → post 0) (K1 : v ∈ P → post 1) :
    ∀ (n i : Nat), i ≤ P.length → P.length < n + i → (∀ j, j < i → yk_at P j ≠ v) → wY_onPath_2 post (nI v) (nI s) (nI t) (nI P.length) ke sw ev (yk_W g) pa tl le si li n (nI i) := by
  intro n
  induction n with
  | zero => intro i h1 h2; exact absurd h2 (by omega)
  | succ n ih =>
    intro i h1 h2 hj
    refine pk_le P.length i (fun h => K0 (fun hm => ?_)) (fun h => ?_)
    · obtain ⟨j, hj2, e⟩ := yk_mem_at P hm
      exact hj j (by omega) e
    · have h3 := yk_at_lt (B := 7) (by decide) P h7 i
      refine ⟨pk_in i 7 (by omega), ?_⟩
      refine pk_eq (yk_at P i) v (fun e => K1 (e ▸ yk_at_mem P i h)) (fun hne => ?_) (by rw [nI_clamp (by omega)]; exact hP i h)
      refine nm_r (nI_1 i) (ih (i + 1) (by omega) (by omega) (fun j hji => ?_))
      by_cases e : j = i
      · rw [e]; exact hne
      · exact hj j (by omega)
theorem yk_yon {post : Int32 → Prop} {P : List Nat} {v : Nat} (hl : P.length ≤ 7) (h7 : ∀ x, x ∈ P → x < 7) (hv : v < 7) (hP : ∀ i, i < P.length → pa i = nI (yk_at P i)) (K0 : v ∉ P → post 0) (K1 : v ∈ P → post 1) :
    wpY_onPath post (nI s, nI t, nI P.length, ke, sw, ev, yk_W g, pa, tl, le, si, li) (nI v) := by
  unfold wpY_onPath
  exact ⟨P.length + 1, yk_yon2 hl h7 hv hP K0 K1 (P.length + 1) 0 (by omega) (by omega) (fun j hj => absurd hj (Nat.not_lt_zero _))⟩
theorem yk_ylen4 {post : Int32 → Prop} {P : List Nat} (h0 : 0 < P.length) (hl : P.length ≤ 7) (h7 : ∀ x, x ∈ P → x < 7) (hP : ∀ i, i < P.length → pa i = nI (yk_at P i)) (K : post (nI (yk_ln g P))) :
    ∀ (n j : Nat), j + 1 ≤ P.length → P.length < n + j + 1 → wY_lengthOfPath_4 post (nI s) (nI t) (nI P.length) ke sw ev (yk_W g) pa tl le si li n (nI (yk_sm g P j)) (nI (j + 1)) := by
  intro n
  induction n with
  | zero => intro j h1 h2; exact absurd h2 (by omega)
  | succ n ih =>
    intro j h1 h2
    refine pk_le P.length (j + 1) (fun h => ?_) (fun h => ?_)
    · have e : j = P.length - 1 := by omega
      rw [e]
      exact K
    · have h3 := yk_at_lt (B := 7) (by decide) P h7 j
      have h4 := yk_at_lt (B := 7) (by decide) P h7 (j + 1)
      have e1 : nI (j + 1) - 1 = nI j := nI_pred j
      have e2 : pa (nI (j + 1) - 1).toNatClampNeg = nI (yk_at P j) := by rw [e1, nI_clamp (by omega)]; exact hP j (by omega)
      have e3 : pa (nI (j + 1)).toNatClampNeg = nI (yk_at P (j + 1)) := by rw [nI_clamp (by omega)]; exact hP (j + 1) h
      have e4 : 7 * pa (nI (j + 1) - 1).toNatClampNeg + pa (nI (j + 1)).toNatClampNeg = nI (7 * yk_at P j + yk_at P (j + 1)) := by rw [e2, e3, yk_ix]
      refine ⟨pk_in j 7 (by omega) e1, pk_in (j + 1) 7 (by omega), pk_in (7 * yk_at P j + yk_at P (j + 1)) 49 (by omega) e4, nm_r (e' := nI (yk_sm g P (j + 1))) ?_ (nm_r (nI_1 (j + 1)) (ih (j + 1) (by omega) (by omega)))⟩
      rw [e4, yk_W_at (by omega), nI_add]
      rfl
theorem yk_ylen {post : Int32 → Prop} {P : List Nat} (h0 : 0 < P.length) (hl : P.length ≤ 7) (h7 : ∀ x, x ∈ P → x < 7) (hP : ∀ i, i < P.length → pa i = nI (yk_at P i)) (K : post (nI (yk_ln g P))) :
    wpY_lengthOfPath post (nI s, nI t, nI P.length, ke, sw, ev, yk_W g, pa, tl, le, si, li) := by
  unfold wpY_lengthOfPath
  exact ⟨P.length + 1, yk_ylen4 h0 hl h7 hP K (P.length + 1) 0 (by omega) (by omega)⟩
theorem yk_ypass2 {post : Int32 → Prop} {P : List Nat} {u v : Int32} (hl : P.length ≤ 7) (hP : ∀ i, i < P.length → pa i = nI (yk_at P i)) (K0 : ¬ yk_PS u v P → post 0) (K1 : yk_PS u v P → post 1) :
    ∀ (n j : Nat), j + 1 ≤ P.length → P.length < n + j + 1 → (∀ i, i < j → ¬ (nI (yk_at P i) = u ∧ nI (yk_at P (i + 1)) = v)) → wY_pathPasses_2 post u v (nI s) (nI t) (nI P.length) ke sw ev (yk_W g) pa tl le si li n (nI (j + 1)) := by
  intro n
  induction n with
  | zero => intro j h1 h2; exact absurd h2 (by omega)
  | succ n ih =>
    intro j h1 h2 hno
    refine pk_le P.length (j + 1) (fun h => K0 ?_) (fun h => ?_)
    · rintro ⟨i, hi, e⟩
      exact hno i (by omega) e
    · have e1 : nI (j + 1) - 1 = nI j := nI_pred j
      have e2 : pa (nI (j + 1) - 1).toNatClampNeg = nI (yk_at P j) := by rw [e1, nI_clamp (by omega)]; exact hP j (by omega)
      have e3 : pa (nI (j + 1)).toNatClampNeg = nI (yk_at P (j + 1)) := by rw [nI_clamp (by omega)]; exact hP (j + 1) h
      have skip : ¬ (nI (yk_at P j) = u ∧ nI (yk_at P (j + 1)) = v) → ∀ x, x = nI (j + 1) + 1 → wY_pathPasses_2 post u v (nI s) (nI t) (nI P.length) ke sw ev (yk_W g) pa tl le si li n x := fun hn => nm_r (nI_1 (j + 1)) (ih (j + 1) (by omega) (by omega) (fun i hi => by
        by_cases e : i = j
        · rw [e]; exact hn
        · exact hno i (by omega)))
      refine ⟨pk_in j 7 (by omega) e1, ?_⟩
      rw [e2, e3]
      refine br_c (fun h3 => ⟨pk_in (j + 1) 7 (by omega), br_c (fun h4 => K1 ⟨j, h, h3, h4⟩) (fun h4 => skip (fun hh => h4 hh.2))⟩) (fun h3 => skip (fun hh => h3 hh.1))
theorem yk_ypass {post : Int32 → Prop} {P : List Nat} {u v : Int32} (h0 : 0 < P.length) (hl : P.length ≤ 7) (hP : ∀ i, i < P.length → pa i = nI (yk_at P i)) (K0 : ¬ yk_PS u v P → post 0) (K1 : yk_PS u v P → post 1) :
    wpY_pathPasses post (nI s, nI t, nI P.length, ke, sw, ev, yk_W g, pa, tl, le, si, li) u v := by
  unfold wpY_pathPasses
  exact ⟨P.length + 1, yk_ypass2 hl hP K0 K1 (P.length + 1) 0 (by omega) (by omega) (fun i hi => absurd hi (Nat.not_lt_zero _))⟩
/-- place j holds the path q -/
def yk_EN (g : Nat → Nat) (le si li : Nat → Int32) (j : Nat) (q : List Nat) : Prop := le j = nI (yk_ln g q) ∧ si j = nI q.length ∧ ∀ i, i < q.length → li (7 * j + i) = nI (yk_at q i)
theorem yk_ycome28 {post : Int32 → Prop} {P q : List Nat} {k : Nat} (hk : k < 12) (hP : yk_PA g s t P) (hq : yk_PA g s t q) (hpa : ∀ i, i < P.length → pa i = nI (yk_at P i)) (hE : yk_EN g le si li k q) (hln : yk_ln g P = yk_ln g q)
    (K0 : ¬ yk_key g P < yk_key g q → post 0) (K1 : yk_key g P < yk_key g q → post 1) :
    ∀ (n i : Nat), i ≤ 7 → 7 < n + i → (∀ j, j < i → yk_at P j = yk_at q j) → wY_comesBefore_28 post (nI k) (nI s) (nI t) (nI P.length) ke sw ev (yk_W g) pa tl le si li n (nI i) := by
  have hkey := yk_key_lt hP hq
  have hPl := yk_PA_len hP
  have hql := yk_PA_len hq
  have same : P = q → post 0 := fun e => K0 (by rw [e]; exact Nat.lt_irrefl _)
  intro n
  induction n with
  | zero => intro i h1 h2; exact absurd h2 (by omega)
  | succ n ih =>
    intro i h1 h2 ha
    refine pk_le 7 i (fun h => same (yk_PA_eq hP hq fun j hj _ => ha j (by omega))) (fun h => ?_)
    refine pk_le P.length i (fun hi => same (yk_PA_eq hP hq fun j hj _ => ha j (by omega))) (fun hi => ?_)
    refine ⟨pk_in k 13 (by omega), ?_⟩
    refine pk_le q.length i (fun hi => same (yk_PA_eq hP hq fun j _ hj => ha j (by omega))) (fun hiq => ?_) (by rw [nI_clamp (by omega)]; exact hE.2.1)
    have h3 := yk_PA_7 hP i
    have h4 := yk_PA_7 hq i
    have e1 : pa (nI i).toNatClampNeg = nI (yk_at P i) := by rw [nI_clamp (by omega)]; exact hpa i hi
    have e2 : li (7 * nI k + nI i).toNatClampNeg = nI (yk_at q i) := by rw [yk_ix, nI_clamp (by omega)]; exact hE.2.2 i hiq
    refine ⟨pk_in i 7 (by omega), pk_in (7 * k + i) 91 (by omega) (yk_ix k i), ?_⟩
    refine pk_eq (yk_at P i) (yk_at q i) (fun e => nm_r (nI_1 i) (ih (i + 1) (by omega) (by omega) (fun j hj => ?_))) (fun hne => ?_) e1 e2
    · by_cases e3 : j = i
      · rw [e3]; exact e
      · exact ha j (by omega)
    · refine ⟨pk_in i 7 (by omega), pk_in (7 * k + i) 91 (by omega) (yk_ix k i), ?_⟩
      refine pk_le (yk_at q i) (yk_at P i) (fun hle => K0 (fun hlt => ?_)) (fun hlt => K1 (hkey.mpr (Or.inr ⟨hln, yk_cd_lex (yk_PA_8 hP) (by omega) ha hlt⟩))) e2 e1
      have h5 := yk_cd_lex (n := 7) (yk_PA_8 hq) (by omega) (fun j hj => (ha j hj).symm) (by omega : yk_at q i < yk_at P i)
      have h6 := hkey.mp hlt
      omega
theorem yk_ycome {post : Int32 → Prop} {P q : List Nat} {k : Nat} (hg : ∀ j, g j ≤ 50) (hk : k < 12) (hP : yk_PA g s t P) (hq : yk_PA g s t q) (hpa : ∀ i, i < P.length → pa i = nI (yk_at P i)) (hE : yk_EN g le si li k q)
    (K0 : ¬ yk_key g P < yk_key g q → post 0) (K1 : yk_key g P < yk_key g q → post 1) : wpY_comesBefore post (nI s, nI t, nI P.length, ke, sw, ev, yk_W g, pa, tl, le, si, li) (nI (yk_ln g P)) (nI k) := by
  have hkey := yk_key_lt hP hq
  have h1 := yk_PA_ln hg hP
  have h2 := yk_PA_ln hg hq
  have e1 : le (nI k).toNatClampNeg = nI (yk_ln g q) := by rw [nI_clamp (by omega)]; exact hE.1
  unfold wpY_comesBefore
  refine ⟨pk_in k 13 (by omega), ?_⟩
  refine pk_eq (yk_ln g P) (yk_ln g q) (fun e => ⟨8, yk_ycome28 hk hP hq hpa hE e K0 K1 8 0 (by omega) (by omega) (fun j hj => absurd hj (Nat.not_lt_zero _))⟩) (fun hne => ?_) rfl e1
  refine ⟨pk_in k 13 (by omega), ?_⟩
  refine pk_le (yk_ln g q) (yk_ln g P) (fun hle => K0 (fun hlt => ?_)) (fun hlt => K1 (hkey.mpr (Or.inl hlt))) e1
  have := hkey.mp hlt
  omega
theorem yk_yshift30 {post : SY → Prop} {k : Nat} {l0 : Nat → Int32} (hk : k < 12)
    (K : ∀ li : Nat → Int32, (∀ i, i < 7 → li (7 * k + 7 + i) = l0 (7 * k + i)) → (∀ j, j < 7 * k + 7 ∨ 7 * k + 14 ≤ j → li j = l0 j) → post (nI s, nI t, dp, ke, sw, ev, yk_W g, pa, tl, le, si, li)) :
    ∀ (n i : Nat) (li : Nat → Int32), i ≤ 7 → 7 < n + i → (∀ j, j < i → li (7 * k + 7 + j) = l0 (7 * k + j)) → (∀ j, j < 7 * k + 7 ∨ 7 * k + 14 ≤ j → li j = l0 j) → wY_shift_30 post (nI k) (nI s) (nI t) dp ke sw ev n (nI i) (yk_W g) pa tl le si li := by
  intro n
  induction n with
  | zero => intro i li h1 h2; exact absurd h2 (by omega)
  | succ n ih =>
    intro i li h1 h2 ha hb
    refine pk_le 7 i (fun h => ?_) (fun h => ?_)
    · have e : i = 7 := by omega
      subst e
      exact K li ha hb
    · have e1 : 7 * nI k + 7 + nI i = nI (7 * k + 7 + i) := by
        have e2 : (7 : Int32) * nI k = nI (7 * k) := pk_mul 7 k
        have e3 : nI (7 * k) + 7 = nI (7 * k + 7) := nI_add (7 * k) 7
        rw [e2, e3, nI_add]
      refine ⟨pk_in (7 * k + i) 91 (by omega) (yk_ix k i), pk_in (7 * k + 7 + i) 91 (by omega) e1, nm_r (e' := upd li (7 * k + 7 + i) (l0 (7 * k + i))) ?_ (nm_r (nI_1 i) (ih (i + 1) _ (by omega) (by omega) (fun j hj => ?_) (fun j hj => ?_)))⟩
      · rw [e1, yk_ix, nI_clamp (by omega), nI_clamp (by omega), hb (7 * k + i) (by omega)]
      · by_cases e : j = i
        · subst e
          exact pk_us
        · rw [pk_un (by omega)]
          exact ha j (by omega)
      · rw [pk_un (by omega)]
        exact hb j hj
theorem yk_yshift {post : SY → Prop} {k : Nat} (hk : k < 12)
    (K : ∀ li' : Nat → Int32, (∀ i, i < 7 → li' (7 * k + 7 + i) = li (7 * k + i)) → (∀ j, j < 7 * k + 7 ∨ 7 * k + 14 ≤ j → li' j = li j) → post (nI s, nI t, dp, ke, sw, ev, yk_W g, pa, tl, upd le (k + 1) (le k), upd si (k + 1) (si k), li')) :
    wpY_shift post (nI s, nI t, dp, ke, sw, ev, yk_W g, pa, tl, le, si, li) (nI k) := by
  unfold wpY_shift
  refine ⟨pk_in k 13 (by omega), pk_in (k + 1) 13 (by omega) (nI_1 k), nm_r (e' := upd le (k + 1) (le k)) (by rw [nI_1, nI_clamp (by omega), nI_clamp (by omega)]) ⟨pk_in k 13 (by omega), pk_in (k + 1) 13 (by omega) (nI_1 k), nm_r (e' := upd si (k + 1) (si k)) (by rw [nI_1, nI_clamp (by omega), nI_clamp (by omega)]) ?_⟩⟩
  exact ⟨8, yk_yshift30 (l0 := li) hk K 8 0 li (by omega) (by omega) (fun j hj => absurd hj (Nat.not_lt_zero _)) (fun j _ => rfl)⟩
end
end
section
/-! Y: keeping a path in its place -/
def yk_HO (g : Nat → Nat) (K : Nat → List Nat) (n a : Nat) (le si li : Nat → Int32) : Prop :=
  (∀ j, j < a → yk_EN g le si li j (K j)) ∧ (∀ j, a < j → j ≤ n → yk_EN g le si li j (K (j - 1)))
theorem yk_HO_s {g : Nat → Nat} {K : Nat → List Nat} {n k : Nat} {le si li li' : Nat → Int32} (hK : ∀ j, j < n → (K j).length ≤ 7) (hk : k < n) (h : yk_HO g K n (k + 1) le si li)
    (h1 : ∀ i, i < 7 → li' (7 * k + 7 + i) = li (7 * k + i)) (h2 : ∀ j, j < 7 * k + 7 ∨ 7 * k + 14 ≤ j → li' j = li j) : yk_HO g K n k (upd le (k + 1) (le k)) (upd si (k + 1) (si k)) li' := by
  obtain ⟨ha, hb⟩ := h
  refine ⟨fun j hj => ?_, fun j hj hjn => ?_⟩
  · obtain ⟨a1, a2, a3⟩ := ha j (by omega)
    have hl := hK j (by omega)
    refine ⟨by rw [pk_un (by omega)]; exact a1, by rw [pk_un (by omega)]; exact a2, fun i hi => ?_⟩
    rw [h2 _ (by omega)]
    exact a3 i hi
  · by_cases e : j = k + 1
    · subst e
      obtain ⟨a1, a2, a3⟩ := ha k (by omega)
      have hl := hK k hk
      have e2 : k + 1 - 1 = k := rfl
      rw [e2]
      refine ⟨by rw [pk_us]; exact a1, by rw [pk_us]; exact a2, fun i hi => ?_⟩
      have e3 : 7 * (k + 1) + i = 7 * k + 7 + i := by omega
      rw [e3, h1 i (by omega)]
      exact a3 i hi
    · obtain ⟨a1, a2, a3⟩ := hb j (by omega) hjn
      refine ⟨by rw [pk_un (by omega)]; exact a1, by rw [pk_un (by omega)]; exact a2, fun i hi => ?_⟩
      rw [h2 _ (by omega)]
      exact a3 i hi
/-- the path is put into the hole -/
theorem yk_HO_e {g : Nat → Nat} {K : Nat → List Nat} {n a n' : Nat} {P : List Nat} {le si li li' : Nat → Int32} (hK : ∀ j, j < n → (K j).length ≤ 7) (hP : P.length ≤ 7) (ha : a ≤ n) (hn' : n' ≤ n + 1) (h : yk_HO g K n a le si li)
    (h1 : ∀ i, i < P.length → li' (7 * a + i) = nI (yk_at P i)) (h2 : ∀ j, j < 7 * a ∨ 7 * a + 7 ≤ j → li' j = li j) :
    yk_RY g (yk_ins K a P) n' (upd le a (nI (yk_ln g P))) (upd si a (nI P.length)) li' := by
  intro j hj
  rcases Nat.lt_trichotomy j a with hja | hja | hja
  · obtain ⟨a1, a2, a3⟩ := h.1 j hja
    have hl := hK j (by omega)
    rw [yk_ins_lt hja, pk_un (by omega), pk_un (by omega)]
    refine ⟨a1, a2, fun i hi => ?_⟩
    rw [h2 _ (by omega)]
    exact a3 i hi
  · subst hja
    rw [yk_ins_eq, pk_us, pk_us]
    exact ⟨rfl, rfl, h1⟩
  · obtain ⟨a1, a2, a3⟩ := h.2 j hja (by omega)
    rw [yk_ins_gt hja, pk_un (by omega), pk_un (by omega)]
    refine ⟨a1, a2, fun i hi => ?_⟩
    rw [h2 _ (by omega)]
    exact a3 i hi
section
variable {dp ke sw ev : Int32} {pa tl le si li : Nat → Int32} {s t : Nat} {g : Nat → Nat}
theorem yk_ykeep62 {post : SY → Prop} {P : List Nat} {a n : Nat} {l0 : Nat → Int32} (ha : a < 13) (hn : n ≤ 12) (hP : P.length ≤ 7) (hpa : ∀ i, i < P.length → pa i = nI (yk_at P i))
    (H : ∀ (n' : Nat) (li : Nat → Int32), ((n < 12 ∧ n' = n + 1) ∨ (n = 12 ∧ n' = 12)) → (∀ i, i < P.length → li (7 * a + i) = nI (yk_at P i)) → (∀ j, j < 7 * a ∨ 7 * a + 7 ≤ j → li j = l0 j) → post (nI s, nI t, nI P.length, nI n', sw, ev, yk_W g, pa, tl, le, si, li)) :
    ∀ (f i : Nat) (li : Nat → Int32), i ≤ P.length → P.length < f + i → (∀ j, j < i → li (7 * a + j) = nI (yk_at P j)) → (∀ j, j < 7 * a ∨ 7 * a + 7 ≤ j → li j = l0 j) → wY_keep_62 post (nI a) (nI s) (nI t) (nI P.length) (nI n) sw ev f (nI i) (yk_W g) pa tl le si li := by
  intro f
  induction f with
  | zero => intro i li h1 h2; exact absurd h2 (by omega)
  | succ f ih =>
    intro i li h1 h2 hh hb
    refine pk_le P.length i (fun h => ?_) (fun h => ?_)
    · have e : i = P.length := by omega
      subst e
      refine pk_le 12 n (fun h12 => ?_) (fun h12 => nm_r (nI_1 n) (H (n + 1) li (Or.inl ⟨h12, rfl⟩) hh hb))
      have e : n = 12 := by omega
      subst e
      exact H 12 li (Or.inr ⟨rfl, rfl⟩) hh hb
    · refine ⟨pk_in i 7 (by omega), pk_in (7 * a + i) 91 (by omega) (yk_ix a i), nm_r (e' := upd li (7 * a + i) (nI (yk_at P i))) (by rw [yk_ix, nI_clamp (by omega), nI_clamp (by omega), hpa i h]) (nm_r (nI_1 i) (ih (i + 1) _ (by omega) (by omega) (fun j hj => ?_) (fun j hj => ?_)))⟩
      · by_cases e : j = i
        · subst e
          exact pk_us
        · rw [pk_un (by omega)]
          exact hh j (by omega)
      · rw [pk_un (by omega)]
        exact hb j hj
theorem yk_ykeep17 {post : SY → Prop} {S : List Nat → Prop} {K : Nat → List Nat} {P : List Nat} {n : Nat} (hg : ∀ j, g j ≤ 50) (hT : yk_Top (yk_key g) S K n) (hS : ∀ p, S p → yk_PA g s t p) (hP : yk_PA g s t P) (hPS : ¬ S P) (hpa : ∀ i, i < P.length → pa i = nI (yk_at P i))
    (H : ∀ (K' : Nat → List Nat) (n' : Nat) (le si li : Nat → Int32), yk_Top (yk_key g) (fun q => S q ∨ q = P) K' n' → yk_RY g K' n' le si li → post (nI s, nI t, nI P.length, nI n', sw, ev, yk_W g, pa, tl, le, si, li)) :
    ∀ (f k a : Nat) (le si li : Nat → Int32), k ≤ a → a ≤ n → k < f → yk_HO g K n a le si li → (∀ j, k ≤ j → j < a → ¬ yk_key g P < yk_key g (K j)) → (∀ j, a ≤ j → j < n → yk_key g P < yk_key g (K j)) →
      wY_keep_17 post (nI (yk_ln g P)) f (nI a) (nI k - 1) (nI s) (nI t) (nI P.length) (nI n) sw ev (yk_W g) pa tl le si li := by
  have hPl := yk_PA_len hP
  have hn := hT.2.2.1
  have hKl : ∀ j, j < n → (K j).length ≤ 7 := fun j hj => yk_PA_len (hS _ (hT.2.1 j hj))
  intro f
  induction f with
  | zero => intro k a le si li h1 h2 h3; exact absurd h3 (Nat.not_lt_zero _)
  | succ f ih =>
    intro k a le si li h1 h2 h3 hO hlo hhi
    cases k with
    | zero =>
      refine br_t (by decide) ⟨pk_in a 13 (by omega), nm_r (e' := upd le a (nI (yk_ln g P))) (by rw [nI_clamp (by omega)]) ⟨pk_in a 13 (by omega), nm_r (e' := upd si a (nI P.length)) (by rw [nI_clamp (by omega)]) ?_⟩⟩
      refine ⟨P.length + 1, yk_ykeep62 (l0 := li) (a := a) (by omega) hn hPl hpa (fun n' li' hn' hh hb => ?_) (P.length + 1) 0 li (by omega) (by omega) (fun j hj => absurd hj (Nat.not_lt_zero _)) (fun j _ => rfl)⟩
      refine H (yk_ins K a P) n' _ _ _ (yk_Top_ins hT h2 (fun j hj => ?_) hhi hn') (yk_HO_e hKl hPl h2 (by omega) hO hh hb)
      have h4 := hlo j (Nat.zero_le _) hj
      have h5 : yk_key g (K j) ≠ yk_key g P := fun e => hPS (yk_key_inj (hS _ (hT.2.1 j (by omega))) hP e ▸ hT.2.1 j (by omega))
      omega
    | succ k =>
      have e1 : nI (k + 1) - 1 = nI k := nI_pred k
      rw [e1]
      have e2 : nI k + (-1) = nI k - 1 := (Int32.sub_eq_add_neg _ _).symm
      refine br_f (nI_pos (by omega)) ?_
      refine yk_ycome (q := K k) hg (by omega) hP (hS _ (hT.2.1 k (by omega))) hpa (hO.1 k (by omega)) (fun hno => ?_) (fun hlt => ?_)
      · refine br_t rfl (nm_r e2 (ih k a le si li (by omega) h2 (by omega) hO (fun j hj hja => ?_) hhi))
        by_cases e : j = k
        · rw [e]; exact hno
        · exact hlo j (by omega) hja
      · have ha : a = k + 1 := by
          refine Classical.byContradiction fun hne => ?_
          have h4 := hlo (k + 1) (Nat.le_refl _) (by omega)
          have h5 := hT.1 k (k + 1) (by omega) (by omega)
          omega
        subst ha
        refine br_f (by decide) ?_
        refine yk_yshift (k := k) (by omega) (fun li' ha hb => ?_)
        refine nm_r e2 (ih k k _ _ li' (Nat.le_refl _) (by omega) (by omega) (yk_HO_s hKl (by omega) hO ha hb) (fun j hj hja => absurd hja (by omega)) (fun j hj hjn => ?_))
        by_cases e : j = k
        · rw [e]; exact hlt
        · exact hhi j (by omega) hjn
theorem yk_ykeep {post : SY → Prop} {S : List Nat → Prop} {K : Nat → List Nat} {P : List Nat} {n : Nat} (hg : ∀ j, g j ≤ 50) (hT : yk_Top (yk_key g) S K n) (hR : yk_RY g K n le si li) (hS : ∀ p, S p → yk_PA g s t p) (hP : yk_PA g s t P) (hPS : ¬ S P) (hpa : ∀ i, i < P.length → pa i = nI (yk_at P i))
    (H : ∀ (K' : Nat → List Nat) (n' : Nat) (le si li : Nat → Int32), yk_Top (yk_key g) (fun q => S q ∨ q = P) K' n' → yk_RY g K' n' le si li → post (nI s, nI t, nI P.length, nI n', sw, ev, yk_W g, pa, tl, le, si, li)) :
    wpY_keep post (nI s, nI t, nI P.length, nI n, sw, ev, yk_W g, pa, tl, le, si, li) := by
  unfold wpY_keep
  refine yk_ylen hP.1 (yk_PA_len hP) hP.2.2.2.2.1 hpa ?_
  refine nm_e ⟨n + 1, yk_ykeep17 hg hT hS hP hPS hpa H (n + 1) n n le si li (Nat.le_refl _) (Nat.le_refl _) (Nat.lt_succ_self _) ⟨fun j hj => hR j hj, fun j hj hjn => absurd hj (by omega)⟩ (fun j hj hja => absurd hj (by omega)) (fun j hj hjn => absurd hj (by omega))⟩
def yk_RS (g : Nat → Nat) (u v : Int32) (S : List Nat → Prop) (ke sw ev : Int32) (le si li : Nat → Int32) : Prop :=
  ∃ (K : Nat → List Nat) (n : Nat), ke = nI n ∧ yk_Top (yk_key g) S K n ∧ yk_RY g K n le si li ∧ yk_SW g u v S sw ∧ yk_EV S ev
theorem yk_RS_S {u v : Int32} {S S' : List Nat → Prop} (h : yk_RS g u v S ke sw ev le si li) (e : ∀ p, S p ↔ S' p) : yk_RS g u v S' ke sw ev le si li := by
  obtain ⟨K, n, h1, h2, h3, h4, h5⟩ := h
  exact ⟨K, n, h1, yk_Top_S h2 e, h3, yk_SW_S h4 e, yk_EV_S h5 e⟩
theorem yk_yfound82 {post : SY → Prop} {S : List Nat → Prop} {u v : Int32} {K : Nat → List Nat} {n : Nat} {P : List Nat} (hg : ∀ j, g j ≤ 50) (hT : yk_Top (yk_key g) S K n) (hR : yk_RY g K n le si li) (hS : ∀ p, S p → yk_PA g s t p) (hP : yk_PA g s t P) (hPS : ¬ S P) (hpa : ∀ i, i < P.length → pa i = nI (yk_at P i))
    (hW : yk_SW g u v (fun q => S q ∨ q = P) sw) (hE : yk_EV (fun q => S q ∨ q = P) ev)
    (H : ∀ (ke sw ev : Int32) (le si li : Nat → Int32), yk_RS g u v (fun q => S q ∨ q = P) ke sw ev le si li → post (nI s, nI t, nI P.length, ke, sw, ev, yk_W g, pa, tl, le, si, li)) :
    wY_found_82 post (nI s) (nI t) (nI P.length) (nI n) sw ev (yk_W g) pa tl le si li := by
  unfold wY_found_82
  exact yk_ykeep hg hT hR hS hP hPS hpa (fun K' n' le si li hT' hR' => H _ _ _ _ _ _ ⟨K', n', rfl, hT', hR', hW, hE⟩)
theorem yk_yfound11 {post : SY → Prop} {S : List Nat → Prop} {u v : Int32} {P : List Nat} (hg : ∀ j, g j ≤ 50) (hRS : yk_RS g u v S ke sw ev le si li) (hS : ∀ p, S p → yk_PA g s t p) (hP : yk_PA g s t P) (hPS : ¬ S P) (hpa : ∀ i, i < P.length → pa i = nI (yk_at P i))
    (H : ∀ (ke sw ev : Int32) (le si li : Nat → Int32), yk_RS g u v (fun q => S q ∨ q = P) ke sw ev le si li → post (nI s, nI t, nI P.length, ke, sw, ev, yk_W g, pa, tl, le, si, li)) :
    ∀ (f i m : Nat), i ≤ P.length → P.length < f + i → m < 128 → (∀ x, x < 7 → (m.testBit x = true ↔ ∃ j, j < i ∧ yk_at P j = x)) → wY_found_11 post u v (nI (yk_ln g P)) (nI s) (nI t) (nI P.length) ke sw ev (yk_W g) pa tl le si li f (nI m) (nI i) := by
  have hPl := yk_PA_len hP
  have hPn := yk_PA_ln hg hP
  obtain ⟨K, n, rfl, hT, hR, hW, e, he, rfl, hE⟩ := hRS
  have hSl : ∀ q, S q → yk_ln g q < 2 ^ 31 := fun q hq => by
    have := yk_PA_ln hg (hS q hq)
    omega
  intro f
  induction f with
  | zero => intro i m h1 h2; exact absurd h2 (by omega)
  | succ f ih =>
    intro i m h1 h2 hm hb
    refine pk_le P.length i (fun h => ?_) (fun h => ?_)
    · have hEV : yk_EV (fun q => S q ∨ q = P) (nI (e &&& m)) := by
        refine yk_EV_s he hE (fun x hx => (hb x hx).trans ⟨?_, ?_⟩)
        · rintro ⟨j, hj, ej⟩
          exact ej ▸ yk_at_mem P j (by omega)
        · intro hx
          obtain ⟨j, hj, ej⟩ := yk_mem_at P hx
          exact ⟨j, by omega, ej⟩
      refine nm_r (yk_and e m) ?_
      refine yk_ypass hP.1 hPl hpa (fun hno => ?_) (fun hyes => ?_)
      · refine br_t rfl (br_c (fun h2 => ?_) (fun h2 => ?_))
        · subst h2
          unfold wY_found_77
          exact yk_yfound82 hg hT hR hS hP hPS hpa (yk_SW_first hW (fun q hq => yk_m2 (hSl q hq)) hno) hEV H
        · obtain ⟨x, hx, rfl⟩ : ∃ x, x < 2 ^ 31 ∧ sw = nI x := by
            rcases hW with ⟨h3, _⟩ | ⟨p, h3, _, h4, _⟩
            · exact absurd h3 h2
            · exact ⟨_, hSl p h3, h4⟩
          refine pk_le x (yk_ln g P) (fun hle => ?_) (fun hlt => ?_)
          · exact yk_yfound82 hg hT hR hS hP hPS hpa (yk_SW_le hW h2 hx hSl hle) hEV H
          · unfold wY_found_77
            exact yk_yfound82 hg hT hR hS hP hPS hpa (yk_SW_lt hW h2 hx hSl hno hlt) hEV H
      · exact br_f (by decide) (yk_yfound82 hg hT hR hS hP hPS hpa (yk_SW_pass hW hyes) hEV H)
    · have h7 := yk_PA_7 hP i
      refine ⟨pk_in i 7 (by omega), nm_r (e' := nI (m ||| 2 ^ yk_at P i)) (by rw [nI_clamp (by omega), hpa i h, yk_or1 (by omega)]) (nm_r (nI_1 i) (ih (i + 1) _ (by omega) (by omega) (yk_or128 hm h7) (fun x hx => ?_)))⟩
      rw [yk_tb2, hb x hx]
      constructor
      · rintro (⟨j, hj, e⟩ | e)
        · exact ⟨j, by omega, e⟩
        · exact ⟨i, by omega, e.symm⟩
      · rintro ⟨j, hj, e⟩
        by_cases e2 : j = i
        · subst e2
          exact Or.inr e.symm
        · exact Or.inl ⟨j, by omega, e⟩
theorem yk_yfound {post : SY → Prop} {S : List Nat → Prop} {u v : Int32} {P : List Nat} (hg : ∀ j, g j ≤ 50) (hRS : yk_RS g u v S ke sw ev le si li) (hS : ∀ p, S p → yk_PA g s t p) (hP : yk_PA g s t P) (hPS : ¬ S P) (hpa : ∀ i, i < P.length → pa i = nI (yk_at P i))
    (H : ∀ (ke sw ev : Int32) (le si li : Nat → Int32), yk_RS g u v (fun q => S q ∨ q = P) ke sw ev le si li → post (nI s, nI t, nI P.length, ke, sw, ev, yk_W g, pa, tl, le, si, li)) :
    wpY_found post (nI s, nI t, nI P.length, ke, sw, ev, yk_W g, pa, tl, le, si, li) u v := by
  unfold wpY_found
  refine yk_ylen hP.1 (yk_PA_len hP) hP.2.2.2.2.1 hpa ?_
  refine ⟨P.length + 1, yk_yfound11 hg hRS hS hP hPS hpa H (P.length + 1) 0 0 (by omega) (by omega) (by omega) (fun x _ => ?_)⟩
  rw [Nat.zero_testBit]
  constructor
  · intro h; exact absurd h (by decide)
  · rintro ⟨k, hk, _⟩; exact absurd hk (Nat.not_lt_zero _)
end
end
section
/-! Y: going through all paths -/
def yk_YI (g : Nat → Nat) (s t : Nat) (u v : Int32) (b : Nat) (P : List Nat) (tr : Nat) (ke sw ev : Int32) (pa tl le si li : Nat → Int32) : Prop :=
  (∀ i, i < P.length → pa i = nI (yk_at P i)) ∧ yk_PI g s t P ∧ tr ≤ 7 ∧ (0 < P.length → tl P.length = nI tr) ∧ (∀ i, 1 ≤ i → i < P.length → tl i = nI (yk_at P i + 1)) ∧ (P.length = 0 → tr = s + 1) ∧
  yk_RS g u v (yk_F g s t P tr) ke sw ev le si li ∧ yk_bud P.reverse tr ≤ b
section
variable {dp ke sw ev : Int32} {pa tl le si li : Nat → Int32} {s t : Nat} {g : Nat → Nat}
theorem yk_YI_pop {u v : Int32} {b : Nat} {Q : List Nat} {z tr : Nat} {w : Int32} (hpa : ∀ i, i < (Q ++ [z]).length → pa i = nI (yk_at (Q ++ [z]) i)) (hPI : yk_PI g s t (Q ++ [z])) (htr : tr ≤ 7) (htl : ∀ i, 1 ≤ i → i < (Q ++ [z]).length → tl i = nI (yk_at (Q ++ [z]) i + 1))
    (hRS : yk_RS g u v (yk_F g s t Q (z + 1)) ke sw ev le si li) (hb : yk_bud (Q ++ [z]).reverse tr ≤ b) : 0 < b ∧ yk_YI g s t u v (b - 1) Q (z + 1) ke sw ev pa (upd tl (Q.length + 1) w) le si li := by
  have hl := yk_len_snoc Q z
  have hz : z < 7 := hPI.1 z (List.mem_append_right _ List.mem_cons_self)
  have erev : (Q ++ [z]).reverse = z :: Q.reverse := by simp
  rw [erev] at hb
  have hb2 := yk_bud_pop (x := z) (R := Q.reverse) htr
  have hA : ∀ j, j < Q.length → yk_at (Q ++ [z]) j = yk_at Q j := fun j hj => yk_at_app1 [z] Q j hj
  refine ⟨by omega, ?_, yk_PI_pop hPI, by omega, ?_, ?_, ?_, hRS, by omega⟩
  · intro i hi
    rw [hpa i (by omega), hA i hi]
  · intro h0
    rw [pk_un (by omega), htl Q.length h0 (by omega), yk_at_snoc]
  · intro i hi hiq
    rw [pk_un (by omega), htl i hi (by omega), hA i hiq]
  · intro h0
    have h5 := hPI.2.2.2.2 (by omega)
    have e : yk_at (Q ++ [z]) Q.length = z := yk_at_snoc Q z
    rw [h0] at e
    omega
theorem yk_YI_adv {u v : Int32} {b : Nat} {Q : List Nat} {z tr : Nat} (hpa : ∀ i, i < (Q ++ [z]).length → pa i = nI (yk_at (Q ++ [z]) i)) (hPI : yk_PI g s t (Q ++ [z])) (htr : tr ≤ 6) (htl : ∀ i, 1 ≤ i → i < (Q ++ [z]).length → tl i = nI (yk_at (Q ++ [z]) i + 1))
    (hRS : yk_RS g u v (yk_F g s t (Q ++ [z]) tr) ke sw ev le si li) (hb : yk_bud (Q ++ [z]).reverse tr ≤ b) (hno : g (7 * z + tr) = 0 ∨ tr ∈ Q ++ [z]) : 0 < b ∧ yk_YI g s t u v (b - 1) (Q ++ [z]) (tr + 1) ke sw ev pa (upd tl (Q.length + 1) (nI (tr + 1))) le si li := by
  have hl := yk_len_snoc Q z
  have erev : (Q ++ [z]).reverse = z :: Q.reverse := by simp
  have hb2 := yk_bud_adv (x := z) (R := Q.reverse) htr
  rw [erev] at hb
  refine ⟨by omega, hpa, hPI, by omega, fun _ => ?_, fun i hi hiq => ?_, fun h0 => absurd h0 (by omega), yk_RS_S hRS (yk_F_skip (fun p hp ha hlp => yk_skip hno p hp ha hlp)), by rw [erev]; omega⟩
  · rw [hl, pk_us]
  · rw [pk_un (by omega)]
    exact htl i hi hiq
theorem yk_YI_push {u v : Int32} {b : Nat} {Q : List Nat} {z tr : Nat} (hpa : ∀ i, i < (Q ++ [z]).length → pa i = nI (yk_at (Q ++ [z]) i)) (hPI : yk_PI g s t (Q ++ [z])) (hz : z ≠ t) (htr : tr ≤ 6) (htl : ∀ i, 1 ≤ i → i < (Q ++ [z]).length → tl i = nI (yk_at (Q ++ [z]) i + 1))
    (hRS : yk_RS g u v (yk_F g s t (Q ++ [z]) tr) ke sw ev le si li) (hb : yk_bud (Q ++ [z]).reverse tr ≤ b) (hg : 0 < g (7 * z + tr)) (hm : tr ∉ Q ++ [z]) :
    0 < b ∧ yk_YI g s t u v (b - 1) (Q ++ [z] ++ [tr]) 0 ke sw ev (upd pa (Q.length + 1) (nI tr)) (upd (upd tl (Q.length + 1) (nI (tr + 1))) (Q.length + 2) 0) le si li := by
  have hl := yk_len_snoc Q z
  have hl2 := yk_len_snoc (Q ++ [z]) tr
  have hPI2 := yk_PI_push hPI hz (by omega) hg hm
  have erev : (Q ++ [z]).reverse = z :: Q.reverse := by simp
  have erev2 : (Q ++ [z] ++ [tr]).reverse = tr :: z :: Q.reverse := by simp
  have hnd : (tr :: z :: Q.reverse).Nodup := by
    rw [← erev2]
    exact List.pairwise_reverse.mpr (List.Pairwise.imp (fun h => Ne.symm h) hPI2.2.1)
  have h7 : ∀ x, x ∈ tr :: z :: Q.reverse → x < 7 := fun x hx => by
    rw [← erev2] at hx
    exact hPI2.1 x (List.mem_reverse.mp hx)
  have hb2 := yk_bud_push hnd h7
  rw [erev] at hb
  have hA : ∀ j, j < Q.length + 1 → yk_at (Q ++ [z] ++ [tr]) j = yk_at (Q ++ [z]) j := fun j hj => yk_at_app1 [tr] (Q ++ [z]) j (by omega)
  refine ⟨by omega, ?_, hPI2, by omega, fun _ => ?_, fun i hi hiq => ?_, fun h0 => absurd h0 (by omega), yk_RS_S hRS (fun p => yk_F_push p), by rw [erev2]; omega⟩
  · have h := yk_hold_snoc (x := tr) hpa
    rw [hl] at h
    exact h
  · have e : (Q ++ [z] ++ [tr]).length = Q.length + 2 := by omega
    rw [e, pk_us]
    rfl
  · by_cases e : i = Q.length + 1
    · subst e
      have h := yk_at_snoc (Q ++ [z]) tr
      rw [hl] at h
      rw [pk_un (by omega), pk_us, h]
    · rw [pk_un (by omega), pk_un (by omega), hA i (by omega)]
      exact htl i hi (by omega)
theorem yk_yturn {post : SY → Prop} {u v : Int32} {b : Nat} {P : List Nat} {tr : Nat} (hg : ∀ j, g j ≤ 50) (ht : t < 7) (hP0 : 0 < P.length) (h : yk_YI g s t u v b P tr ke sw ev pa tl le si li)
    (H : ∀ (P : List Nat) (tr : Nat) (ke sw ev : Int32) (pa tl le si li : Nat → Int32), 0 < b → yk_YI g s t u v (b - 1) P tr ke sw ev pa tl le si li → post (nI s, nI t, nI P.length, ke, sw, ev, yk_W g, pa, tl, le, si, li)) :
    wpY_turn post (nI s, nI t, nI P.length, ke, sw, ev, yk_W g, pa, tl, le, si, li) u v := by
  obtain ⟨Q, z, rfl⟩ : ∃ Q z, P = Q ++ [z] := by
    rcases List.eq_nil_or_concat P with e | ⟨Q, z, e⟩
    · rw [e] at hP0; exact absurd hP0 (Nat.lt_irrefl _)
    · exact ⟨Q, z, by rw [e, List.concat_eq_append]⟩
  obtain ⟨hpa, hPI, htr, htd, htl, _, hRS, hb⟩ := h
  have hl := yk_len_snoc Q z
  have hl7 : (Q ++ [z]).length ≤ 7 := yk_len7 _ hPI.2.1 hPI.1
  have hz : z < 7 := hPI.1 z (List.mem_append_right _ List.mem_cons_self)
  have e1 : nI (Q ++ [z]).length - 1 = nI Q.length := by
    rw [hl]
    exact nI_pred Q.length
  have ez : pa (nI (Q ++ [z]).length - 1).toNatClampNeg = nI z := by
    rw [e1, nI_clamp (by omega), hpa Q.length (by omega), yk_at_snoc]
  have et : tl (nI (Q ++ [z]).length).toNatClampNeg = nI tr := by
    rw [nI_clamp (by omega)]
    exact htd hP0
  have back : ∀ (ke sw ev : Int32) (le si li : Nat → Int32), yk_RS g u v (yk_F g s t Q (z + 1)) ke sw ev le si li → wY_turn_65 post (nI s) (nI t) (nI (Q ++ [z]).length) ke sw ev (yk_W g) pa (upd tl (Q.length + 1) (nI (tr + 1))) le si li := by
    intro ke sw ev le si li hRS2
    obtain ⟨hb0, hYI⟩ := yk_YI_pop (w := nI (tr + 1)) hpa hPI htr htl hRS2 hb
    unfold wY_turn_65
    exact nm_r e1 (H Q (z + 1) ke sw ev pa _ le si li hb0 hYI)
  unfold wpY_turn
  refine ⟨pk_in Q.length 7 (by omega) e1, nm_r ez ⟨pk_in (Q ++ [z]).length 8 (by omega), nm_r et ⟨pk_in (Q ++ [z]).length 8 (by omega), pk_in (Q ++ [z]).length 8 (by omega), nm_r (e' := upd tl (Q.length + 1) (nI (tr + 1))) ?_ ?_⟩⟩⟩
  · rw [et, nI_1, nI_clamp (by omega), hl]
  refine pk_eq z t (fun hzt => ?_) (fun hzt => ?_)
  · subst hzt
    unfold wY_turn_51
    refine br_t rfl ?_
    exact yk_yfound hg hRS (fun p hp => hp.1) (yk_PI_PA hPI) yk_F_new hpa (fun ke sw ev le si li hRS2 => back ke sw ev le si li (yk_RS_S hRS2 (fun p => yk_F_found (yk_PI_PA hPI) p)))
  · refine pk_le tr 6 (fun h6 => ?_) (fun h6 => ?_)
    · have hgz := hg (7 * z + tr)
      refine ⟨pk_in (7 * z + tr) 49 (by omega) (yk_ix z tr), ?_⟩
      refine pk_le (g (7 * z + tr)) 0 (fun hz0 => ?_) (fun hz0 => ?_) (by rw [yk_ix, yk_W_at (by omega)])
      · obtain ⟨hb0, hYI⟩ := yk_YI_adv hpa hPI h6 htl hRS hb (Or.inl (by omega))
        exact H _ _ _ _ _ _ _ _ _ _ hb0 hYI
      · refine yk_yon hl7 hPI.1 (by omega) hpa (fun hm => ?_) (fun hm => ?_)
        · obtain ⟨hb0, hYI⟩ := yk_YI_push hpa hPI hzt h6 htl hRS hb hz0 hm
          have hl2 := yk_len_snoc (Q ++ [z]) tr
          have hl27 : (Q ++ [z] ++ [tr]).length ≤ 7 := yk_len7 _ hYI.2.1.2.1 hYI.2.1.1
          have fin := H _ _ _ _ _ _ _ _ _ _ hb0 hYI
          refine br_t rfl ⟨pk_in (Q ++ [z]).length 7 (by omega), nm_r (e' := upd pa (Q.length + 1) (nI tr)) (by rw [nI_clamp (by omega), hl]) (nm_r (e' := nI (Q ++ [z] ++ [tr]).length) (by rw [hl2, nI_1]) ?_)⟩
          refine pk_le 7 (Q ++ [z] ++ [tr]).length (fun h7 => ?_) (fun h7 => ?_)
          · refine nm_r (e' := upd (upd tl (Q.length + 1) (nI (tr + 1))) (Q.length + 2) 0) ?_ fin
            have e : Q.length + 2 = 7 := by omega
            rw [e]
          · refine ⟨pk_in (Q ++ [z] ++ [tr]).length 8 (by omega), nm_r (e' := upd (upd tl (Q.length + 1) (nI (tr + 1))) (Q.length + 2) 0) ?_ fin⟩
            have e : (Q ++ [z] ++ [tr]).length = Q.length + 2 := by omega
            rw [nI_clamp (by omega), e]
        · obtain ⟨hb0, hYI⟩ := yk_YI_adv hpa hPI h6 htl hRS hb (Or.inr hm)
          exact br_f (by decide) (H _ _ _ _ _ _ _ _ _ _ hb0 hYI)
    · unfold wY_turn_51
      refine br_f (fun e => hzt ((nI_eq (by omega) (by omega)).mp e)) (back ke sw ev le si li (yk_RS_S hRS (fun p => yk_F_pop hzt (by omega) p)))
theorem yk_ysearch41 {post : SY → Prop} {u v : Int32} (hg : ∀ j, g j ≤ 50) (ht : t < 7)
    (H : ∀ (dp ke sw ev : Int32) (pa tl le si li : Nat → Int32), yk_RS g u v (yk_PA g s t) ke sw ev le si li → post (nI s, nI t, dp, ke, sw, ev, yk_W g, pa, tl, le, si, li)) :
    ∀ (n k b : Nat) (P : List Nat) (tr : Nat) (ke sw ev : Int32) (pa tl le si li : Nat → Int32), k + b < 20000 → 20000 < n + k → yk_YI g s t u v b P tr ke sw ev pa tl le si li → wY_search_41 post u v n (nI k) (nI s) (nI t) (nI P.length) ke sw ev (yk_W g) pa tl le si li := by
  intro n
  induction n with
  | zero => intro k b P tr ke sw ev pa tl le si li h1 h2; exact absurd h2 (by omega)
  | succ n ih =>
    intro k b P tr ke sw ev pa tl le si li h1 h2 hY
    have hl7 : P.length ≤ 7 := yk_len7 _ hY.2.1.2.1 hY.2.1.1
    refine pk_le 20000 k (fun h => absurd h (by omega)) (fun h => ?_)
    refine pk_le P.length 0 (fun h0 => ?_) (fun h0 => ?_)
    · have e : P.length = 0 := by omega
      have e2 : P = [] := List.length_eq_zero_iff.mp e
      subst e2
      obtain ⟨hpa, hPI, htr, htd, htl, htz, hRS, hb⟩ := hY
      rw [htz rfl] at hRS
      exact H _ _ _ _ _ _ _ _ _ (yk_RS_S hRS (fun p => yk_F_end p))
    · refine yk_yturn hg ht h0 hY (fun P tr ke sw ev pa tl le si li hb hY2 => ?_)
      exact nm_r (nI_1 k) (ih (k + 1) (b - 1) P tr ke sw ev pa tl le si li (by omega) (by omega) hY2)
theorem yk_ysearch {post : SY → Prop} {u v : Int32} (hg : ∀ j, g j ≤ 50) (hs : s < 7) (ht : t < 7)
    (H : ∀ (dp ke sw ev : Int32) (pa tl le si li : Nat → Int32), yk_RS g u v (yk_PA g s t) ke sw ev le si li → post (nI s, nI t, dp, ke, sw, ev, yk_W g, pa, tl, le, si, li)) :
    wpY_search post (nI s, nI t, dp, ke, sw, ev, yk_W g, pa, tl, le, si, li) u v := by
  unfold wpY_search
  refine nm_e (nm_e ⟨20001, ?_⟩)
  refine yk_ysearch41 hg ht H 20001 0 15656 [s] 0 0 (-2) 127 _ _ le si li (by omega) (by omega) ⟨?_, ?_, by omega, fun _ => pk_us, fun i hi hi2 => absurd hi2 (by simp; omega), fun h0 => absurd h0 (by simp), ?_, ?_⟩
  · intro i hi
    have e : i = 0 := by
      have : i < 1 := hi
      omega
    subst e
    exact pk_us
  · refine ⟨fun x hx => ?_, by simp, fun i hi => absurd hi (by simp), fun i hi => absurd hi (by simp), fun _ => rfl⟩
    rw [List.mem_singleton.mp hx]
    exact hs
  · refine ⟨fun _ => [], 0, rfl, ⟨fun i j _ hj => absurd hj (Nat.not_lt_zero _), fun i hi => absurd hi (Nat.not_lt_zero _), by omega, fun p hp => absurd hp yk_F_start⟩, fun k hk => absurd hk (Nat.not_lt_zero _), Or.inl ⟨rfl, fun p hp => absurd hp yk_F_start⟩, 127, by omega, rfl, fun x hx => ?_⟩
    have h127 : ∀ x, x < 7 → (127 : Nat).testBit x = true := by decide
    exact ⟨fun _ p hp => absurd hp yk_F_start, fun _ => h127 x hx⟩
  · have e : [s].reverse = [s] := rfl
    rw [e, yk_bud_0 hs]
    exact Nat.le_refl _
end
end
section
/-! counting the kept paths that pass an arc -/
noncomputable def yk_b (p : Prop) : Nat := @ite Nat p (Classical.propDecidable p) 1 0
theorem yk_b_t {p : Prop} (h : p) : yk_b p = 1 := @if_pos p (Classical.propDecidable p) h Nat 1 0
theorem yk_b_f {p : Prop} (h : ¬ p) : yk_b p = 0 := @if_neg p (Classical.propDecidable p) h Nat 1 0
theorem yk_b_i {p q : Prop} (h : p ↔ q) : yk_b p = yk_b q := by rw [propext h]
theorem yk_b_le (p : Prop) : yk_b p ≤ 1 := by
  by_cases h : p
  · rw [yk_b_t h]; omega
  · rw [yk_b_f h]; omega
noncomputable def yk_pc (u v : Int32) (K : Nat → List Nat) : Nat → Nat
  | 0 => 0
  | k + 1 => yk_pc u v K k + yk_b (yk_PS u v (K k))
theorem yk_pc_le (u v : Int32) (K : Nat → List Nat) : ∀ k, yk_pc u v K k ≤ k := by
  intro k
  induction k with
  | zero => exact Nat.le_refl _
  | succ k ih =>
    have := yk_b_le (yk_PS u v (K k))
    rw [yk_pc]
    omega
theorem yk_pc_congr {u v : Int32} {K K' : Nat → List Nat} : ∀ k, (∀ i, i < k → K i = K' i) → yk_pc u v K k = yk_pc u v K' k := by
  intro k
  induction k with
  | zero => intro _; rfl
  | succ k ih =>
    intro h
    rw [yk_pc, yk_pc, ih fun i hi => h i (by omega), h k (by omega)]
def yk_PJ (u v : Int32) (p : List Nat) (i : Nat) : Prop := ∃ j, j < i ∧ j + 1 < p.length ∧ nI (yk_at p j) = u ∧ nI (yk_at p (j + 1)) = v
theorem yk_PJ_e {u v : Int32} {p : List Nat} {i : Nat} (h : p.length ≤ i + 1) : yk_PJ u v p i ↔ yk_PS u v p := by
  constructor
  · rintro ⟨j, _, h1, h2⟩
    exact ⟨j, h1, h2⟩
  · rintro ⟨j, h1, h2⟩
    exact ⟨j, by omega, h1, h2⟩
theorem yk_PJ_n {u v : Int32} {p : List Nat} {i : Nat} (h : ¬ (nI (yk_at p i) = u ∧ nI (yk_at p (i + 1)) = v)) : yk_PJ u v p (i + 1) ↔ yk_PJ u v p i := by
  constructor
  · rintro ⟨j, h0, h1, h2⟩
    refine ⟨j, ?_, h1, h2⟩
    refine Nat.lt_of_not_le fun hle => h ?_
    have e : j = i := by omega
    rw [← e]; exact h2
  · rintro ⟨j, h0, h1, h2⟩
    exact ⟨j, by omega, h1, h2⟩
theorem yk_PJ_y {u v : Int32} {p : List Nat} {i : Nat} (hp : p.Nodup) (h7 : ∀ x, yk_at p x < 7) (hi : i + 1 < p.length) (h : nI (yk_at p i) = u ∧ nI (yk_at p (i + 1)) = v) : ¬ yk_PJ u v p i ∧ yk_PJ u v p (i + 1) := by
  refine ⟨?_, i, by omega, hi, h⟩
  rintro ⟨j, h0, h1, h2⟩
  have a := h7 i
  have b := h7 j
  have e := (nI_eq (by omega) (by omega)).mp (h.1.trans h2.1.symm)
  exact yk_nd p hp j i h0 (by omega) e.symm
section
variable {re pn cn ca we wl : Int32} {kc kl ks cc cl cs ad ay : Nat → Int32} {s t : Nat} {g : Nat → Nat}
theorem yk_xpass39 {post : Int32 → SX → Prop} {J : Int32 → Int32 → Prop} {u v : Int32} {K : Nat → List Nat} {n k c : Nat} (hn : n ≤ 12) (hk : k < n) (hp : yk_PA g s t (K k)) (hR : yk_RX g K n kc kl ks)
    (H : J (nI (c + yk_b (yk_PS u v (K k)))) (nI (k + 1))) :
    ∀ (f i : Nat), i < (K k).length → (K k).length < f + i + 1 → wX_passing_39 post J u v (nI k) (nI s) (nI t) re (nI n) cn ca we wl (yk_W g) kc kl ks cc cl cs ad ay f (nI (c + yk_b (yk_PJ u v (K k) i))) (nI i) := by
  have hl := yk_PA_len hp
  obtain ⟨r1, r2, r3⟩ := hR k hk
  intro f
  induction f with
  | zero => intro i h1 h2; exact absurd h2 (by omega)
  | succ f ih =>
    intro i h1 h2
    refine And.intro (pk_in k 12 (by omega)) ?_
    refine pk_le (K k).length (i + 1) (fun h => ?_) (fun h => ?_) (by rw [nI_clamp (by omega)]; exact r3) (nI_1 i)
    · rw [yk_b_i (yk_PJ_e h)]
      exact nm_r (nI_1 k) H
    · have skip : ¬ (nI (yk_at (K k) i) = u ∧ nI (yk_at (K k) (i + 1)) = v) → ∀ x, x = nI i + 1 → wX_passing_39 post J u v (nI k) (nI s) (nI t) re (nI n) cn ca we wl (yk_W g) kc kl ks cc cl cs ad ay f (nI (c + yk_b (yk_PJ u v (K k) i))) x := fun hno => nm_r (nI_1 i) (by
        have h3 := ih (i + 1) h (by omega)
        rw [yk_b_i (yk_PJ_n hno)] at h3
        exact h3)
      refine ⟨pk_in k 12 (by omega), yk_xvert (q := K k) (i := i) (by rw [nI_clamp (by omega)]; exact r1) rfl (by omega) (yk_PA_8 hp) ?_⟩
      refine br_c (fun h3 => ⟨pk_in k 12 (by omega), yk_xvert (q := K k) (i := i + 1) (by rw [nI_clamp (by omega)]; exact r1) (nI_1 i) (by omega) (yk_PA_8 hp) ?_⟩) (fun h3 => skip (fun hh => h3 hh.1))
      refine br_c (fun h4 => ?_) (fun h4 => skip (fun hh => h4 hh.2))
      obtain ⟨hno, hyes⟩ := yk_PJ_y hp.2.2.2.1 (yk_PA_7 hp) h ⟨h3, h4⟩
      refine nm_r (e' := nI (c + yk_b (yk_PJ u v (K k) (i + 1)))) ?_ (nm_r (nI_1 i) (ih (i + 1) h (by omega)))
      rw [yk_b_f hno, yk_b_t hyes, nI_1]
theorem yk_xpass27 {post : Int32 → SX → Prop} {u v : Int32} {K : Nat → List Nat} {n : Nat} (hn : n ≤ 12) (hK : ∀ k, k < n → yk_PA g s t (K k)) (hR : yk_RX g K n kc kl ks)
    (H : post (nI (yk_pc u v K n)) (nI s, nI t, re, nI n, cn, ca, we, wl, yk_W g, kc, kl, ks, cc, cl, cs, ad, ay)) : ∀ (f k : Nat), k ≤ n → n < f + k → wX_passing_27 post u v (nI s) (nI t) re (nI n) cn ca we wl (yk_W g) kc kl ks cc cl cs ad ay f (nI (yk_pc u v K k)) (nI k) := by
  intro f
  induction f with
  | zero => intro k h1 h2; exact absurd h2 (by omega)
  | succ f ih =>
    intro k h1 h2
    refine pk_le n k (fun h => ?_) (fun h => ?_)
    · have e : k = n := by omega
      subst e
      exact H
    · have hp := hK k h
      have h3 := yk_xpass39 (re := re) (cn := cn) (ca := ca) (we := we) (wl := wl) (cc := cc) (cl := cl) (cs := cs) (ad := ad) (ay := ay) (post := post) (J := wX_passing_27 post u v (nI s) (nI t) re (nI n) cn ca we wl (yk_W g) kc kl ks cc cl cs ad ay f) (u := u) (v := v) (c := yk_pc u v K k) hn h hp hR (ih (k + 1) (by omega) (by omega)) 8 0 hp.1 (by have := yk_PA_len hp; omega)
      have e0 : ¬ yk_PJ u v (K k) 0 := by
        rintro ⟨j, hj, _⟩
        exact absurd hj (Nat.not_lt_zero _)
      rw [yk_b_f e0] at h3
      exact ⟨8, h3⟩
end
section
variable {dp ke sw ev : Int32} {pa tl le si li : Nat → Int32} {s t : Nat} {g : Nat → Nat}
theorem yk_ykp3 {post : Int32 → Prop} {u v : Int32} {k : Nat} {q : List Nat} (hk : k < 12) (h0 : 0 < q.length) (hq : q.length ≤ 7) (hE : yk_EN g le si li k q) (K0 : ¬ yk_PS u v q → post 0) (K1 : yk_PS u v q → post 1) :
    ∀ (f j : Nat), j + 1 ≤ q.length → q.length < f + j + 1 → (∀ i, i < j → ¬ (nI (yk_at q i) = u ∧ nI (yk_at q (i + 1)) = v)) → wY_keptPasses_3 post (nI k) u v (nI s) (nI t) dp ke sw ev (yk_W g) pa tl le si li f (nI (j + 1)) := by
  intro f
  induction f with
  | zero => intro j h1 h2; exact absurd h2 (by omega)
  | succ f ih =>
    intro j h1 h2 hno
    refine And.intro (pk_in k 13 (by omega)) ?_
    refine pk_le q.length (j + 1) (fun h => K0 ?_) (fun h => ?_) (by rw [nI_clamp (by omega)]; exact hE.2.1)
    · rintro ⟨i, hi, e⟩
      exact hno i (by omega) e
    · have e1 : 7 * nI k + nI (j + 1) - 1 = nI (7 * k + j) := by
        rw [yk_ix]
        exact nI_pred (7 * k + j)
      have e2 : li (7 * nI k + nI (j + 1) - 1).toNatClampNeg = nI (yk_at q j) := by rw [e1, nI_clamp (by omega)]; exact hE.2.2 j (by omega)
      have e3 : li (7 * nI k + nI (j + 1)).toNatClampNeg = nI (yk_at q (j + 1)) := by rw [yk_ix, nI_clamp (by omega)]; exact hE.2.2 (j + 1) h
      have skip : ¬ (nI (yk_at q j) = u ∧ nI (yk_at q (j + 1)) = v) → ∀ x, x = nI (j + 1) + 1 → wY_keptPasses_3 post (nI k) u v (nI s) (nI t) dp ke sw ev (yk_W g) pa tl le si li f x := fun hn => nm_r (nI_1 (j + 1)) (ih (j + 1) (by omega) (by omega) (fun i hi => by
        by_cases e : i = j
        · rw [e]; exact hn
        · exact hno i (by omega)))
      refine ⟨pk_in (7 * k + j) 91 (by omega) e1, ?_⟩
      rw [e2, e3]
      refine br_c (fun h3 => ⟨pk_in (7 * k + (j + 1)) 91 (by omega) (yk_ix k (j + 1)), br_c (fun h4 => K1 ⟨j, h, h3, h4⟩) (fun h4 => skip (fun hh => h4 hh.2))⟩) (fun h3 => skip (fun hh => h3 hh.1))
theorem yk_ypass29 {post : Int32 → SY → Prop} {u v : Int32} {K : Nat → List Nat} {n : Nat} (hn : n ≤ 12) (hK : ∀ k, k < n → yk_PA g s t (K k)) (hR : yk_RY g K n le si li)
    (H : post (nI (yk_pc u v K n)) (nI s, nI t, dp, nI n, sw, ev, yk_W g, pa, tl, le, si, li)) : ∀ (f k : Nat), k ≤ n → n < f + k → wY_passing_29 post u v (nI s) (nI t) dp (nI n) sw ev (yk_W g) pa tl le si li f (nI (yk_pc u v K k)) (nI k) := by
  intro f
  induction f with
  | zero => intro k h1 h2; exact absurd h2 (by omega)
  | succ f ih =>
    intro k h1 h2
    refine pk_le n k (fun h => ?_) (fun h => ?_)
    · have e : k = n := by omega
      subst e
      exact H
    · have hp := hK k h
      have hl := yk_PA_len hp
      have h0 := hp.1
      have h3 := ih (k + 1) (by omega) (by omega)
      rw [yk_pc] at h3
      unfold wpY_keptPasses
      refine ⟨8, yk_ykp3 (q := K k) (by omega) hp.1 hl (hR k h) (fun hno => ?_) (fun hyes => ?_) 8 0 (by omega) (by omega) (fun i hi => absurd hi (Nat.not_lt_zero _))⟩
      · rw [yk_b_f hno] at h3
        exact br_t rfl (nm_r (nI_1 k) h3)
      · rw [yk_b_t hyes] at h3
        exact br_f (by decide) (nm_r (nI_1 _) (nm_r (nI_1 k) h3))
end
end
section
/-! one arc avoided; vertices that can't be avoided -/
theorem yk_p128 {v : Nat} (h : v < 7) : 2 ^ v < 128 := by
  have h2 : 2 ^ v < 2 ^ 7 := Nat.pow_lt_pow_right (by decide) h
  exact h2
theorem yk_gx_pos {g : Nat → Nat} {ca : Int32} {j : Nat} (h : 0 < yk_gx g ca j) : yk_gx g ca j = g j := by
  unfold yk_gx at h ⊢
  by_cases e : j < 49 ∧ nI j = ca
  · rw [if_pos e] at h; exact absurd h (Nat.lt_irrefl _)
  · rw [if_neg e]
theorem yk_gx_PA {g : Nat → Nat} {s t a b : Nat} {q : List Nat} (ha : a < 7) (hb : b < 7) : yk_PA (yk_gx g (nI (7 * a + b))) s t q ↔ (yk_PA g s t q ∧ ¬ yk_PS (nI a) (nI b) q) := by
  constructor
  · intro h
    refine ⟨⟨h.1, h.2.1, h.2.2.1, h.2.2.2.1, h.2.2.2.2.1, fun i hi => ?_⟩, ?_⟩
    · have h1 := h.2.2.2.2.2 i hi
      rwa [yk_gx_pos h1] at h1
    · rintro ⟨i, hi, e1, e2⟩
      have h3 := yk_PA_7 h i
      have h4 := yk_PA_7 h (i + 1)
      have h1 := h.2.2.2.2.2 i hi
      rw [(nI_eq (by omega) (by omega)).mp e1, (nI_eq (by omega) (by omega)).mp e2, yk_gx_c rfl (by omega)] at h1
      exact Nat.lt_irrefl _ h1
  · rintro ⟨h, hn⟩
    refine ⟨h.1, h.2.1, h.2.2.1, h.2.2.2.1, h.2.2.2.2.1, fun i hi => ?_⟩
    have h3 := yk_PA_7 h i
    have h4 := yk_PA_7 h (i + 1)
    rw [yk_gx_n]
    · exact h.2.2.2.2.2 i hi
    · intro e
      have e2 := (nI_eq (by omega) (by omega)).mp e
      have e3 : yk_at q i = a := by omega
      have e4 : yk_at q (i + 1) = b := by omega
      exact hn ⟨i, hi, by rw [e3], by rw [e4]⟩
theorem yk_gx_ln {g : Nat → Nat} {ca : Int32} {s t : Nat} {q : List Nat} (h : yk_PA (yk_gx g ca) s t q) : yk_ln (yk_gx g ca) q = yk_ln g q :=
  yk_sm_g _ fun i hi => yk_gx_pos (h.2.2.2.2.2 i (by omega))
theorem yk_key_le {g : Nat → Nat} {s t : Nat} {p q : List Nat} (hp : yk_PA g s t p) (hq : yk_PA g s t q) (h : yk_key g p ≤ yk_key g q) : yk_ln g p ≤ yk_ln g q := by
  have := yk_key_lt hq hp
  omega
theorem yk_QP_s {g : Nat → Nat} {s t v : Nat} {q : List Nat} (hq : yk_PA g s t q) (hv : v = s ∨ v ∉ q) : yk_QP g s t (fun u => u = v ∨ u = s) (fun _ => False) ([] ++ [s]) q := by
  have hs : ∀ j, 1 ≤ j → j < q.length → yk_at q j ≠ s := fun j hj hjq e => yk_nd q hq.2.2.2.1 0 j (by omega) hjq (hq.2.1.trans e.symm)
  refine ⟨hq, fun j hj => ?_, fun j hj hjq h => ?_, fun h => h⟩
  · have e : j = 0 := by
      have : j < 1 := hj
      omega
    rw [e, hq.2.1]
    rfl
  · have h1 : 1 ≤ j := hj
    rcases h with e | e
    · rcases hv with hv | hv
      · exact hs j h1 hjq (e.trans hv)
      · exact hv (e ▸ yk_at_mem q j hjq)
    · exact hs j h1 hjq e
theorem yk_bits_eq {a b : Nat} (ha : a < 128) (hb : b < 128) (h : ∀ x, x < 7 → (a.testBit x = true ↔ b.testBit x = true)) : a = b := by
  apply Nat.eq_of_testBit_eq
  intro i
  by_cases hi : i < 7
  · exact Bool.eq_iff_iff.mpr (h i hi)
  · have h7 : 2 ^ 7 ≤ 2 ^ i := Nat.pow_le_pow_right (by decide) (by omega)
    rw [Nat.testBit_lt_two_pow (by omega), Nat.testBit_lt_two_pow (by omega)]
section
variable {re pn cn ca we wl : Int32} {kc kl ks cc cl cs ad ay : Nat → Int32} {s t : Nat} {g : Nat → Nat}
theorem yk_xv0 {post : Int32 → Prop} {x : Int32} (h : x < 0 ∨ (¬ x < 0 ∧ 6 < x)) (K : post 0) : wpX_isVertex post (nI s, nI t, re, pn, cn, ca, we, wl, yk_W g, kc, kl, ks, cc, cl, cs, ad, ay) x := by
  unfold wpX_isVertex
  rcases h with h | ⟨h1, h2⟩
  · exact br_t h K
  · exact br_f h1 (br_t h2 K)
theorem yk_xv1 {post : Int32 → Prop} {a : Nat} (ha : a < 7) (K : post 1) : wpX_isVertex post (nI s, nI t, re, pn, cn, ca, we, wl, yk_W g, kc, kl, ks, cc, cl, cs, ad, ay) (nI a) := by
  unfold wpX_isVertex
  exact br_f (nI_pos (by omega)) (br_f (nI_nlt (a := 6) (b := a) (by omega) (by decide)) K)
theorem yk_xavoid {post : Int32 → SX → Prop} {a b : Nat} (hg : ∀ j, g j ≤ 50) (hs : s < 7) (ht : t < 7) (hst : s ≠ t) (ha : a < 7) (hb : b < 7)
    (H0 : (∀ q, yk_PA g s t q → yk_PS (nI a) (nI b) q) → ∀ (we wl : Int32) (ad ay : Nat → Int32), post (-2) (nI s, nI t, re, pn, cn, -1, we, wl, yk_W g, kc, kl, ks, cc, cl, cs, ad, ay))
    (H1 : ∀ L, yk_PA g s t L → ¬ yk_PS (nI a) (nI b) L → (∀ q, yk_PA g s t q → ¬ yk_PS (nI a) (nI b) q → yk_ln g L ≤ yk_ln g q) → ∀ (we wl : Int32) (ad ay : Nat → Int32), post (nI (yk_ln g L)) (nI s, nI t, re, pn, cn, -1, we, wl, yk_W g, kc, kl, ks, cc, cl, cs, ad, ay)) :
    wpX_avoiding post (nI s, nI t, re, pn, cn, -1, we, wl, yk_W g, kc, kl, ks, cc, cl, cs, ad, ay) (nI a) (nI b) := by
  unfold wpX_avoiding
  refine yk_xv1 ha (br_f (by decide) (yk_xv1 hb (br_f (by decide) (nm_r (yk_ix a b) ?_))))
  refine yk_goOn (A := fun u => u = s ∨ u = s) (B := fun _ => False) (W := []) (f := s) (c0 := 0) (bm := 0) hg ht hs (by omega) (by omega) (fun u hu => ?_) (fun e => ?_) (fun v hv => ?_) ⟨Nat.one_pos, rfl, by simp, fun x hx => ?_, fun i hi => absurd hi (by simp)⟩ (fun i hi => absurd hi (Nat.not_lt_zero _)) (fun hno ad3 => ?_) (fun L m3 ad3 ay3 hL hln hay3 => ?_)
  · rw [Nat.zero_testBit]
    simp
  · rcases e with e | e
    · exact hst e.symm
    · exact hst e.symm
  · rw [Nat.zero_testBit]
    simp
  · have e : x = s := List.mem_singleton.mp hx
    rw [e]
    exact ⟨hs, hst, Or.inl rfl⟩
  · refine br_t rfl (H0 (fun q hq => ?_) _ _ _ _)
    exact Classical.byContradiction fun hn => hno q (yk_QP_s ((yk_gx_PA ha hb).mpr ⟨hq, hn⟩) (Or.inl rfl))
  · obtain ⟨hQ, hlL, hmin⟩ := hL
    have hPL := (yk_gx_PA ha hb).mp hQ.1
    have e0 : yk_sm (yk_gx g (nI (7 * a + b))) ([] ++ [s]) ([] : List Nat).length = 0 := rfl
    rw [e0, Nat.zero_add, yk_gx_ln hQ.1] at hln
    refine br_f (by decide) ?_
    rw [← hln]
    refine H1 L hPL.1 hPL.2 (fun q hq hn => ?_) _ _ _ _
    have hq2 := (yk_gx_PA ha hb).mpr ⟨hq, hn⟩
    have h3 := yk_key_le hQ.1 hq2 (hmin q (yk_QP_s hq2 (Or.inl rfl)))
    rwa [yk_gx_ln hQ.1, yk_gx_ln hq2] at h3
theorem yk_xun16 {post : Int32 → SX → Prop} (hg : ∀ j, g j ≤ 50) (hs : s < 7) (ht : t < 7) (hst : s ≠ t)
    (H : ∀ m, m < 128 → (∀ x, x < 7 → (m.testBit x = true ↔ ∀ q, yk_PA g s t q → x ∈ q)) → ∀ (we wl : Int32) (ad ay : Nat → Int32), post (nI m) (nI s, nI t, re, pn, cn, -1, we, wl, yk_W g, kc, kl, ks, cc, cl, cs, ad, ay)) :
    ∀ (f v m : Nat) (we wl : Int32) (ad ay : Nat → Int32), v ≤ 7 → 7 < f + v → m < 128 → (∀ x, x < 7 → (m.testBit x = true ↔ (x = s ∨ x = t ∨ (x < v ∧ ∀ q, yk_PA g s t q → x ∈ q)))) →
      wX_unavoidable_16 post f (nI m) (nI v) (nI s) (nI t) re pn cn (-1) we wl (yk_W g) kc kl ks cc cl cs ad ay := by
  intro f
  induction f with
  | zero => intro v m we wl ad ay h1 h2; exact absurd h2 (by omega)
  | succ f ih =>
    intro v m we wl ad ay h1 h2 hm hb
    refine pk_le 7 v (fun h => ?_) (fun h => ?_)
    · refine H m hm (fun x hx => (hb x hx).trans ⟨?_, fun hq => Or.inr (Or.inr ⟨by omega, hq⟩)⟩) _ _ _ _
      rintro (e | e | ⟨_, hq⟩) q hq2
      · rw [e, ← hq2.2.1]
        exact yk_at_mem q 0 hq2.1
      · rw [e, ← hq2.2.2.1]
        exact yk_at_mem q (q.length - 1) (by have := hq2.1; omega)
      · exact hq q hq2
    · refine pk_eq v s (fun e => nm_r (nI_1 v) (ih (v + 1) m _ _ _ _ (by omega) (by omega) hm (fun x hx => (hb x hx).trans ?_))) (fun hvs => ?_)
      · constructor
        · rintro (e1 | e1 | ⟨h3, h4⟩)
          · exact Or.inl e1
          · exact Or.inr (Or.inl e1)
          · exact Or.inr (Or.inr ⟨by omega, h4⟩)
        · rintro (e1 | e1 | ⟨h3, h4⟩)
          · exact Or.inl e1
          · exact Or.inr (Or.inl e1)
          · by_cases e2 : x = v
            · exact Or.inl (e2.trans e)
            · exact Or.inr (Or.inr ⟨by omega, h4⟩)
      refine pk_eq v t (fun e => nm_r (nI_1 v) (ih (v + 1) m _ _ _ _ (by omega) (by omega) hm (fun x hx => (hb x hx).trans ?_))) (fun hvt => ?_)
      · constructor
        · rintro (e1 | e1 | ⟨h3, h4⟩)
          · exact Or.inl e1
          · exact Or.inr (Or.inl e1)
          · exact Or.inr (Or.inr ⟨by omega, h4⟩)
        · rintro (e1 | e1 | ⟨h3, h4⟩)
          · exact Or.inl e1
          · exact Or.inr (Or.inl e1)
          · by_cases e2 : x = v
            · exact Or.inr (Or.inl (e2.trans e))
            · exact Or.inr (Or.inr ⟨by omega, h4⟩)
      rw [yk_sh1 (v := v) (by omega)]
      refine yk_goOn1 (A := fun u => u = v ∨ u = s) (B := fun _ => False) (W := []) (f := s) (c0 := 2 ^ v) (bm := 0) (i := 0) hg ht hs (yk_p128 h) (by omega) (fun u hu => ?_) (fun e => ?_) (fun w hw => ?_) ⟨Nat.one_pos, rfl, by simp, fun x hx => ?_, fun i hi => absurd hi (by simp)⟩ rfl (fun i hi => absurd hi (Nat.not_lt_zero _)) (fun hno ad3 => ?_) (fun L m3 ad3 ay3 hL hln hay3 => ?_)
      · rw [Nat.testBit_two_pow, decide_eq_true_eq]
        exact ⟨fun h => h.imp_left Eq.symm, fun h => h.imp_left Eq.symm⟩
      · rcases e with e | e
        · exact hvt e.symm
        · exact hst e.symm
      · rw [Nat.zero_testBit]
        simp
      · have e : x = s := List.mem_singleton.mp hx
        rw [e]
        exact ⟨hs, hst, Or.inr rfl⟩
      · have hall : ∀ q, yk_PA g s t q → v ∈ q := fun q hq => Classical.byContradiction fun hn => hno q (yk_QP_s hq (Or.inr hn))
        refine br_t rfl (nm_r (yk_or m (2 ^ v)) (nm_r (nI_1 v) (ih (v + 1) _ _ _ _ _ (by omega) (by omega) (yk_or128 hm h) (fun x hx => ?_))))
        rw [yk_tb2, hb x hx]
        constructor
        · rintro ((e1 | e1 | ⟨h3, h4⟩) | e2)
          · exact Or.inl e1
          · exact Or.inr (Or.inl e1)
          · exact Or.inr (Or.inr ⟨by omega, h4⟩)
          · exact Or.inr (Or.inr ⟨by omega, by rw [e2]; exact hall⟩)
        · rintro (e1 | e1 | ⟨h3, h4⟩)
          · exact Or.inl (Or.inl e1)
          · exact Or.inl (Or.inr (Or.inl e1))
          · by_cases e2 : x = v
            · exact Or.inr e2
            · exact Or.inl (Or.inr (Or.inr ⟨by omega, h4⟩))
      · obtain ⟨hQ, hlL, hmin⟩ := hL
        have hnv : v ∉ L := by
          intro hm2
          obtain ⟨j, hj, e⟩ := yk_mem_at L hm2
          by_cases hj0 : j = 0
          · rw [hj0, hQ.1.2.1] at e
            exact hvs e.symm
          · have h1j : 1 ≤ j := by omega
            exact hQ.2.2.1 j h1j hj (Or.inl e)
        refine br_f (by decide) (nm_r (nI_1 v) (ih (v + 1) m _ _ _ _ (by omega) (by omega) hm (fun x hx => (hb x hx).trans ?_)))
        constructor
        · rintro (e1 | e1 | ⟨h3, h4⟩)
          · exact Or.inl e1
          · exact Or.inr (Or.inl e1)
          · exact Or.inr (Or.inr ⟨by omega, h4⟩)
        · rintro (e1 | e1 | ⟨h3, h4⟩)
          · exact Or.inl e1
          · exact Or.inr (Or.inl e1)
          · by_cases e2 : x = v
            · rw [e2] at h4
              exact absurd (h4 L hQ.1) hnv
            · exact Or.inr (Or.inr ⟨by omega, h4⟩)
theorem yk_xun {post : Int32 → SX → Prop} (hg : ∀ j, g j ≤ 50) (hs : s < 7) (ht : t < 7) (hst : s ≠ t)
    (H : ∀ m, m < 128 → (∀ x, x < 7 → (m.testBit x = true ↔ ∀ q, yk_PA g s t q → x ∈ q)) → ∀ (we wl : Int32) (ad ay : Nat → Int32), post (nI m) (nI s, nI t, re, pn, cn, -1, we, wl, yk_W g, kc, kl, ks, cc, cl, cs, ad, ay)) :
    wpX_unavoidable post (nI s, nI t, re, pn, cn, -1, we, wl, yk_W g, kc, kl, ks, cc, cl, cs, ad, ay) := by
  unfold wpX_unavoidable
  refine nm_r (e' := nI (2 ^ s ||| 2 ^ t)) (by rw [yk_sh1 (by omega), yk_sh1 (by omega), yk_or]) ⟨8, yk_xun16 hg hs ht hst H 8 0 _ we wl ad ay (by omega) (by omega) (yk_or128 (yk_p128 hs) ht) (fun x hx => ?_)⟩
  rw [yk_tb2, Nat.testBit_two_pow, decide_eq_true_eq]
  constructor
  · rintro (e | e)
    · exact Or.inl e.symm
    · exact Or.inr (Or.inl e)
  · rintro (e | e | ⟨h, _⟩)
    · exact Or.inl e.symm
    · exact Or.inr e
    · exact absurd h (Nat.not_lt_zero _)
end
section
variable {dp ke sw ev : Int32} {pa tl le si li : Nat → Int32} {s t : Nat} {g : Nat → Nat}
theorem yk_yv0 {post : Int32 → Prop} {x : Int32} (h : x < 0 ∨ (¬ x < 0 ∧ 6 < x)) (K : post 0) : wpY_isVertex post (nI s, nI t, dp, ke, sw, ev, yk_W g, pa, tl, le, si, li) x := by
  unfold wpY_isVertex
  rcases h with h | ⟨h1, h2⟩
  · exact br_t h K
  · exact br_f h1 (br_t h2 K)
theorem yk_yv1 {post : Int32 → Prop} {a : Nat} (ha : a < 7) (K : post 1) : wpY_isVertex post (nI s, nI t, dp, ke, sw, ev, yk_W g, pa, tl, le, si, li) (nI a) := by
  unfold wpY_isVertex
  exact br_f (nI_pos (by omega)) (br_f (nI_nlt (a := 6) (b := a) (by omega) (by decide)) K)
end
theorem yk_vx (x : Int32) : (∃ a, a < 7 ∧ x = nI a) ∨ (x < 0 ∨ (¬ x < 0 ∧ 6 < x)) := by
  by_cases h : x < 0
  · exact Or.inr (Or.inl h)
  · by_cases h6 : 6 < x
    · exact Or.inr (Or.inr ⟨h, h6⟩)
    · obtain ⟨j, hj, e⟩ := nI_of2 (M := 6) (n := 6) (by decide) h (Int32.not_lt.mp h6)
      exact Or.inl ⟨j, by omega, e⟩
end
section
/-! the relation: one graph, one source, one target; what X has found is right -/
def yk_OK (s t : Nat) (g : Nat → Nat) (re pn : Int32) (kc kl ks : Nat → Int32) : Prop :=
  (∀ j, g j ≤ 50) ∧ s < 7 ∧ t < 7 ∧ s ≠ t ∧ (re = 0 ∨ (¬ re = 0 ∧ ∃ (K : Nat → List Nat) (n : Nat), pn = nI n ∧ yk_Top (yk_key g) (yk_PA g s t) K n ∧ yk_RX g K n kc kl ks))
/-- the relation at the head of a turn -/
def i_Rel (k : Nat) (u : SX) (v : SY) : Prop :=
  ∃ (s : Nat) (t : Nat) (g : Nat → Nat) (re : Int32) (pn : Int32) (cn : Int32) (we : Int32) (wl : Int32) (kc : Nat → Int32) (kl : Nat → Int32) (ks : Nat → Int32) (cc : Nat → Int32) (cl : Nat → Int32) (cs : Nat → Int32) (ad : Nat → Int32) (ay : Nat → Int32) (dp : Int32) (ke : Int32) (sw : Int32) (ev : Int32) (pa : Nat → Int32) (tl : Nat → Int32) (le : Nat → Int32) (si : Nat → Int32) (li : Nat → Int32), yk_OK s t g re pn kc kl ks ∧ u = (nI s, nI t, re, pn, cn, -1, we, wl, yk_W g, kc, kl, ks, cc, cl, cs, ad, ay) ∧ v = (nI s, nI t, dp, ke, sw, ev, yk_W g, pa, tl, le, si, li)
theorem i_up {k : Nat} {u : SX} {v : SY} (h : i_Rel k u v) : i_Rel (k + 4) u v := h
theorem yk_mk {k : Nat} {s : Nat} {t : Nat} {g : Nat → Nat} {re : Int32} {pn : Int32} {cn : Int32} {we : Int32} {wl : Int32} {kc : Nat → Int32} {kl : Nat → Int32} {ks : Nat → Int32} {cc : Nat → Int32} {cl : Nat → Int32} {cs : Nat → Int32} {ad : Nat → Int32} {ay : Nat → Int32} {dp : Int32} {ke : Int32} {sw : Int32} {ev : Int32} {pa : Nat → Int32} {tl : Nat → Int32} {le : Nat → Int32} {si : Nat → Int32} {li : Nat → Int32} (h : yk_OK s t g re pn kc kl ks) : i_Rel k (nI s, nI t, re, pn, cn, -1, we, wl, yk_W g, kc, kl, ks, cc, cl, cs, ad, ay) (nI s, nI t, dp, ke, sw, ev, yk_W g, pa, tl, le, si, li) :=
  Exists.intro s (Exists.intro t (Exists.intro g (Exists.intro re (Exists.intro pn (Exists.intro cn (Exists.intro we (Exists.intro wl (Exists.intro kc (Exists.intro kl (Exists.intro ks (Exists.intro cc (Exists.intro cl (Exists.intro cs (Exists.intro ad (Exists.intro ay (Exists.intro dp (Exists.intro ke (Exists.intro sw (Exists.intro ev (Exists.intro pa (Exists.intro tl (Exists.intro le (Exists.intro si (Exists.intro li (⟨h, rfl, rfl⟩)))))))))))))))))))))))))
theorem yk_el {k : Nat} {u : SX} {v : SY} {P : SX → SY → Prop} (h : ∀ (s : Nat) (t : Nat) (g : Nat → Nat) (re : Int32) (pn : Int32) (cn : Int32) (we : Int32) (wl : Int32) (kc : Nat → Int32) (kl : Nat → Int32) (ks : Nat → Int32) (cc : Nat → Int32) (cl : Nat → Int32) (cs : Nat → Int32) (ad : Nat → Int32) (ay : Nat → Int32) (dp : Int32) (ke : Int32) (sw : Int32) (ev : Int32) (pa : Nat → Int32) (tl : Nat → Int32) (le : Nat → Int32) (si : Nat → Int32) (li : Nat → Int32), yk_OK s t g re pn kc kl ks → P (nI s, nI t, re, pn, cn, -1, we, wl, yk_W g, kc, kl, ks, cc, cl, cs, ad, ay) (nI s, nI t, dp, ke, sw, ev, yk_W g, pa, tl, le, si, li)) (I : i_Rel k u v) : P u v :=
  Exists.elim I fun s I => Exists.elim I fun t I => Exists.elim I fun g I => Exists.elim I fun re I => Exists.elim I fun pn I => Exists.elim I fun cn I => Exists.elim I fun we I => Exists.elim I fun wl I => Exists.elim I fun kc I => Exists.elim I fun kl I => Exists.elim I fun ks I => Exists.elim I fun cc I => Exists.elim I fun cl I => Exists.elim I fun cs I => Exists.elim I fun ad I => Exists.elim I fun ay I => Exists.elim I fun dp I => Exists.elim I fun ke I => Exists.elim I fun sw I => Exists.elim I fun ev I => Exists.elim I fun pa I => Exists.elim I fun tl I => Exists.elim I fun le I => Exists.elim I fun si I => Exists.elim I fun li I => (by
    obtain ⟨h1, h2, h3⟩ := I
    rw [h2, h3]
    exact h s t g re pn cn we wl kc kl ks cc cl cs ad ay dp ke sw ev pa tl le si li h1)
theorem i_vc0 : wpX_init (fun u => wpY_init (fun v => i_Rel 0 u v)) := by
  unfold wpX_init wpY_init
  exact yk_mk (s := 0) (t := 6) (g := fun _ => 0) ⟨fun _ => Nat.zero_le _, by decide, by decide, by decide, Or.inl rfl⟩
end
section
/-! the calls -/
theorem i_vc_arc {k : Nat} {u : SX} {v : SY} (I : i_Rel k u v) (hk : k + 4 ≤ 2048) (v1 : Int32) (v2 : Int32) (v3 : Int32) : wpX_arc (fun r u' => wpY_arc (fun r' v' => r' = r ∧ i_Rel (k + 4) u' v') v v1 v2 v3) u v1 v2 v3 := by
  refine yk_el (P := fun u v => wpX_arc (fun r u' => wpY_arc (fun r' v' => r' = r ∧ i_Rel (k + 4) u' v') v v1 v2 v3) u v1 v2 v3) ?_ I
  intro s t g re pn cn we wl kc kl ks cc cl cs ad ay dp ke sw ev pa tl le si li hOK
  unfold wpX_arc wpY_arc
  dsimp only
  rcases yk_vx v1 with ⟨a, ha, rfl⟩ | hv1
  · refine yk_xv1 ha (br_f (by decide) ?_)
    rcases yk_vx v2 with ⟨b, hb, rfl⟩ | hv2
    · refine yk_xv1 hb (br_f (by decide) ?_)
      refine pk_eq a b (fun e => ?_) (fun e => ?_)
      · exact yk_yv1 ha (br_f (by decide) (yk_yv1 hb (br_f (by decide) (br_t (by rw [e]) ⟨rfl, yk_mk hOK⟩))))
      have ne : ¬ nI a = nI b := fun h => e ((nI_eq (by omega) (by omega)).mp h)
      refine br_c (fun h0 => ?_) (fun h0 => ?_)
      · exact yk_yv1 ha (br_f (by decide) (yk_yv1 hb (br_f (by decide) (br_f ne (br_t h0 ⟨rfl, yk_mk hOK⟩)))))
      refine br_c (fun h50 => ?_) (fun h50 => ?_)
      · obtain ⟨w, hw, rfl⟩ := nI_of2 (M := 50) (n := 50) (by decide) h0 h50
        refine ⟨pk_in (7 * a + b) 49 (by omega) (yk_ix a b), nm_r (e' := yk_W (fun j => if j = 7 * a + b then w else g j)) ?_ ?_⟩
        · rw [yk_ix, nI_clamp (by omega), yk_nar50 w (by omega), yk_W_upd]
        · refine yk_yv1 ha (br_f (by decide) (yk_yv1 hb (br_f (by decide) (br_f ne (br_f h0 (br_t h50 ⟨pk_in (7 * a + b) 49 (by omega) (yk_ix a b), nm_r (e' := yk_W (fun j => if j = 7 * a + b then w else g j)) ?_ ⟨rfl, yk_mk ⟨fun j => ?_, hOK.2.1, hOK.2.2.1, hOK.2.2.2.1, Or.inl rfl⟩⟩⟩))))))
          · rw [yk_ix, nI_clamp (by omega), yk_W_upd]
          · show (if j = 7 * a + b then w else g j) ≤ 50
            by_cases ej : j = 7 * a + b
            · rw [if_pos ej]; exact hw
            · rw [if_neg ej]; exact hOK.1 j
      · exact yk_yv1 ha (br_f (by decide) (yk_yv1 hb (br_f (by decide) (br_f ne (br_f h0 (br_f h50 ⟨rfl, yk_mk hOK⟩))))))
    · exact yk_xv0 hv2 (br_t rfl (yk_yv1 ha (br_f (by decide) (yk_yv0 hv2 (br_t rfl ⟨rfl, yk_mk hOK⟩)))))
  · exact yk_xv0 hv1 (br_t rfl (yk_yv0 hv1 (br_t rfl ⟨rfl, yk_mk hOK⟩)))
theorem i_vc_ends {k : Nat} {u : SX} {v : SY} (I : i_Rel k u v) (hk : k + 4 ≤ 2048) (v1 : Int32) (v2 : Int32) : wpX_ends (fun r u' => wpY_ends (fun r' v' => r' = r ∧ i_Rel (k + 4) u' v') v v1 v2) u v1 v2 := by
  refine yk_el (P := fun u v => wpX_ends (fun r u' => wpY_ends (fun r' v' => r' = r ∧ i_Rel (k + 4) u' v') v v1 v2) u v1 v2) ?_ I
  intro s t g re pn cn we wl kc kl ks cc cl cs ad ay dp ke sw ev pa tl le si li hOK
  unfold wpX_ends wpY_ends
  dsimp only
  rcases yk_vx v1 with ⟨a, ha, rfl⟩ | hv1
  · refine yk_xv1 ha (br_f (by decide) ?_)
    rcases yk_vx v2 with ⟨b, hb, rfl⟩ | hv2
    · refine yk_xv1 hb (br_f (by decide) ?_)
      refine pk_eq a b (fun e => ?_) (fun e => ?_)
      · exact yk_yv1 ha (br_f (by decide) (yk_yv1 hb (br_f (by decide) (br_t (by rw [e]) ⟨rfl, yk_mk hOK⟩))))
      have ne : ¬ nI a = nI b := fun h => e ((nI_eq (by omega) (by omega)).mp h)
      exact yk_yv1 ha (br_f (by decide) (yk_yv1 hb (br_f (by decide) (br_f ne ⟨rfl, yk_mk ⟨hOK.1, ha, hb, e, Or.inl rfl⟩⟩))))
    · exact yk_xv0 hv2 (br_t rfl (yk_yv1 ha (br_f (by decide) (yk_yv0 hv2 (br_t rfl ⟨rfl, yk_mk hOK⟩)))))
  · exact yk_xv0 hv1 (br_t rfl (yk_yv0 hv1 (br_t rfl ⟨rfl, yk_mk hOK⟩)))
theorem i_vc_weight {k : Nat} {u : SX} {v : SY} (I : i_Rel k u v) (hk : k + 4 ≤ 2048) (v1 : Int32) (v2 : Int32) : wpX_weight (fun r => wpY_weight (fun r' => r' = r ∧ i_Rel (k + 4) u v) v v1 v2) u v1 v2 := by
  refine yk_el (P := fun u v => wpX_weight (fun r => wpY_weight (fun r' => r' = r ∧ i_Rel (k + 4) u v) v v1 v2) u v1 v2) ?_ I
  intro s t g re pn cn we wl kc kl ks cc cl cs ad ay dp ke sw ev pa tl le si li hOK
  unfold wpX_weight wpY_weight
  dsimp only
  rcases yk_vx v1 with ⟨a, ha, rfl⟩ | hv1
  · refine yk_xv1 ha (br_f (by decide) ?_)
    rcases yk_vx v2 with ⟨b, hb, rfl⟩ | hv2
    · refine yk_xv1 hb (br_f (by decide) ⟨pk_in (7 * a + b) 49 (by omega) (yk_ix a b), ?_⟩)
      exact yk_yv1 ha (br_f (by decide) (yk_yv1 hb (br_f (by decide) ⟨pk_in (7 * a + b) 49 (by omega) (yk_ix a b), rfl, yk_mk hOK⟩)))
    · exact yk_xv0 hv2 (br_t rfl (yk_yv1 ha (br_f (by decide) (yk_yv0 hv2 (br_t rfl ⟨rfl, yk_mk hOK⟩)))))
  · exact yk_xv0 hv1 (br_t rfl (yk_yv0 hv1 (br_t rfl ⟨rfl, yk_mk hOK⟩)))
end
section
/-! the calls that look at the paths -/
theorem i_vc_paths {k : Nat} {u : SX} {v : SY} (I : i_Rel k u v) (hk : k + 4 ≤ 2048) : wpX_paths (fun r u' => wpY_paths (fun r' v' => r' = r ∧ i_Rel (k + 4) u' v') v) u := by
  refine yk_el (P := fun u v => wpX_paths (fun r u' => wpY_paths (fun r' v' => r' = r ∧ i_Rel (k + 4) u' v') v) u) ?_ I
  intro s t g re pn cn we wl kc kl ks cc cl cs ad ay dp ke sw ev pa tl le si li hOK
  unfold wpX_paths wpY_paths
  refine yk_find hOK.1 hOK.2.1 hOK.2.2.1 hOK.2.2.2.1 hOK.2.2.2.2 (fun K n re cn we wl kc kl ks cc cl cs ad ay hre hT hR => ?_)
  refine yk_ysearch hOK.1 hOK.2.1 hOK.2.2.1 (fun dp ke sw ev pa tl le si li hRS => ?_)
  obtain ⟨K', n', rfl, hT', hR', _, _⟩ := hRS
  obtain ⟨rfl, hKK⟩ := yk_Top_one hT hT'
  have hRY : yk_RY g K n le si li := fun k hk => by
    rw [hKK k hk]
    exact hR' k hk
  have hOK2 : yk_OK s t g re (nI n) kc kl ks := ⟨hOK.1, hOK.2.1, hOK.2.2.1, hOK.2.2.2.1, Or.inr ⟨hre, K, n, rfl, hT, hR⟩⟩
  have hn := hT.2.2.1
  exact ⟨rfl, yk_mk hOK2⟩
theorem i_vc_length {k : Nat} {u : SX} {v : SY} (I : i_Rel k u v) (hk : k + 4 ≤ 2048) (v1 : Int32) : wpX_length (fun r u' => wpY_length (fun r' v' => r' = r ∧ i_Rel (k + 4) u' v') v v1) u v1 := by
  refine yk_el (P := fun u v => wpX_length (fun r u' => wpY_length (fun r' v' => r' = r ∧ i_Rel (k + 4) u' v') v v1) u v1) ?_ I
  intro s t g re pn cn we wl kc kl ks cc cl cs ad ay dp ke sw ev pa tl le si li hOK
  unfold wpX_length wpY_length
  refine yk_find hOK.1 hOK.2.1 hOK.2.2.1 hOK.2.2.2.1 hOK.2.2.2.2 (fun K n re cn we wl kc kl ks cc cl cs ad ay hre hT hR => ?_)
  have hn0 := hT.2.2.1
  by_cases h0 : v1 < 0
  · refine br_t h0 ?_
    refine yk_ysearch hOK.1 hOK.2.1 hOK.2.2.1 (fun dp ke sw ev pa tl le si li hRS => ?_)
    obtain ⟨K', n', rfl, hT', hR', _, _⟩ := hRS
    obtain ⟨rfl, hKK⟩ := yk_Top_one hT hT'
    have hRY : yk_RY g K n le si li := fun k hk => by
      rw [hKK k hk]
      exact hR' k hk
    have hOK2 : yk_OK s t g re (nI n) kc kl ks := ⟨hOK.1, hOK.2.1, hOK.2.2.1, hOK.2.2.2.1, Or.inr ⟨hre, K, n, rfl, hT, hR⟩⟩
    have hn := hT.2.2.1
    exact br_t h0 ⟨rfl, yk_mk hOK2⟩
  · obtain ⟨j, hj, rfl⟩ := nI_of h0
    refine br_f h0 (pk_lt j n (fun hjn => ⟨pk_in j 12 (by omega), ?_⟩) (fun hjn => ?_) rfl rfl hj (by omega))
    · refine yk_ysearch hOK.1 hOK.2.1 hOK.2.2.1 (fun dp ke sw ev pa tl le si li hRS => ?_)
      obtain ⟨K', n', rfl, hT', hR', _, _⟩ := hRS
      obtain ⟨rfl, hKK⟩ := yk_Top_one hT hT'
      have hRY : yk_RY g K n le si li := fun k hk => by
        rw [hKK k hk]
        exact hR' k hk
      have hOK2 : yk_OK s t g re (nI n) kc kl ks := ⟨hOK.1, hOK.2.1, hOK.2.2.1, hOK.2.2.2.1, Or.inr ⟨hre, K, n, rfl, hT, hR⟩⟩
      have hn := hT.2.2.1
      refine br_f h0 (br_f (fun h => absurd ((nI_leI (by omega) hj).mp h) (by omega)) ⟨pk_in j 13 (by omega), ?_, yk_mk hOK2⟩)
      rw [nI_clamp hj, (hRY j hjn).1, (hR j hjn).2.1]
    · refine yk_ysearch hOK.1 hOK.2.1 hOK.2.2.1 (fun dp ke sw ev pa tl le si li hRS => ?_)
      obtain ⟨K', n', rfl, hT', hR', _, _⟩ := hRS
      obtain ⟨rfl, hKK⟩ := yk_Top_one hT hT'
      have hRY : yk_RY g K n le si li := fun k hk => by
        rw [hKK k hk]
        exact hR' k hk
      have hOK2 : yk_OK s t g re (nI n) kc kl ks := ⟨hOK.1, hOK.2.1, hOK.2.2.1, hOK.2.2.2.1, Or.inr ⟨hre, K, n, rfl, hT, hR⟩⟩
      have hn := hT.2.2.1
      exact br_f h0 (br_t ((nI_leI (by omega) hj).mpr hjn) ⟨rfl, yk_mk hOK2⟩)
theorem i_vc_size {k : Nat} {u : SX} {v : SY} (I : i_Rel k u v) (hk : k + 4 ≤ 2048) (v1 : Int32) : wpX_size (fun r u' => wpY_size (fun r' v' => r' = r ∧ i_Rel (k + 4) u' v') v v1) u v1 := by
  refine yk_el (P := fun u v => wpX_size (fun r u' => wpY_size (fun r' v' => r' = r ∧ i_Rel (k + 4) u' v') v v1) u v1) ?_ I
  intro s t g re pn cn we wl kc kl ks cc cl cs ad ay dp ke sw ev pa tl le si li hOK
  unfold wpX_size wpY_size
  refine yk_find hOK.1 hOK.2.1 hOK.2.2.1 hOK.2.2.2.1 hOK.2.2.2.2 (fun K n re cn we wl kc kl ks cc cl cs ad ay hre hT hR => ?_)
  have hn0 := hT.2.2.1
  by_cases h0 : v1 < 0
  · refine br_t h0 ?_
    refine yk_ysearch hOK.1 hOK.2.1 hOK.2.2.1 (fun dp ke sw ev pa tl le si li hRS => ?_)
    obtain ⟨K', n', rfl, hT', hR', _, _⟩ := hRS
    obtain ⟨rfl, hKK⟩ := yk_Top_one hT hT'
    have hRY : yk_RY g K n le si li := fun k hk => by
      rw [hKK k hk]
      exact hR' k hk
    have hOK2 : yk_OK s t g re (nI n) kc kl ks := ⟨hOK.1, hOK.2.1, hOK.2.2.1, hOK.2.2.2.1, Or.inr ⟨hre, K, n, rfl, hT, hR⟩⟩
    have hn := hT.2.2.1
    exact br_t h0 ⟨rfl, yk_mk hOK2⟩
  · obtain ⟨j, hj, rfl⟩ := nI_of h0
    refine br_f h0 (pk_lt j n (fun hjn => ⟨pk_in j 12 (by omega), ?_⟩) (fun hjn => ?_) rfl rfl hj (by omega))
    · refine yk_ysearch hOK.1 hOK.2.1 hOK.2.2.1 (fun dp ke sw ev pa tl le si li hRS => ?_)
      obtain ⟨K', n', rfl, hT', hR', _, _⟩ := hRS
      obtain ⟨rfl, hKK⟩ := yk_Top_one hT hT'
      have hRY : yk_RY g K n le si li := fun k hk => by
        rw [hKK k hk]
        exact hR' k hk
      have hOK2 : yk_OK s t g re (nI n) kc kl ks := ⟨hOK.1, hOK.2.1, hOK.2.2.1, hOK.2.2.2.1, Or.inr ⟨hre, K, n, rfl, hT, hR⟩⟩
      have hn := hT.2.2.1
      refine br_f h0 (br_f (fun h => absurd ((nI_leI (by omega) hj).mp h) (by omega)) ⟨pk_in j 13 (by omega), ?_, yk_mk hOK2⟩)
      rw [nI_clamp hj, (hRY j hjn).2.1, (hR j hjn).2.2]
    · refine yk_ysearch hOK.1 hOK.2.1 hOK.2.2.1 (fun dp ke sw ev pa tl le si li hRS => ?_)
      obtain ⟨K', n', rfl, hT', hR', _, _⟩ := hRS
      obtain ⟨rfl, hKK⟩ := yk_Top_one hT hT'
      have hRY : yk_RY g K n le si li := fun k hk => by
        rw [hKK k hk]
        exact hR' k hk
      have hOK2 : yk_OK s t g re (nI n) kc kl ks := ⟨hOK.1, hOK.2.1, hOK.2.2.1, hOK.2.2.2.1, Or.inr ⟨hre, K, n, rfl, hT, hR⟩⟩
      have hn := hT.2.2.1
      exact br_f h0 (br_t ((nI_leI (by omega) hj).mpr hjn) ⟨rfl, yk_mk hOK2⟩)
theorem i_vc_vertex {k : Nat} {u : SX} {v : SY} (I : i_Rel k u v) (hk : k + 4 ≤ 2048) (v1 : Int32) (v2 : Int32) : wpX_vertex (fun r u' => wpY_vertex (fun r' v' => r' = r ∧ i_Rel (k + 4) u' v') v v1 v2) u v1 v2 := by
  refine yk_el (P := fun u v => wpX_vertex (fun r u' => wpY_vertex (fun r' v' => r' = r ∧ i_Rel (k + 4) u' v') v v1 v2) u v1 v2) ?_ I
  intro s t g re pn cn we wl kc kl ks cc cl cs ad ay dp ke sw ev pa tl le si li hOK
  unfold wpX_vertex wpY_vertex
  refine yk_find hOK.1 hOK.2.1 hOK.2.2.1 hOK.2.2.2.1 hOK.2.2.2.2 (fun K n re cn we wl kc kl ks cc cl cs ad ay hre hT hR => ?_)
  have hn0 := hT.2.2.1
  by_cases h0 : v1 < 0
  · refine br_t h0 ?_
    refine yk_ysearch hOK.1 hOK.2.1 hOK.2.2.1 (fun dp ke sw ev pa tl le si li hRS => ?_)
    obtain ⟨K', n', rfl, hT', hR', _, _⟩ := hRS
    obtain ⟨rfl, hKK⟩ := yk_Top_one hT hT'
    have hRY : yk_RY g K n le si li := fun k hk => by
      rw [hKK k hk]
      exact hR' k hk
    have hOK2 : yk_OK s t g re (nI n) kc kl ks := ⟨hOK.1, hOK.2.1, hOK.2.2.1, hOK.2.2.2.1, Or.inr ⟨hre, K, n, rfl, hT, hR⟩⟩
    have hn := hT.2.2.1
    exact br_t h0 ⟨rfl, yk_mk hOK2⟩
  · obtain ⟨j, hj, rfl⟩ := nI_of h0
    refine br_f h0 (pk_le n j (fun hjn => ?_) (fun hjn => ?_) rfl rfl (by omega) hj)
    · refine yk_ysearch hOK.1 hOK.2.1 hOK.2.2.1 (fun dp ke sw ev pa tl le si li hRS => ?_)
      obtain ⟨K', n', rfl, hT', hR', _, _⟩ := hRS
      obtain ⟨rfl, hKK⟩ := yk_Top_one hT hT'
      have hRY : yk_RY g K n le si li := fun k hk => by
        rw [hKK k hk]
        exact hR' k hk
      have hOK2 : yk_OK s t g re (nI n) kc kl ks := ⟨hOK.1, hOK.2.1, hOK.2.2.1, hOK.2.2.2.1, Or.inr ⟨hre, K, n, rfl, hT, hR⟩⟩
      have hn := hT.2.2.1
      exact br_f h0 (br_t ((nI_leI (by omega) hj).mpr hjn) ⟨rfl, yk_mk hOK2⟩)
    · have hp := hT.2.1 j hjn
      have hpl := yk_PA_len hp
      have njn : ¬ nI n ≤ nI j := fun h => absurd ((nI_leI (by omega) hj).mp h) (by omega)
      by_cases h1 : v2 < 0
      · refine br_t h1 ?_
        refine yk_ysearch hOK.1 hOK.2.1 hOK.2.2.1 (fun dp ke sw ev pa tl le si li hRS => ?_)
        obtain ⟨K', n', rfl, hT', hR', _, _⟩ := hRS
        obtain ⟨rfl, hKK⟩ := yk_Top_one hT hT'
        have hRY : yk_RY g K n le si li := fun k hk => by
          rw [hKK k hk]
          exact hR' k hk
        have hOK2 : yk_OK s t g re (nI n) kc kl ks := ⟨hOK.1, hOK.2.1, hOK.2.2.1, hOK.2.2.2.1, Or.inr ⟨hre, K, n, rfl, hT, hR⟩⟩
        have hn := hT.2.2.1
        exact br_f h0 (br_f njn (br_t h1 ⟨rfl, yk_mk hOK2⟩))
      · obtain ⟨i, hi, rfl⟩ := nI_of h1
        refine br_f h1 ⟨pk_in j 12 (by omega), pk_lt i (K j).length (fun hil => ⟨pk_in j 12 (by omega), ?_⟩) (fun hil => ?_) rfl (by rw [nI_clamp hj]; exact (hR j hjn).2.2) hi (by omega)⟩
        · refine yk_xvert (q := K j) (i := i) (by rw [nI_clamp hj]; exact (hR j hjn).1) rfl (by omega) (yk_PA_8 hp) ?_
          refine yk_ysearch hOK.1 hOK.2.1 hOK.2.2.1 (fun dp ke sw ev pa tl le si li hRS => ?_)
          obtain ⟨K', n', rfl, hT', hR', _, _⟩ := hRS
          obtain ⟨rfl, hKK⟩ := yk_Top_one hT hT'
          have hRY : yk_RY g K n le si li := fun k hk => by
            rw [hKK k hk]
            exact hR' k hk
          have hOK2 : yk_OK s t g re (nI n) kc kl ks := ⟨hOK.1, hOK.2.1, hOK.2.2.1, hOK.2.2.2.1, Or.inr ⟨hre, K, n, rfl, hT, hR⟩⟩
          have hn := hT.2.2.1
          refine br_f h0 (br_f njn (br_f h1 ⟨pk_in j 13 (by omega), br_f (fun h => ?_) ⟨pk_in (7 * j + i) 91 (by omega) (yk_ix j i), ?_, yk_mk hOK2⟩⟩))
          · rw [nI_clamp hj, (hRY j hjn).2.1] at h
            exact absurd ((nI_leI (by omega) hi).mp h) (by omega)
          · rw [yk_ix, nI_clamp (by omega)]
            exact (hRY j hjn).2.2 i hil
        · refine yk_ysearch hOK.1 hOK.2.1 hOK.2.2.1 (fun dp ke sw ev pa tl le si li hRS => ?_)
          obtain ⟨K', n', rfl, hT', hR', _, _⟩ := hRS
          obtain ⟨rfl, hKK⟩ := yk_Top_one hT hT'
          have hRY : yk_RY g K n le si li := fun k hk => by
            rw [hKK k hk]
            exact hR' k hk
          have hOK2 : yk_OK s t g re (nI n) kc kl ks := ⟨hOK.1, hOK.2.1, hOK.2.2.1, hOK.2.2.2.1, Or.inr ⟨hre, K, n, rfl, hT, hR⟩⟩
          have hn := hT.2.2.1
          refine br_f h0 (br_f njn (br_f h1 ⟨pk_in j 13 (by omega), br_t ?_ ⟨rfl, yk_mk hOK2⟩⟩))
          rw [nI_clamp hj, (hRY j hjn).2.1]
          exact (nI_leI (by omega) hi).mpr hil
theorem i_vc_passing {k : Nat} {u : SX} {v : SY} (I : i_Rel k u v) (hk : k + 4 ≤ 2048) (v1 : Int32) (v2 : Int32) : wpX_passing (fun r u' => wpY_passing (fun r' v' => r' = r ∧ i_Rel (k + 4) u' v') v v1 v2) u v1 v2 := by
  refine yk_el (P := fun u v => wpX_passing (fun r u' => wpY_passing (fun r' v' => r' = r ∧ i_Rel (k + 4) u' v') v v1 v2) u v1 v2) ?_ I
  intro s t g re pn cn we wl kc kl ks cc cl cs ad ay dp ke sw ev pa tl le si li hOK
  unfold wpX_passing wpY_passing
  dsimp only
  rcases yk_vx v1 with ⟨a, ha, rfl⟩ | hv1
  · refine yk_xv1 ha (br_f (by decide) ?_)
    rcases yk_vx v2 with ⟨b, hb, rfl⟩ | hv2
    · refine yk_xv1 hb (br_f (by decide) ?_)
      refine yk_find hOK.1 hOK.2.1 hOK.2.2.1 hOK.2.2.2.1 hOK.2.2.2.2 (fun K n re cn we wl kc kl ks cc cl cs ad ay hre hT hR => ?_)
      have hn0 := hT.2.2.1
      refine ⟨n + 1, yk_xpass27 hn0 hT.2.1 hR ?_ (n + 1) 0 (by omega) (by omega)⟩
      refine yk_yv1 ha (br_f (by decide) (yk_yv1 hb (br_f (by decide) ?_)))
      refine yk_ysearch hOK.1 hOK.2.1 hOK.2.2.1 (fun dp ke sw ev pa tl le si li hRS => ?_)
      obtain ⟨K', n', rfl, hT', hR', _, _⟩ := hRS
      obtain ⟨rfl, hKK⟩ := yk_Top_one hT hT'
      have hRY : yk_RY g K n le si li := fun k hk => by
        rw [hKK k hk]
        exact hR' k hk
      have hOK2 : yk_OK s t g re (nI n) kc kl ks := ⟨hOK.1, hOK.2.1, hOK.2.2.1, hOK.2.2.2.1, Or.inr ⟨hre, K, n, rfl, hT, hR⟩⟩
      have hn := hT.2.2.1
      exact ⟨n + 1, yk_ypass29 hn0 hT.2.1 hRY ⟨rfl, yk_mk hOK2⟩ (n + 1) 0 (by omega) (by omega)⟩
    · exact yk_xv0 hv2 (br_t rfl (yk_yv1 ha (br_f (by decide) (yk_yv0 hv2 (br_t rfl ⟨rfl, yk_mk hOK⟩)))))
  · exact yk_xv0 hv1 (br_t rfl (yk_yv0 hv1 (br_t rfl ⟨rfl, yk_mk hOK⟩)))
end
section
/-! the calls that search anew -/
theorem i_vc_avoiding {k : Nat} {u : SX} {v : SY} (I : i_Rel k u v) (hk : k + 4 ≤ 2048) (v1 : Int32) (v2 : Int32) : wpX_avoiding (fun r u' => wpY_avoiding (fun r' v' => r' = r ∧ i_Rel (k + 4) u' v') v v1 v2) u v1 v2 := by
  refine yk_el (P := fun u v => wpX_avoiding (fun r u' => wpY_avoiding (fun r' v' => r' = r ∧ i_Rel (k + 4) u' v') v v1 v2) u v1 v2) ?_ I
  intro s t g re pn cn we wl kc kl ks cc cl cs ad ay dp ke sw ev pa tl le si li hOK
  rcases yk_vx v1 with ⟨a, ha, rfl⟩ | hv1
  · rcases yk_vx v2 with ⟨b, hb, rfl⟩ | hv2
    · refine yk_xavoid hOK.1 hOK.2.1 hOK.2.2.1 hOK.2.2.2.1 ha hb (fun hall we wl ad ay => ?_) (fun L hL hLn hmin we wl ad ay => ?_)
      · unfold wpY_avoiding
        refine yk_yv1 ha (br_f (by decide) (yk_yv1 hb (br_f (by decide) ?_)))
        refine yk_ysearch hOK.1 hOK.2.1 hOK.2.2.1 (fun dp ke sw ev pa tl le si li hRS => ?_)
        obtain ⟨K', n', rfl, hT', hR', hW, _⟩ := hRS
        rcases hW with ⟨e, _⟩ | ⟨p, hp, hpn, _, _⟩
        · exact ⟨e, yk_mk hOK⟩
        · exact absurd (hall p hp) hpn
      · unfold wpY_avoiding
        refine yk_yv1 ha (br_f (by decide) (yk_yv1 hb (br_f (by decide) ?_)))
        refine yk_ysearch hOK.1 hOK.2.1 hOK.2.2.1 (fun dp ke sw ev pa tl le si li hRS => ?_)
        obtain ⟨K', n', rfl, hT', hR', hW, _⟩ := hRS
        rcases hW with ⟨_, hno⟩ | ⟨p, hp, hpn, e, hpm⟩
        · exact absurd (hno L hL) hLn
        · have h1 := hmin p hp hpn
          have h2 := hpm L hL hLn
          have h3 : yk_ln g p = yk_ln g L := by omega
          exact ⟨by rw [e, h3], yk_mk hOK⟩
    · unfold wpX_avoiding wpY_avoiding
      exact yk_xv1 ha (br_f (by decide) (yk_xv0 hv2 (br_t rfl (yk_yv1 ha (br_f (by decide) (yk_yv0 hv2 (br_t rfl ⟨rfl, yk_mk hOK⟩)))))))
  · unfold wpX_avoiding wpY_avoiding
    exact yk_xv0 hv1 (br_t rfl (yk_yv0 hv1 (br_t rfl ⟨rfl, yk_mk hOK⟩)))
theorem i_vc_unavoidable {k : Nat} {u : SX} {v : SY} (I : i_Rel k u v) (hk : k + 4 ≤ 2048) : wpX_unavoidable (fun r u' => wpY_unavoidable (fun r' v' => r' = r ∧ i_Rel (k + 4) u' v') v) u := by
  refine yk_el (P := fun u v => wpX_unavoidable (fun r u' => wpY_unavoidable (fun r' v' => r' = r ∧ i_Rel (k + 4) u' v') v) u) ?_ I
  intro s t g re pn cn we wl kc kl ks cc cl cs ad ay dp ke sw ev pa tl le si li hOK
  refine yk_xun hOK.1 hOK.2.1 hOK.2.2.1 hOK.2.2.2.1 (fun m hm hb we wl ad ay => ?_)
  unfold wpY_unavoidable
  refine yk_ysearch hOK.1 hOK.2.1 hOK.2.2.1 (fun dp ke sw ev pa tl le si li hRS => ?_)
  obtain ⟨K', n', rfl, hT', hR', _, e, he, rfl, hE⟩ := hRS
  have h3 : e = m := yk_bits_eq he hm (fun x hx => (hE x hx).trans (hb x hx).symm)
  exact ⟨by rw [h3], yk_mk hOK⟩
end

section
/-! pure rows to paste: stores, nI and lN arithmetic, masks, shifts, narrowing, branches by naturals (pk_le, pk_lt, pk_eq), loops (lp1 .. lp16: the measure of the state; rp1 ..: recursion), negatives. Take what you need -/
theorem pk_us {f : Nat → Int32} {k : Nat} {x : Int32} : upd f k x k = x := if_pos rfl
theorem pk_un {f : Nat → Int32} {k j : Nat} {x : Int32} (h : j ≠ k) : upd f k x j = f j := if_neg h
theorem pk_uLs {f : Nat → Int64} {k : Nat} {x : Int64} : vp_updL f k x k = x := if_pos rfl
theorem pk_uLn {f : Nat → Int64} {k j : Nat} {x : Int64} (h : j ≠ k) : vp_updL f k x j = f j := if_neg h
theorem pk_sub {a b : Nat} (h : b ≤ a) : nI a - nI b = nI (a - b) := by
  obtain ⟨c, rfl⟩ : ∃ c, a = c + b := ⟨a - b, by omega⟩
  rw [← nI_add, Int32.add_sub_cancel, Nat.add_sub_cancel]
theorem pk_m1 (n : Nat) : nI (n + 1) + (-1) = nI n := by
  rw [← nI_1, Int32.add_assoc, show (1 : Int32) + (-1) = 0 from rfl, Int32.add_zero]
theorem pk_mul (a b : Nat) : nI a * nI b = nI (a * b) := (Int32.ofNat_mul a b).symm
theorem pk_div {a d : Nat} (ha : a < 2 ^ 31) (h0 : 0 < d) (hd : d < 2 ^ 31) : nI a / nI d = nI (a / d) := by
  apply Int32.toInt_inj.mp
  rw [lg_idiv_nonneg (by rw [nI_toInt ha]; omega) (by rw [nI_toInt hd]; omega), nI_toInt ha, nI_toInt hd, nI_toInt (Nat.lt_of_le_of_lt (Nat.div_le_self a d) ha)]
  first | rfl | exact (Int.natCast_ediv _ _).symm
theorem pk_rem {a d : Nat} (ha : a < 2 ^ 31) (h0 : 0 < d) (hd : d < 2 ^ 31) : nI a - nI a / nI d * nI d = nI (a % d) := by
  rw [pk_div ha h0 hd, pk_mul, pk_sub (Nat.div_mul_le_self a d)]
  exact congrArg nI (by have := Nat.div_add_mod' a d; omega)
theorem pk_sub_toInt {a b : Nat} (ha : a < 2 ^ 30) (hb : b < 2 ^ 30) : (nI a - nI b).toInt = (a : Int) - b := by
  rw [Int32.toInt_sub, nI_toInt (by omega), nI_toInt (by omega)]
  exact Int.bmod_eq_of_le (by omega) (by omega)
theorem pk_sneg {a b : Nat} (hb : b < 2 ^ 30) (h : a < b) : nI a - nI b < 0 := by
  rw [Int32.lt_iff_toInt_lt, pk_sub_toInt (by omega) hb, show (0 : Int32).toInt = 0 from by decide]
  omega
theorem pk_ix (x : Int32) {n : Nat} (hn : n < 2 ^ 31) : x < 0 ∨ nI n ≤ x ∨ ∃ j : Nat, j < n ∧ x = nI j := by
  by_cases h : x < 0
  · exact Or.inl h
  · obtain ⟨j, hj, rfl⟩ := nI_of h
    by_cases h2 : j < n
    · exact Or.inr (Or.inr ⟨j, h2, rfl⟩)
    · exact Or.inr (Or.inl (nI_le (by omega) hj))
theorem pk_le {x y : Int32} {A B : Prop} (a b : Nat) (f : a ≤ b → A) (g : b < a → B) (hx : x = nI a := by rfl) (hy : y = nI b := by rfl) (ha : a < 2 ^ 31 := by omega) (hb : b < 2 ^ 31 := by omega) : (x ≤ y → A) ∧ (¬ x ≤ y → B) := by
  subst hx hy
  rw [nI_leI ha hb]
  exact ⟨f, fun z => g (by omega)⟩
theorem pk_lt {x y : Int32} {A B : Prop} (a b : Nat) (f : a < b → A) (g : b ≤ a → B) (hx : x = nI a := by rfl) (hy : y = nI b := by rfl) (ha : a < 2 ^ 31 := by omega) (hb : b < 2 ^ 31 := by omega) : (x < y → A) ∧ (¬ x < y → B) := by
  subst hx hy
  rw [nI_ltI ha hb]
  exact ⟨f, fun z => g (by omega)⟩
theorem pk_eq {x y : Int32} {A B : Prop} (a b : Nat) (f : a = b → A) (g : a ≠ b → B) (hx : x = nI a := by rfl) (hy : y = nI b := by rfl) (ha : a < 2 ^ 31 := by omega) (hb : b < 2 ^ 31 := by omega) : (x = y → A) ∧ (¬ x = y → B) := by
  subst hx hy
  rw [nI_eq ha hb]
  exact ⟨f, g⟩
theorem pk_in {x : Int32} (n N : Nat) (h : n < N) (hx : x = nI n := by rfl) (hN : N < 2 ^ 31 := by omega) : vp_in x N := by
  subst hx
  exact vp_in_nI h hN
theorem pk_cl {x : Int32} (n : Nat) (hx : x = nI n := by rfl) (h : n < 2 ^ 31 := by omega) : x.toNatClampNeg = n := by
  subst hx
  exact nI_clamp h
theorem pk_tn {n : Nat} (h : n < 2 ^ 32) : (nI n).toBitVec.toNat = n := Nat.mod_eq_of_lt h
theorem pk_and (x : Int32) {m : Int32} (k : Nat) (hm : m.toBitVec.toNat = 2 ^ k - 1) : x &&& m = nI (x.toBitVec.toNat % 2 ^ k) := by
  apply Int32.toBitVec_inj.mp
  apply BitVec.eq_of_toNat_eq
  rw [Int32.toBitVec_and, BitVec.toNat_and, hm, Nat.and_two_pow_sub_one_eq_mod]
  show _ = (BitVec.ofNat 32 _).toNat
  rw [BitVec.toNat_ofNat]
  exact (Nat.mod_eq_of_lt (Nat.lt_of_le_of_lt (Nat.mod_le _ _) x.toBitVec.isLt)).symm
theorem pk_andN {n : Nat} (h : n < 2 ^ 32) {m : Int32} (k : Nat) (hm : m.toBitVec.toNat = 2 ^ k - 1) : nI n &&& m = nI (n % 2 ^ k) := by
  rw [pk_and _ k hm, pk_tn h]
theorem pk_andE (x : Int32) {m : Int32} (k : Nat) (hm : m.toBitVec.toNat = 2 ^ k - 1) : ∃ j : Nat, j < 2 ^ k ∧ x &&& m = nI j := ⟨_, Nat.mod_lt _ (Nat.two_pow_pos k), pk_and x k hm⟩
theorem pk_andIn (x : Int32) {m : Int32} (k : Nat) (hm : m.toBitVec.toNat = 2 ^ k - 1) (hk : k ≤ 30) : vp_in (x &&& m) (2 ^ k) := by
  obtain ⟨j, hj, e⟩ := pk_andE x k hm
  rw [e]
  exact vp_in_nI hj (Nat.lt_of_le_of_lt (Nat.pow_le_pow_right (by decide) hk) (by decide))
theorem pk_shl (a s : Int32) (k : Nat) (hs : (s.toBitVec.smod 32).toNat = k) : (a <<< s).toBitVec.toNat = a.toBitVec.toNat * 2 ^ k % 2 ^ 32 := by
  show (a.toBitVec <<< (s.toBitVec.smod 32).toNat).toNat = _
  rw [hs, BitVec.toNat_shiftLeft, Nat.shiftLeft_eq]
theorem pk_shlN {n : Nat} (s : Int32) (k : Nat) (hs : (s.toBitVec.smod 32).toNat = k) (h : n * 2 ^ k < 2 ^ 32) : nI n <<< s = nI (n * 2 ^ k) := by
  apply Int32.toBitVec_inj.mp
  apply BitVec.eq_of_toNat_eq
  have hn : n < 2 ^ 32 := Nat.lt_of_le_of_lt (Nat.le_mul_of_pos_right n (Nat.two_pow_pos k)) h
  rw [pk_shl _ _ k hs, pk_tn hn, pk_tn h, Nat.mod_eq_of_lt h]
theorem pk_shr (a s : Int32) (k : Nat) (hs : (s.toBitVec.smod 32).toNat = k) : (a >>> s).toInt = a.toInt >>> k := by
  show (a.toBitVec.sshiftRight (s.toBitVec.smod 32).toNat).toInt = _
  rw [hs, BitVec.toInt_sshiftRight]
  rfl
theorem pk_shrN {n : Nat} (h : n < 2 ^ 31) (s : Int32) (k : Nat) (hs : (s.toBitVec.smod 32).toNat = k) : nI n >>> s = nI (n / 2 ^ k) := by
  apply Int32.toInt_inj.mp
  have h2 : n / 2 ^ k ≤ n := Nat.div_le_self _ _
  rw [pk_shr _ _ k hs, nI_toInt h, nI_toInt (by omega), Int.shiftRight_eq_div_pow]
  rfl
theorem pk_ushr (x s : Int32) (k : Nat) (hs : ((s.toUInt32 &&& Int32.toUInt32 31).toBitVec % 32).toNat = k) : (x.toUInt32 >>> (s.toUInt32 &&& Int32.toUInt32 31)).toInt32.toBitVec.toNat = x.toBitVec.toNat / 2 ^ k := by
  have e : (x.toUInt32 >>> (s.toUInt32 &&& Int32.toUInt32 31)).toInt32.toBitVec = x.toBitVec >>> k := by
    rw [← hs]
    exact UInt32.toBitVec_shiftRight _ _
  rw [e, BitVec.toNat_ushiftRight, Nat.shiftRight_eq_div_pow]
theorem pk_ushrN {n : Nat} (hn : n < 2 ^ 32) (s : Int32) (k : Nat) (hs : ((s.toUInt32 &&& Int32.toUInt32 31).toBitVec % 32).toNat = k) : ((nI n).toUInt32 >>> (s.toUInt32 &&& Int32.toUInt32 31)).toInt32 = nI (n / 2 ^ k) := by
  apply Int32.toBitVec_inj.mp
  apply BitVec.eq_of_toNat_eq
  rw [pk_ushr _ s k hs, pk_tn hn, pk_tn (Nat.lt_of_le_of_lt (Nat.div_le_self _ _) hn)]
theorem pk_nb (z : Int32) : narrow .byte (.int z.toInt8.toInt32) = .int z.toInt8.toInt32 := congrArg Value.int (by simp)
theorem pk_ns (z : Int32) : narrow .short (.int z.toInt16.toInt32) = .int z.toInt16.toInt32 := congrArg Value.int (by simp)
theorem pk_fb (r : Int32) : fits .byte (.int r.toInt8.toInt32) = true := by
  have ⟨a, b⟩ := lg_i2b_range r
  have h1 : (-128 : Int32).toInt = -128 := by decide
  have h2 : (127 : Int32).toInt = 127 := by decide
  simp only [fits, Bool.and_eq_true, decide_eq_true_eq, Int32.le_iff_toInt_le, h1, h2]
  omega
theorem pk_fs (r : Int32) : fits .short (.int r.toInt16.toInt32) = true := by
  have ⟨a, b⟩ := lg_i2s_range r
  have h1 : (-32768 : Int32).toInt = -32768 := by decide
  have h2 : (32767 : Int32).toInt = 32767 := by decide
  simp only [fits, Bool.and_eq_true, decide_eq_true_eq, Int32.le_iff_toInt_le, h1, h2]
  omega
theorem pk_charN {q : Nat} (hq : q < 65536) : narrow .char (.int (nI q)) = .int (nI q) ∧ fits .char (.int (nI q)) = true := by
  constructor
  · have e : (nI q).toUInt32.toUInt16.toUInt32.toInt32 = nI q := by
      apply Int32.toBitVec_inj.mp
      apply BitVec.eq_of_toNat_eq
      show (nI q).toUInt32.toUInt16.toUInt32.toNat = q % 2 ^ 32
      rw [UInt16.toNat_toUInt32, UInt32.toNat_toUInt16, show (nI q).toUInt32.toNat = q % 2 ^ 32 from rfl]
      omega
    exact congrArg Value.int e
  · have a : (0 : Int32) ≤ nI q := nI_pos' (by omega)
    have b : nI q ≤ 65535 := nI_le (b := 65535) (by omega) (by decide)
    show (decide ((0 : Int32) ≤ nI q) && decide (nI q ≤ 65535)) = true
    rw [decide_eq_true a, decide_eq_true b]
    rfl
theorem pk_char (x : Int32) : (x.toUInt32 % 65536).toInt32 = nI (x.toBitVec.toNat % 65536) := by
  apply Int32.toBitVec_inj.mp
  apply BitVec.eq_of_toNat_eq
  rw [pk_tn (by omega)]
  show (x.toUInt32 % 65536).toNat = _
  rw [UInt32.toNat_mod]
  rfl
theorem pk_nc (x : Int32) : narrow .char (.int (x.toUInt32 % 65536).toInt32) = .int (x.toUInt32 % 65536).toInt32 := by
  rw [pk_char]
  exact (pk_charN (Nat.mod_lt _ (by decide))).1
theorem pk_fc (x : Int32) : fits .char (.int (x.toUInt32 % 65536).toInt32) = true := by
  rw [pk_char]
  exact (pk_charN (Nat.mod_lt _ (by decide))).2
theorem pk_vb (z : Int32) : vp_nar .byte z.toInt8.toInt32 = z.toInt8.toInt32 := by rw [vp_nar_byte]; simp
theorem pk_vs (z : Int32) : vp_nar .short z.toInt16.toInt32 = z.toInt16.toInt32 := by rw [vp_nar_short]; simp
theorem pk_vc (z : Int32) : vp_nar .char (z.toUInt32 % 65536).toInt32 = (z.toUInt32 % 65536).toInt32 := Value.int.inj (pk_nc z)
theorem pk_lT {n : Nat} (h : n < 2 ^ 63) : (lN n).toInt = (n : Int) := lg_ofNat_toInt h
theorem pk_lLT {a b : Nat} (ha : a < 2 ^ 63) (hb : b < 2 ^ 63) : lN a < lN b ↔ a < b := by
  rw [Int64.lt_iff_toInt_lt, pk_lT ha, pk_lT hb]; omega
theorem pk_lLE {a b : Nat} (ha : a < 2 ^ 63) (hb : b < 2 ^ 63) : lN a ≤ lN b ↔ a ≤ b := by
  rw [Int64.le_iff_toInt_le, pk_lT ha, pk_lT hb]; omega
theorem pk_lEQ {a b : Nat} (ha : a < 2 ^ 63) (hb : b < 2 ^ 63) : lN a = lN b ↔ a = b := by
  rw [← Int64.toInt_inj, pk_lT ha, pk_lT hb]; omega
theorem pk_lOf {x : Int64} (h : ¬ x < 0) : ∃ k : Nat, k < 2 ^ 63 ∧ x = lN k := by
  rw [Int64.lt_iff_toInt_lt] at h
  have h0 : (0 : Int64).toInt = 0 := by decide
  have hx := Int64.toInt_lt x
  refine ⟨x.toInt.toNat, by omega, Int64.toInt_inj.mp ?_⟩
  rw [pk_lT (by omega)]
  omega
theorem pk_lDiv {a b : Nat} (ha : a < 2 ^ 63) (h0 : 0 < b) (hb : b < 2 ^ 63) : lN a / lN b = lN (a / b) := by
  apply Int64.toInt_inj.mp
  rw [lg_ldiv_nonneg (by rw [pk_lT ha]; omega) (by rw [pk_lT hb]; omega), pk_lT ha, pk_lT hb, pk_lT (Nat.lt_of_le_of_lt (Nat.div_le_self a b) ha)]
  rfl
theorem pk_lRem {a b : Nat} (ha : a < 2 ^ 63) (h0 : 0 < b) (hb : b < 2 ^ 63) : lN a - lN a / lN b * lN b = lN (a % b) := by
  rw [pk_lDiv ha h0 hb, lN_mul, lN_sub (Nat.div_mul_le_self a b)]
  exact congrArg lN (by have := Nat.div_add_mod' a b; omega)
theorem pk_loop {σ : Type} (W : Nat → Nat → σ → Prop) (I : Nat → σ → Prop) (e i0 : Nat) (s : σ) (hi : i0 ≤ e) (h0 : I i0 s) (hx : ∀ n s, I e s → W (n + 1) e s)
    (hs : ∀ n i s, i < e → I i s → (∀ s', I (i + 1) s' → W n (i + 1) s') → W (n + 1) i s) : ∃ n, W n i0 s :=
  ⟨e + 1, loop_i W I e hx hs (e + 1) i0 s hi (by omega) h0⟩
theorem pk_loopD {σ : Type} (W : Nat → Nat → σ → Prop) (I : Nat → σ → Prop) (hx : ∀ n s, I 0 s → W (n + 1) 0 s)
    (hs : ∀ n i s, I (i + 1) s → (∀ s', I i s' → W n i s') → W (n + 1) (i + 1) s) : ∀ (e : Nat) (s : σ), I e s → W (e + 1) e s := by
  intro e
  induction e with
  | zero => exact fun s h => hx 0 s h
  | succ e ih => exact fun s h => hs (e + 1) e s h (fun s' h' => ih s' h')
theorem lp1 {A1 : Type} (W : Nat → A1 → Prop) (I : A1 → Prop) (μ : A1 → Nat) (hs : ∀ (n : Nat) (a1 : A1), I a1 → (∀ (b1 : A1), I b1 → μ b1 < μ a1 → W n b1) → W (n + 1) a1) (a1 : A1) (h : I a1) : ∃ n, W n a1 :=
  loop_m (σ := A1) (fun n s => W n s) (fun s => I s) (fun s => μ s) (fun n s hI hk => hs n s hI (fun b1 h9 hm => hk b1 h9 hm)) a1 h
theorem lp2 {A1 A2 : Type} (W : Nat → A1 → A2 → Prop) (I : A1 → A2 → Prop) (μ : A1 → A2 → Nat) (hs : ∀ (n : Nat) (a1 : A1) (a2 : A2), I a1 a2 → (∀ (b1 : A1) (b2 : A2), I b1 b2 → μ b1 b2 < μ a1 a2 → W n b1 b2) → W (n + 1) a1 a2) (a1 : A1) (a2 : A2) (h : I a1 a2) : ∃ n, W n a1 a2 :=
  loop_m (σ := A1 × A2) (fun n s => W n s.1 s.2) (fun s => I s.1 s.2) (fun s => μ s.1 s.2) (fun n s hI hk => hs n s.1 s.2 hI (fun b1 b2 h9 hm => hk (b1, b2) h9 hm)) (a1, a2) h
theorem lp3 {A1 A2 A3 : Type} (W : Nat → A1 → A2 → A3 → Prop) (I : A1 → A2 → A3 → Prop) (μ : A1 → A2 → A3 → Nat) (hs : ∀ (n : Nat) (a1 : A1) (a2 : A2) (a3 : A3), I a1 a2 a3 → (∀ (b1 : A1) (b2 : A2) (b3 : A3), I b1 b2 b3 → μ b1 b2 b3 < μ a1 a2 a3 → W n b1 b2 b3) → W (n + 1) a1 a2 a3) (a1 : A1) (a2 : A2) (a3 : A3) (h : I a1 a2 a3) : ∃ n, W n a1 a2 a3 :=
  loop_m (σ := A1 × A2 × A3) (fun n s => W n s.1 s.2.1 s.2.2) (fun s => I s.1 s.2.1 s.2.2) (fun s => μ s.1 s.2.1 s.2.2) (fun n s hI hk => hs n s.1 s.2.1 s.2.2 hI (fun b1 b2 b3 h9 hm => hk (b1, b2, b3) h9 hm)) (a1, a2, a3) h
theorem lp4 {A1 A2 A3 A4 : Type} (W : Nat → A1 → A2 → A3 → A4 → Prop) (I : A1 → A2 → A3 → A4 → Prop) (μ : A1 → A2 → A3 → A4 → Nat) (hs : ∀ (n : Nat) (a1 : A1) (a2 : A2) (a3 : A3) (a4 : A4), I a1 a2 a3 a4 → (∀ (b1 : A1) (b2 : A2) (b3 : A3) (b4 : A4), I b1 b2 b3 b4 → μ b1 b2 b3 b4 < μ a1 a2 a3 a4 → W n b1 b2 b3 b4) → W (n + 1) a1 a2 a3 a4) (a1 : A1) (a2 : A2) (a3 : A3) (a4 : A4) (h : I a1 a2 a3 a4) : ∃ n, W n a1 a2 a3 a4 :=
  loop_m (σ := A1 × A2 × A3 × A4) (fun n s => W n s.1 s.2.1 s.2.2.1 s.2.2.2) (fun s => I s.1 s.2.1 s.2.2.1 s.2.2.2) (fun s => μ s.1 s.2.1 s.2.2.1 s.2.2.2) (fun n s hI hk => hs n s.1 s.2.1 s.2.2.1 s.2.2.2 hI (fun b1 b2 b3 b4 h9 hm => hk (b1, b2, b3, b4) h9 hm)) (a1, a2, a3, a4) h
theorem lp5 {A1 A2 A3 A4 A5 : Type} (W : Nat → A1 → A2 → A3 → A4 → A5 → Prop) (I : A1 → A2 → A3 → A4 → A5 → Prop) (μ : A1 → A2 → A3 → A4 → A5 → Nat) (hs : ∀ (n : Nat) (a1 : A1) (a2 : A2) (a3 : A3) (a4 : A4) (a5 : A5), I a1 a2 a3 a4 a5 → (∀ (b1 : A1) (b2 : A2) (b3 : A3) (b4 : A4) (b5 : A5), I b1 b2 b3 b4 b5 → μ b1 b2 b3 b4 b5 < μ a1 a2 a3 a4 a5 → W n b1 b2 b3 b4 b5) → W (n + 1) a1 a2 a3 a4 a5) (a1 : A1) (a2 : A2) (a3 : A3) (a4 : A4) (a5 : A5) (h : I a1 a2 a3 a4 a5) : ∃ n, W n a1 a2 a3 a4 a5 :=
  loop_m (σ := A1 × A2 × A3 × A4 × A5) (fun n s => W n s.1 s.2.1 s.2.2.1 s.2.2.2.1 s.2.2.2.2) (fun s => I s.1 s.2.1 s.2.2.1 s.2.2.2.1 s.2.2.2.2) (fun s => μ s.1 s.2.1 s.2.2.1 s.2.2.2.1 s.2.2.2.2) (fun n s hI hk => hs n s.1 s.2.1 s.2.2.1 s.2.2.2.1 s.2.2.2.2 hI (fun b1 b2 b3 b4 b5 h9 hm => hk (b1, b2, b3, b4, b5) h9 hm)) (a1, a2, a3, a4, a5) h
theorem lp6 {A1 A2 A3 A4 A5 A6 : Type} (W : Nat → A1 → A2 → A3 → A4 → A5 → A6 → Prop) (I : A1 → A2 → A3 → A4 → A5 → A6 → Prop) (μ : A1 → A2 → A3 → A4 → A5 → A6 → Nat) (hs : ∀ (n : Nat) (a1 : A1) (a2 : A2) (a3 : A3) (a4 : A4) (a5 : A5) (a6 : A6), I a1 a2 a3 a4 a5 a6 → (∀ (b1 : A1) (b2 : A2) (b3 : A3) (b4 : A4) (b5 : A5) (b6 : A6), I b1 b2 b3 b4 b5 b6 → μ b1 b2 b3 b4 b5 b6 < μ a1 a2 a3 a4 a5 a6 → W n b1 b2 b3 b4 b5 b6) → W (n + 1) a1 a2 a3 a4 a5 a6) (a1 : A1) (a2 : A2) (a3 : A3) (a4 : A4) (a5 : A5) (a6 : A6) (h : I a1 a2 a3 a4 a5 a6) : ∃ n, W n a1 a2 a3 a4 a5 a6 :=
  loop_m (σ := A1 × A2 × A3 × A4 × A5 × A6) (fun n s => W n s.1 s.2.1 s.2.2.1 s.2.2.2.1 s.2.2.2.2.1 s.2.2.2.2.2) (fun s => I s.1 s.2.1 s.2.2.1 s.2.2.2.1 s.2.2.2.2.1 s.2.2.2.2.2) (fun s => μ s.1 s.2.1 s.2.2.1 s.2.2.2.1 s.2.2.2.2.1 s.2.2.2.2.2) (fun n s hI hk => hs n s.1 s.2.1 s.2.2.1 s.2.2.2.1 s.2.2.2.2.1 s.2.2.2.2.2 hI (fun b1 b2 b3 b4 b5 b6 h9 hm => hk (b1, b2, b3, b4, b5, b6) h9 hm)) (a1, a2, a3, a4, a5, a6) h
theorem lp7 {A1 A2 A3 A4 A5 A6 A7 : Type} (W : Nat → A1 → A2 → A3 → A4 → A5 → A6 → A7 → Prop) (I : A1 → A2 → A3 → A4 → A5 → A6 → A7 → Prop) (μ : A1 → A2 → A3 → A4 → A5 → A6 → A7 → Nat) (hs : ∀ (n : Nat) (a1 : A1) (a2 : A2) (a3 : A3) (a4 : A4) (a5 : A5) (a6 : A6) (a7 : A7), I a1 a2 a3 a4 a5 a6 a7 → (∀ (b1 : A1) (b2 : A2) (b3 : A3) (b4 : A4) (b5 : A5) (b6 : A6) (b7 : A7), I b1 b2 b3 b4 b5 b6 b7 → μ b1 b2 b3 b4 b5 b6 b7 < μ a1 a2 a3 a4 a5 a6 a7 → W n b1 b2 b3 b4 b5 b6 b7) → W (n + 1) a1 a2 a3 a4 a5 a6 a7) (a1 : A1) (a2 : A2) (a3 : A3) (a4 : A4) (a5 : A5) (a6 : A6) (a7 : A7) (h : I a1 a2 a3 a4 a5 a6 a7) : ∃ n, W n a1 a2 a3 a4 a5 a6 a7 :=
  loop_m (σ := A1 × A2 × A3 × A4 × A5 × A6 × A7) (fun n s => W n s.1 s.2.1 s.2.2.1 s.2.2.2.1 s.2.2.2.2.1 s.2.2.2.2.2.1 s.2.2.2.2.2.2) (fun s => I s.1 s.2.1 s.2.2.1 s.2.2.2.1 s.2.2.2.2.1 s.2.2.2.2.2.1 s.2.2.2.2.2.2) (fun s => μ s.1 s.2.1 s.2.2.1 s.2.2.2.1 s.2.2.2.2.1 s.2.2.2.2.2.1 s.2.2.2.2.2.2) (fun n s hI hk => hs n s.1 s.2.1 s.2.2.1 s.2.2.2.1 s.2.2.2.2.1 s.2.2.2.2.2.1 s.2.2.2.2.2.2 hI (fun b1 b2 b3 b4 b5 b6 b7 h9 hm => hk (b1, b2, b3, b4, b5, b6, b7) h9 hm)) (a1, a2, a3, a4, a5, a6, a7) h
theorem lp8 {A1 A2 A3 A4 A5 A6 A7 A8 : Type} (W : Nat → A1 → A2 → A3 → A4 → A5 → A6 → A7 → A8 → Prop) (I : A1 → A2 → A3 → A4 → A5 → A6 → A7 → A8 → Prop) (μ : A1 → A2 → A3 → A4 → A5 → A6 → A7 → A8 → Nat) (hs : ∀ (n : Nat) (a1 : A1) (a2 : A2) (a3 : A3) (a4 : A4) (a5 : A5) (a6 : A6) (a7 : A7) (a8 : A8), I a1 a2 a3 a4 a5 a6 a7 a8 → (∀ (b1 : A1) (b2 : A2) (b3 : A3) (b4 : A4) (b5 : A5) (b6 : A6) (b7 : A7) (b8 : A8), I b1 b2 b3 b4 b5 b6 b7 b8 → μ b1 b2 b3 b4 b5 b6 b7 b8 < μ a1 a2 a3 a4 a5 a6 a7 a8 → W n b1 b2 b3 b4 b5 b6 b7 b8) → W (n + 1) a1 a2 a3 a4 a5 a6 a7 a8) (a1 : A1) (a2 : A2) (a3 : A3) (a4 : A4) (a5 : A5) (a6 : A6) (a7 : A7) (a8 : A8) (h : I a1 a2 a3 a4 a5 a6 a7 a8) : ∃ n, W n a1 a2 a3 a4 a5 a6 a7 a8 :=
  loop_m (σ := A1 × A2 × A3 × A4 × A5 × A6 × A7 × A8) (fun n s => W n s.1 s.2.1 s.2.2.1 s.2.2.2.1 s.2.2.2.2.1 s.2.2.2.2.2.1 s.2.2.2.2.2.2.1 s.2.2.2.2.2.2.2) (fun s => I s.1 s.2.1 s.2.2.1 s.2.2.2.1 s.2.2.2.2.1 s.2.2.2.2.2.1 s.2.2.2.2.2.2.1 s.2.2.2.2.2.2.2) (fun s => μ s.1 s.2.1 s.2.2.1 s.2.2.2.1 s.2.2.2.2.1 s.2.2.2.2.2.1 s.2.2.2.2.2.2.1 s.2.2.2.2.2.2.2) (fun n s hI hk => hs n s.1 s.2.1 s.2.2.1 s.2.2.2.1 s.2.2.2.2.1 s.2.2.2.2.2.1 s.2.2.2.2.2.2.1 s.2.2.2.2.2.2.2 hI (fun b1 b2 b3 b4 b5 b6 b7 b8 h9 hm => hk (b1, b2, b3, b4, b5, b6, b7, b8) h9 hm)) (a1, a2, a3, a4, a5, a6, a7, a8) h
theorem lp9 {A1 A2 A3 A4 A5 A6 A7 A8 A9 : Type} (W : Nat → A1 → A2 → A3 → A4 → A5 → A6 → A7 → A8 → A9 → Prop) (I : A1 → A2 → A3 → A4 → A5 → A6 → A7 → A8 → A9 → Prop) (μ : A1 → A2 → A3 → A4 → A5 → A6 → A7 → A8 → A9 → Nat) (hs : ∀ (n : Nat) (a1 : A1) (a2 : A2) (a3 : A3) (a4 : A4) (a5 : A5) (a6 : A6) (a7 : A7) (a8 : A8) (a9 : A9), I a1 a2 a3 a4 a5 a6 a7 a8 a9 → (∀ (b1 : A1) (b2 : A2) (b3 : A3) (b4 : A4) (b5 : A5) (b6 : A6) (b7 : A7) (b8 : A8) (b9 : A9), I b1 b2 b3 b4 b5 b6 b7 b8 b9 → μ b1 b2 b3 b4 b5 b6 b7 b8 b9 < μ a1 a2 a3 a4 a5 a6 a7 a8 a9 → W n b1 b2 b3 b4 b5 b6 b7 b8 b9) → W (n + 1) a1 a2 a3 a4 a5 a6 a7 a8 a9) (a1 : A1) (a2 : A2) (a3 : A3) (a4 : A4) (a5 : A5) (a6 : A6) (a7 : A7) (a8 : A8) (a9 : A9) (h : I a1 a2 a3 a4 a5 a6 a7 a8 a9) : ∃ n, W n a1 a2 a3 a4 a5 a6 a7 a8 a9 :=
  loop_m (σ := A1 × A2 × A3 × A4 × A5 × A6 × A7 × A8 × A9) (fun n s => W n s.1 s.2.1 s.2.2.1 s.2.2.2.1 s.2.2.2.2.1 s.2.2.2.2.2.1 s.2.2.2.2.2.2.1 s.2.2.2.2.2.2.2.1 s.2.2.2.2.2.2.2.2) (fun s => I s.1 s.2.1 s.2.2.1 s.2.2.2.1 s.2.2.2.2.1 s.2.2.2.2.2.1 s.2.2.2.2.2.2.1 s.2.2.2.2.2.2.2.1 s.2.2.2.2.2.2.2.2) (fun s => μ s.1 s.2.1 s.2.2.1 s.2.2.2.1 s.2.2.2.2.1 s.2.2.2.2.2.1 s.2.2.2.2.2.2.1 s.2.2.2.2.2.2.2.1 s.2.2.2.2.2.2.2.2) (fun n s hI hk => hs n s.1 s.2.1 s.2.2.1 s.2.2.2.1 s.2.2.2.2.1 s.2.2.2.2.2.1 s.2.2.2.2.2.2.1 s.2.2.2.2.2.2.2.1 s.2.2.2.2.2.2.2.2 hI (fun b1 b2 b3 b4 b5 b6 b7 b8 b9 h9 hm => hk (b1, b2, b3, b4, b5, b6, b7, b8, b9) h9 hm)) (a1, a2, a3, a4, a5, a6, a7, a8, a9) h
theorem lp10 {A1 A2 A3 A4 A5 A6 A7 A8 A9 A10 : Type} (W : Nat → A1 → A2 → A3 → A4 → A5 → A6 → A7 → A8 → A9 → A10 → Prop) (I : A1 → A2 → A3 → A4 → A5 → A6 → A7 → A8 → A9 → A10 → Prop) (μ : A1 → A2 → A3 → A4 → A5 → A6 → A7 → A8 → A9 → A10 → Nat) (hs : ∀ (n : Nat) (a1 : A1) (a2 : A2) (a3 : A3) (a4 : A4) (a5 : A5) (a6 : A6) (a7 : A7) (a8 : A8) (a9 : A9) (a10 : A10), I a1 a2 a3 a4 a5 a6 a7 a8 a9 a10 → (∀ (b1 : A1) (b2 : A2) (b3 : A3) (b4 : A4) (b5 : A5) (b6 : A6) (b7 : A7) (b8 : A8) (b9 : A9) (b10 : A10), I b1 b2 b3 b4 b5 b6 b7 b8 b9 b10 → μ b1 b2 b3 b4 b5 b6 b7 b8 b9 b10 < μ a1 a2 a3 a4 a5 a6 a7 a8 a9 a10 → W n b1 b2 b3 b4 b5 b6 b7 b8 b9 b10) → W (n + 1) a1 a2 a3 a4 a5 a6 a7 a8 a9 a10) (a1 : A1) (a2 : A2) (a3 : A3) (a4 : A4) (a5 : A5) (a6 : A6) (a7 : A7) (a8 : A8) (a9 : A9) (a10 : A10) (h : I a1 a2 a3 a4 a5 a6 a7 a8 a9 a10) : ∃ n, W n a1 a2 a3 a4 a5 a6 a7 a8 a9 a10 :=
  loop_m (σ := A1 × A2 × A3 × A4 × A5 × A6 × A7 × A8 × A9 × A10) (fun n s => W n s.1 s.2.1 s.2.2.1 s.2.2.2.1 s.2.2.2.2.1 s.2.2.2.2.2.1 s.2.2.2.2.2.2.1 s.2.2.2.2.2.2.2.1 s.2.2.2.2.2.2.2.2.1 s.2.2.2.2.2.2.2.2.2) (fun s => I s.1 s.2.1 s.2.2.1 s.2.2.2.1 s.2.2.2.2.1 s.2.2.2.2.2.1 s.2.2.2.2.2.2.1 s.2.2.2.2.2.2.2.1 s.2.2.2.2.2.2.2.2.1 s.2.2.2.2.2.2.2.2.2) (fun s => μ s.1 s.2.1 s.2.2.1 s.2.2.2.1 s.2.2.2.2.1 s.2.2.2.2.2.1 s.2.2.2.2.2.2.1 s.2.2.2.2.2.2.2.1 s.2.2.2.2.2.2.2.2.1 s.2.2.2.2.2.2.2.2.2) (fun n s hI hk => hs n s.1 s.2.1 s.2.2.1 s.2.2.2.1 s.2.2.2.2.1 s.2.2.2.2.2.1 s.2.2.2.2.2.2.1 s.2.2.2.2.2.2.2.1 s.2.2.2.2.2.2.2.2.1 s.2.2.2.2.2.2.2.2.2 hI (fun b1 b2 b3 b4 b5 b6 b7 b8 b9 b10 h9 hm => hk (b1, b2, b3, b4, b5, b6, b7, b8, b9, b10) h9 hm)) (a1, a2, a3, a4, a5, a6, a7, a8, a9, a10) h
theorem lp11 {A1 A2 A3 A4 A5 A6 A7 A8 A9 A10 A11 : Type} (W : Nat → A1 → A2 → A3 → A4 → A5 → A6 → A7 → A8 → A9 → A10 → A11 → Prop) (I : A1 → A2 → A3 → A4 → A5 → A6 → A7 → A8 → A9 → A10 → A11 → Prop) (μ : A1 → A2 → A3 → A4 → A5 → A6 → A7 → A8 → A9 → A10 → A11 → Nat) (hs : ∀ (n : Nat) (a1 : A1) (a2 : A2) (a3 : A3) (a4 : A4) (a5 : A5) (a6 : A6) (a7 : A7) (a8 : A8) (a9 : A9) (a10 : A10) (a11 : A11), I a1 a2 a3 a4 a5 a6 a7 a8 a9 a10 a11 → (∀ (b1 : A1) (b2 : A2) (b3 : A3) (b4 : A4) (b5 : A5) (b6 : A6) (b7 : A7) (b8 : A8) (b9 : A9) (b10 : A10) (b11 : A11), I b1 b2 b3 b4 b5 b6 b7 b8 b9 b10 b11 → μ b1 b2 b3 b4 b5 b6 b7 b8 b9 b10 b11 < μ a1 a2 a3 a4 a5 a6 a7 a8 a9 a10 a11 → W n b1 b2 b3 b4 b5 b6 b7 b8 b9 b10 b11) → W (n + 1) a1 a2 a3 a4 a5 a6 a7 a8 a9 a10 a11) (a1 : A1) (a2 : A2) (a3 : A3) (a4 : A4) (a5 : A5) (a6 : A6) (a7 : A7) (a8 : A8) (a9 : A9) (a10 : A10) (a11 : A11) (h : I a1 a2 a3 a4 a5 a6 a7 a8 a9 a10 a11) : ∃ n, W n a1 a2 a3 a4 a5 a6 a7 a8 a9 a10 a11 :=
  loop_m (σ := A1 × A2 × A3 × A4 × A5 × A6 × A7 × A8 × A9 × A10 × A11) (fun n s => W n s.1 s.2.1 s.2.2.1 s.2.2.2.1 s.2.2.2.2.1 s.2.2.2.2.2.1 s.2.2.2.2.2.2.1 s.2.2.2.2.2.2.2.1 s.2.2.2.2.2.2.2.2.1 s.2.2.2.2.2.2.2.2.2.1 s.2.2.2.2.2.2.2.2.2.2) (fun s => I s.1 s.2.1 s.2.2.1 s.2.2.2.1 s.2.2.2.2.1 s.2.2.2.2.2.1 s.2.2.2.2.2.2.1 s.2.2.2.2.2.2.2.1 s.2.2.2.2.2.2.2.2.1 s.2.2.2.2.2.2.2.2.2.1 s.2.2.2.2.2.2.2.2.2.2) (fun s => μ s.1 s.2.1 s.2.2.1 s.2.2.2.1 s.2.2.2.2.1 s.2.2.2.2.2.1 s.2.2.2.2.2.2.1 s.2.2.2.2.2.2.2.1 s.2.2.2.2.2.2.2.2.1 s.2.2.2.2.2.2.2.2.2.1 s.2.2.2.2.2.2.2.2.2.2) (fun n s hI hk => hs n s.1 s.2.1 s.2.2.1 s.2.2.2.1 s.2.2.2.2.1 s.2.2.2.2.2.1 s.2.2.2.2.2.2.1 s.2.2.2.2.2.2.2.1 s.2.2.2.2.2.2.2.2.1 s.2.2.2.2.2.2.2.2.2.1 s.2.2.2.2.2.2.2.2.2.2 hI (fun b1 b2 b3 b4 b5 b6 b7 b8 b9 b10 b11 h9 hm => hk (b1, b2, b3, b4, b5, b6, b7, b8, b9, b10, b11) h9 hm)) (a1, a2, a3, a4, a5, a6, a7, a8, a9, a10, a11) h
theorem lp12 {A1 A2 A3 A4 A5 A6 A7 A8 A9 A10 A11 A12 : Type} (W : Nat → A1 → A2 → A3 → A4 → A5 → A6 → A7 → A8 → A9 → A10 → A11 → A12 → Prop) (I : A1 → A2 → A3 → A4 → A5 → A6 → A7 → A8 → A9 → A10 → A11 → A12 → Prop) (μ : A1 → A2 → A3 → A4 → A5 → A6 → A7 → A8 → A9 → A10 → A11 → A12 → Nat) (hs : ∀ (n : Nat) (a1 : A1) (a2 : A2) (a3 : A3) (a4 : A4) (a5 : A5) (a6 : A6) (a7 : A7) (a8 : A8) (a9 : A9) (a10 : A10) (a11 : A11) (a12 : A12), I a1 a2 a3 a4 a5 a6 a7 a8 a9 a10 a11 a12 → (∀ (b1 : A1) (b2 : A2) (b3 : A3) (b4 : A4) (b5 : A5) (b6 : A6) (b7 : A7) (b8 : A8) (b9 : A9) (b10 : A10) (b11 : A11) (b12 : A12), I b1 b2 b3 b4 b5 b6 b7 b8 b9 b10 b11 b12 → μ b1 b2 b3 b4 b5 b6 b7 b8 b9 b10 b11 b12 < μ a1 a2 a3 a4 a5 a6 a7 a8 a9 a10 a11 a12 → W n b1 b2 b3 b4 b5 b6 b7 b8 b9 b10 b11 b12) → W (n + 1) a1 a2 a3 a4 a5 a6 a7 a8 a9 a10 a11 a12) (a1 : A1) (a2 : A2) (a3 : A3) (a4 : A4) (a5 : A5) (a6 : A6) (a7 : A7) (a8 : A8) (a9 : A9) (a10 : A10) (a11 : A11) (a12 : A12) (h : I a1 a2 a3 a4 a5 a6 a7 a8 a9 a10 a11 a12) : ∃ n, W n a1 a2 a3 a4 a5 a6 a7 a8 a9 a10 a11 a12 :=
  loop_m (σ := A1 × A2 × A3 × A4 × A5 × A6 × A7 × A8 × A9 × A10 × A11 × A12) (fun n s => W n s.1 s.2.1 s.2.2.1 s.2.2.2.1 s.2.2.2.2.1 s.2.2.2.2.2.1 s.2.2.2.2.2.2.1 s.2.2.2.2.2.2.2.1 s.2.2.2.2.2.2.2.2.1 s.2.2.2.2.2.2.2.2.2.1 s.2.2.2.2.2.2.2.2.2.2.1 s.2.2.2.2.2.2.2.2.2.2.2) (fun s => I s.1 s.2.1 s.2.2.1 s.2.2.2.1 s.2.2.2.2.1 s.2.2.2.2.2.1 s.2.2.2.2.2.2.1 s.2.2.2.2.2.2.2.1 s.2.2.2.2.2.2.2.2.1 s.2.2.2.2.2.2.2.2.2.1 s.2.2.2.2.2.2.2.2.2.2.1 s.2.2.2.2.2.2.2.2.2.2.2) (fun s => μ s.1 s.2.1 s.2.2.1 s.2.2.2.1 s.2.2.2.2.1 s.2.2.2.2.2.1 s.2.2.2.2.2.2.1 s.2.2.2.2.2.2.2.1 s.2.2.2.2.2.2.2.2.1 s.2.2.2.2.2.2.2.2.2.1 s.2.2.2.2.2.2.2.2.2.2.1 s.2.2.2.2.2.2.2.2.2.2.2) (fun n s hI hk => hs n s.1 s.2.1 s.2.2.1 s.2.2.2.1 s.2.2.2.2.1 s.2.2.2.2.2.1 s.2.2.2.2.2.2.1 s.2.2.2.2.2.2.2.1 s.2.2.2.2.2.2.2.2.1 s.2.2.2.2.2.2.2.2.2.1 s.2.2.2.2.2.2.2.2.2.2.1 s.2.2.2.2.2.2.2.2.2.2.2 hI (fun b1 b2 b3 b4 b5 b6 b7 b8 b9 b10 b11 b12 h9 hm => hk (b1, b2, b3, b4, b5, b6, b7, b8, b9, b10, b11, b12) h9 hm)) (a1, a2, a3, a4, a5, a6, a7, a8, a9, a10, a11, a12) h
theorem lp13 {A1 A2 A3 A4 A5 A6 A7 A8 A9 A10 A11 A12 A13 : Type} (W : Nat → A1 → A2 → A3 → A4 → A5 → A6 → A7 → A8 → A9 → A10 → A11 → A12 → A13 → Prop) (I : A1 → A2 → A3 → A4 → A5 → A6 → A7 → A8 → A9 → A10 → A11 → A12 → A13 → Prop) (μ : A1 → A2 → A3 → A4 → A5 → A6 → A7 → A8 → A9 → A10 → A11 → A12 → A13 → Nat) (hs : ∀ (n : Nat) (a1 : A1) (a2 : A2) (a3 : A3) (a4 : A4) (a5 : A5) (a6 : A6) (a7 : A7) (a8 : A8) (a9 : A9) (a10 : A10) (a11 : A11) (a12 : A12) (a13 : A13), I a1 a2 a3 a4 a5 a6 a7 a8 a9 a10 a11 a12 a13 → (∀ (b1 : A1) (b2 : A2) (b3 : A3) (b4 : A4) (b5 : A5) (b6 : A6) (b7 : A7) (b8 : A8) (b9 : A9) (b10 : A10) (b11 : A11) (b12 : A12) (b13 : A13), I b1 b2 b3 b4 b5 b6 b7 b8 b9 b10 b11 b12 b13 → μ b1 b2 b3 b4 b5 b6 b7 b8 b9 b10 b11 b12 b13 < μ a1 a2 a3 a4 a5 a6 a7 a8 a9 a10 a11 a12 a13 → W n b1 b2 b3 b4 b5 b6 b7 b8 b9 b10 b11 b12 b13) → W (n + 1) a1 a2 a3 a4 a5 a6 a7 a8 a9 a10 a11 a12 a13) (a1 : A1) (a2 : A2) (a3 : A3) (a4 : A4) (a5 : A5) (a6 : A6) (a7 : A7) (a8 : A8) (a9 : A9) (a10 : A10) (a11 : A11) (a12 : A12) (a13 : A13) (h : I a1 a2 a3 a4 a5 a6 a7 a8 a9 a10 a11 a12 a13) : ∃ n, W n a1 a2 a3 a4 a5 a6 a7 a8 a9 a10 a11 a12 a13 :=
  loop_m (σ := A1 × A2 × A3 × A4 × A5 × A6 × A7 × A8 × A9 × A10 × A11 × A12 × A13) (fun n s => W n s.1 s.2.1 s.2.2.1 s.2.2.2.1 s.2.2.2.2.1 s.2.2.2.2.2.1 s.2.2.2.2.2.2.1 s.2.2.2.2.2.2.2.1 s.2.2.2.2.2.2.2.2.1 s.2.2.2.2.2.2.2.2.2.1 s.2.2.2.2.2.2.2.2.2.2.1 s.2.2.2.2.2.2.2.2.2.2.2.1 s.2.2.2.2.2.2.2.2.2.2.2.2) (fun s => I s.1 s.2.1 s.2.2.1 s.2.2.2.1 s.2.2.2.2.1 s.2.2.2.2.2.1 s.2.2.2.2.2.2.1 s.2.2.2.2.2.2.2.1 s.2.2.2.2.2.2.2.2.1 s.2.2.2.2.2.2.2.2.2.1 s.2.2.2.2.2.2.2.2.2.2.1 s.2.2.2.2.2.2.2.2.2.2.2.1 s.2.2.2.2.2.2.2.2.2.2.2.2) (fun s => μ s.1 s.2.1 s.2.2.1 s.2.2.2.1 s.2.2.2.2.1 s.2.2.2.2.2.1 s.2.2.2.2.2.2.1 s.2.2.2.2.2.2.2.1 s.2.2.2.2.2.2.2.2.1 s.2.2.2.2.2.2.2.2.2.1 s.2.2.2.2.2.2.2.2.2.2.1 s.2.2.2.2.2.2.2.2.2.2.2.1 s.2.2.2.2.2.2.2.2.2.2.2.2) (fun n s hI hk => hs n s.1 s.2.1 s.2.2.1 s.2.2.2.1 s.2.2.2.2.1 s.2.2.2.2.2.1 s.2.2.2.2.2.2.1 s.2.2.2.2.2.2.2.1 s.2.2.2.2.2.2.2.2.1 s.2.2.2.2.2.2.2.2.2.1 s.2.2.2.2.2.2.2.2.2.2.1 s.2.2.2.2.2.2.2.2.2.2.2.1 s.2.2.2.2.2.2.2.2.2.2.2.2 hI (fun b1 b2 b3 b4 b5 b6 b7 b8 b9 b10 b11 b12 b13 h9 hm => hk (b1, b2, b3, b4, b5, b6, b7, b8, b9, b10, b11, b12, b13) h9 hm)) (a1, a2, a3, a4, a5, a6, a7, a8, a9, a10, a11, a12, a13) h
theorem lp14 {A1 A2 A3 A4 A5 A6 A7 A8 A9 A10 A11 A12 A13 A14 : Type} (W : Nat → A1 → A2 → A3 → A4 → A5 → A6 → A7 → A8 → A9 → A10 → A11 → A12 → A13 → A14 → Prop) (I : A1 → A2 → A3 → A4 → A5 → A6 → A7 → A8 → A9 → A10 → A11 → A12 → A13 → A14 → Prop) (μ : A1 → A2 → A3 → A4 → A5 → A6 → A7 → A8 → A9 → A10 → A11 → A12 → A13 → A14 → Nat) (hs : ∀ (n : Nat) (a1 : A1) (a2 : A2) (a3 : A3) (a4 : A4) (a5 : A5) (a6 : A6) (a7 : A7) (a8 : A8) (a9 : A9) (a10 : A10) (a11 : A11) (a12 : A12) (a13 : A13) (a14 : A14), I a1 a2 a3 a4 a5 a6 a7 a8 a9 a10 a11 a12 a13 a14 → (∀ (b1 : A1) (b2 : A2) (b3 : A3) (b4 : A4) (b5 : A5) (b6 : A6) (b7 : A7) (b8 : A8) (b9 : A9) (b10 : A10) (b11 : A11) (b12 : A12) (b13 : A13) (b14 : A14), I b1 b2 b3 b4 b5 b6 b7 b8 b9 b10 b11 b12 b13 b14 → μ b1 b2 b3 b4 b5 b6 b7 b8 b9 b10 b11 b12 b13 b14 < μ a1 a2 a3 a4 a5 a6 a7 a8 a9 a10 a11 a12 a13 a14 → W n b1 b2 b3 b4 b5 b6 b7 b8 b9 b10 b11 b12 b13 b14) → W (n + 1) a1 a2 a3 a4 a5 a6 a7 a8 a9 a10 a11 a12 a13 a14) (a1 : A1) (a2 : A2) (a3 : A3) (a4 : A4) (a5 : A5) (a6 : A6) (a7 : A7) (a8 : A8) (a9 : A9) (a10 : A10) (a11 : A11) (a12 : A12) (a13 : A13) (a14 : A14) (h : I a1 a2 a3 a4 a5 a6 a7 a8 a9 a10 a11 a12 a13 a14) : ∃ n, W n a1 a2 a3 a4 a5 a6 a7 a8 a9 a10 a11 a12 a13 a14 :=
  loop_m (σ := A1 × A2 × A3 × A4 × A5 × A6 × A7 × A8 × A9 × A10 × A11 × A12 × A13 × A14) (fun n s => W n s.1 s.2.1 s.2.2.1 s.2.2.2.1 s.2.2.2.2.1 s.2.2.2.2.2.1 s.2.2.2.2.2.2.1 s.2.2.2.2.2.2.2.1 s.2.2.2.2.2.2.2.2.1 s.2.2.2.2.2.2.2.2.2.1 s.2.2.2.2.2.2.2.2.2.2.1 s.2.2.2.2.2.2.2.2.2.2.2.1 s.2.2.2.2.2.2.2.2.2.2.2.2.1 s.2.2.2.2.2.2.2.2.2.2.2.2.2) (fun s => I s.1 s.2.1 s.2.2.1 s.2.2.2.1 s.2.2.2.2.1 s.2.2.2.2.2.1 s.2.2.2.2.2.2.1 s.2.2.2.2.2.2.2.1 s.2.2.2.2.2.2.2.2.1 s.2.2.2.2.2.2.2.2.2.1 s.2.2.2.2.2.2.2.2.2.2.1 s.2.2.2.2.2.2.2.2.2.2.2.1 s.2.2.2.2.2.2.2.2.2.2.2.2.1 s.2.2.2.2.2.2.2.2.2.2.2.2.2) (fun s => μ s.1 s.2.1 s.2.2.1 s.2.2.2.1 s.2.2.2.2.1 s.2.2.2.2.2.1 s.2.2.2.2.2.2.1 s.2.2.2.2.2.2.2.1 s.2.2.2.2.2.2.2.2.1 s.2.2.2.2.2.2.2.2.2.1 s.2.2.2.2.2.2.2.2.2.2.1 s.2.2.2.2.2.2.2.2.2.2.2.1 s.2.2.2.2.2.2.2.2.2.2.2.2.1 s.2.2.2.2.2.2.2.2.2.2.2.2.2) (fun n s hI hk => hs n s.1 s.2.1 s.2.2.1 s.2.2.2.1 s.2.2.2.2.1 s.2.2.2.2.2.1 s.2.2.2.2.2.2.1 s.2.2.2.2.2.2.2.1 s.2.2.2.2.2.2.2.2.1 s.2.2.2.2.2.2.2.2.2.1 s.2.2.2.2.2.2.2.2.2.2.1 s.2.2.2.2.2.2.2.2.2.2.2.1 s.2.2.2.2.2.2.2.2.2.2.2.2.1 s.2.2.2.2.2.2.2.2.2.2.2.2.2 hI (fun b1 b2 b3 b4 b5 b6 b7 b8 b9 b10 b11 b12 b13 b14 h9 hm => hk (b1, b2, b3, b4, b5, b6, b7, b8, b9, b10, b11, b12, b13, b14) h9 hm)) (a1, a2, a3, a4, a5, a6, a7, a8, a9, a10, a11, a12, a13, a14) h
theorem lp15 {A1 A2 A3 A4 A5 A6 A7 A8 A9 A10 A11 A12 A13 A14 A15 : Type} (W : Nat → A1 → A2 → A3 → A4 → A5 → A6 → A7 → A8 → A9 → A10 → A11 → A12 → A13 → A14 → A15 → Prop) (I : A1 → A2 → A3 → A4 → A5 → A6 → A7 → A8 → A9 → A10 → A11 → A12 → A13 → A14 → A15 → Prop) (μ : A1 → A2 → A3 → A4 → A5 → A6 → A7 → A8 → A9 → A10 → A11 → A12 → A13 → A14 → A15 → Nat) (hs : ∀ (n : Nat) (a1 : A1) (a2 : A2) (a3 : A3) (a4 : A4) (a5 : A5) (a6 : A6) (a7 : A7) (a8 : A8) (a9 : A9) (a10 : A10) (a11 : A11) (a12 : A12) (a13 : A13) (a14 : A14) (a15 : A15), I a1 a2 a3 a4 a5 a6 a7 a8 a9 a10 a11 a12 a13 a14 a15 → (∀ (b1 : A1) (b2 : A2) (b3 : A3) (b4 : A4) (b5 : A5) (b6 : A6) (b7 : A7) (b8 : A8) (b9 : A9) (b10 : A10) (b11 : A11) (b12 : A12) (b13 : A13) (b14 : A14) (b15 : A15), I b1 b2 b3 b4 b5 b6 b7 b8 b9 b10 b11 b12 b13 b14 b15 → μ b1 b2 b3 b4 b5 b6 b7 b8 b9 b10 b11 b12 b13 b14 b15 < μ a1 a2 a3 a4 a5 a6 a7 a8 a9 a10 a11 a12 a13 a14 a15 → W n b1 b2 b3 b4 b5 b6 b7 b8 b9 b10 b11 b12 b13 b14 b15) → W (n + 1) a1 a2 a3 a4 a5 a6 a7 a8 a9 a10 a11 a12 a13 a14 a15) (a1 : A1) (a2 : A2) (a3 : A3) (a4 : A4) (a5 : A5) (a6 : A6) (a7 : A7) (a8 : A8) (a9 : A9) (a10 : A10) (a11 : A11) (a12 : A12) (a13 : A13) (a14 : A14) (a15 : A15) (h : I a1 a2 a3 a4 a5 a6 a7 a8 a9 a10 a11 a12 a13 a14 a15) : ∃ n, W n a1 a2 a3 a4 a5 a6 a7 a8 a9 a10 a11 a12 a13 a14 a15 :=
  loop_m (σ := A1 × A2 × A3 × A4 × A5 × A6 × A7 × A8 × A9 × A10 × A11 × A12 × A13 × A14 × A15) (fun n s => W n s.1 s.2.1 s.2.2.1 s.2.2.2.1 s.2.2.2.2.1 s.2.2.2.2.2.1 s.2.2.2.2.2.2.1 s.2.2.2.2.2.2.2.1 s.2.2.2.2.2.2.2.2.1 s.2.2.2.2.2.2.2.2.2.1 s.2.2.2.2.2.2.2.2.2.2.1 s.2.2.2.2.2.2.2.2.2.2.2.1 s.2.2.2.2.2.2.2.2.2.2.2.2.1 s.2.2.2.2.2.2.2.2.2.2.2.2.2.1 s.2.2.2.2.2.2.2.2.2.2.2.2.2.2) (fun s => I s.1 s.2.1 s.2.2.1 s.2.2.2.1 s.2.2.2.2.1 s.2.2.2.2.2.1 s.2.2.2.2.2.2.1 s.2.2.2.2.2.2.2.1 s.2.2.2.2.2.2.2.2.1 s.2.2.2.2.2.2.2.2.2.1 s.2.2.2.2.2.2.2.2.2.2.1 s.2.2.2.2.2.2.2.2.2.2.2.1 s.2.2.2.2.2.2.2.2.2.2.2.2.1 s.2.2.2.2.2.2.2.2.2.2.2.2.2.1 s.2.2.2.2.2.2.2.2.2.2.2.2.2.2) (fun s => μ s.1 s.2.1 s.2.2.1 s.2.2.2.1 s.2.2.2.2.1 s.2.2.2.2.2.1 s.2.2.2.2.2.2.1 s.2.2.2.2.2.2.2.1 s.2.2.2.2.2.2.2.2.1 s.2.2.2.2.2.2.2.2.2.1 s.2.2.2.2.2.2.2.2.2.2.1 s.2.2.2.2.2.2.2.2.2.2.2.1 s.2.2.2.2.2.2.2.2.2.2.2.2.1 s.2.2.2.2.2.2.2.2.2.2.2.2.2.1 s.2.2.2.2.2.2.2.2.2.2.2.2.2.2) (fun n s hI hk => hs n s.1 s.2.1 s.2.2.1 s.2.2.2.1 s.2.2.2.2.1 s.2.2.2.2.2.1 s.2.2.2.2.2.2.1 s.2.2.2.2.2.2.2.1 s.2.2.2.2.2.2.2.2.1 s.2.2.2.2.2.2.2.2.2.1 s.2.2.2.2.2.2.2.2.2.2.1 s.2.2.2.2.2.2.2.2.2.2.2.1 s.2.2.2.2.2.2.2.2.2.2.2.2.1 s.2.2.2.2.2.2.2.2.2.2.2.2.2.1 s.2.2.2.2.2.2.2.2.2.2.2.2.2.2 hI (fun b1 b2 b3 b4 b5 b6 b7 b8 b9 b10 b11 b12 b13 b14 b15 h9 hm => hk (b1, b2, b3, b4, b5, b6, b7, b8, b9, b10, b11, b12, b13, b14, b15) h9 hm)) (a1, a2, a3, a4, a5, a6, a7, a8, a9, a10, a11, a12, a13, a14, a15) h
theorem lp16 {A1 A2 A3 A4 A5 A6 A7 A8 A9 A10 A11 A12 A13 A14 A15 A16 : Type} (W : Nat → A1 → A2 → A3 → A4 → A5 → A6 → A7 → A8 → A9 → A10 → A11 → A12 → A13 → A14 → A15 → A16 → Prop) (I : A1 → A2 → A3 → A4 → A5 → A6 → A7 → A8 → A9 → A10 → A11 → A12 → A13 → A14 → A15 → A16 → Prop) (μ : A1 → A2 → A3 → A4 → A5 → A6 → A7 → A8 → A9 → A10 → A11 → A12 → A13 → A14 → A15 → A16 → Nat) (hs : ∀ (n : Nat) (a1 : A1) (a2 : A2) (a3 : A3) (a4 : A4) (a5 : A5) (a6 : A6) (a7 : A7) (a8 : A8) (a9 : A9) (a10 : A10) (a11 : A11) (a12 : A12) (a13 : A13) (a14 : A14) (a15 : A15) (a16 : A16), I a1 a2 a3 a4 a5 a6 a7 a8 a9 a10 a11 a12 a13 a14 a15 a16 → (∀ (b1 : A1) (b2 : A2) (b3 : A3) (b4 : A4) (b5 : A5) (b6 : A6) (b7 : A7) (b8 : A8) (b9 : A9) (b10 : A10) (b11 : A11) (b12 : A12) (b13 : A13) (b14 : A14) (b15 : A15) (b16 : A16), I b1 b2 b3 b4 b5 b6 b7 b8 b9 b10 b11 b12 b13 b14 b15 b16 → μ b1 b2 b3 b4 b5 b6 b7 b8 b9 b10 b11 b12 b13 b14 b15 b16 < μ a1 a2 a3 a4 a5 a6 a7 a8 a9 a10 a11 a12 a13 a14 a15 a16 → W n b1 b2 b3 b4 b5 b6 b7 b8 b9 b10 b11 b12 b13 b14 b15 b16) → W (n + 1) a1 a2 a3 a4 a5 a6 a7 a8 a9 a10 a11 a12 a13 a14 a15 a16) (a1 : A1) (a2 : A2) (a3 : A3) (a4 : A4) (a5 : A5) (a6 : A6) (a7 : A7) (a8 : A8) (a9 : A9) (a10 : A10) (a11 : A11) (a12 : A12) (a13 : A13) (a14 : A14) (a15 : A15) (a16 : A16) (h : I a1 a2 a3 a4 a5 a6 a7 a8 a9 a10 a11 a12 a13 a14 a15 a16) : ∃ n, W n a1 a2 a3 a4 a5 a6 a7 a8 a9 a10 a11 a12 a13 a14 a15 a16 :=
  loop_m (σ := A1 × A2 × A3 × A4 × A5 × A6 × A7 × A8 × A9 × A10 × A11 × A12 × A13 × A14 × A15 × A16) (fun n s => W n s.1 s.2.1 s.2.2.1 s.2.2.2.1 s.2.2.2.2.1 s.2.2.2.2.2.1 s.2.2.2.2.2.2.1 s.2.2.2.2.2.2.2.1 s.2.2.2.2.2.2.2.2.1 s.2.2.2.2.2.2.2.2.2.1 s.2.2.2.2.2.2.2.2.2.2.1 s.2.2.2.2.2.2.2.2.2.2.2.1 s.2.2.2.2.2.2.2.2.2.2.2.2.1 s.2.2.2.2.2.2.2.2.2.2.2.2.2.1 s.2.2.2.2.2.2.2.2.2.2.2.2.2.2.1 s.2.2.2.2.2.2.2.2.2.2.2.2.2.2.2) (fun s => I s.1 s.2.1 s.2.2.1 s.2.2.2.1 s.2.2.2.2.1 s.2.2.2.2.2.1 s.2.2.2.2.2.2.1 s.2.2.2.2.2.2.2.1 s.2.2.2.2.2.2.2.2.1 s.2.2.2.2.2.2.2.2.2.1 s.2.2.2.2.2.2.2.2.2.2.1 s.2.2.2.2.2.2.2.2.2.2.2.1 s.2.2.2.2.2.2.2.2.2.2.2.2.1 s.2.2.2.2.2.2.2.2.2.2.2.2.2.1 s.2.2.2.2.2.2.2.2.2.2.2.2.2.2.1 s.2.2.2.2.2.2.2.2.2.2.2.2.2.2.2) (fun s => μ s.1 s.2.1 s.2.2.1 s.2.2.2.1 s.2.2.2.2.1 s.2.2.2.2.2.1 s.2.2.2.2.2.2.1 s.2.2.2.2.2.2.2.1 s.2.2.2.2.2.2.2.2.1 s.2.2.2.2.2.2.2.2.2.1 s.2.2.2.2.2.2.2.2.2.2.1 s.2.2.2.2.2.2.2.2.2.2.2.1 s.2.2.2.2.2.2.2.2.2.2.2.2.1 s.2.2.2.2.2.2.2.2.2.2.2.2.2.1 s.2.2.2.2.2.2.2.2.2.2.2.2.2.2.1 s.2.2.2.2.2.2.2.2.2.2.2.2.2.2.2) (fun n s hI hk => hs n s.1 s.2.1 s.2.2.1 s.2.2.2.1 s.2.2.2.2.1 s.2.2.2.2.2.1 s.2.2.2.2.2.2.1 s.2.2.2.2.2.2.2.1 s.2.2.2.2.2.2.2.2.1 s.2.2.2.2.2.2.2.2.2.1 s.2.2.2.2.2.2.2.2.2.2.1 s.2.2.2.2.2.2.2.2.2.2.2.1 s.2.2.2.2.2.2.2.2.2.2.2.2.1 s.2.2.2.2.2.2.2.2.2.2.2.2.2.1 s.2.2.2.2.2.2.2.2.2.2.2.2.2.2.1 s.2.2.2.2.2.2.2.2.2.2.2.2.2.2.2 hI (fun b1 b2 b3 b4 b5 b6 b7 b8 b9 b10 b11 b12 b13 b14 b15 b16 h9 hm => hk (b1, b2, b3, b4, b5, b6, b7, b8, b9, b10, b11, b12, b13, b14, b15, b16) h9 hm)) (a1, a2, a3, a4, a5, a6, a7, a8, a9, a10, a11, a12, a13, a14, a15, a16) h
theorem pk_least (P : Nat → Prop) (h : ∃ k, P k) : ∃ k, P k ∧ ∀ j, j < k → ¬ P j := by
  obtain ⟨k, hk⟩ := h
  induction k using Nat.strongRecOn with
  | ind k ih =>
    by_cases e : ∃ j, j < k ∧ P j
    · obtain ⟨j, hj, pj⟩ := e
      exact ih j hj pj
    · exact ⟨k, hk, fun j hj pj => e ⟨j, hj, pj⟩⟩
theorem rp1 {ρ A1 : Type} (W : Nat → (ρ → Prop) → A1 → Prop) (ok : A1 → Prop) (μ : A1 → Nat) (val : A1 → ρ)
    (hs : ∀ (d : Nat) (post : ρ → Prop) (a1 : A1), ok a1 → post (val a1) → (∀ (post' : ρ → Prop) (b1 : A1), ok b1 → μ b1 < μ a1 → post' (val b1) → W d post' b1) → W (d + 1) post a1) :
    ∀ (d : Nat) (post : ρ → Prop) (a1 : A1), ok a1 → μ a1 < d → post (val a1) → W d post a1 := by
  intro d
  induction d with
  | zero => intro post a1 _ h; omega
  | succ d ih =>
    intro post a1 ho hm hp
    exact hs d post a1 ho hp (fun post' b1 ho' hm' hp' => ih post' b1 ho' (by omega) hp')
theorem rp2 {ρ A1 A2 : Type} (W : Nat → (ρ → Prop) → A1 → A2 → Prop) (ok : A1 → A2 → Prop) (μ : A1 → A2 → Nat) (val : A1 → A2 → ρ)
    (hs : ∀ (d : Nat) (post : ρ → Prop) (a1 : A1) (a2 : A2), ok a1 a2 → post (val a1 a2) → (∀ (post' : ρ → Prop) (b1 : A1) (b2 : A2), ok b1 b2 → μ b1 b2 < μ a1 a2 → post' (val b1 b2) → W d post' b1 b2) → W (d + 1) post a1 a2) :
    ∀ (d : Nat) (post : ρ → Prop) (a1 : A1) (a2 : A2), ok a1 a2 → μ a1 a2 < d → post (val a1 a2) → W d post a1 a2 := by
  intro d
  induction d with
  | zero => intro post a1 a2 _ h; omega
  | succ d ih =>
    intro post a1 a2 ho hm hp
    exact hs d post a1 a2 ho hp (fun post' b1 b2 ho' hm' hp' => ih post' b1 b2 ho' (by omega) hp')
theorem rp3 {ρ A1 A2 A3 : Type} (W : Nat → (ρ → Prop) → A1 → A2 → A3 → Prop) (ok : A1 → A2 → A3 → Prop) (μ : A1 → A2 → A3 → Nat) (val : A1 → A2 → A3 → ρ)
    (hs : ∀ (d : Nat) (post : ρ → Prop) (a1 : A1) (a2 : A2) (a3 : A3), ok a1 a2 a3 → post (val a1 a2 a3) → (∀ (post' : ρ → Prop) (b1 : A1) (b2 : A2) (b3 : A3), ok b1 b2 b3 → μ b1 b2 b3 < μ a1 a2 a3 → post' (val b1 b2 b3) → W d post' b1 b2 b3) → W (d + 1) post a1 a2 a3) :
    ∀ (d : Nat) (post : ρ → Prop) (a1 : A1) (a2 : A2) (a3 : A3), ok a1 a2 a3 → μ a1 a2 a3 < d → post (val a1 a2 a3) → W d post a1 a2 a3 := by
  intro d
  induction d with
  | zero => intro post a1 a2 a3 _ h; omega
  | succ d ih =>
    intro post a1 a2 a3 ho hm hp
    exact hs d post a1 a2 a3 ho hp (fun post' b1 b2 b3 ho' hm' hp' => ih post' b1 b2 b3 ho' (by omega) hp')
theorem rp4 {ρ A1 A2 A3 A4 : Type} (W : Nat → (ρ → Prop) → A1 → A2 → A3 → A4 → Prop) (ok : A1 → A2 → A3 → A4 → Prop) (μ : A1 → A2 → A3 → A4 → Nat) (val : A1 → A2 → A3 → A4 → ρ)
    (hs : ∀ (d : Nat) (post : ρ → Prop) (a1 : A1) (a2 : A2) (a3 : A3) (a4 : A4), ok a1 a2 a3 a4 → post (val a1 a2 a3 a4) → (∀ (post' : ρ → Prop) (b1 : A1) (b2 : A2) (b3 : A3) (b4 : A4), ok b1 b2 b3 b4 → μ b1 b2 b3 b4 < μ a1 a2 a3 a4 → post' (val b1 b2 b3 b4) → W d post' b1 b2 b3 b4) → W (d + 1) post a1 a2 a3 a4) :
    ∀ (d : Nat) (post : ρ → Prop) (a1 : A1) (a2 : A2) (a3 : A3) (a4 : A4), ok a1 a2 a3 a4 → μ a1 a2 a3 a4 < d → post (val a1 a2 a3 a4) → W d post a1 a2 a3 a4 := by
  intro d
  induction d with
  | zero => intro post a1 a2 a3 a4 _ h; omega
  | succ d ih =>
    intro post a1 a2 a3 a4 ho hm hp
    exact hs d post a1 a2 a3 a4 ho hp (fun post' b1 b2 b3 b4 ho' hm' hp' => ih post' b1 b2 b3 b4 ho' (by omega) hp')
theorem rp5 {ρ A1 A2 A3 A4 A5 : Type} (W : Nat → (ρ → Prop) → A1 → A2 → A3 → A4 → A5 → Prop) (ok : A1 → A2 → A3 → A4 → A5 → Prop) (μ : A1 → A2 → A3 → A4 → A5 → Nat) (val : A1 → A2 → A3 → A4 → A5 → ρ)
    (hs : ∀ (d : Nat) (post : ρ → Prop) (a1 : A1) (a2 : A2) (a3 : A3) (a4 : A4) (a5 : A5), ok a1 a2 a3 a4 a5 → post (val a1 a2 a3 a4 a5) → (∀ (post' : ρ → Prop) (b1 : A1) (b2 : A2) (b3 : A3) (b4 : A4) (b5 : A5), ok b1 b2 b3 b4 b5 → μ b1 b2 b3 b4 b5 < μ a1 a2 a3 a4 a5 → post' (val b1 b2 b3 b4 b5) → W d post' b1 b2 b3 b4 b5) → W (d + 1) post a1 a2 a3 a4 a5) :
    ∀ (d : Nat) (post : ρ → Prop) (a1 : A1) (a2 : A2) (a3 : A3) (a4 : A4) (a5 : A5), ok a1 a2 a3 a4 a5 → μ a1 a2 a3 a4 a5 < d → post (val a1 a2 a3 a4 a5) → W d post a1 a2 a3 a4 a5 := by
  intro d
  induction d with
  | zero => intro post a1 a2 a3 a4 a5 _ h; omega
  | succ d ih =>
    intro post a1 a2 a3 a4 a5 ho hm hp
    exact hs d post a1 a2 a3 a4 a5 ho hp (fun post' b1 b2 b3 b4 b5 ho' hm' hp' => ih post' b1 b2 b3 b4 b5 ho' (by omega) hp')
theorem rp6 {ρ A1 A2 A3 A4 A5 A6 : Type} (W : Nat → (ρ → Prop) → A1 → A2 → A3 → A4 → A5 → A6 → Prop) (ok : A1 → A2 → A3 → A4 → A5 → A6 → Prop) (μ : A1 → A2 → A3 → A4 → A5 → A6 → Nat) (val : A1 → A2 → A3 → A4 → A5 → A6 → ρ)
    (hs : ∀ (d : Nat) (post : ρ → Prop) (a1 : A1) (a2 : A2) (a3 : A3) (a4 : A4) (a5 : A5) (a6 : A6), ok a1 a2 a3 a4 a5 a6 → post (val a1 a2 a3 a4 a5 a6) → (∀ (post' : ρ → Prop) (b1 : A1) (b2 : A2) (b3 : A3) (b4 : A4) (b5 : A5) (b6 : A6), ok b1 b2 b3 b4 b5 b6 → μ b1 b2 b3 b4 b5 b6 < μ a1 a2 a3 a4 a5 a6 → post' (val b1 b2 b3 b4 b5 b6) → W d post' b1 b2 b3 b4 b5 b6) → W (d + 1) post a1 a2 a3 a4 a5 a6) :
    ∀ (d : Nat) (post : ρ → Prop) (a1 : A1) (a2 : A2) (a3 : A3) (a4 : A4) (a5 : A5) (a6 : A6), ok a1 a2 a3 a4 a5 a6 → μ a1 a2 a3 a4 a5 a6 < d → post (val a1 a2 a3 a4 a5 a6) → W d post a1 a2 a3 a4 a5 a6 := by
  intro d
  induction d with
  | zero => intro post a1 a2 a3 a4 a5 a6 _ h; omega
  | succ d ih =>
    intro post a1 a2 a3 a4 a5 a6 ho hm hp
    exact hs d post a1 a2 a3 a4 a5 a6 ho hp (fun post' b1 b2 b3 b4 b5 b6 ho' hm' hp' => ih post' b1 b2 b3 b4 b5 b6 ho' (by omega) hp')
theorem rec_p {σ ρ : Type} (W : Nat → (ρ → Prop) → σ → Prop) (ok : σ → Prop) (μ : σ → Nat) (val : σ → ρ)
    (hs : ∀ d s post, ok s → post (val s) → (∀ s' post', ok s' → μ s' < μ s → post' (val s') → W d post' s') → W (d + 1) post s) :
    ∀ d s post, ok s → μ s < d → post (val s) → W d post s := by
  intro d
  induction d with
  | zero => intro s post _ h; omega
  | succ d ih =>
    intro s post ho hm hp
    exact hs d s post ho hp (fun s' post' ho' hm' hp' => ih s' post' ho' (by omega) hp')
theorem rec_q {σ ρ : Type} (W : Nat → (ρ → Prop) → σ → Prop) (ok : σ → Prop) (μ : σ → Nat) (Q : σ → ρ → Prop)
    (hs : ∀ d s post, ok s → (∀ r, Q s r → post r) → (∀ s' post', ok s' → μ s' < μ s → (∀ r, Q s' r → post' r) → W d post' s') → W (d + 1) post s) :
    ∀ d s post, ok s → μ s < d → (∀ r, Q s r → post r) → W d post s := by
  intro d
  induction d with
  | zero => intro s post _ h; omega
  | succ d ih =>
    intro s post ho hm hp
    exact hs d s post ho hp (fun s' post' ho' hm' hp' => ih s' post' ho' (by omega) hp')
def bx_sum (f : Nat → Int32) : Nat → Int32
  | 0 => 0
  | n + 1 => bx_sum f n + f n
theorem ek_u {A : Prop} {B : Nat → Prop} {k N : Nat} (hk : k < N) (h : B k) : (some k = none → A) ∧ (∀ y : Nat, some k = some y → (y < N ∧ B y)) :=
  ⟨fun z => absurd z (Option.some_ne_none k), fun _ e => (by cases e; exact ⟨hk, h⟩)⟩
theorem ek_nu {A : Prop} {B : Nat → Prop} (h : A) : ((none : Option Nat) = none → A) ∧ (∀ y : Nat, (none : Option Nat) = some y → B y) :=
  ⟨fun _ => h, fun _ e => (by cases e)⟩
theorem ek_if {c d A B : Prop} (e : c ↔ d) (f : d → A) (g : ¬ d → B) : (c → A) ∧ (¬ c → B) :=
  ⟨fun z => f (e.mp z), fun z => g (fun y => z (e.mpr y))⟩
theorem ek_v {α : Sort _} {P : α → Prop} {a b : α} (e : a = b) (h : P b) : P a := e ▸ h
theorem co_some {x : Option Nat} {A : Prop} {B : Nat → Prop} (i : Nat) (h : B i) (hx : x = some i := by rfl) : (x = none → A) ∧ (∀ y : Nat, x = some y → B y) := by
  subst hx
  exact ⟨fun e => (nomatch e), fun y e => Option.some.inj e ▸ h⟩
theorem co_none {x : Option Nat} {A : Prop} {B : Nat → Prop} (h : A) (hx : x = none := by rfl) : (x = none → A) ∧ (∀ y : Nat, x = some y → B y) := by
  subst hx
  exact ⟨fun _ => h, fun y e => (nomatch e)⟩
theorem co_any {x : Option Nat} {A : Prop} {B : Nat → Prop} (hn : x = none → A) (hs : ∀ i : Nat, x = some i → B i) : (x = none → A) ∧ (∀ y : Nat, x = some y → B y) := ⟨hn, hs⟩
theorem co_2 {P : Nat → Prop} (h0 : P 0) (h1 : P 1) {i : Nat} (hi : i < 2) : P i :=
  match i, hi with
  | 0, _ => h0
  | 1, _ => h1
theorem co_3 {P : Nat → Prop} (h0 : P 0) (h1 : P 1) (h2 : P 2) {i : Nat} (hi : i < 3) : P i :=
  match i, hi with
  | 0, _ => h0
  | 1, _ => h1
  | 2, _ => h2
theorem co_4 {P : Nat → Prop} (h0 : P 0) (h1 : P 1) (h2 : P 2) (h3 : P 3) {i : Nat} (hi : i < 4) : P i :=
  match i, hi with
  | 0, _ => h0
  | 1, _ => h1
  | 2, _ => h2
  | 3, _ => h3
theorem co_dec {N : Nat} {P : Nat → Prop} [DecidablePred P] (h : (List.range N).all (fun i => decide (P i)) = true) {i : Nat} (hi : i < N) : P i := by
  have := List.all_eq_true.mp h i (List.mem_range.mpr hi)
  exact of_decide_eq_true this
theorem co_tab {α : Type} {l : List α} {d : α} {P : α → Prop} (h : ∀ a, a ∈ l → P a) {i : Nat} (hi : i < l.length) : P (l.getD i d) := by
  rw [List.getD_eq_getElem?_getD, List.getElem?_eq_getElem hi]
  exact h _ (List.getElem_mem hi)
theorem pk_mu {x : Int32} {L : Nat} (h0 : ¬ x < 0) (h : ¬ nI L ≤ x) (hL : L < 2 ^ 31) : ∃ j : Nat, j < L ∧ x = nI j ∧ x + 1 = nI (j + 1) ∧ x.toNatClampNeg = j ∧ L - (x + 1).toNatClampNeg < L - x.toNatClampNeg := by
  obtain ⟨j, hj, rfl⟩ := nI_of h0
  have hl : j < L := Nat.not_le.mp fun q => h (nI_le q hj)
  refine ⟨j, hl, rfl, nI_1 j, nI_clamp hj, ?_⟩
  rw [nI_1, nI_clamp (by omega), nI_clamp hj]
  omega
theorem op_s {α : Type} {r : Option α} {A : Prop} {B : α → Prop} {y : α} (h : r = some y) (b : B y) : (r = none → A) ∧ ∀ z, r = some z → B z :=
  ⟨fun e => (by rw [h] at e; cases e), fun z e => (by rw [h] at e; cases e; exact b)⟩
def l_holds {α : Type} (a : Nat → Option Nat) (LP : List Nat) (p : Nat → α) (c : Nat) (b : Nat → α) : Prop :=
  ∀ j, j < c → ∃ y, a j = some y ∧ y ∈ LP ∧ p y = b j
theorem l_holds_0 {α : Type} {a : Nat → Option Nat} {LP : List Nat} {p b : Nat → α} : l_holds a LP p 0 b := fun j h => absurd h (Nat.not_lt_zero j)
theorem l_in_new (LP : List Nat) (q : Nat) : q ∈ LP ++ [q] := List.mem_append.mpr (Or.inr (List.mem_singleton.mpr rfl))
def l_sum (b : Nat → Int32) : Nat → Int32
  | 0 => 0
  | k + 1 => l_sum b k + b k
theorem sb_shr0 (x : Int32) : x >>> ((0 : Int32) &&& 31) = x := by
  rw [show ((0 : Int32) &&& 31) = 0 by decide]
  simp
theorem sb_shl0 (x : Int32) : x <<< ((0 : Int32) &&& 31) = x := by
  rw [show ((0 : Int32) &&& 31) = 0 by decide]
  simp
theorem sb_cl0 : (0 : Int32).toNatClampNeg = 0 := by decide
theorem sb_m1 {p : Nat} (h : 0 < p) : nI p + (-1) = nI (p - 1) := by
  obtain ⟨q, rfl⟩ : ∃ q, p = q + 1 := ⟨p - 1, by omega⟩
  exact pk_m1 q
def sb_b (c : Nat) : Int32 := (nI c).toInt8.toInt32
theorem sb_byte : ∀ c, c < 256 → sb_b c &&& 255 = nI c ∧ ((nI c).toUInt32 % 65536).toInt32 = nI c ∧ nI c ≤ 255 := by decide +kernel
def sb_Fit (a : Nat → Int32) : Prop := ∀ j, fits .byte (.int (a j)) = true
def sb_Lat (t : Nat → Nat) (n : Nat) (a : Nat → Int32) : Prop := ∀ j, j < n → t j < 256 ∧ a j = sb_b (t j)
theorem sb_fitB (c : Nat) : fits .byte (.int (sb_b c)) = true := pk_fb _
theorem sb_fit0 : sb_Fit (fun _ => 0) := fun _ => by
  show fits .byte (.int 0) = true
  decide
theorem sb_fitU {a : Nat → Int32} {k : Nat} {x : Int32} (h : sb_Fit a) (hx : fits .byte (.int x) = true) : sb_Fit (upd a k x) := by
  intro j
  by_cases e : j = k
  · subst e
    rw [pk_us]
    exact hx
  · rw [pk_un e]
    exact h j
def sb_cat (t : Nat → Nat) (n : Nat) (s : Nat → Nat) : Nat → Nat := fun j => if j < n then t j else s (j - n)
theorem sb_cat_lo {t s : Nat → Nat} {n j : Nat} (h : j < n) : sb_cat t n s j = t j := if_pos h
theorem sb_cat_hi {t s : Nat → Nat} {n j : Nat} : sb_cat t n s (n + j) = s j := by
  show (if n + j < n then t (n + j) else s (n + j - n)) = s j
  rw [if_neg (by omega), Nat.add_sub_cancel_left]
theorem sb_latPut {t s : Nat → Nat} {n w : Nat} {a a' : Nat → Int32} (h : sb_Lat t n a) (hk : ∀ j, j < n → a' j = a j) (hs : ∀ i, i < w → s i < 256 ∧ a' (n + i) = sb_b (s i)) : sb_Lat (sb_cat t n s) (n + w) a' := by
  intro j hj
  by_cases e : j < n
  · rw [sb_cat_lo e, hk j e]
    exact h j e
  · obtain ⟨i, rfl⟩ : ∃ i, j = n + i := ⟨j - n, by omega⟩
    rw [sb_cat_hi]
    exact hs i (by omega)
theorem sb_latKeep {t : Nat → Nat} {n : Nat} {a a' : Nat → Int32} (h : sb_Lat t n a) (hk : ∀ j, j < n → a' j = a j) : sb_Lat t n a' := fun j hj => by
  rw [hk j hj]
  exact h j hj
def sb_cap (q m : Nat) : Nat := if q ≤ m then m else if 2 * m + 2 < q then q else 2 * m + 2
def sb_Room (q m mc ms : Nat) : Prop := q ≤ m ∨ (1 ≤ mc ∧ sb_cap q m ≤ ms ∧ sb_cap q m ≤ 65536)
theorem sb_cap_ge (q m : Nat) : q ≤ sb_cap q m := by
  unfold sb_cap
  split
  · omega
  · split <;> omega
theorem sb_cap_gem (q m : Nat) : m ≤ sb_cap q m := by
  unfold sb_cap
  split
  · omega
  · split <;> omega
theorem sb_cap_le {q m mc ms : Nat} (hm : m ≤ 65536) (hr : sb_Room q m mc ms) : sb_cap q m ≤ 65536 := by
  rcases hr with h | h
  · rw [sb_cap, if_pos h]
    exact hm
  · exact h.2.2
theorem sb_at {P : Int32 → Prop} {x y : Int32} (e : x = y) (h : P y) : P x := e ▸ h
def sb_dg (w : Nat) : Nat := if w < 10 then 1 else if w < 100 then 2 else if w < 1000 then 3 else if w < 10000 then 4 else if w < 100000 then 5 else if w < 1000000 then 6 else if w < 10000000 then 7 else if w < 100000000 then 8 else if w < 1000000000 then 9 else 10
def sb_dec (v : Nat) : Nat → Nat := fun i => 48 + v / 10 ^ (sb_dg v - 1 - i) % 10
theorem sb_dg_in (w : Nat) : 1 ≤ sb_dg w ∧ sb_dg w ≤ 10 := by
  unfold sb_dg
  constructor <;> (repeat' split) <;> omega
theorem sb_dg100 {w : Nat} (h : 100 ≤ w) (hw : w < 2 ^ 31) : sb_dg w = sb_dg (w / 100) + 2 := by
  rw [sb_dg, sb_dg, if_neg (show ¬ w < 10 by omega), if_neg (show ¬ w < 100 by omega)]
  by_cases h3 : w < 1000
  · rw [if_pos h3, if_pos (show w / 100 < 10 by omega)]
  rw [if_neg h3, if_neg (show ¬ w / 100 < 10 by omega)]
  by_cases h4 : w < 10000
  · rw [if_pos h4, if_pos (show w / 100 < 100 by omega)]
  rw [if_neg h4, if_neg (show ¬ w / 100 < 100 by omega)]
  by_cases h5 : w < 100000
  · rw [if_pos h5, if_pos (show w / 100 < 1000 by omega)]
  rw [if_neg h5, if_neg (show ¬ w / 100 < 1000 by omega)]
  by_cases h6 : w < 1000000
  · rw [if_pos h6, if_pos (show w / 100 < 10000 by omega)]
  rw [if_neg h6, if_neg (show ¬ w / 100 < 10000 by omega)]
  by_cases h7 : w < 10000000
  · rw [if_pos h7, if_pos (show w / 100 < 100000 by omega)]
  rw [if_neg h7, if_neg (show ¬ w / 100 < 100000 by omega)]
  by_cases h8 : w < 100000000
  · rw [if_pos h8, if_pos (show w / 100 < 1000000 by omega)]
  rw [if_neg h8, if_neg (show ¬ w / 100 < 1000000 by omega)]
  by_cases h9 : w < 1000000000
  · rw [if_pos h9, if_pos (show w / 100 < 10000000 by omega)]
  rw [if_neg h9, if_neg (show ¬ w / 100 < 10000000 by omega)]
  rw [if_pos (show w / 100 < 100000000 by omega)]
theorem sb_negT {w : Nat} (h : w < 2 ^ 31) : (-nI w).toInt = -(w : Int) := by
  rw [Int32.toInt_neg, nI_toInt h]
  exact Int.bmod_eq_of_le (by omega) (by omega)
theorem sb_nle {a b : Nat} (ha : a < 2 ^ 31) (hb : b < 2 ^ 31) : -nI a ≤ -nI b ↔ b ≤ a := by
  rw [Int32.le_iff_toInt_le, sb_negT ha, sb_negT hb]
  omega
theorem sb_nlt {a b : Nat} (ha : a < 2 ^ 31) (hb : b < 2 ^ 31) : -nI a < -nI b ↔ b < a := by
  rw [Int32.lt_iff_toInt_lt, sb_negT ha, sb_negT hb]
  omega
theorem sb_cmp {A B : Prop} {x : Int32} (v c : Nat) (f : c ≤ v → A) (g : v < c → B) (hv : v < 2 ^ 31) (hx : x = -nI c := by rfl) (hc : c < 2 ^ 31 := by omega) : (-nI v ≤ x → A) ∧ (¬ -nI v ≤ x → B) := by
  subst hx
  rw [sb_nle hv hc]
  exact ⟨f, fun z => g (by omega)⟩
theorem sb_ndiv {w : Nat} (hw : w < 2 ^ 31) : (-nI w) / 100 = -nI (w / 100) := by
  apply Int32.toInt_inj.mp
  have h100 : (100 : Int32).toInt = 100 := by decide
  rw [Int32.toInt_div, sb_negT hw, h100, sb_negT (by omega), Int.neg_tdiv, Int.tdiv_eq_ediv_of_nonneg (by omega), Int.bmod_eq_of_le (by omega) (by omega)]
  omega
theorem sb_nrem {w : Nat} (hw : w < 2 ^ 31) : (-nI (w / 100)) * 100 - (-nI w) = nI (w % 100) := by
  have h := pk_rem (a := w) (d := 100) hw (by decide) (by decide)
  rw [pk_div hw (by decide) (by decide)] at h
  rw [← h]
  show (-nI (w / 100)) * nI 100 - (-nI w) = nI w - nI (w / 100) * nI 100
  rw [Int32.neg_mul, Int32.sub_neg, Int32.add_comm, ← Int32.sub_eq_add_neg]
/-! rows on bits, shifts and unsigned numbers, to paste: each family out of a closed proof of our own, whole with what it rests on; each by itself clean at Lean in its own claim (generation 39, form 5). Take a family whole -/
/-! ===== Int32 by its bits: bt x i ===== -/
def bt (x : Int32) (i : Nat) : Bool := x.toBitVec.getLsbD i
theorem b_ext {x y : Int32} (h : ∀ i, i < 32 → bt x i = bt y i) : x = y := Int32.toBitVec_inj.mp (BitVec.eq_of_getLsbD_eq (fun i hi => h i hi))
theorem b_or (x y : Int32) (i : Nat) : bt (x ||| y) i = (bt x i || bt y i) := by unfold bt; rw [Int32.toBitVec_or, BitVec.getLsbD_or]
theorem b_and (x y : Int32) (i : Nat) : bt (x &&& y) i = (bt x i && bt y i) := by unfold bt; rw [Int32.toBitVec_and, BitVec.getLsbD_and]
theorem b_xor (x y : Int32) (i : Nat) : bt (x ^^^ y) i = (bt x i ^^ bt y i) := by unfold bt; rw [Int32.toBitVec_xor, BitVec.getLsbD_xor]
theorem b_big {x : Int32} {i : Nat} (h : 32 ≤ i) : bt x i = false := BitVec.getLsbD_of_ge _ _ h
theorem b_255 (i : Nat) : bt 255 i = decide (i < 8) := by
  rcases Nat.lt_or_ge i 32 with h | h
  · exact (by decide +kernel : ∀ i, i < 32 → bt 255 i = decide (i < 8)) i h
  · rw [b_big h, decide_eq_false (by omega)]
theorem b_65535 (i : Nat) : bt 65535 i = decide (i < 16) := by
  rcases Nat.lt_or_ge i 32 with h | h
  · exact (by decide +kernel : ∀ i, i < 32 → bt 65535 i = decide (i < 16)) i h
  · rw [b_big h, decide_eq_false (by omega)]
theorem b_m1 : ∀ i, i < 32 → bt (-1) i = true := by decide +kernel
theorem b_0 (i : Nat) : bt 0 i = false := BitVec.getLsbD_zero
theorem s_l : ∀ n, n < 32 → ((nI n &&& 31).toBitVec.smod 32).toNat = n := by decide +kernel
theorem s_u : ∀ n, n < 32 → (((nI n).toUInt32 &&& Int32.toUInt32 31).toBitVec % 32).toNat = n := by decide +kernel
theorem b_shl (n : Nat) (hn : n < 32) (x : Int32) {i : Nat} (hi : i < 32) : bt (x <<< (nI n &&& 31)) i = (decide (n ≤ i) && bt x (i - n)) := by
  unfold bt
  rw [Int32.toBitVec_shiftLeft]
  show (x.toBitVec <<< ((nI n &&& 31).toBitVec.smod 32).toNat).getLsbD i = _
  rw [s_l n hn, BitVec.getLsbD_shiftLeft]
  rcases Nat.lt_or_ge i n with h | h
  · simp [h, Nat.not_le.mpr h]
  · simp [hi, h, Nat.not_lt.mpr h]
theorem b_ushr (n : Nat) (hn : n < 32) (x : Int32) (i : Nat) : bt ((x.toUInt32 >>> ((nI n).toUInt32 &&& Int32.toUInt32 31)).toInt32) i = bt x (n + i) := by
  show (x.toUInt32 >>> ((nI n).toUInt32 &&& Int32.toUInt32 31)).toBitVec.getLsbD i = x.toUInt32.toBitVec.getLsbD (n + i)
  rw [UInt32.toBitVec_shiftRight]
  show (x.toUInt32.toBitVec >>> (((nI n).toUInt32 &&& Int32.toUInt32 31).toBitVec % 32).toNat).getLsbD i = _
  rw [s_u n hn, BitVec.getLsbD_ushiftRight]
theorem b_sshr (n : Nat) (hn : n < 32) (x : Int32) {i : Nat} (hi : i < 32) : bt (x >>> (nI n &&& 31)) i = if n + i < 32 then bt x (n + i) else bt x 31 := by
  unfold bt
  rw [Int32.toBitVec_shiftRight]
  show (x.toBitVec.sshiftRight ((nI n &&& 31).toBitVec.smod 32).toNat).getLsbD i = _
  rw [s_l n hn, BitVec.getLsbD_sshiftRight, BitVec.msb_eq_getLsbD_last]
  simp [hi]
theorem b_shl8 (x : Int32) {i : Nat} (hi : i < 32) : bt (x <<< ((8 : Int32) &&& 31)) i = (decide (8 ≤ i) && bt x (i - 8)) := b_shl 8 (by omega) x hi
theorem b_shl16 (x : Int32) {i : Nat} (hi : i < 32) : bt (x <<< ((16 : Int32) &&& 31)) i = (decide (16 ≤ i) && bt x (i - 16)) := b_shl 16 (by omega) x hi
theorem b_shl24 (x : Int32) {i : Nat} (hi : i < 32) : bt (x <<< ((24 : Int32) &&& 31)) i = (decide (24 ≤ i) && bt x (i - 24)) := b_shl 24 (by omega) x hi
theorem b_sshr8 (x : Int32) {i : Nat} (hi : i < 32) : bt (x >>> ((8 : Int32) &&& 31)) i = if 8 + i < 32 then bt x (8 + i) else bt x 31 := b_sshr 8 (by omega) x hi
/-! ===== nI under and, xor, >>>, one bit, 65535 ===== -/
theorem nx_and (a b : Nat) : nI a &&& nI b = nI (a &&& b) := by
  apply Int32.toBitVec_inj.1
  show BitVec.ofNat 32 a &&& BitVec.ofNat 32 b = BitVec.ofNat 32 (a &&& b)
  apply BitVec.eq_of_getLsbD_eq
  intro i hi
  simp [hi]
theorem nx_xor (a b : Nat) : nI a ^^^ nI b = nI (a ^^^ b) := by
  apply Int32.toBitVec_inj.1
  show BitVec.ofNat 32 a ^^^ BitVec.ofNat 32 b = BitVec.ofNat 32 (a ^^^ b)
  apply BitVec.eq_of_getLsbD_eq
  intro i hi
  simp [hi]
theorem nx_cnt : ∀ j : Fin 32, (UInt32.ofNat j.val &&& Int32.toUInt32 31).toNat % 32 = j.val := by decide +kernel
theorem nx_ush {k j : Nat} (hk : k < 65536) (hj : j < 32) : ((nI k).toUInt32 >>> ((nI j).toUInt32 &&& Int32.toUInt32 31)).toInt32 = nI (k >>> j) := by
  have hs : k >>> j ≤ k := by
    rw [Nat.shiftRight_eq_div_pow]
    exact Nat.div_le_self _ _
  have e2 : UInt32.ofNat k >>> (UInt32.ofNat j &&& Int32.toUInt32 31) = UInt32.ofNat (k >>> j) := by
    apply UInt32.toNat_inj.1
    have h1 : (UInt32.ofNat k).toNat = k := Nat.mod_eq_of_lt (by omega)
    have h2 : (UInt32.ofNat (k >>> j)).toNat = k >>> j := Nat.mod_eq_of_lt (by omega)
    rw [UInt32.toNat_shiftRight, nx_cnt ⟨j, hj⟩, h1, h2]
  show (UInt32.ofNat k >>> (UInt32.ofNat j &&& Int32.toUInt32 31)).toInt32 = _
  rw [e2]
  rfl
theorem nx_bit {k j : Nat} (hk : k < 65536) (hj : j < 16) : (((nI k).toUInt32 >>> ((nI j).toUInt32 &&& Int32.toUInt32 31)).toInt32 &&& 1) = 0 ↔ k.testBit j = false := by
  rw [nx_ush hk (by omega)]
  show nI (k >>> j) &&& nI 1 = 0 ↔ _
  rw [nx_and, Nat.and_one_is_mod, ← nI_0, nI_eq (by omega) (by omega), Nat.testBit_eq_decide_div_mod_eq, Nat.shiftRight_eq_div_pow, decide_eq_false_iff_not]
  generalize k / 2 ^ j = z
  omega
theorem nx_mod (k : Nat) : nI k &&& 65535 = nI (k % 65536) := by
  show nI k &&& nI 65535 = _
  rw [nx_and, show (65535 : Nat) = 2 ^ 16 - 1 from rfl, Nat.and_two_pow_sub_one_eq_mod]
theorem nx_m16 {k : Nat} (h : k < 65536) : nI k &&& 65535 = nI k := by rw [nx_mod, Nat.mod_eq_of_lt h]
theorem nx_mask (x : Int32) : ∃ k, k < 65536 ∧ x &&& 65535 = nI k := by
  have e : x = nI x.toBitVec.toNat := by
    apply Int32.toBitVec_inj.1
    show x.toBitVec = BitVec.ofNat 32 x.toBitVec.toNat
    simp
  refine ⟨x.toBitVec.toNat % 65536, Nat.mod_lt _ (by omega), ?_⟩
  rw [← nx_mod, ← e]
/-! ===== Int32 as a set of bits: test, set ===== -/
def nf_M (m : Int32) : Nat := 4294967296 - m.toBitVec.toNat
theorem nf_sh : ∀ l, l < 32 → ((1 : Int32) <<< (nI l &&& 31)).toBitVec = BitVec.twoPow 32 l := by decide +kernel
theorem nf_sl : ∀ l, l < 32 → (((nI l).toUInt32 &&& Int32.toUInt32 31).toBitVec % 32).toNat = l := by decide +kernel
theorem nf_tp : ∀ l, l < 32 → BitVec.twoPow 32 l ≠ 0#32 := by decide +kernel
theorem nf_bit (m : Int32) (l : Nat) (hl : l < 32) : ((m.toUInt32 >>> ((nI l).toUInt32 &&& Int32.toUInt32 31)).toInt32 &&& 1) = 0 ↔ (m &&& ((1 : Int32) <<< (nI l &&& 31))) = 0 := by
  have e : ((m.toUInt32 >>> ((nI l).toUInt32 &&& Int32.toUInt32 31)).toInt32).toBitVec = m.toBitVec >>> l := by
    show m.toBitVec >>> (((nI l).toUInt32 &&& Int32.toUInt32 31).toBitVec % 32) = m.toBitVec >>> l
    rw [BitVec.ushiftRight_eq', nf_sl l hl]
  rw [← Int32.toBitVec_inj, ← Int32.toBitVec_inj, Int32.toBitVec_and, Int32.toBitVec_and, nf_sh l hl, e, BitVec.and_twoPow]
  show (m.toBitVec >>> l &&& 1#32) = 0#32 ↔ _ = 0#32
  rw [BitVec.and_one_eq_setWidth_ofBool_getLsbD, BitVec.getLsbD_ushiftRight, Nat.add_zero]
  cases hb : m.toBitVec.getLsbD l
  · exact ⟨fun _ => by simp, fun _ => by decide⟩
  · exact ⟨fun z => absurd z (by decide), fun z => absurd ((if_pos rfl).symm.trans z) (nf_tp l hl)⟩
theorem nf_gr (m k : Int32) (h : m &&& k = 0) (hk : k ≠ 0) : nf_M (m ||| k) < nf_M m := by
  have hm := m.toBitVec.isLt
  have hm' := (m ||| k).toBitVec.isLt
  have h1 : m.toBitVec.toNat ≤ (m ||| k).toBitVec.toNat := by
    rw [Int32.toBitVec_or, BitVec.toNat_or]
    exact Nat.left_le_or
  have h2 : m.toBitVec.toNat ≠ (m ||| k).toBitVec.toNat := by
    intro e
    have e2 : m = m ||| k := Int32.toBitVec_inj.mp (BitVec.eq_of_toNat_eq e)
    apply hk
    apply Int32.toBitVec_inj.mp
    show k.toBitVec = 0#32
    apply BitVec.eq_of_getLsbD_eq
    intro i hi
    have a : m.toBitVec.getLsbD i = (m.toBitVec.getLsbD i || k.toBitVec.getLsbD i) := by rw [← BitVec.getLsbD_or, ← Int32.toBitVec_or, ← e2]
    have b : (m.toBitVec.getLsbD i && k.toBitVec.getLsbD i) = false := by
      rw [← BitVec.getLsbD_and, ← Int32.toBitVec_and, h]
      exact BitVec.getLsbD_zero
    rw [BitVec.getLsbD_zero]
    revert a b
    cases m.toBitVec.getLsbD i <;> cases k.toBitVec.getLsbD i <;> simp
  unfold nf_M
  omega
/-! ===== a byte read unsigned ===== -/
theorem bp_b (x : Int32) : x.toInt8.toInt32 &&& 255 = x &&& 255 := by
  apply Int32.toBitVec_inj.mp
  rw [Int32.toBitVec_and, Int32.toBitVec_and, Int8.toBitVec_toInt32, Int32.toBitVec_toInt8]
  apply BitVec.eq_of_getLsbD_eq
  intro i hi
  rw [BitVec.getLsbD_and, BitVec.getLsbD_and]
  have hm : ∀ i < 32, 8 ≤ i → (255 : Int32).toBitVec.getLsbD i = false := by decide
  rcases Nat.lt_or_ge i 8 with z | z
  · rw [BitVec.getLsbD_signExtend, BitVec.getLsbD_signExtend, if_pos z, if_pos hi]
    simp only [z, hi, decide_true, Bool.true_and]
  · rw [hm i hi z]; simp
/-! ===== the char cast and 65535 ===== -/
theorem em_w (v : Int32) : ∃ w : Nat, w < 65536 ∧ (v.toUInt32 % 65536).toInt32 = nI w ∧ v &&& 65535 = nI w := by
  have hr := lw_u16_r v
  have h0 : (0 : Int32).toInt = 0 := by decide
  obtain ⟨w, h1, h2⟩ := nI_of (x := lw_u16 v) (by rw [Int32.lt_iff_toInt_lt]; omega)
  have h3 : (v.toUInt32 % 65536).toInt32 = nI w := h2
  rw [h2, nI_toInt h1] at hr
  exact ⟨w, by omega, h3, by rw [← lg_i2c_mask, ← lg_i2c_nf, h3]⟩
/-! ===== Int64 as a set of bits: test, set, clear ===== -/
theorem ts_nf {x : Bool} (h : ¬ x = false) : x = true := by cases x <;> first | rfl | exact absurd rfl h
theorem ts_nt {x : Bool} (h : ¬ x = true) : x = false := by cases x <;> first | rfl | exact absurd rfl h
theorem ts_bit {w : Int64} {s : UInt64} {j : Nat} (hj : j < 64) (hs : s.toNat = j) : ((w.toUInt64 >>> s).toInt64 &&& 1) = 0 ↔ w.toBitVec.getLsbD j = false := by
  have e : (w.toUInt64 >>> s).toInt64.toBitVec = w.toBitVec >>> j := by
    apply BitVec.eq_of_toNat_eq
    show (w.toUInt64 >>> s).toNat = _
    rw [UInt64.toNat_shiftRight, hs, Nat.mod_eq_of_lt hj, BitVec.toNat_ushiftRight]
    rfl
  rw [← Int64.toBitVec_inj, Int64.toBitVec_and, e]
  show w.toBitVec >>> j &&& 1#64 = 0#64 ↔ _
  constructor
  · intro h
    have t := congrArg (fun x => x.getLsbD 0) h
    simpa using t
  · intro h
    apply BitVec.eq_of_getLsbD_eq
    intro i hi
    cases i with
    | zero => simp [h]
    | succ i => simp
theorem ts_or {w m : Int64} {j : Nat} (hj : j < 64) (hm : m.toBitVec = BitVec.twoPow 64 j) : (w ||| m) = w ↔ w.toBitVec.getLsbD j = true := by
  rw [← Int64.toBitVec_inj, Int64.toBitVec_or, hm]
  constructor
  · intro h
    have t := congrArg (fun x => x.getLsbD j) h
    simp only [BitVec.getLsbD_or, BitVec.getLsbD_twoPow] at t
    simpa [hj] using t.symm
  · intro h
    apply BitVec.eq_of_getLsbD_eq
    intro i hi
    rw [BitVec.getLsbD_or, BitVec.getLsbD_twoPow]
    by_cases e : j = i
    · subst e; rw [h, Bool.true_or]
    · simp [e]
theorem ts_and {w m : Int64} {j : Nat} (hj : j < 64) (hm : m.toBitVec = BitVec.twoPow 64 j) : (w &&& (m ^^^ (-1))) = w ↔ w.toBitVec.getLsbD j = false := by
  have ha : (-1 : Int64).toBitVec = BitVec.allOnes 64 := by decide
  rw [← Int64.toBitVec_inj, Int64.toBitVec_and, Int64.toBitVec_xor, hm, ha]
  constructor
  · intro h
    have t := congrArg (fun x => x.getLsbD j) h
    simp only [BitVec.getLsbD_and, BitVec.getLsbD_xor, BitVec.getLsbD_twoPow, BitVec.getLsbD_allOnes] at t
    simpa [hj] using t.symm
  · intro h
    apply BitVec.eq_of_getLsbD_eq
    intro i hi
    rw [BitVec.getLsbD_and, BitVec.getLsbD_xor, BitVec.getLsbD_twoPow, BitVec.getLsbD_allOnes]
    by_cases e : j = i
    · subst e; rw [h, Bool.false_and]
    · simp [e, hi]
/-! ===== lN n to 2^64: shifts, and, or, masks, one bit ===== -/
theorem wb_tb (n : Nat) : (lN n).toBitVec = BitVec.ofNat 64 n := rfl
theorem wb_inj {a b : Int64} (h : a.toBitVec = b.toBitVec) : a = b := Int64.toBitVec_inj.mp h
theorem wb_tn {n : Nat} (h : n < 2 ^ 64) : (lN n).toBitVec.toNat = n := by rw [wb_tb, BitVec.toNat_ofNat, Nat.mod_eq_of_lt h]
theorem wb_of (x : Int64) : ∃ n, n < 2 ^ 64 ∧ x = lN n := ⟨x.toBitVec.toNat, x.toBitVec.isLt, wb_inj (by rw [wb_tb]; simp)⟩
theorem wb_of32 (x : Int32) : ∃ n, n < 2 ^ 32 ∧ x = nI n := ⟨x.toBitVec.toNat, x.toBitVec.isLt, Int32.toBitVec_inj.mp (by show _ = BitVec.ofNat 32 _; simp)⟩
theorem wb_c : ∀ k, k < 64 → ((nI k).toInt64 &&& 63) = lN k := by decide +kernel
theorem wb_cu : ∀ k, k < 64 → ((nI k).toInt64.toUInt64 &&& Int64.toUInt64 63) = UInt64.ofNat k := by decide +kernel
theorem wb_sm : ∀ k, k < 64 → (BitVec.ofNat 64 k).smod 64 = BitVec.ofNat 64 k := by decide +kernel
theorem wb_pw {a b : Nat} (h : a ≤ b) : 2 ^ b = 2 ^ a * 2 ^ (b - a) := by rw [← Nat.pow_add]; congr 1; omega
theorem wb_lt2 {a b : Nat} (h : a < b) : 2 ^ a < 2 ^ b := Nat.pow_lt_pow_right (by decide) h
theorem wb_mod (n : Nat) : lN n = lN (n % 2 ^ 64) := wb_inj (by rw [wb_tb, wb_tb]; apply BitVec.eq_of_toNat_eq; rw [BitVec.toNat_ofNat, BitVec.toNat_ofNat, Nat.mod_mod])
theorem wb_shr {n k : Nat} (hn : n < 2 ^ 64) (hk : k < 64) : ((lN n).toUInt64 >>> ((nI k).toInt64.toUInt64 &&& Int64.toUInt64 63)).toInt64 = lN (n / 2 ^ k) := by
  rw [wb_cu k hk]
  apply wb_inj
  apply BitVec.eq_of_toNat_eq
  show ((lN n).toUInt64 >>> UInt64.ofNat k).toNat = (BitVec.ofNat 64 _).toNat
  have h1 : (UInt64.ofNat k).toNat = k := by
    show (BitVec.ofNat 64 k).toNat = k
    rw [BitVec.toNat_ofNat, Nat.mod_eq_of_lt (by omega)]
  have h2 : (lN n).toUInt64.toNat = n := wb_tn hn
  rw [UInt64.toNat_shiftRight, h1, h2, Nat.mod_eq_of_lt hk, Nat.shiftRight_eq_div_pow, BitVec.toNat_ofNat, Nat.mod_eq_of_lt (Nat.lt_of_le_of_lt (Nat.div_le_self _ _) hn)]
theorem wb_shl (n : Nat) {k : Nat} (hk : k < 64) : lN n <<< ((nI k).toInt64 &&& 63) = lN (n * 2 ^ k) := by
  rw [wb_c k hk]
  apply wb_inj
  rw [Int64.toBitVec_shiftLeft, wb_tb, wb_tb, wb_tb, wb_sm k hk]
  apply BitVec.eq_of_toNat_eq
  rw [BitVec.shiftLeft_eq', BitVec.toNat_shiftLeft, BitVec.toNat_ofNat, BitVec.toNat_ofNat, BitVec.toNat_ofNat, Nat.mod_eq_of_lt (show k < 2 ^ 64 by omega), Nat.shiftLeft_eq, Nat.mul_mod, Nat.mod_mod, ← Nat.mul_mod]
theorem wb_and {a b : Nat} (ha : a < 2 ^ 64) (hb : b < 2 ^ 64) : lN a &&& lN b = lN (a &&& b) := by
  apply wb_inj
  rw [Int64.toBitVec_and, wb_tb, wb_tb, wb_tb]
  apply BitVec.eq_of_toNat_eq
  rw [BitVec.toNat_and, BitVec.toNat_ofNat, BitVec.toNat_ofNat, BitVec.toNat_ofNat, Nat.mod_eq_of_lt ha, Nat.mod_eq_of_lt hb, Nat.mod_eq_of_lt (Nat.and_lt_two_pow _ hb)]
theorem wb_or {a b : Nat} (ha : a < 2 ^ 64) (hb : b < 2 ^ 64) : lN a ||| lN b = lN (a ||| b) := by
  apply wb_inj
  rw [Int64.toBitVec_or, wb_tb, wb_tb, wb_tb]
  apply BitVec.eq_of_toNat_eq
  rw [BitVec.toNat_or, BitVec.toNat_ofNat, BitVec.toNat_ofNat, BitVec.toNat_ofNat, Nat.mod_eq_of_lt ha, Nat.mod_eq_of_lt hb, Nat.mod_eq_of_lt (Nat.or_lt_two_pow ha hb)]
theorem wb_mask {n k : Nat} (hn : n < 2 ^ 64) (hk : k < 64) : lN n &&& lN (2 ^ k - 1) = lN (n % 2 ^ k) := by
  rw [wb_and hn (by have := wb_lt2 hk; omega), Nat.and_two_pow_sub_one_eq_mod]
theorem wb_a1 {n : Nat} (hn : n < 2 ^ 64) : lN n &&& 1 = lN (n % 2) := wb_mask (k := 1) hn (by decide)
theorem wb_bit {n k : Nat} (hn : n < 2 ^ 64) (hk : k < 64) : ((lN n).toUInt64 >>> ((nI k).toInt64.toUInt64 &&& Int64.toUInt64 63)).toInt64 &&& 1 = lN (n / 2 ^ k % 2) := by
  rw [wb_shr hn hk, wb_a1 (Nat.lt_of_le_of_lt (Nat.div_le_self _ _) hn)]
theorem wb_xor {q k : Nat} (hk : k < 63) (h : 2 ^ k ≤ q) (h2 : q < 2 ^ (k + 1)) : lN q ^^^ lN (2 ^ k) = lN (q - 2 ^ k) := by
  obtain ⟨r, rfl⟩ : ∃ r, q = 2 ^ k + r := ⟨q - 2 ^ k, by omega⟩
  have hr : r < 2 ^ k := by rw [Nat.pow_succ] at h2; omega
  have hx : (2 ^ k + r) ^^^ 2 ^ k = r := by
    apply Nat.eq_of_testBit_eq
    intro i
    rw [Nat.testBit_xor, Nat.testBit_two_pow]
    rcases Nat.lt_trichotomy i k with h | h | h
    · rw [Nat.testBit_two_pow_add_gt h]
      simp [show ¬ k = i by omega]
    · subst h
      rw [Nat.testBit_two_pow_add_eq]
      simp
    · have a1 : 2 ^ (k + 1) ≤ 2 ^ i := Nat.pow_le_pow_right (by decide) h
      rw [Nat.testBit_lt_two_pow (show 2 ^ k + r < 2 ^ i by omega), Nat.testBit_lt_two_pow (show r < 2 ^ i by omega)]
      simp [show ¬ k = i by omega]
  have b1 := wb_lt2 (show k + 1 < 64 by omega)
  have b2 := wb_lt2 (show k < 64 by omega)
  apply wb_inj
  rw [Int64.toBitVec_xor, wb_tb, wb_tb, wb_tb]
  apply BitVec.eq_of_toNat_eq
  rw [BitVec.toNat_xor, BitVec.toNat_ofNat, BitVec.toNat_ofNat, BitVec.toNat_ofNat, Nat.mod_eq_of_lt (by omega : 2 ^ k + r < 2 ^ 64), Nat.mod_eq_of_lt b2, hx, Nat.add_sub_cancel_left, Nat.mod_eq_of_lt (by omega)]
/-! ===== lN: masks, 'or' of parts that don't overlap is a sum ===== -/
theorem u_tn {n : Nat} (h : n < 2 ^ 64) : (UInt64.ofNat n).toNat = n := Nat.mod_eq_of_lt h
theorem g_and {a b c : Nat} (ha : a < 2 ^ 64) (hb : b < 2 ^ 64) (hc : a &&& b = c) : lN a &&& lN b = lN c := by
  subst hc
  have h : UInt64.ofNat a &&& UInt64.ofNat b = UInt64.ofNat (a &&& b) := UInt64.toNat_inj.mp (by rw [UInt64.toNat_and, u_tn ha, u_tn hb, u_tn (Nat.and_lt_two_pow a hb)])
  have h2 := congrArg UInt64.toInt64 h
  exact h2
theorem g_and1 {a : Nat} (ha : a < 2 ^ 64) : lN a &&& 1 = lN (a % 2) := g_and (b := 1) ha (by decide) (Nat.and_two_pow_sub_one_eq_mod a 1)
theorem g_mask {a s p : Nat} (hp : 2 ^ s = p) (hs : s < 64) (ha : a < 2 ^ 64) : lN a &&& lN (p - 1) = lN (a % p) := by
  subst hp
  have := Nat.pow_lt_pow_right (show 1 < 2 by decide) hs
  exact g_and ha (by omega) (Nat.and_two_pow_sub_one_eq_mod a s)
theorem g_or {k p a b : Nat} (hp : 2 ^ k = p) (ha : a < p) (h : b * p + a < 2 ^ 64) : lN (b * p) ||| lN a = lN (b * p + a) := by
  subst hp
  have h1 : b * 2 ^ k ||| a = b * 2 ^ k + a := by rw [← Nat.shiftLeft_eq, Nat.shiftLeft_add_eq_or_of_lt ha]
  have h3 : UInt64.ofNat (b * 2 ^ k) ||| UInt64.ofNat a = UInt64.ofNat (b * 2 ^ k + a) := UInt64.toNat_inj.mp (by rw [UInt64.toNat_or, u_tn (by omega), u_tn (by omega), u_tn h, h1])
  have h2 := congrArg UInt64.toInt64 h3
  exact h2
theorem g_or' {k p a b : Nat} (hp : 2 ^ k = p) (ha : a < p) (h : a + b * p < 2 ^ 64) : lN a ||| lN (b * p) = lN (a + b * p) := by
  rw [Int64.or_comm, g_or hp ha (by omega), Nat.add_comm]
theorem g_ushr {a k p : Nat} {y : UInt64} (hy : y = UInt64.ofNat k) (hk : k < 64) (hp : 2 ^ k = p) (ha : a < 2 ^ 64) : ((lN a).toUInt64 >>> y).toInt64 = lN (a / p) := by
  subst hy hp
  have h : UInt64.ofNat a >>> UInt64.ofNat k = UInt64.ofNat (a / 2 ^ k) := UInt64.toNat_inj.mp (by rw [UInt64.toNat_shiftRight, u_tn ha, u_tn (by omega), u_tn (Nat.lt_of_le_of_lt (Nat.div_le_self _ _) ha), Nat.mod_eq_of_lt hk, Nat.shiftRight_eq_div_pow])
  have h2 := congrArg UInt64.toInt64 h
  exact h2
theorem g_shl {a k p : Nat} {y : Int64} (hy : y.toBitVec.smod 64 = BitVec.ofNat 64 k) (hk : k < 64) (hp : 2 ^ k = p) (ha : a < 2 ^ 64) : lN a <<< y = lN (a * p) := by
  subst hp
  apply Int64.toBitVec_inj.mp
  rw [Int64.toBitVec_shiftLeft, hy]
  apply BitVec.eq_of_toNat_eq
  have hb : (lN a).toBitVec.toNat = a := Nat.mod_eq_of_lt ha
  have hk' : (BitVec.ofNat 64 k).toNat = k := Nat.mod_eq_of_lt (by omega)
  have h : ((lN a).toBitVec <<< BitVec.ofNat 64 k).toNat = (a * 2 ^ k) % 2 ^ 64 := by simp only [BitVec.shiftLeft_eq', BitVec.toNat_shiftLeft, hb, hk', Nat.shiftLeft_eq]
  exact h
/-! ===== lN to 2^62 under >> and >>> ===== -/
theorem pf_lI {a : Nat} (h : a < 2 ^ 63) : (lN a).toInt = (a : Int) := lg_ofNat_toInt h
theorem pf_shr {a d : Nat} {D : Int64} (hD : (D.toBitVec.smod 64).toNat = d) (h : a < 2 ^ 62) : lN a >>> D = lN (a / 2 ^ d) := by
  have hd : a / 2 ^ d ≤ a := Nat.div_le_self _ _
  apply Int64.toInt_inj.mp
  have e : (lN a >>> D).toInt = (lN a).toInt >>> d := by
    rw [← hD]
    exact BitVec.toInt_sshiftRight ..
  rw [e, Int.shiftRight_eq_div_pow, pf_lI (by omega), pf_lI (by omega)]
  rfl
theorem pf_ushr {a d : Nat} {D : UInt64} (hD : D.toNat % 64 = d) (h : a < 2 ^ 62) : ((lN a).toUInt64 >>> D).toInt64 = lN (a / 2 ^ d) := by
  have hd : a / 2 ^ d ≤ a := Nat.div_le_self _ _
  have e : (lN a).toUInt64 >>> D = UInt64.ofNat (a / 2 ^ d) := UInt64.toNat_inj.mp (by
    rw [UInt64.toNat_shiftRight, hD, Nat.shiftRight_eq_div_pow, UInt64.toNat_ofNat']
    show (UInt64.ofNat a).toNat / 2 ^ d = _
    rw [UInt64.toNat_ofNat', Nat.mod_eq_of_lt (by omega), Nat.mod_eq_of_lt (by omega)])
  rw [e]
  rfl
theorem pf_andw (x : Int64) : ∃ m, m < 2 ^ 32 ∧ x &&& 4294967295 = lN m := ⟨x.toBitVec.toNat % 2 ^ 32, Nat.mod_lt _ (by decide), Int64.toBitVec_inj.mp (BitVec.eq_of_toNat_eq (by
  show (x.toBitVec &&& 4294967295#64).toNat = (BitVec.ofNat 64 (x.toBitVec.toNat % 2 ^ 32)).toNat
  rw [BitVec.toNat_and, show (4294967295#64).toNat = 2 ^ 32 - 1 from by decide, Nat.and_two_pow_sub_one_eq_mod, BitVec.toNat_ofNat]
  omega))⟩
/-! ===== Int64 as an unsigned number: uN x ===== -/
def uN (x : Int64) : Nat := x.toUInt64.toNat
theorem uN_lt (x : Int64) : uN x < 18446744073709551616 := x.toUInt64.toNat_lt
theorem uN_inj {x y : Int64} (h : uN x = uN y) : x = y := congrArg UInt64.toInt64 (UInt64.toNat_inj.mp h)
theorem uN_add (x y : Int64) : uN (x + y) = (uN x + uN y) % 18446744073709551616 := by
  show (x.toUInt64 + y.toUInt64).toNat = _
  exact UInt64.toNat_add _ _
theorem uN_mul (x y : Int64) : uN (x * y) = (uN x * uN y) % 18446744073709551616 := by
  show (x.toUInt64 * y.toUInt64).toNat = _
  exact UInt64.toNat_mul _ _
theorem uN_shl (x : Int64) : uN (x <<< ((1 : Int32).toInt64 &&& 63)) = (2 * uN x) % 18446744073709551616 := by
  have h : (((1 : Int32).toInt64 &&& 63).toBitVec.smod 64).toNat = 1 := by decide
  show (x.toBitVec <<< (((1 : Int32).toInt64 &&& 63).toBitVec.smod 64).toNat).toNat = _
  rw [h, BitVec.toNat_shiftLeft, Nat.shiftLeft_eq, Nat.mul_comm]
  rfl
theorem uN_shr (x : Int64) (s : UInt64) : uN (x.toUInt64 >>> s).toInt64 = uN x / 2 ^ (s.toNat % 64) := by
  show (x.toUInt64 >>> s).toNat = _
  rw [UInt64.toNat_shiftRight, Nat.shiftRight_eq_div_pow]
  rfl
theorem uN_s32 (x : Int64) : uN (x.toUInt64 >>> ((32 : Int32).toInt64.toUInt64 &&& Int64.toUInt64 63)).toInt64 = uN x / 4294967296 := by
  have h : ((32 : Int32).toInt64.toUInt64 &&& Int64.toUInt64 63).toNat % 64 = 32 := by decide
  rw [uN_shr, h]
theorem uN_s63 (x : Int64) : uN (x.toUInt64 >>> ((63 : Int32).toInt64.toUInt64 &&& Int64.toUInt64 63)).toInt64 = uN x / 9223372036854775808 := by
  have h : ((63 : Int32).toInt64.toUInt64 &&& Int64.toUInt64 63).toNat % 64 = 63 := by decide
  rw [uN_shr, h]
theorem uN_lo (x : Int64) : uN (x &&& 4294967295) = uN x % 4294967296 := by
  show (x.toUInt64 &&& Int64.toUInt64 4294967295).toNat = _
  rw [UInt64.toNat_and]
  exact Nat.and_two_pow_sub_one_eq_mod _ 32
theorem uN_bit (x : Int64) : (x &&& 1) = 0 ↔ uN x % 2 = 0 := by
  have h : uN (x &&& 1) = uN x % 2 := by
    show (x.toUInt64 &&& Int64.toUInt64 1).toNat = _
    rw [UInt64.toNat_and]
    exact Nat.and_two_pow_sub_one_eq_mod _ 1
  rw [← h]
  exact ⟨fun z => by rw [z]; rfl, fun z => uN_inj (z.trans rfl)⟩
theorem uN_or {x y : Int64} (hy : uN y < 2) : uN ((x <<< ((1 : Int32).toInt64 &&& 63)) ||| y) = (2 * uN x) % 18446744073709551616 + uN y := by
  have h1 : uN ((x <<< ((1 : Int32).toInt64 &&& 63)) ||| y) = uN (x <<< ((1 : Int32).toInt64 &&& 63)) ||| uN y := UInt64.toNat_or _ _
  have h2 : (2 * uN x) % 18446744073709551616 = 2 ^ 1 * (uN x % 9223372036854775808) := by omega
  rw [h1, uN_shl, h2]
  exact (Nat.two_pow_add_eq_or_of_lt (i := 1) hy _).symm
theorem nat_xor {a : Nat} (h : a < 18446744073709551616) : a ^^^ 2 ^ 63 = (a + 9223372036854775808) % 18446744073709551616 := by
  have h1 : (a ^^^ 2 ^ 63) % 2 ^ 63 = a % 2 ^ 63 := by rw [Nat.xor_mod_two_pow, Nat.mod_self, Nat.xor_zero]
  have h2 : (a ^^^ 2 ^ 63) / 2 ^ 63 = (a / 2 ^ 63) ^^^ 1 := by rw [Nat.xor_div_two_pow, Nat.div_self (Nat.two_pow_pos 63)]
  have h3 : a / 2 ^ 63 = 0 ∨ a / 2 ^ 63 = 1 := by omega
  generalize a ^^^ 2 ^ 63 = t at h1 h2
  rcases h3 with h3 | h3
  · rw [h3] at h2
    have h2 : t / 2 ^ 63 = 1 := h2
    omega
  · rw [h3] at h2
    have h2 : t / 2 ^ 63 = 0 := h2
    omega
theorem uN_xor (x : Int64) : uN (x ^^^ (-9223372036854775808)) = (uN x + 9223372036854775808) % 18446744073709551616 := by
  rw [← nat_xor (uN_lt x)]
  exact UInt64.toNat_xor _ _
theorem uN_int (x : Int64) : x.toInt = if 2 * uN x < 18446744073709551616 then (uN x : Int) else (uN x : Int) - 18446744073709551616 := BitVec.toInt_eq_toNat_cond _
theorem uN_le (x y : Int64) : (x ^^^ (-9223372036854775808)) ≤ (y ^^^ (-9223372036854775808)) ↔ uN x ≤ uN y := by
  have hx := uN_lt x
  have hy := uN_lt y
  rw [Int64.le_iff_toInt_le, uN_int, uN_int, uN_xor, uN_xor]
  omega
theorem uN_sk (x : Int64) {k : Nat} (hk : k < 64) : uN (x.toUInt64 >>> ((nI k).toInt64.toUInt64 &&& Int64.toUInt64 63)).toInt64 = uN x / 2 ^ k := by
  have h : ((nI k).toInt64.toUInt64 &&& Int64.toUInt64 63).toNat % 64 = k := by
    rw [nI_l (by omega), UInt64.toNat_and]
    have e : (lN k).toUInt64.toNat = k % 2 ^ 64 := rfl
    have e2 : (Int64.toUInt64 63).toNat = 2 ^ 6 - 1 := by decide
    rw [e, e2, Nat.and_two_pow_sub_one_eq_mod]
    omega
  rw [uN_shr, h]
/-! ===== unsigned comparison by xor with the least ===== -/
theorem lN_bv (n : Nat) : (lN n).toBitVec = BitVec.ofNat 64 n := rfl
theorem lN_nat {n : Nat} (h : n < 2 ^ 64) : (lN n).toBitVec.toNat = n := by rw [lN_bv, BitVec.toNat_ofNat]; exact Nat.mod_eq_of_lt h
theorem lN_xor (a b : Nat) : lN a ^^^ lN b = lN (a ^^^ b) := by
  apply Int64.toBitVec_inj.mp; rw [Int64.toBitVec_xor, lN_bv, lN_bv, lN_bv]; apply BitVec.eq_of_getLsbD_eq; intro i hi; simp [BitVec.getLsbD_ofNat, Nat.testBit_xor, hi]
theorem lN_ti {m : Nat} (h : m < 2 ^ 64) : (lN m).toInt = if m < 2 ^ 63 then (m : Int) else (m : Int) - 2 ^ 64 := by
  have c := BitVec.toInt_eq_toNat_cond (lN m).toBitVec
  rw [lN_nat h] at c
  show (lN m).toBitVec.toInt = _
  rw [c]
  split <;> split <;> omega
theorem xor63 {x : Nat} (h : x < 2 ^ 63) : x ^^^ 2 ^ 63 = 2 ^ 63 + x := by
  apply Nat.eq_of_testBit_eq
  intro i
  rw [Nat.testBit_xor, Nat.testBit_two_pow]
  rcases Nat.lt_trichotomy i 63 with z | z | z
  · rw [Nat.testBit_two_pow_add_gt z, decide_eq_false (by omega)]; simp
  · subst z; rw [Nat.testBit_two_pow_add_eq]; simp
  · have hp : 2 ^ 64 ≤ 2 ^ i := Nat.pow_le_pow_right (by decide) z
    rw [Nat.testBit_lt_two_pow (show x < 2 ^ i by omega), Nat.testBit_lt_two_pow (show 2 ^ 63 + x < 2 ^ i by omega), decide_eq_false (by omega)]; rfl
theorem xorS {a : Nat} (h : a < 2 ^ 64) : (lN a ^^^ (-9223372036854775808)).toInt = (a : Int) - 2 ^ 63 := by
  rw [show (-9223372036854775808 : Int64) = lN (2 ^ 63) from by decide +kernel, lN_xor]
  rcases Nat.lt_or_ge a (2 ^ 63) with z | z
  · rw [xor63 z, lN_ti (by omega), if_neg (by omega)]; omega
  · obtain ⟨x, rfl⟩ : ∃ x, a = 2 ^ 63 + x := ⟨a - 2 ^ 63, by omega⟩
    rw [← xor63 (by omega), Nat.xor_assoc, Nat.xor_self, Nat.xor_zero, lN_ti (by omega), if_pos (by omega), xor63 (by omega)]; omega
theorem ultL {a b : Nat} (ha : a < 2 ^ 64) (hb : b < 2 ^ 64) : ((lN b ^^^ (-9223372036854775808)) ≤ (lN a ^^^ (-9223372036854775808))) ↔ b ≤ a := by
  rw [Int64.le_iff_toInt_le, xorS ha, xorS hb]; omega
/-! ===== Int64 masks of n low bits ===== -/
theorem cr_bits (W U M : BitVec 64) : ((W &&& U) &&& (U &&& (M ^^^ BitVec.allOnes 64))) = 0#64 ↔ (W &&& U) &&& M = W &&& U := by
  constructor
  · intro h
    apply BitVec.eq_of_getLsbD_eq
    intro i hi
    have e := congrArg (fun x => BitVec.getLsbD x i) h
    simp only [BitVec.getLsbD_and, BitVec.getLsbD_xor, BitVec.getLsbD_allOnes, BitVec.getLsbD_zero, hi, decide_true] at e ⊢
    revert e
    cases W.getLsbD i <;> cases U.getLsbD i <;> cases M.getLsbD i <;> decide
  · intro h
    apply BitVec.eq_of_getLsbD_eq
    intro i hi
    have e := congrArg (fun x => BitVec.getLsbD x i) h
    simp only [BitVec.getLsbD_and, BitVec.getLsbD_xor, BitVec.getLsbD_allOnes, BitVec.getLsbD_zero, hi, decide_true] at e ⊢
    revert e
    cases W.getLsbD i <;> cases U.getLsbD i <;> cases M.getLsbD i <;> decide
theorem cr_mask (w U m : Int64) (n : Nat) (hm : m.toBitVec.toNat = 2 ^ n - 1) : ((w &&& U) &&& (U &&& (m ^^^ (-1)))) = 0 ↔ (w &&& U).toBitVec.toNat < 2 ^ n := by
  have e0 : (-1 : Int64).toBitVec = BitVec.allOnes 64 := by decide
  have z0 : (0 : Int64).toBitVec = 0#64 := by decide
  rw [← Int64.toBitVec_inj, z0, Int64.toBitVec_and, Int64.toBitVec_and, Int64.toBitVec_and, Int64.toBitVec_xor, e0, cr_bits]
  generalize w.toBitVec &&& U.toBitVec = T
  rw [← BitVec.toNat_inj, BitVec.toNat_and, hm, Nat.and_two_pow_sub_one_eq_mod]
  constructor
  · intro h
    have t := Nat.mod_lt T.toNat (Nat.two_pow_pos n)
    rw [h] at t
    exact t
  · exact Nat.mod_eq_of_lt
theorem cr_shr (t : Int64) (x : UInt64) (n : Nat) (hx : x.toNat % 64 = n) : (t.toUInt64 >>> x).toInt64 = 0 ↔ t.toBitVec.toNat < 2 ^ n := by
  rw [← Int64.toBitVec_inj, ← BitVec.toNat_inj]
  show (t.toUInt64 >>> x).toNat = 0 ↔ t.toUInt64.toNat < 2 ^ n
  rw [UInt64.toNat_shiftRight, hx, Nat.shiftRight_eq_div_pow]
  constructor
  · intro h
    have d : t.toUInt64.toNat / 2 ^ n < 1 := by
      rw [h]
      decide
    have e := (Nat.div_lt_iff_lt_mul (Nat.two_pow_pos n)).mp d
    rw [Nat.one_mul] at e
    exact e
  · exact Nat.div_eq_of_lt
theorem cr_amt (s : Int64) : ∃ n, n < 64 ∧ s &&& 63 = lN n ∧ (s.toUInt64 &&& Int64.toUInt64 63).toNat % 64 = n := by
  have e : (s.toUInt64 &&& Int64.toUInt64 63).toNat = s.toUInt64.toNat % 2 ^ 6 := by
    rw [UInt64.toNat_and, show (Int64.toUInt64 63).toNat = 2 ^ 6 - 1 from by decide, Nat.and_two_pow_sub_one_eq_mod]
  refine ⟨s.toUInt64.toNat % 2 ^ 6, by omega, ?_, by omega⟩
  rw [← Int64.toBitVec_inj, ← BitVec.toNat_inj]
  show (s.toUInt64 &&& Int64.toUInt64 63).toNat = (BitVec.ofNat 64 (s.toUInt64.toNat % 2 ^ 6)).toNat
  rw [e, BitVec.toNat_ofNat]
  omega
end
section
/-! values of the machine: ints, objects; mark bits; counts -/
def vl_ob (o : Nat) : Int64 := lN (4 * o + 2)
def vl_iv (n : Int32) : Int64 := (n.toInt64 <<< ((2 : Int32).toInt64 &&& 63)) ||| 1
def vl_mb (m : Int64) (o : Nat) : Bool := m.toBitVec.getLsbD o
def vl_sb (m : Int64) (o : Nat) : Int64 := m ||| ((1 : Int64) <<< ((nI o).toInt64 &&& 63))
theorem vl_c2 : ((2 : Int32).toInt64 &&& 63).toBitVec.smod 64 = BitVec.ofNat 64 2 := by decide
theorem vl_c2n : (((2 : Int32).toInt64 &&& 63).toBitVec.smod 64).toNat = 2 := by decide
theorem vl_ob_mk {o : Nat} (h : o < 1000) : ((nI o).toInt64 <<< ((2 : Int32).toInt64 &&& 63)) ||| 2 = vl_ob o := by
  rw [nI_l (by omega), g_shl (k := 2) (p := 4) vl_c2 (by omega) (by decide) (by omega)]
  show lN (o * 4) ||| lN 2 = _
  rw [g_or (k := 2) (p := 4) (by decide) (by omega) (by omega)]
  unfold vl_ob
  congr 1
  omega
theorem vl_ob_and {o : Nat} (h : o < 1000) : vl_ob o &&& 3 = 2 := by
  show lN (4 * o + 2) &&& lN (4 - 1) = lN 2
  rw [g_mask (s := 2) (p := 4) (by decide) (by omega) (by omega)]
  congr 1
  omega
theorem vl_ob_pl {o : Nat} (h : o < 1000) : (vl_ob o >>> ((2 : Int32).toInt64 &&& 63)).toInt32 = nI o := by
  show (lN (4 * o + 2) >>> ((2 : Int32).toInt64 &&& 63)).toInt32 = nI o
  rw [pf_shr (d := 2) vl_c2n (by omega), lN_i]
  congr 1
  omega
theorem vl_ob_inj {a b : Nat} (ha : a < 1000) (hb : b < 1000) (h : vl_ob a = vl_ob b) : a = b := by
  have := (lN_eq (a := 4 * a + 2) (b := 4 * b + 2) (by omega) (by omega)).mp h
  omega
theorem vl_ob_ne0 {o : Nat} (h : o < 1000) : ¬ vl_ob o = 0 := by
  intro z
  have := (lN_eq (a := 4 * o + 2) (b := 0) (by omega) (by omega)).mp z
  omega
theorem vl_iv_tb (n : Int32) : (vl_iv n).toBitVec = (n.toBitVec.signExtend 64) <<< (2 : Nat) ||| 1#64 := by
  unfold vl_iv
  rw [Int64.toBitVec_or, Int64.toBitVec_shiftLeft, vl_c2]
  rfl
theorem vl_iv_and (n : Int32) : vl_iv n &&& 3 = 1 := by
  apply wb_inj
  rw [Int64.toBitVec_and, vl_iv_tb]
  show _ &&& 3#64 = 1#64
  apply BitVec.eq_of_getLsbD_eq
  intro i hi
  rw [BitVec.getLsbD_and, BitVec.getLsbD_or, BitVec.getLsbD_shiftLeft]
  by_cases h0 : i = 0
  · subst h0; simp
  · by_cases h1 : i = 1
    · subst h1; simp
    · have a : (3#64).getLsbD i = false := by
        rw [BitVec.getLsbD_ofNat, show (3 : Nat) = 2 ^ 2 - 1 from rfl, Nat.testBit_two_pow_sub_one]
        simp; omega
      have b : (1#64).getLsbD i = false := by
        rw [BitVec.getLsbD_ofNat, show (1 : Nat) = 2 ^ 1 - 1 from rfl, Nat.testBit_two_pow_sub_one]
        simp; omega
      rw [a, b]; simp
theorem vl_iv_pl (n : Int32) : (vl_iv n >>> ((2 : Int32).toInt64 &&& 63)).toInt32 = n := by
  apply Int32.toBitVec_inj.mp
  rw [Int64.toBitVec_toInt32, Int64.toBitVec_shiftRight, vl_c2, vl_iv_tb]
  apply BitVec.eq_of_getLsbD_eq
  intro i hi
  rw [BitVec.getLsbD_signExtend]
  show (decide (i < 32) && if i < 64 then (BitVec.sshiftRight _ 2).getLsbD i else _) = _
  rw [if_pos (by omega), BitVec.getLsbD_sshiftRight, BitVec.getLsbD_or, BitVec.getLsbD_shiftLeft, BitVec.getLsbD_signExtend]
  have b : (1#64).getLsbD (2 + i) = false := by
    rw [BitVec.getLsbD_ofNat, show (1 : Nat) = 2 ^ 1 - 1 from rfl, Nat.testBit_two_pow_sub_one]
    simp
  rw [b]
  simp [hi, show 2 + i < 64 by omega, show 2 + i - 2 = i by omega, show i < 64 by omega, show ¬ 64 ≤ i by omega]
theorem vl_iv_inj {a b : Int32} (h : vl_iv a = vl_iv b) : a = b := by
  rw [← vl_iv_pl a, h, vl_iv_pl b]
theorem vl_iv_ne0 (n : Int32) : ¬ vl_iv n = 0 := by
  intro h
  have := vl_iv_and n
  rw [h] at this
  exact absurd this (by decide)
theorem vl_iv_ob {n : Int32} {o : Nat} (h : o < 1000) : ¬ vl_iv n = vl_ob o := by
  intro z
  have a := vl_iv_and n
  rw [z, vl_ob_and h] at a
  exact absurd a (by decide)
theorem vl_bit (m : Int64) {o : Nat} (h : o < 64) : (((m.toUInt64 >>> ((nI o).toInt64.toUInt64 &&& Int64.toUInt64 63)).toInt64) &&& 1) = 0 ↔ vl_mb m o = false :=
  ts_bit h (by rw [wb_cu o h]; exact u_tn (by omega))
theorem vl_sb_b (m : Int64) {o : Nat} (h : o < 64) (i : Nat) : vl_mb (vl_sb m o) i = (vl_mb m i || decide (i = o)) := by
  unfold vl_mb vl_sb
  rw [Int64.toBitVec_or, BitVec.getLsbD_or]
  congr 1
  have e : (1 : Int64) <<< ((nI o).toInt64 &&& 63) = lN (2 ^ o) := by
    have := wb_shl 1 h
    rw [Nat.one_mul] at this
    exact this
  rw [e, wb_tb, BitVec.getLsbD_ofNat, Nat.testBit_two_pow]
  by_cases z : i = o
  · subst z; simp [h]
  · have : ¬ o = i := fun q => z q.symm
    simp [z, this]
theorem vl_sb_s (m : Int64) {o : Nat} (h : o < 64) : vl_mb (vl_sb m o) o = true := by rw [vl_sb_b m h]; simp
theorem vl_sb_m {m : Int64} {o i : Nat} (h : o < 64) (hi : vl_mb m i = true) : vl_mb (vl_sb m o) i = true := by rw [vl_sb_b m h, hi]; rfl
theorem vl_sb_n {m : Int64} {o i : Nat} (h : o < 64) (hi : vl_mb (vl_sb m o) i = true) : vl_mb m i = true ∨ i = o := by
  rw [vl_sb_b m h] at hi
  simpa using hi
theorem vl_mb0 (i : Nat) : vl_mb 0 i = false := by
  show (0#64).getLsbD i = false
  exact BitVec.getLsbD_zero
theorem vl_by : ∀ c : Fin 128, (nI c.val).toInt8.toInt32 = nI c.val := by decide +kernel
theorem vl_nb {c : Nat} (h : c < 128) : vp_nar .byte (nI c).toInt8.toInt32 = nI c := by
  rw [pk_vb]; exact vl_by ⟨c, h⟩
theorem vl_sh : ∀ c : Fin 2048, (nI c.val).toInt16.toInt32 = nI c.val := by decide +kernel
theorem vl_ns {c : Nat} (h : c < 2048) : vp_nar .short (nI c).toInt16.toInt32 = nI c := by
  rw [pk_vs]; exact vl_sh ⟨c, h⟩
/-- a value that is laid out well: nothing, an int, an object at a place below 40 -/
def gc_wf (v : Int64) : Prop := v = 0 ∨ (∃ n, v = vl_iv n) ∨ ∃ c, c < 40 ∧ v = vl_ob c
theorem gc_wf0 : gc_wf 0 := Or.inl rfl
/-! counts -/
def ct_n (p : Nat → Bool) : Nat → Nat
  | 0 => 0
  | n + 1 => ct_n p n + (if p n = true then 1 else 0)
theorem ct_le (p : Nat → Bool) : ∀ n, ct_n p n ≤ n
  | 0 => Nat.le_refl 0
  | n + 1 => by
    have := ct_le p n
    unfold ct_n
    split <;> omega
theorem ct_cg {p q : Nat → Bool} : ∀ n, (∀ i, i < n → p i = q i) → ct_n p n = ct_n q n
  | 0, _ => rfl
  | n + 1, h => by
    unfold ct_n
    rw [ct_cg n (fun i hi => h i (by omega)), h n (by omega)]
theorem ct_mono {p q : Nat → Bool} : ∀ n, (∀ i, i < n → p i = true → q i = true) → ct_n p n ≤ ct_n q n
  | 0, _ => Nat.le_refl 0
  | n + 1, h => by
    have := ct_mono n (fun i hi => h i (by omega))
    unfold ct_n
    by_cases z : p n = true
    · rw [if_pos z, if_pos (h n (by omega) z)]; omega
    · rw [if_neg z]; split <;> omega
theorem ct_add {p q : Nat → Bool} {o : Nat} (hp : p o = false) (hq : q o = true) (h : ∀ i, i ≠ o → q i = p i) : ∀ n, ct_n q n = ct_n p n + (if o < n then 1 else 0)
  | 0 => rfl
  | n + 1 => by
    have ih := ct_add hp hq h n
    unfold ct_n
    rw [ih]
    by_cases z : n = o
    · subst z
      rw [hp, hq]
      simp
    · rw [h n z]
      by_cases y : o < n
      · rw [if_pos y, if_pos (show o < n + 1 by omega)]; omega
      · rw [if_neg y, if_neg (show ¬ o < n + 1 by omega)]; omega
theorem ct_full {p : Nat → Bool} : ∀ n, ct_n p n = n → ∀ i, i < n → p i = true
  | 0, _, i, hi => absurd hi (by omega)
  | n + 1, h, i, hi => by
    have a := ct_le p n
    unfold ct_n at h
    by_cases z : p n = true
    · rw [if_pos z] at h
      by_cases y : i = n
      · rw [y]; exact z
      · exact ct_full n (by omega) i (by omega)
    · rw [if_neg z] at h; omega
theorem ct_all {p : Nat → Bool} : ∀ n, (∀ i, i < n → p i = true) → ct_n p n = n
  | 0, _ => rfl
  | n + 1, h => by
    unfold ct_n
    rw [ct_all n (fun i hi => h i (by omega)), if_pos (h n (by omega))]
theorem ct_free {p : Nat → Bool} : ∀ n, ct_n p n < n → ∃ i, i < n ∧ p i = false ∧ ∀ j, j < i → p j = true
  | 0, h => absurd h (by omega)
  | n + 1, h => by
    by_cases z : ct_n p n < n
    · obtain ⟨i, hi, a, b⟩ := ct_free n z
      exact ⟨i, by omega, a, b⟩
    · have a := ct_le p n
      have e : ct_n p n = n := by omega
      refine ⟨n, by omega, ?_, fun j hj => ct_full n e j hj⟩
      unfold ct_n at h
      cases y : p n with
      | false => rfl
      | true => rw [y] at h; simp at h; omega
theorem ct_ext {p : Nat → Bool} {n : Nat} : ∀ m, n ≤ m → (∀ i, n ≤ i → i < m → p i = false) → ct_n p m = ct_n p n
  | 0, h, _ => by rw [show n = 0 by omega]
  | m + 1, h, hp => by
    by_cases z : n = m + 1
    · rw [z]
    · have e : ct_n p (m + 1) = ct_n p m + (if p m = true then 1 else 0) := rfl
      rw [e, hp m (by omega) (by omega), ct_ext m (by omega) (fun i a b => hp i a (by omega))]
      simp
theorem ct_rel {p : Nat → Bool} {G : Nat → Nat → Prop} {m : Nat} (h2 : ∀ i i' j, G i j → G i' j → i = i') : ∀ n (q : Nat → Bool), (∀ i, i < n → p i = true → ∃ j, j < m ∧ q j = true ∧ G i j) → ct_n p n ≤ ct_n q m
  | 0, _, _ => Nat.zero_le _
  | n + 1, q, h => by
    show ct_n p n + (if p n = true then 1 else 0) ≤ ct_n q m
    by_cases z : p n = true
    · obtain ⟨j, hj, qj, gj⟩ := h n (by omega) z
      have a := ct_add (p := fun i => q i && !decide (i = j)) (q := q) (o := j) (by simp) qj (fun i hi => by simp [hi]) m
      have b := ct_rel h2 n (fun i => q i && !decide (i = j)) (fun i hi pi => by
        obtain ⟨j', hj', qj', gj'⟩ := h i (by omega) pi
        refine ⟨j', hj', ?_, gj'⟩
        have : j' ≠ j := fun e => by
          have := h2 i n j (e ▸ gj') gj
          omega
        simp [qj', this])
      rw [if_pos z, a, if_pos hj]
      omega
    · rw [if_neg z]
      exact ct_rel h2 n q (fun i hi pi => h i (by omega) pi)
end
section
/-! X's marking: outcomes of mark, markRoots, markNext -/
section
variable {f_expressionCount f_functionCount f_codeEnd f_depth f_letCount f_height f_heldNames f_usedCount f_marking f_waitCount f_top f_frame f_at f_openCount f_stepCount f_resultSort f_resultNumber f_levelNow : Int32} {f_marks : Int64} {a_kindOf a_partX a_partY a_partZ a_weightOf a_needOf a_names a_known a_knownNumber a_functionOf a_op a_operand a_workNode a_workPhase a_workLast a_workPatch a_letPlace a_isUsed a_functionAt a_heldCount a_waiting a_openFrame a_openAt : Nat → Int32} {a_cells a_globals a_stack : Nat → Int64}
theorem gc_place {post : Int32 → Prop} {c : Nat} (hc : c < 1000) (hp : post (nI c)) : wpX_placeOf post (f_expressionCount, f_functionCount, f_codeEnd, f_depth, f_letCount, f_height, f_heldNames, f_usedCount, f_marks, f_marking, f_waitCount, f_top, f_frame, f_at, f_openCount, f_stepCount, f_resultSort, f_resultNumber, f_levelNow, a_kindOf, a_partX, a_partY, a_partZ, a_weightOf, a_needOf, a_names, a_known, a_knownNumber, a_functionOf, a_op, a_operand, a_workNode, a_workPhase, a_workLast, a_workPatch, a_letPlace, a_isUsed, a_functionAt, a_heldCount, a_cells, a_waiting, a_globals, a_stack, a_openFrame, a_openAt) (vl_ob c) := by
  show post ((vl_ob c >>> ((2 : Int32).toInt64 &&& 63)).toInt32)
  rw [vl_ob_pl hc]
  exact hp
theorem gc_mark0 {post : SX → Prop} {v : Int64} (h : ¬ v &&& 3 = 2) (hp : post (f_expressionCount, f_functionCount, f_codeEnd, f_depth, f_letCount, f_height, f_heldNames, f_usedCount, f_marks, f_marking, f_waitCount, f_top, f_frame, f_at, f_openCount, f_stepCount, f_resultSort, f_resultNumber, f_levelNow, a_kindOf, a_partX, a_partY, a_partZ, a_weightOf, a_needOf, a_names, a_known, a_knownNumber, a_functionOf, a_op, a_operand, a_workNode, a_workPhase, a_workLast, a_workPatch, a_letPlace, a_isUsed, a_functionAt, a_heldCount, a_cells, a_waiting, a_globals, a_stack, a_openFrame, a_openAt)) : wpX_mark post (f_expressionCount, f_functionCount, f_codeEnd, f_depth, f_letCount, f_height, f_heldNames, f_usedCount, f_marks, f_marking, f_waitCount, f_top, f_frame, f_at, f_openCount, f_stepCount, f_resultSort, f_resultNumber, f_levelNow, a_kindOf, a_partX, a_partY, a_partZ, a_weightOf, a_needOf, a_names, a_known, a_knownNumber, a_functionOf, a_op, a_operand, a_workNode, a_workPhase, a_workLast, a_workPatch, a_letPlace, a_isUsed, a_functionAt, a_heldCount, a_cells, a_waiting, a_globals, a_stack, a_openFrame, a_openAt) v := br_f h hp
theorem gc_mark1 {post : SX → Prop} {c : Nat} (hc : c < 40) (hm : vl_mb f_marks c = true) (hp : post (f_expressionCount, f_functionCount, f_codeEnd, f_depth, f_letCount, f_height, f_heldNames, f_usedCount, f_marks, f_marking, f_waitCount, f_top, f_frame, f_at, f_openCount, f_stepCount, f_resultSort, f_resultNumber, f_levelNow, a_kindOf, a_partX, a_partY, a_partZ, a_weightOf, a_needOf, a_names, a_known, a_knownNumber, a_functionOf, a_op, a_operand, a_workNode, a_workPhase, a_workLast, a_workPatch, a_letPlace, a_isUsed, a_functionAt, a_heldCount, a_cells, a_waiting, a_globals, a_stack, a_openFrame, a_openAt)) : wpX_mark post (f_expressionCount, f_functionCount, f_codeEnd, f_depth, f_letCount, f_height, f_heldNames, f_usedCount, f_marks, f_marking, f_waitCount, f_top, f_frame, f_at, f_openCount, f_stepCount, f_resultSort, f_resultNumber, f_levelNow, a_kindOf, a_partX, a_partY, a_partZ, a_weightOf, a_needOf, a_names, a_known, a_knownNumber, a_functionOf, a_op, a_operand, a_workNode, a_workPhase, a_workLast, a_workPatch, a_letPlace, a_isUsed, a_functionAt, a_heldCount, a_cells, a_waiting, a_globals, a_stack, a_openFrame, a_openAt) (vl_ob c) :=
  br_t (vl_ob_and (by omega)) (gc_place (by omega) (br_f (by rw [vl_bit f_marks (by omega), hm]; decide) hp))
theorem gc_mark2 {post : SX → Prop} {c wc : Nat} (hc : c < 40) (hw : wc < 48) (hm : vl_mb f_marks c = false) (hp : post (f_expressionCount, f_functionCount, f_codeEnd, f_depth, f_letCount, f_height, f_heldNames, f_usedCount, vl_sb f_marks c, f_marking, nI (wc + 1), f_top, f_frame, f_at, f_openCount, f_stepCount, f_resultSort, f_resultNumber, f_levelNow, a_kindOf, a_partX, a_partY, a_partZ, a_weightOf, a_needOf, a_names, a_known, a_knownNumber, a_functionOf, a_op, a_operand, a_workNode, a_workPhase, a_workLast, a_workPatch, a_letPlace, a_isUsed, a_functionAt, a_heldCount, a_cells, upd a_waiting wc (nI c), a_globals, a_stack, a_openFrame, a_openAt)) : wpX_mark post (f_expressionCount, f_functionCount, f_codeEnd, f_depth, f_letCount, f_height, f_heldNames, f_usedCount, f_marks, f_marking, nI wc, f_top, f_frame, f_at, f_openCount, f_stepCount, f_resultSort, f_resultNumber, f_levelNow, a_kindOf, a_partX, a_partY, a_partZ, a_weightOf, a_needOf, a_names, a_known, a_knownNumber, a_functionOf, a_op, a_operand, a_workNode, a_workPhase, a_workLast, a_workPatch, a_letPlace, a_isUsed, a_functionAt, a_heldCount, a_cells, a_waiting, a_globals, a_stack, a_openFrame, a_openAt) (vl_ob c) :=
  br_t (vl_ob_and (by omega)) (gc_place (by omega) (br_t ((vl_bit f_marks (by omega)).mpr hm) (nm_e (And.intro (vp_in_nI hw (by omega)) (nm_r (e' := upd a_waiting wc (nI c)) (by rw [nI_clamp (by omega), vl_nb (by omega)]) (nm_r (nI_1 wc) hp))))))
end
theorem gc_mark (I : Int64 → (Nat → Int32) → Nat → Prop) {v : Int64} {m : Int64} {wt : Nat → Int32} {wc : Nat} (hv : gc_wf v) (hI : I m wt wc) (hw : wc < 48)
    (hs : ∀ c, c < 40 → v = vl_ob c → vl_mb m c = false → I (vl_sb m c) (upd wt wc (nI c)) (wc + 1)) :
    ∃ (m' : Int64) (wt' : Nat → Int32) (wc' : Nat), I m' wt' wc' ∧ (∀ c, c < 40 → v = vl_ob c → vl_mb m' c = true) ∧ (∀ o, vl_mb m o = true → vl_mb m' o = true) ∧
      ∀ {f_expressionCount f_functionCount f_codeEnd f_depth f_letCount f_height f_heldNames f_usedCount f_marking f_top f_frame f_at f_openCount f_stepCount f_resultSort f_resultNumber f_levelNow : Int32} {a_kindOf a_partX a_partY a_partZ a_weightOf a_needOf a_names a_known a_knownNumber a_functionOf a_op a_operand a_workNode a_workPhase a_workLast a_workPatch a_letPlace a_isUsed a_functionAt a_heldCount a_openFrame a_openAt : Nat → Int32} {a_cells a_globals a_stack : Nat → Int64} (post : SX → Prop), post (f_expressionCount, f_functionCount, f_codeEnd, f_depth, f_letCount, f_height, f_heldNames, f_usedCount, m', f_marking, nI wc', f_top, f_frame, f_at, f_openCount, f_stepCount, f_resultSort, f_resultNumber, f_levelNow, a_kindOf, a_partX, a_partY, a_partZ, a_weightOf, a_needOf, a_names, a_known, a_knownNumber, a_functionOf, a_op, a_operand, a_workNode, a_workPhase, a_workLast, a_workPatch, a_letPlace, a_isUsed, a_functionAt, a_heldCount, a_cells, wt', a_globals, a_stack, a_openFrame, a_openAt) → wpX_mark post (f_expressionCount, f_functionCount, f_codeEnd, f_depth, f_letCount, f_height, f_heldNames, f_usedCount, m, f_marking, nI wc, f_top, f_frame, f_at, f_openCount, f_stepCount, f_resultSort, f_resultNumber, f_levelNow, a_kindOf, a_partX, a_partY, a_partZ, a_weightOf, a_needOf, a_names, a_known, a_knownNumber, a_functionOf, a_op, a_operand, a_workNode, a_workPhase, a_workLast, a_workPatch, a_letPlace, a_isUsed, a_functionAt, a_heldCount, a_cells, wt, a_globals, a_stack, a_openFrame, a_openAt) v := by
  rcases hv with rfl | ⟨n, rfl⟩ | ⟨c, hc, rfl⟩
  · exact ⟨_, _, _, hI, fun c hc e => absurd e.symm (vl_ob_ne0 (by omega)), fun o h => h, fun post hp => gc_mark0 (by decide) hp⟩
  · exact ⟨_, _, _, hI, fun c hc e => absurd e (vl_iv_ob (by omega)), fun o h => h, fun post hp => gc_mark0 (by rw [vl_iv_and]; decide) hp⟩
  · cases hm : vl_mb m c with
    | true =>
      refine ⟨_, _, _, hI, fun c' hc' e => ?_, fun o h => h, fun post hp => gc_mark1 hc hm hp⟩
      rw [← vl_ob_inj (by omega) (by omega) e]; exact hm
    | false =>
      refine ⟨_, _, _, hs c hc rfl hm, fun c' hc' e => ?_, fun o h => vl_sb_m (by omega) h, fun post hp => gc_mark2 hc hw hm hp⟩
      rw [← vl_ob_inj (by omega) (by omega) e]; exact vl_sb_s _ (by omega)
theorem gc_roots35 (I : Int64 → (Nat → Int32) → Nat → Prop) (hIw : ∀ m wt wc, I m wt wc → wc < 48) {t : Nat} {st : Nat → Int64} (ht : t ≤ 500) (hwf : ∀ k, k < t → gc_wf (st k))
    (hs : ∀ m wt wc c k, I m wt wc → k < t → c < 40 → st k = vl_ob c → vl_mb m c = false → I (vl_sb m c) (upd wt wc (nI c)) (wc + 1)) :
    ∀ d k m wt wc, k + d = t → I m wt wc → ∃ (m' : Int64) (wt' : Nat → Int32) (wc' : Nat), I m' wt' wc' ∧ (∀ j c, k ≤ j → j < t → c < 40 → st j = vl_ob c → vl_mb m' c = true) ∧ (∀ o, vl_mb m o = true → vl_mb m' o = true) ∧
      ∀ {f_expressionCount f_functionCount f_codeEnd f_depth f_letCount f_height f_heldNames f_usedCount f_marking f_frame f_at f_openCount f_stepCount f_resultSort f_resultNumber f_levelNow : Int32} {a_kindOf a_partX a_partY a_partZ a_weightOf a_needOf a_names a_known a_knownNumber a_functionOf a_op a_operand a_workNode a_workPhase a_workLast a_workPatch a_letPlace a_isUsed a_functionAt a_heldCount a_openFrame a_openAt : Nat → Int32} {a_cells a_globals : Nat → Int64} (post : SX → Prop), post (f_expressionCount, f_functionCount, f_codeEnd, f_depth, f_letCount, f_height, f_heldNames, f_usedCount, m', f_marking, nI wc', nI t, f_frame, f_at, f_openCount, f_stepCount, f_resultSort, f_resultNumber, f_levelNow, a_kindOf, a_partX, a_partY, a_partZ, a_weightOf, a_needOf, a_names, a_known, a_knownNumber, a_functionOf, a_op, a_operand, a_workNode, a_workPhase, a_workLast, a_workPatch, a_letPlace, a_isUsed, a_functionAt, a_heldCount, a_cells, wt', a_globals, st, a_openFrame, a_openAt) → wX_markRoots_35 post (d + 1) (nI k) f_expressionCount f_functionCount f_codeEnd f_depth f_letCount f_height f_heldNames f_usedCount m f_marking (nI wc) (nI t) f_frame f_at f_openCount f_stepCount f_resultSort f_resultNumber f_levelNow a_kindOf a_partX a_partY a_partZ a_weightOf a_needOf a_names a_known a_knownNumber a_functionOf a_op a_operand a_workNode a_workPhase a_workLast a_workPatch a_letPlace a_isUsed a_functionAt a_heldCount a_cells wt a_globals st a_openFrame a_openAt := by
  intro d
  induction d with
  | zero =>
    intro k m wt wc hk hI
    exact ⟨m, wt, wc, hI, fun j c a b => by omega, fun o h => h, fun post hp => br_t (nI_le (by omega) (by omega)) hp⟩
  | succ d ih =>
    intro k m wt wc hk hI
    obtain ⟨m1, wt1, wc1, hI1, hc1, hm1, hp1⟩ := gc_mark I (hwf k (by omega)) hI (hIw _ _ _ hI) (fun c hc e z => hs m wt wc c k hI (by omega) hc e z)
    obtain ⟨m2, wt2, wc2, hI2, hc2, hm2, hp2⟩ := ih (k + 1) m1 wt1 wc1 (by omega) hI1
    refine ⟨m2, wt2, wc2, hI2, fun j c a b hc e => ?_, fun o h => hm2 o (hm1 o h), fun post hp => br_f (nI_ge (by omega) (by omega)) (And.intro (vp_in_nI (by omega) (by omega)) ?_)⟩
    · by_cases z : j = k
      · subst z; exact hm2 c (hc1 c hc e)
      · exact hc2 j c (by omega) b hc e
    · rw [nI_clamp (by omega)]
      exact hp1 _ (nm_r (nI_1 k) (hp2 post hp))
theorem gc_roots12 (I : Int64 → (Nat → Int32) → Nat → Prop) (hIw : ∀ m wt wc, I m wt wc → wc < 48) {gl : Nat → Int64} (hwf : ∀ k, k < 4 → gc_wf (gl k))
    (hs : ∀ m wt wc c k, I m wt wc → k < 4 → c < 40 → gl k = vl_ob c → vl_mb m c = false → I (vl_sb m c) (upd wt wc (nI c)) (wc + 1)) :
    ∀ d k m wt wc, k + d = 4 → I m wt wc → ∃ (m' : Int64) (wt' : Nat → Int32) (wc' : Nat), I m' wt' wc' ∧ (∀ j c, k ≤ j → j < 4 → c < 40 → gl j = vl_ob c → vl_mb m' c = true) ∧ (∀ o, vl_mb m o = true → vl_mb m' o = true) ∧
      ∀ {f_expressionCount f_functionCount f_codeEnd f_depth f_letCount f_height f_heldNames f_usedCount f_marking f_top f_frame f_at f_openCount f_stepCount f_resultSort f_resultNumber f_levelNow : Int32} {a_kindOf a_partX a_partY a_partZ a_weightOf a_needOf a_names a_known a_knownNumber a_functionOf a_op a_operand a_workNode a_workPhase a_workLast a_workPatch a_letPlace a_isUsed a_functionAt a_heldCount a_openFrame a_openAt : Nat → Int32} {a_cells a_stack : Nat → Int64} (post : SX → Prop), (∃ n, wX_markRoots_35 post n 0 f_expressionCount f_functionCount f_codeEnd f_depth f_letCount f_height f_heldNames f_usedCount m' f_marking (nI wc') f_top f_frame f_at f_openCount f_stepCount f_resultSort f_resultNumber f_levelNow a_kindOf a_partX a_partY a_partZ a_weightOf a_needOf a_names a_known a_knownNumber a_functionOf a_op a_operand a_workNode a_workPhase a_workLast a_workPatch a_letPlace a_isUsed a_functionAt a_heldCount a_cells wt' gl a_stack a_openFrame a_openAt) → wX_markRoots_12 post (d + 1) (nI k) f_expressionCount f_functionCount f_codeEnd f_depth f_letCount f_height f_heldNames f_usedCount m f_marking (nI wc) f_top f_frame f_at f_openCount f_stepCount f_resultSort f_resultNumber f_levelNow a_kindOf a_partX a_partY a_partZ a_weightOf a_needOf a_names a_known a_knownNumber a_functionOf a_op a_operand a_workNode a_workPhase a_workLast a_workPatch a_letPlace a_isUsed a_functionAt a_heldCount a_cells wt gl a_stack a_openFrame a_openAt := by
  intro d
  induction d with
  | zero =>
    intro k m wt wc hk hI
    exact ⟨m, wt, wc, hI, fun j c a b => by omega, fun o h => h, fun post hp => br_t (nI_le (a := 4) (by omega) (by omega)) hp⟩
  | succ d ih =>
    intro k m wt wc hk hI
    obtain ⟨m1, wt1, wc1, hI1, hc1, hm1, hp1⟩ := gc_mark I (hwf k (by omega)) hI (hIw _ _ _ hI) (fun c hc e z => hs m wt wc c k hI (by omega) hc e z)
    obtain ⟨m2, wt2, wc2, hI2, hc2, hm2, hp2⟩ := ih (k + 1) m1 wt1 wc1 (by omega) hI1
    refine ⟨m2, wt2, wc2, hI2, fun j c a b hc e => ?_, fun o h => hm2 o (hm1 o h), fun post hp => br_f (nI_ge (b := 4) (by omega) (by omega)) (And.intro (vp_in_nI (by omega) (by omega)) ?_)⟩
    · by_cases z : j = k
      · subst z; exact hm2 c (hc1 c hc e)
      · exact hc2 j c (by omega) b hc e
    · rw [nI_clamp (by omega)]
      exact hp1 _ (nm_r (nI_1 k) (hp2 post hp))
theorem gc_roots (I : Int64 → (Nat → Int32) → Nat → Prop) (hIw : ∀ m wt wc, I m wt wc → wc < 48) {t : Nat} {st gl : Nat → Int64} {wt0 : Nat → Int32} (ht : t ≤ 500) (hwf : ∀ k, k < t → gc_wf (st k)) (hwg : ∀ k, k < 4 → gc_wf (gl k))
    (hs : ∀ m wt wc c, I m wt wc → ((∃ k, k < 4 ∧ gl k = vl_ob c) ∨ ∃ k, k < t ∧ st k = vl_ob c) → c < 40 → vl_mb m c = false → I (vl_sb m c) (upd wt wc (nI c)) (wc + 1)) (h0 : I 0 wt0 0) :
    ∃ (m' : Int64) (wt' : Nat → Int32) (wc' : Nat), I m' wt' wc' ∧ (∀ c, c < 40 → ((∃ k, k < 4 ∧ gl k = vl_ob c) ∨ ∃ k, k < t ∧ st k = vl_ob c) → vl_mb m' c = true) ∧
      ∀ {f_expressionCount f_functionCount f_codeEnd f_depth f_letCount f_height f_heldNames f_usedCount f_marking f_waitCount f_frame f_at f_openCount f_stepCount f_resultSort f_resultNumber f_levelNow : Int32} {f_marks : Int64} {a_kindOf a_partX a_partY a_partZ a_weightOf a_needOf a_names a_known a_knownNumber a_functionOf a_op a_operand a_workNode a_workPhase a_workLast a_workPatch a_letPlace a_isUsed a_functionAt a_heldCount a_openFrame a_openAt : Nat → Int32} {a_cells : Nat → Int64} (post : SX → Prop), post (f_expressionCount, f_functionCount, f_codeEnd, f_depth, f_letCount, f_height, f_heldNames, f_usedCount, m', f_marking, nI wc', nI t, f_frame, f_at, f_openCount, f_stepCount, f_resultSort, f_resultNumber, f_levelNow, a_kindOf, a_partX, a_partY, a_partZ, a_weightOf, a_needOf, a_names, a_known, a_knownNumber, a_functionOf, a_op, a_operand, a_workNode, a_workPhase, a_workLast, a_workPatch, a_letPlace, a_isUsed, a_functionAt, a_heldCount, a_cells, wt', gl, st, a_openFrame, a_openAt) → wpX_markRoots post (f_expressionCount, f_functionCount, f_codeEnd, f_depth, f_letCount, f_height, f_heldNames, f_usedCount, f_marks, f_marking, f_waitCount, nI t, f_frame, f_at, f_openCount, f_stepCount, f_resultSort, f_resultNumber, f_levelNow, a_kindOf, a_partX, a_partY, a_partZ, a_weightOf, a_needOf, a_names, a_known, a_knownNumber, a_functionOf, a_op, a_operand, a_workNode, a_workPhase, a_workLast, a_workPatch, a_letPlace, a_isUsed, a_functionAt, a_heldCount, a_cells, wt0, gl, st, a_openFrame, a_openAt) := by
  obtain ⟨m1, wt1, wc1, hI1, hc1, hm1, hp1⟩ := gc_roots12 I hIw hwg (fun m wt wc c k i hk hc e z => hs m wt wc c i (Or.inl ⟨k, hk, e⟩) hc z) 4 0 0 wt0 0 rfl h0
  obtain ⟨m2, wt2, wc2, hI2, hc2, hm2, hp2⟩ := gc_roots35 I hIw ht hwf (fun m wt wc c k i hk hc e z => hs m wt wc c i (Or.inr ⟨k, hk, e⟩) hc z) t 0 m1 wt1 wc1 (by omega) hI1
  refine ⟨m2, wt2, wc2, hI2, fun c hc h => ?_, fun post hp => ⟨5, hp1 post ⟨t + 1, hp2 post hp⟩⟩⟩
  rcases h with ⟨k, hk, e⟩ | ⟨k, hk, e⟩
  · exact hm2 c (hc1 k c (by omega) hk hc e)
  · exact hc2 k c (by omega) hk hc e
theorem gc_next22 (I : Nat → Int64 → (Nat → Int32) → Nat → Prop) (hIw : ∀ k m wt wc, I k m wt wc → wc < 48) {o h : Nat} {hA : Nat → Int32} {cs : Nat → Int64} (ho : o < 48) (hh : hA o = nI h) (h8 : h ≤ 8) (hwf : ∀ k, k < h → gc_wf (cs (8 * o + k)))
    (hs : ∀ k m wt wc c, I k m wt wc → k < h → c < 40 → cs (8 * o + k) = vl_ob c → vl_mb m c = false → I k (vl_sb m c) (upd wt wc (nI c)) (wc + 1))
    (ha : ∀ k m wt wc, I k m wt wc → k < h → (∀ c, c < 40 → cs (8 * o + k) = vl_ob c → vl_mb m c = true) → I (k + 1) m wt wc) :
    ∀ d k m wt wc, k + d = h → I k m wt wc → ∃ (m' : Int64) (wt' : Nat → Int32) (wc' : Nat), I h m' wt' wc' ∧ (∀ o, vl_mb m o = true → vl_mb m' o = true) ∧
      ∀ {f_expressionCount f_functionCount f_codeEnd f_depth f_letCount f_height f_heldNames f_usedCount f_marking f_top f_frame f_at f_openCount f_stepCount f_resultSort f_resultNumber f_levelNow : Int32} {a_kindOf a_partX a_partY a_partZ a_weightOf a_needOf a_names a_known a_knownNumber a_functionOf a_op a_operand a_workNode a_workPhase a_workLast a_workPatch a_letPlace a_isUsed a_functionAt a_openFrame a_openAt : Nat → Int32} {a_globals a_stack : Nat → Int64} (post : SX → Prop), post (f_expressionCount, f_functionCount, f_codeEnd, f_depth, f_letCount, f_height, f_heldNames, f_usedCount, m', f_marking, nI wc', f_top, f_frame, f_at, f_openCount, f_stepCount, f_resultSort, f_resultNumber, f_levelNow, a_kindOf, a_partX, a_partY, a_partZ, a_weightOf, a_needOf, a_names, a_known, a_knownNumber, a_functionOf, a_op, a_operand, a_workNode, a_workPhase, a_workLast, a_workPatch, a_letPlace, a_isUsed, a_functionAt, hA, cs, wt', a_globals, a_stack, a_openFrame, a_openAt) → wX_markNext_22 post (nI o) (d + 1) (nI k) f_expressionCount f_functionCount f_codeEnd f_depth f_letCount f_height f_heldNames f_usedCount m f_marking (nI wc) f_top f_frame f_at f_openCount f_stepCount f_resultSort f_resultNumber f_levelNow a_kindOf a_partX a_partY a_partZ a_weightOf a_needOf a_names a_known a_knownNumber a_functionOf a_op a_operand a_workNode a_workPhase a_workLast a_workPatch a_letPlace a_isUsed a_functionAt hA cs wt a_globals a_stack a_openFrame a_openAt := by
  intro d
  induction d with
  | zero =>
    intro k m wt wc hk hI
    have e : k = h := by omega
    subst e
    refine ⟨m, wt, wc, hI, fun o h => h, fun post hp => And.intro (vp_in_nI ho (by omega)) (br_t ?_ hp)⟩
    rw [nI_clamp (by omega), hh]
    exact nI_le (by omega) (by omega)
  | succ d ih =>
    intro k m wt wc hk hI
    obtain ⟨m1, wt1, wc1, hI1, hc1, hm1, hp1⟩ := gc_mark (I k) (hwf k (by omega)) hI (hIw _ _ _ _ hI) (fun c hc e z => hs k m wt wc c hI (by omega) hc e z)
    obtain ⟨m2, wt2, wc2, hI2, hm2, hp2⟩ := ih (k + 1) m1 wt1 wc1 (by omega) (ha k m1 wt1 wc1 hI1 (by omega) hc1)
    have e8 : 8 * nI o + nI k = nI (8 * o + k) := by
      rw [show (8 : Int32) = nI 8 from rfl, pk_mul, nI_add]
    refine ⟨m2, wt2, wc2, hI2, fun o h => hm2 o (hm1 o h), fun post hp => And.intro (vp_in_nI ho (by omega)) (br_f ?_ (And.intro ?_ ?_))⟩
    · rw [nI_clamp (by omega), hh]
      exact nI_ge (by omega) (by omega)
    · rw [e8]; exact vp_in_nI (by omega) (by omega)
    · rw [e8, nI_clamp (by omega)]
      exact hp1 _ (nm_r (nI_1 k) (hp2 post hp))
end
section
/-! the marking's invariant: a snapshot S0 with cells c0; G: what of the object in hand is still to be looked at -/
def gc_Mp (G : Nat → Nat → Prop) (S0 : Nat → Prop) (c0 : Nat → Int64) (hc : Nat → Nat) (cs : Nat → Int64) (m : Int64) (wt : Nat → Int32) (wc : Nat) : Prop :=
  (∀ o, S0 o → o < 40) ∧
  (∀ j, j < wc → ∃ o, o < 40 ∧ wt j = nI o ∧ S0 o ∧ vl_mb m o = true) ∧
  (∀ o k c, S0 o → k < hc o → c < 40 → c0 (8 * o + k) = vl_ob c → vl_mb m c = true ∨ ((vl_mb m o = false ∨ (∃ j, j < wc ∧ wt j = nI o) ∨ G o k) ∧ cs (8 * o + k) = c0 (8 * o + k))) ∧
  (∀ o k c, S0 o → k < hc o → c < 40 → cs (8 * o + k) = vl_ob c → S0 c ∨ vl_mb m c = true) ∧
  (∀ o, S0 o → ∀ S : Nat → Prop, (∀ o, vl_mb m o = true → S o) → (∀ o k c, S o → S0 o → k < hc o → c < 40 → c0 (8 * o + k) = vl_ob c → S c) → S o) ∧
  wc ≤ ct_n (vl_mb m) 40
def gc_Mk (S0 : Nat → Prop) (c0 : Nat → Int64) (hc : Nat → Nat) (cs : Nat → Int64) (m : Int64) (wt : Nat → Int32) (wc : Nat) : Prop := gc_Mp (fun _ _ => False) S0 c0 hc cs m wt wc
def gc_ms (m : Int64) (wc : Nat) : Nat := wc + 2 * (40 - ct_n (vl_mb m) 40)
theorem gc_sb_ct {m : Int64} {c : Nat} (hc : c < 40) (hm : vl_mb m c = false) : ct_n (vl_mb (vl_sb m c)) 40 = ct_n (vl_mb m) 40 + 1 := by
  rw [ct_add (p := vl_mb m) (q := vl_mb (vl_sb m c)) (o := c) hm (vl_sb_s m (by omega)) (fun i hi => by rw [vl_sb_b m (by omega)]; simp [hi]) 40, if_pos hc]
theorem gc_sb_ct' (m : Int64) {c : Nat} (hc : c < 40) : ct_n (vl_mb m) 40 ≤ ct_n (vl_mb (vl_sb m c)) 40 :=
  ct_mono 40 (fun i _ h => vl_sb_m (by omega) h)
section
variable {G : Nat → Nat → Prop} {S0 : Nat → Prop} {c0 : Nat → Int64} {hc : Nat → Nat} {cs : Nat → Int64} {m : Int64} {wt : Nat → Int32} {wc : Nat}
theorem gc_Mp_w (h : gc_Mp G S0 c0 hc cs m wt wc) : wc < 48 := by
  have := h.2.2.2.2.2
  have := ct_le (vl_mb m) 40
  omega
theorem gc_Mp_mark (h : gc_Mp G S0 c0 hc cs m wt wc) {c : Nat} (hc40 : c < 40) (hm : vl_mb m c = false) (hS : S0 c) : gc_Mp G S0 c0 hc cs (vl_sb m c) (upd wt wc (nI c)) (wc + 1) := by
  obtain ⟨h0, h1, h2, h3, h4, h5⟩ := h
  refine ⟨h0, fun j hj => ?_, fun o k c' ho hk hc' e => ?_, fun o k c' ho hk hc' e => ?_, fun o ho S hS1 hS2 => ?_, ?_⟩
  · by_cases z : j = wc
    · subst z
      exact ⟨c, hc40, pk_us, hS, vl_sb_s m (by omega)⟩
    · obtain ⟨o, ho, e, s, b⟩ := h1 j (by omega)
      exact ⟨o, ho, by rw [pk_un z]; exact e, s, vl_sb_m (by omega) b⟩
  · rcases h2 o k c' ho hk hc' e with z | ⟨z, y⟩
    · exact Or.inl (vl_sb_m (by omega) z)
    · refine Or.inr ⟨?_, y⟩
      rcases z with z | ⟨j, hj, ej⟩ | z
      · by_cases q : o = c
        · subst q
          exact Or.inr (Or.inl ⟨wc, by omega, pk_us⟩)
        · refine Or.inl ?_
          rw [vl_sb_b m (by omega), z]
          simp [q]
      · exact Or.inr (Or.inl ⟨j, by omega, by rw [pk_un (by omega)]; exact ej⟩)
      · exact Or.inr (Or.inr z)
  · rcases h3 o k c' ho hk hc' e with z | z
    · exact Or.inl z
    · exact Or.inr (vl_sb_m (by omega) z)
  · exact h4 o ho S (fun o' ho' => hS1 o' (vl_sb_m (by omega) ho')) hS2
  · rw [gc_sb_ct hc40 hm]; omega
theorem gc_Mp_pop (h : gc_Mk S0 c0 hc cs m wt (wc + 1)) {o : Nat} (e : wt wc = nI o) (ho : o < 40) : gc_Mp (fun o' k => o' = o ∧ 0 ≤ k) S0 c0 hc cs m wt wc := by
  obtain ⟨h0, h1, h2, h3, h4, h5⟩ := h
  refine ⟨h0, fun j hj => h1 j (by omega), fun o' k c' ho' hk hc' e' => ?_, h3, h4, by omega⟩
  rcases h2 o' k c' ho' hk hc' e' with z | ⟨z, y⟩
  · exact Or.inl z
  · refine Or.inr ⟨?_, y⟩
    have w2 := h0 o' ho'
    rcases z with z | ⟨j, hj, ej⟩ | z
    · exact Or.inl z
    · by_cases q : j = wc
      · subst q
        exact Or.inr (Or.inr ⟨(nI_eq (by omega) (by omega)).mp (ej.symm.trans e), Nat.zero_le _⟩)
      · exact Or.inr (Or.inl ⟨j, by omega, ej⟩)
    · exact z.elim
theorem gc_Mp_adv {o k : Nat} (h : gc_Mp (fun o' k' => o' = o ∧ k ≤ k') S0 c0 hc cs m wt wc) (hm : ∀ c, c < 40 → cs (8 * o + k) = vl_ob c → vl_mb m c = true) : gc_Mp (fun o' k' => o' = o ∧ k + 1 ≤ k') S0 c0 hc cs m wt wc := by
  obtain ⟨h0, h1, h2, h3, h4, h5⟩ := h
  refine ⟨h0, h1, fun o' k' c' ho' hk hc' e' => ?_, h3, h4, h5⟩
  rcases h2 o' k' c' ho' hk hc' e' with z | ⟨z, y⟩
  · exact Or.inl z
  · rcases z with z | z | ⟨z1, z2⟩
    · exact Or.inr ⟨Or.inl z, y⟩
    · exact Or.inr ⟨Or.inr (Or.inl z), y⟩
    · by_cases q : k = k'
      · subst q
        subst z1
        exact Or.inl (hm c' hc' (y.trans e'))
      · exact Or.inr ⟨Or.inr (Or.inr ⟨z1, by omega⟩), y⟩
theorem gc_Mp_fin {o : Nat} (h : gc_Mp (fun o' k' => o' = o ∧ hc o ≤ k') S0 c0 hc cs m wt wc) : gc_Mk S0 c0 hc cs m wt wc := by
  obtain ⟨h0, h1, h2, h3, h4, h5⟩ := h
  refine ⟨h0, h1, fun o' k' c' ho' hk hc' e' => ?_, h3, h4, h5⟩
  rcases h2 o' k' c' ho' hk hc' e' with z | ⟨z, y⟩
  · exact Or.inl z
  · rcases z with z | z | ⟨z1, z2⟩
    · exact Or.inr ⟨Or.inl z, y⟩
    · exact Or.inr ⟨Or.inr (Or.inl z), y⟩
    · subst z1; omega
theorem gc_Mk_end (h : gc_Mk S0 c0 hc cs m wt 0) : ∀ o, S0 o → vl_mb m o = true := by
  obtain ⟨h0, h1, h2, h3, h4, h5⟩ := h
  intro o ho
  refine h4 o ho (fun o => vl_mb m o = true) (fun o h => h) (fun o k c hm hs hk hc e => ?_)
  rcases h2 o k c hs hk hc e with z | ⟨z, y⟩
  · exact z
  · rcases z with z | ⟨j, hj, ej⟩ | z
    · exact absurd (hm.symm.trans z) (by decide)
    · omega
    · exact z.elim
/-- the barrier: the cell that is overwritten has told its old value -/
theorem gc_Mk_set {o1 k1 : Nat} {v : Int64} (h : gc_Mk S0 c0 hc cs m wt wc) (h8 : ∀ o, S0 o → hc o ≤ 8) (hk1 : k1 < 8) (hold : ∀ c, c < 40 → cs (8 * o1 + k1) = vl_ob c → vl_mb m c = true) (hnew : ∀ c, c < 40 → v = vl_ob c → S0 c ∨ vl_mb m c = true) :
    gc_Mk S0 c0 hc (vp_updL cs (8 * o1 + k1) v) m wt wc := by
  obtain ⟨h0, h1, h2, h3, h4, h5⟩ := h
  refine ⟨h0, h1, fun o' k' c' ho' hk hc' e' => ?_, fun o' k' c' ho' hk hc' e' => ?_, h4, h5⟩
  · have := h8 o' ho'
    rcases h2 o' k' c' ho' hk hc' e' with z | ⟨z, y⟩
    · exact Or.inl z
    · by_cases q : 8 * o' + k' = 8 * o1 + k1
      · rw [← q] at hold
        exact Or.inl (hold c' hc' (y.trans e'))
      · exact Or.inr ⟨z, by rw [pk_uLn q]; exact y⟩
  · by_cases q : 8 * o' + k' = 8 * o1 + k1
    · rw [q, pk_uLs] at e'
      exact hnew c' hc' e'
    · rw [pk_uLn q] at e'
      exact h3 o' k' c' ho' hk hc' e'
theorem gc_Mk_cg {hc' : Nat → Nat} {cs' : Nat → Int64} (h : gc_Mk S0 c0 hc cs m wt wc) (hh : ∀ o, S0 o → hc' o = hc o) (hcs : ∀ o k, S0 o → k < hc o → cs' (8 * o + k) = cs (8 * o + k)) :
    gc_Mk S0 c0 hc' cs' m wt wc := by
  obtain ⟨h0, h1, h2, h3, h4, h5⟩ := h
  refine ⟨h0, h1, fun o' k' c' ho' hk hcc e' => ?_, fun o' k' c' ho' hk hcc e' => ?_, fun o ho S hS1 hS2 => h4 o ho S hS1 (fun o k c a b d => hS2 o k c a b (by rw [hh o b]; exact d)), h5⟩
  · rw [hh o' ho'] at hk
    rw [hcs o' k' ho' hk]
    exact h2 o' k' c' ho' hk hcc e'
  · rw [hh o' ho'] at hk
    rw [hcs o' k' ho' hk] at e'
    exact h3 o' k' c' ho' hk hcc e'
theorem gc_Mk_new {o : Nat} (h : gc_Mk S0 c0 hc cs m wt wc) (ho : ¬ S0 o) (ho40 : o < 40) : gc_Mk S0 c0 hc cs (vl_sb m o) wt wc := by
  obtain ⟨h0, h1, h2, h3, h4, h5⟩ := h
  refine ⟨h0, fun j hj => ?_, fun o' k' c' ho' hk hcc e' => ?_, fun o' k' c' ho' hk hcc e' => ?_, fun o ho S hS1 hS2 => h4 o ho S (fun o' ho' => hS1 o' (vl_sb_m (by omega) ho')) hS2, Nat.le_trans h5 (gc_sb_ct' m ho40)⟩
  · obtain ⟨o', a, b, c, d⟩ := h1 j hj
    exact ⟨o', a, b, c, vl_sb_m (by omega) d⟩
  · rcases h2 o' k' c' ho' hk hcc e' with z | ⟨z, y⟩
    · exact Or.inl (vl_sb_m (by omega) z)
    · refine Or.inr ⟨?_, y⟩
      rcases z with z | z | z
      · have q : ¬ o' = o := fun q => ho (q ▸ ho')
        refine Or.inl ?_
        rw [vl_sb_b m (by omega), z]
        simp [q]
      · exact Or.inr (Or.inl z)
      · exact z.elim
  · rcases h3 o' k' c' ho' hk hcc e' with z | z
    · exact Or.inl z
    · exact Or.inr (vl_sb_m (by omega) z)
end
/-! what is reachable -/
def gc_R (rt : Nat → Prop) (hc : Nat → Nat) (cs : Nat → Int64) (o : Nat) : Prop := ∀ S : Nat → Prop, (∀ o, rt o → S o) → (∀ o k c, S o → k < hc o → c < 40 → cs (8 * o + k) = vl_ob c → S c) → S o
def gc_rt (gl st : Nat → Int64) (t : Nat) (o : Nat) : Prop := o < 40 ∧ ((∃ k, k < 4 ∧ gl k = vl_ob o) ∨ ∃ k, k < t ∧ st k = vl_ob o)
section
variable {rt : Nat → Prop} {hc : Nat → Nat} {cs : Nat → Int64}
theorem gc_R_rt {o : Nat} (h : rt o) : gc_R rt hc cs o := fun S h1 _ => h1 o h
theorem gc_R_cl {o k c : Nat} (h : gc_R rt hc cs o) (hk : k < hc o) (hc40 : c < 40) (e : cs (8 * o + k) = vl_ob c) : gc_R rt hc cs c :=
  fun S h1 h2 => h2 o k c (h S h1 h2) hk hc40 e
theorem gc_R_40 (hr : ∀ o, rt o → o < 40) {o : Nat} (h : gc_R rt hc cs o) : o < 40 := h (fun o => o < 40) hr (fun _ _ _ _ _ h _ => h)
end
def gc_hcf (hA : Nat → Int32) (o : Nat) : Nat := (hA o).toNatClampNeg
theorem gc_rootsMk {t : Nat} {st gl : Nat → Int64} {wt0 : Nat → Int32} (hc : Nat → Nat) (cs : Nat → Int64) (ht : t ≤ 500) (hwf : ∀ k, k < t → gc_wf (st k)) (hwg : ∀ k, k < 4 → gc_wf (gl k)) :
    ∃ (m' : Int64) (wt' : Nat → Int32) (wc' : Nat), gc_Mk (gc_R (gc_rt gl st t) hc cs) cs hc cs m' wt' wc' ∧ (∀ o, vl_mb m' o = true → gc_R (gc_rt gl st t) hc cs o) ∧
      ∀ {f_expressionCount f_functionCount f_codeEnd f_depth f_letCount f_height f_heldNames f_usedCount f_marking f_waitCount f_frame f_at f_openCount f_stepCount f_resultSort f_resultNumber f_levelNow : Int32} {f_marks : Int64} {a_kindOf a_partX a_partY a_partZ a_weightOf a_needOf a_names a_known a_knownNumber a_functionOf a_op a_operand a_workNode a_workPhase a_workLast a_workPatch a_letPlace a_isUsed a_functionAt a_heldCount a_openFrame a_openAt : Nat → Int32} {a_cells : Nat → Int64} (post : SX → Prop), post (f_expressionCount, f_functionCount, f_codeEnd, f_depth, f_letCount, f_height, f_heldNames, f_usedCount, m', f_marking, nI wc', nI t, f_frame, f_at, f_openCount, f_stepCount, f_resultSort, f_resultNumber, f_levelNow, a_kindOf, a_partX, a_partY, a_partZ, a_weightOf, a_needOf, a_names, a_known, a_knownNumber, a_functionOf, a_op, a_operand, a_workNode, a_workPhase, a_workLast, a_workPatch, a_letPlace, a_isUsed, a_functionAt, a_heldCount, a_cells, wt', gl, st, a_openFrame, a_openAt) → wpX_markRoots post (f_expressionCount, f_functionCount, f_codeEnd, f_depth, f_letCount, f_height, f_heldNames, f_usedCount, f_marks, f_marking, f_waitCount, nI t, f_frame, f_at, f_openCount, f_stepCount, f_resultSort, f_resultNumber, f_levelNow, a_kindOf, a_partX, a_partY, a_partZ, a_weightOf, a_needOf, a_names, a_known, a_knownNumber, a_functionOf, a_op, a_operand, a_workNode, a_workPhase, a_workLast, a_workPatch, a_letPlace, a_isUsed, a_functionAt, a_heldCount, a_cells, wt0, gl, st, a_openFrame, a_openAt) := by
  obtain ⟨m', wt', wc', ⟨i1, i2, i3⟩, hc', hp⟩ := gc_roots (fun m wt wc => (∀ j, j < wc → ∃ o, o < 40 ∧ wt j = nI o ∧ gc_R (gc_rt gl st t) hc cs o ∧ vl_mb m o = true) ∧ (∀ o, vl_mb m o = true → gc_R (gc_rt gl st t) hc cs o ∧ ∃ j, j < wc ∧ wt j = nI o) ∧ wc ≤ ct_n (vl_mb m) 40)
    (fun m wt wc h => by have := h.2.2; have := ct_le (vl_mb m) 40; omega) (wt0 := wt0) ht hwf hwg
    (fun m wt wc c h hr hc40 hm => by
      obtain ⟨h1, h2, h3⟩ := h
      have hR : gc_R (gc_rt gl st t) hc cs c := gc_R_rt ⟨hc40, hr⟩
      refine ⟨fun j hj => ?_, fun o ho => ?_, ?_⟩
      · by_cases z : j = wc
        · subst z
          exact ⟨c, hc40, pk_us, hR, vl_sb_s m (by omega)⟩
        · obtain ⟨o, ho, e, s, b⟩ := h1 j (by omega)
          exact ⟨o, ho, by rw [pk_un z]; exact e, s, vl_sb_m (by omega) b⟩
      · rcases vl_sb_n (by omega) ho with z | z
        · obtain ⟨a, j, hj, e⟩ := h2 o z
          exact ⟨a, j, by omega, by rw [pk_un (by omega)]; exact e⟩
        · subst z
          exact ⟨hR, wc, by omega, pk_us⟩
      · rw [gc_sb_ct hc40 hm]; omega)
    ⟨fun j hj => by omega, fun o ho => absurd ho (by rw [vl_mb0]; decide), Nat.zero_le _⟩
  refine ⟨m', wt', wc', ⟨fun o ho => gc_R_40 (fun o h => h.1) ho, i1, fun o k c ho hk hc40 e => ?_, fun o k c ho hk hc40 e => Or.inl (gc_R_cl ho hk hc40 e), fun o ho S h1 h2 => ?_, i3⟩, fun o ho => (i2 o ho).1, hp⟩
  · refine Or.inr ⟨?_, rfl⟩
    cases z : vl_mb m' o with
    | false => exact Or.inl rfl
    | true => exact Or.inr (Or.inl (i2 o z).2)
  · refine (ho (fun o => S o ∧ gc_R (gc_rt gl st t) hc cs o) (fun o hr => ⟨h1 o (hc' o hr.1 hr.2), gc_R_rt hr⟩) (fun o k c a hk hc40 e => ⟨h2 o k c a.1 a.2 hk hc40 e, gc_R_cl a.2 hk hc40 e⟩)).1
theorem gc_next {S0 : Nat → Prop} {c0 cs : Nat → Int64} {hA : Nat → Int32} {m : Int64} {wt : Nat → Int32} {wc : Nat} (h : gc_Mk S0 c0 (gc_hcf hA) cs m wt (wc + 1)) (hh : ∀ o, o < 48 → ∃ c, c ≤ 8 ∧ hA o = nI c) (hwf : ∀ j, j < 384 → gc_wf (cs j)) :
    ∃ (m' : Int64) (wt' : Nat → Int32) (wc' : Nat), gc_Mk S0 c0 (gc_hcf hA) cs m' wt' wc' ∧ (∀ o, vl_mb m o = true → vl_mb m' o = true) ∧ (∀ o, vl_mb m' o = true → vl_mb m o = true ∨ S0 o) ∧ gc_ms m' wc' < gc_ms m (wc + 1) ∧
      ∀ {f_expressionCount f_functionCount f_codeEnd f_depth f_letCount f_height f_heldNames f_usedCount f_marking f_top f_frame f_at f_openCount f_stepCount f_resultSort f_resultNumber f_levelNow : Int32} {a_kindOf a_partX a_partY a_partZ a_weightOf a_needOf a_names a_known a_knownNumber a_functionOf a_op a_operand a_workNode a_workPhase a_workLast a_workPatch a_letPlace a_isUsed a_functionAt a_openFrame a_openAt : Nat → Int32} {a_globals a_stack : Nat → Int64} (post : SX → Prop), post (f_expressionCount, f_functionCount, f_codeEnd, f_depth, f_letCount, f_height, f_heldNames, f_usedCount, m', f_marking, nI wc', f_top, f_frame, f_at, f_openCount, f_stepCount, f_resultSort, f_resultNumber, f_levelNow, a_kindOf, a_partX, a_partY, a_partZ, a_weightOf, a_needOf, a_names, a_known, a_knownNumber, a_functionOf, a_op, a_operand, a_workNode, a_workPhase, a_workLast, a_workPatch, a_letPlace, a_isUsed, a_functionAt, hA, cs, wt', a_globals, a_stack, a_openFrame, a_openAt) → wpX_markNext post (f_expressionCount, f_functionCount, f_codeEnd, f_depth, f_letCount, f_height, f_heldNames, f_usedCount, m, f_marking, nI (wc + 1), f_top, f_frame, f_at, f_openCount, f_stepCount, f_resultSort, f_resultNumber, f_levelNow, a_kindOf, a_partX, a_partY, a_partZ, a_weightOf, a_needOf, a_names, a_known, a_knownNumber, a_functionOf, a_op, a_operand, a_workNode, a_workPhase, a_workLast, a_workPatch, a_letPlace, a_isUsed, a_functionAt, hA, cs, wt, a_globals, a_stack, a_openFrame, a_openAt) := by
  obtain ⟨o, ho, ew, hS, hb⟩ := h.2.1 wc (by omega)
  obtain ⟨hh1, hh8, he⟩ := hh o (by omega)
  have hco : gc_hcf hA o = hh1 := by unfold gc_hcf; rw [he, nI_clamp (by omega)]
  have hw := gc_Mp_w h
  obtain ⟨m', wt', wc', ⟨i1, i2, i3⟩, hm, hp⟩ := gc_next22 (fun k m' wt' wc' => gc_Mp (fun o' k' => o' = o ∧ k ≤ k') S0 c0 (gc_hcf hA) cs m' wt' wc' ∧ (∀ o, vl_mb m' o = true → vl_mb m o = true ∨ S0 o) ∧ gc_ms m' wc' ≤ gc_ms m wc)
    (fun k m wt wc h => gc_Mp_w h.1) (o := o) (h := hh1) (hA := hA) (cs := cs) (by omega) he hh8 (fun k hk => hwf _ (by omega))
    (fun k m' wt' wc' c i hk hc40 e z => by
      have hS' : S0 c := by
        rcases i.1.2.2.2.1 o k c hS (by omega) hc40 e with q | q
        · exact q
        · exact absurd (q.symm.trans z) (by decide)
      refine ⟨gc_Mp_mark i.1 hc40 z hS', fun o' ho' => ?_, ?_⟩
      · rcases vl_sb_n (by omega) ho' with q | q
        · exact i.2.1 o' q
        · rw [q]; exact Or.inr hS'
      · have a := i.2.2
        have b := ct_le (vl_mb (vl_sb m' c)) 40
        unfold gc_ms at a ⊢
        rw [gc_sb_ct hc40 z] at b ⊢
        omega)
    (fun k m' wt' wc' i hk hc' => ⟨gc_Mp_adv i.1 hc', i.2⟩)
    hh1 0 m wt wc (by omega) ⟨gc_Mp_pop h ew ho, fun o h => Or.inl h, Nat.le_refl _⟩
  refine ⟨m', wt', wc', gc_Mp_fin (o := o) (by rw [hco]; exact i1), hm, i2, ?_, fun post hpp => nm_r (nI_pred wc) (And.intro (vp_in_nI (by omega) (by omega)) (nm_r (e' := nI o) (by rw [nI_clamp (by omega)]; exact ew) ⟨hh1 + 1, ?_⟩))⟩
  · unfold gc_ms at i3 ⊢; omega
  · exact hp post hpp
end
section
/-! sweep, collectAll, collectSomewhat, newObject -/
theorem gc_sweep2 {us0 : Nat → Int32} {m : Int64} (h01 : ∀ o, o < 48 → us0 o = 0 ∨ us0 o = 1) :
    ∀ d k us u, k + d = 48 → (∀ o, us o = if o < k ∧ vl_mb m o = false then 0 else us0 o) → u = ct_n (fun o => decide (us o = 1)) 48 →
    ∃ us' : Nat → Int32, (∀ o, us' o = if o < 48 ∧ vl_mb m o = false then 0 else us0 o) ∧
      ∀ {f_expressionCount f_functionCount f_codeEnd f_depth f_letCount f_height f_heldNames f_marking f_waitCount f_top f_frame f_at f_openCount f_stepCount f_resultSort f_resultNumber f_levelNow : Int32} {a_kindOf a_partX a_partY a_partZ a_weightOf a_needOf a_names a_known a_knownNumber a_functionOf a_op a_operand a_workNode a_workPhase a_workLast a_workPatch a_letPlace a_functionAt a_heldCount a_waiting a_openFrame a_openAt : Nat → Int32} {a_cells a_globals a_stack : Nat → Int64} (post : SX → Prop), post (f_expressionCount, f_functionCount, f_codeEnd, f_depth, f_letCount, f_height, f_heldNames, nI (ct_n (fun o => decide (us' o = 1)) 48), m, f_marking, f_waitCount, f_top, f_frame, f_at, f_openCount, f_stepCount, f_resultSort, f_resultNumber, f_levelNow, a_kindOf, a_partX, a_partY, a_partZ, a_weightOf, a_needOf, a_names, a_known, a_knownNumber, a_functionOf, a_op, a_operand, a_workNode, a_workPhase, a_workLast, a_workPatch, a_letPlace, us', a_functionAt, a_heldCount, a_cells, a_waiting, a_globals, a_stack, a_openFrame, a_openAt) → wX_sweep_2 post f_expressionCount f_functionCount f_codeEnd f_depth f_letCount f_height f_heldNames m f_marking f_waitCount f_top f_frame f_at f_openCount f_stepCount f_resultSort f_resultNumber f_levelNow (d + 1) (nI k) (nI u) a_kindOf a_partX a_partY a_partZ a_weightOf a_needOf a_names a_known a_knownNumber a_functionOf a_op a_operand a_workNode a_workPhase a_workLast a_workPatch a_letPlace us a_functionAt a_heldCount a_cells a_waiting a_globals a_stack a_openFrame a_openAt := by
  intro d
  induction d with
  | zero =>
    intro k us u hk hus hu
    have e : k = 48 := by omega
    subst e
    exact ⟨us, hus, fun post hp => br_t (nI_le (a := 48) (by omega) (by omega)) (by rw [hu]; exact hp)⟩
  | succ d ih =>
    intro k us u hk hus hu
    have ek : us k = us0 k := by rw [hus k, if_neg (fun h => by omega)]
    have ekc : us (nI k).toNatClampNeg = us0 k := by rw [nI_clamp (by omega), ek]
    rcases h01 k (by omega) with z | z
    · obtain ⟨us', h', hp'⟩ := ih (k + 1) us u (by omega) (fun o => by
        rw [hus o]
        by_cases q : o = k
        · subst q
          rw [if_neg (fun h => by omega), z]
          split <;> rfl
        · have : (o < k ∧ vl_mb m o = false) ↔ (o < k + 1 ∧ vl_mb m o = false) := ⟨fun h => ⟨by omega, h.2⟩, fun h => ⟨by omega, h.2⟩⟩
          simp only [this]) hu
      exact ⟨us', h', fun post hp => br_f (nI_ge (b := 48) (by omega) (by omega)) (And.intro (vp_in_nI (by omega) (by omega)) (br_t (by rw [ekc]; exact z) (nm_r (nI_1 k) (hp' post hp))))⟩
    · cases zm : vl_mb m k with
      | true =>
        obtain ⟨us', h', hp'⟩ := ih (k + 1) us u (by omega) (fun o => by
          rw [hus o]
          by_cases q : o = k
          · subst q
            rw [if_neg (fun h => by omega), if_neg (fun h => by rw [zm] at h; exact absurd h.2 (by decide))]
          · have : (o < k ∧ vl_mb m o = false) ↔ (o < k + 1 ∧ vl_mb m o = false) := ⟨fun h => ⟨by omega, h.2⟩, fun h => ⟨by omega, h.2⟩⟩
            simp only [this]) hu
        exact ⟨us', h', fun post hp => br_f (nI_ge (b := 48) (by omega) (by omega)) (And.intro (vp_in_nI (by omega) (by omega)) (br_f (by rw [ekc, z]; decide) (br_f (by rw [vl_bit m (by omega), zm]; decide) (nm_r (nI_1 k) (hp' post hp)))))⟩
      | false =>
        have hc := ct_add (p := fun o => decide (upd us k 0 o = 1)) (q := fun o => decide (us o = 1)) (o := k) (by simp [pk_us]) (by simp [ek, z]) (fun i hi => by simp [pk_un hi]) 48
        rw [if_pos (by omega)] at hc
        obtain ⟨us', h', hp'⟩ := ih (k + 1) (upd us k 0) (ct_n (fun o => decide (upd us k 0 o = 1)) 48) (by omega) (fun o => by
          by_cases q : o = k
          · subst q
            rw [pk_us, if_pos ⟨by omega, zm⟩]
          · rw [pk_un q, hus o]
            have : (o < k ∧ vl_mb m o = false) ↔ (o < k + 1 ∧ vl_mb m o = false) := ⟨fun h => ⟨by omega, h.2⟩, fun h => ⟨by omega, h.2⟩⟩
            simp only [this]) rfl
        exact ⟨us', h', fun post hp => br_f (nI_ge (b := 48) (by omega) (by omega)) (And.intro (vp_in_nI (by omega) (by omega)) (br_f (by rw [ekc, z]; decide) (br_t ((vl_bit m (by omega)).mpr zm) (And.intro (vp_in_nI (by omega) (by omega)) (nm_r (e' := upd us k 0) (by rw [nI_clamp (by omega)]; rfl) (nm_r (e' := nI (ct_n (fun o => decide (upd us k 0 o = 1)) 48)) (by rw [hu, hc, nI_pred]) (nm_r (nI_1 k) (hp' post hp))))))))⟩
theorem gc_sweep {us0 : Nat → Int32} {m : Int64} {u : Int32} (h01 : ∀ o, o < 48 → us0 o = 0 ∨ us0 o = 1) (hu : u = nI (ct_n (fun o => decide (us0 o = 1)) 48)) :
    ∃ us' : Nat → Int32, (∀ o, us' o = if o < 48 ∧ vl_mb m o = false then 0 else us0 o) ∧
      ∀ {f_expressionCount f_functionCount f_codeEnd f_depth f_letCount f_height f_heldNames f_marking f_waitCount f_top f_frame f_at f_openCount f_stepCount f_resultSort f_resultNumber f_levelNow : Int32} {a_kindOf a_partX a_partY a_partZ a_weightOf a_needOf a_names a_known a_knownNumber a_functionOf a_op a_operand a_workNode a_workPhase a_workLast a_workPatch a_letPlace a_functionAt a_heldCount a_waiting a_openFrame a_openAt : Nat → Int32} {a_cells a_globals a_stack : Nat → Int64} (post : SX → Prop), post (f_expressionCount, f_functionCount, f_codeEnd, f_depth, f_letCount, f_height, f_heldNames, nI (ct_n (fun o => decide (us' o = 1)) 48), m, f_marking, f_waitCount, f_top, f_frame, f_at, f_openCount, f_stepCount, f_resultSort, f_resultNumber, f_levelNow, a_kindOf, a_partX, a_partY, a_partZ, a_weightOf, a_needOf, a_names, a_known, a_knownNumber, a_functionOf, a_op, a_operand, a_workNode, a_workPhase, a_workLast, a_workPatch, a_letPlace, us', a_functionAt, a_heldCount, a_cells, a_waiting, a_globals, a_stack, a_openFrame, a_openAt) → wpX_sweep post (f_expressionCount, f_functionCount, f_codeEnd, f_depth, f_letCount, f_height, f_heldNames, u, m, f_marking, f_waitCount, f_top, f_frame, f_at, f_openCount, f_stepCount, f_resultSort, f_resultNumber, f_levelNow, a_kindOf, a_partX, a_partY, a_partZ, a_weightOf, a_needOf, a_names, a_known, a_knownNumber, a_functionOf, a_op, a_operand, a_workNode, a_workPhase, a_workLast, a_workPatch, a_letPlace, us0, a_functionAt, a_heldCount, a_cells, a_waiting, a_globals, a_stack, a_openFrame, a_openAt) := by
  obtain ⟨us', h', hp'⟩ := gc_sweep2 (m := m) h01 48 0 us0 _ rfl (fun o => by rw [if_neg (fun h => by omega)]) rfl
  exact ⟨us', h', fun post hp => by rw [hu]; exact ⟨49, hp' post hp⟩⟩
def gc_Us (D : Nat → Prop) (uc : Int32) (us : Nat → Int32) : Prop :=
  (∀ o, o < 48 → us o = 0 ∨ us o = 1) ∧ (∀ o, 40 ≤ o → o < 48 → us o = 0) ∧ uc = nI (ct_n (fun o => decide (us o = 1)) 48) ∧ (∀ o, D o → o < 40 ∧ us o = 1)
def gc_Ce (hA : Nat → Int32) (cs : Nat → Int64) : Prop := (∀ o, o < 48 → ∃ c, c ≤ 8 ∧ hA o = nI c) ∧ (∀ j, j < 384 → gc_wf (cs j))
def gc_Mg (D : Nat → Prop) (m : Int64) (mk wcI : Int32) (us hA : Nat → Int32) (cs : Nat → Int64) (wt : Nat → Int32) : Prop :=
  mk = 0 ∨ (mk = 1 ∧ ∃ (S0 : Nat → Prop) (c0 : Nat → Int64) (wc : Nat), wcI = nI wc ∧ gc_Mk S0 c0 (gc_hcf hA) cs m wt wc ∧ (∀ o, S0 o → us o = 1) ∧ (∀ o, D o → S0 o ∨ vl_mb m o = true))
/-- the memory of X: D, what is held to be in use, is used; its marking is sound -/
def gc_Ok (D : Nat → Prop) (uc : Int32) (m : Int64) (mk wcI : Int32) (us hA : Nat → Int32) (cs : Nat → Int64) (wt : Nat → Int32) : Prop :=
  gc_Us D uc us ∧ gc_Ce hA cs ∧ gc_Mg D m mk wcI us hA cs wt
theorem gc_Us_le {D R : Nat → Prop} {uc : Int32} {us : Nat → Int32} (hR : ∀ o, R o → D o) (h : gc_Us D uc us) : gc_Us R uc us :=
  ⟨h.1, h.2.1, h.2.2.1, fun o ho => h.2.2.2 o (hR o ho)⟩
theorem gc_Mg_le {D R : Nat → Prop} {m : Int64} {mk wcI : Int32} {us hA : Nat → Int32} {cs : Nat → Int64} {wt : Nat → Int32} (hR : ∀ o, R o → D o) (h : gc_Mg D m mk wcI us hA cs wt) : gc_Mg R m mk wcI us hA cs wt := by
  rcases h with h | ⟨h, S0, c0, wc, a, b, c, d⟩
  · exact Or.inl h
  · exact Or.inr ⟨h, S0, c0, wc, a, b, c, fun o ho => d o (hR o ho)⟩
theorem gc_Us_sw {D : Nat → Prop} {uc : Int32} {us us' : Nat → Int32} {m : Int64} (h : gc_Us D uc us) (hD : ∀ o, D o → vl_mb m o = true) (hs : ∀ o, us' o = if o < 48 ∧ vl_mb m o = false then 0 else us o) :
    gc_Us D (nI (ct_n (fun o => decide (us' o = 1)) 48)) us' := by
  obtain ⟨h1, h2, h3, h4⟩ := h
  refine ⟨fun o ho => ?_, fun o a b => ?_, rfl, fun o ho => ⟨(h4 o ho).1, ?_⟩⟩
  · rw [hs o]; split
    · exact Or.inl rfl
    · exact h1 o ho
  · rw [hs o]; split
    · rfl
    · exact h2 o a b
  · rw [hs o, if_neg (fun z => by rw [hD o ho] at z; exact absurd z.2 (by decide))]
    exact (h4 o ho).2
theorem gc_some36 {S0 : Nat → Prop} {c0 cs : Nat → Int64} {hA : Nat → Int32} (hh : ∀ o, o < 48 → ∃ c, c ≤ 8 ∧ hA o = nI c) (hwf : ∀ j, j < 384 → gc_wf (cs j)) :
    ∀ d k m wt wc, k + d = 2 → gc_Mk S0 c0 (gc_hcf hA) cs m wt wc → ∃ (m' : Int64) (wt' : Nat → Int32) (wc' : Nat), gc_Mk S0 c0 (gc_hcf hA) cs m' wt' wc' ∧ (∀ o, vl_mb m o = true → vl_mb m' o = true) ∧
      ∀ {f_expressionCount f_functionCount f_codeEnd f_depth f_letCount f_height f_heldNames f_usedCount f_marking f_top f_frame f_at f_openCount f_stepCount f_resultSort f_resultNumber f_levelNow : Int32} {a_kindOf a_partX a_partY a_partZ a_weightOf a_needOf a_names a_known a_knownNumber a_functionOf a_op a_operand a_workNode a_workPhase a_workLast a_workPatch a_letPlace a_isUsed a_functionAt a_openFrame a_openAt : Nat → Int32} {a_globals a_stack : Nat → Int64} (post : SX → Prop), wX_collectSomewhat_58 post f_expressionCount f_functionCount f_codeEnd f_depth f_letCount f_height f_heldNames f_usedCount m' f_marking (nI wc') f_top f_frame f_at f_openCount f_stepCount f_resultSort f_resultNumber f_levelNow a_kindOf a_partX a_partY a_partZ a_weightOf a_needOf a_names a_known a_knownNumber a_functionOf a_op a_operand a_workNode a_workPhase a_workLast a_workPatch a_letPlace a_isUsed a_functionAt hA cs wt' a_globals a_stack a_openFrame a_openAt → wX_collectSomewhat_36 post (d + 1) (nI k) f_expressionCount f_functionCount f_codeEnd f_depth f_letCount f_height f_heldNames f_usedCount m f_marking (nI wc) f_top f_frame f_at f_openCount f_stepCount f_resultSort f_resultNumber f_levelNow a_kindOf a_partX a_partY a_partZ a_weightOf a_needOf a_names a_known a_knownNumber a_functionOf a_op a_operand a_workNode a_workPhase a_workLast a_workPatch a_letPlace a_isUsed a_functionAt hA cs wt a_globals a_stack a_openFrame a_openAt := by
  intro d
  induction d with
  | zero =>
    intro k m wt wc hk h
    exact ⟨m, wt, wc, h, fun o h => h, fun post hp => br_t (nI_le (a := 2) (by omega) (by omega)) hp⟩
  | succ d ih =>
    intro k m wt wc hk h
    have hw := gc_Mp_w h
    cases wc with
    | zero => exact ⟨m, wt, 0, h, fun o h => h, fun post hp => br_f (nI_ge (b := 2) (by omega) (by omega)) (br_t (by decide) hp)⟩
    | succ wc =>
      obtain ⟨m1, wt1, wc1, g1, n1, x1, y1, hp1⟩ := gc_next h hh hwf
      obtain ⟨m2, wt2, wc2, g2, n2, hp2⟩ := ih (k + 1) m1 wt1 wc1 (by omega) g1
      exact ⟨m2, wt2, wc2, g2, fun o h => n2 o (n1 o h), fun post hp => br_f (nI_ge (b := 2) (by omega) (by omega)) (br_f (nI_nle (by omega) (by omega)) (hp1 _ (nm_r (nI_1 k) (hp2 post hp))))⟩
theorem gc_some {D : Nat → Prop} {S0 : Nat → Prop} {c0 cs : Nat → Int64} {hA us : Nat → Int32} {m : Int64} {wt : Nat → Int32} {wc : Nat} {uc : Int32} (hU : gc_Us D uc us) (hC : gc_Ce hA cs)
    (hM : gc_Mk S0 c0 (gc_hcf hA) cs m wt wc) (hS : ∀ o, S0 o → us o = 1) (hD : ∀ o, D o → S0 o ∨ vl_mb m o = true) :
    ∃ (uc' : Int32) (m' : Int64) (mk' : Int32) (wc' : Int32) (us' : Nat → Int32) (wt' : Nat → Int32), gc_Ok D uc' m' mk' wc' us' hA cs wt' ∧
      ∀ {f_expressionCount f_functionCount f_codeEnd f_depth f_letCount f_height f_heldNames f_top f_frame f_at f_openCount f_stepCount f_resultSort f_resultNumber f_levelNow : Int32} {a_kindOf a_partX a_partY a_partZ a_weightOf a_needOf a_names a_known a_knownNumber a_functionOf a_op a_operand a_workNode a_workPhase a_workLast a_workPatch a_letPlace a_functionAt a_openFrame a_openAt : Nat → Int32} {a_globals a_stack : Nat → Int64} (post : SX → Prop), post (f_expressionCount, f_functionCount, f_codeEnd, f_depth, f_letCount, f_height, f_heldNames, uc', m', mk', wc', f_top, f_frame, f_at, f_openCount, f_stepCount, f_resultSort, f_resultNumber, f_levelNow, a_kindOf, a_partX, a_partY, a_partZ, a_weightOf, a_needOf, a_names, a_known, a_knownNumber, a_functionOf, a_op, a_operand, a_workNode, a_workPhase, a_workLast, a_workPatch, a_letPlace, us', a_functionAt, hA, cs, wt', a_globals, a_stack, a_openFrame, a_openAt) →
      ∃ n36 : Nat, wX_collectSomewhat_36 post n36 0 f_expressionCount f_functionCount f_codeEnd f_depth f_letCount f_height f_heldNames uc m 1 (nI wc) f_top f_frame f_at f_openCount f_stepCount f_resultSort f_resultNumber f_levelNow a_kindOf a_partX a_partY a_partZ a_weightOf a_needOf a_names a_known a_knownNumber a_functionOf a_op a_operand a_workNode a_workPhase a_workLast a_workPatch a_letPlace us a_functionAt hA cs wt a_globals a_stack a_openFrame a_openAt := by
  obtain ⟨m', wt', wc', g, n, hp⟩ := gc_some36 hC.1 hC.2 2 0 m wt wc rfl hM
  have hw := gc_Mp_w g
  have hD' : ∀ o, D o → S0 o ∨ vl_mb m' o = true := fun o ho => (hD o ho).imp id (n o)
  cases wc' with
  | zero =>
    have hall : ∀ o, D o → vl_mb m' o = true := fun o ho => (hD' o ho).elim (fun z => gc_Mk_end g o z) id
    obtain ⟨us', hs', hps⟩ := gc_sweep (m := m') hU.1 hU.2.2.1
    exact ⟨_, m', 0, nI 0, us', wt', ⟨gc_Us_sw hU hall hs', hC, Or.inl rfl⟩, fun post hpp => ⟨3, hp post (br_t (by decide) (hps _ hpp))⟩⟩
  | succ wc' =>
    exact ⟨uc, m', 1, nI (wc' + 1), us, wt', ⟨hU, hC, Or.inr ⟨rfl, S0, c0, wc' + 1, rfl, g, hS, hD'⟩⟩, fun post hpp => ⟨3, hp post (br_f (nI_nle (by omega) (by omega)) hpp)⟩⟩
theorem gc_somewhat {D : Nat → Prop} {uc : Int32} {m : Int64} {mk wcI lv : Int32} {us hA wt : Nat → Int32} {cs gl st : Nat → Int64} {t : Nat} (h : gc_Ok D uc m mk wcI us hA cs wt) (ht : t ≤ 500) (hwf : ∀ k, k < t → gc_wf (st k)) (hwg : ∀ k, k < 4 → gc_wf (gl k))
    (hR : ∀ o, gc_R (gc_rt gl st t) (gc_hcf hA) cs o → D o) :
    ∃ (uc' : Int32) (m' : Int64) (mk' : Int32) (wc' : Int32) (us' : Nat → Int32) (wt' : Nat → Int32), gc_Ok (gc_R (gc_rt gl st t) (gc_hcf hA) cs) uc' m' mk' wc' us' hA cs wt' ∧
      ∀ {f_expressionCount f_functionCount f_codeEnd f_depth f_letCount f_height f_heldNames f_frame f_at f_openCount f_stepCount f_resultSort f_resultNumber : Int32} {a_kindOf a_partX a_partY a_partZ a_weightOf a_needOf a_names a_known a_knownNumber a_functionOf a_op a_operand a_workNode a_workPhase a_workLast a_workPatch a_letPlace a_functionAt a_openFrame a_openAt : Nat → Int32} (post : SX → Prop), post (f_expressionCount, f_functionCount, f_codeEnd, f_depth, f_letCount, f_height, f_heldNames, uc', m', mk', wc', nI t, f_frame, f_at, f_openCount, f_stepCount, f_resultSort, f_resultNumber, lv, a_kindOf, a_partX, a_partY, a_partZ, a_weightOf, a_needOf, a_names, a_known, a_knownNumber, a_functionOf, a_op, a_operand, a_workNode, a_workPhase, a_workLast, a_workPatch, a_letPlace, us', a_functionAt, hA, cs, wt', gl, st, a_openFrame, a_openAt) →
      wpX_collectSomewhat post (f_expressionCount, f_functionCount, f_codeEnd, f_depth, f_letCount, f_height, f_heldNames, uc, m, mk, wcI, nI t, f_frame, f_at, f_openCount, f_stepCount, f_resultSort, f_resultNumber, lv, a_kindOf, a_partX, a_partY, a_partZ, a_weightOf, a_needOf, a_names, a_known, a_knownNumber, a_functionOf, a_op, a_operand, a_workNode, a_workPhase, a_workLast, a_workPatch, a_letPlace, us, a_functionAt, hA, cs, wt, gl, st, a_openFrame, a_openAt) := by
  obtain ⟨hU, hC, hM⟩ := h
  have hU' := gc_Us_le hR hU
  have hM' := gc_Mg_le hR hM
  by_cases z : lv = 0
  · exact ⟨uc, m, mk, wcI, us, wt, ⟨hU', hC, hM'⟩, fun post hp => br_t z hp⟩
  · rcases hM' with q | ⟨q, S0, c0, wc, e, g, hS, hD⟩
    · by_cases y : 24 ≤ uc
      · obtain ⟨m1, wt1, wc1, g1, x1, hp1⟩ := gc_rootsMk (wt0 := wt) (gc_hcf hA) cs ht hwf hwg
        obtain ⟨uc', m', mk', wc', us', wt', ok, hp2⟩ := gc_some hU' hC g1 (fun o ho => (hU'.2.2.2 o ho).2) (fun o ho => Or.inl ho)
        exact ⟨uc', m', mk', wc', us', wt', ok, fun post hp => br_f z (br_t q (br_t y (hp1 _ (hp2 post hp))))⟩
      · exact ⟨uc, m, mk, wcI, us, wt, ⟨hU', hC, Or.inl q⟩, fun post hp => br_f z (br_t q (br_f y hp))⟩
    · obtain ⟨uc', m', mk', wc', us', wt', ok, hp2⟩ := gc_some hU' hC g hS hD
      subst q e
      exact ⟨uc', m', mk', wc', us', wt', ok, fun post hp => br_f z (br_f (by decide) (hp2 post hp))⟩
theorem gc_all9 {S0 : Nat → Prop} {c0 cs : Nat → Int64} {hA : Nat → Int32} (hh : ∀ o, o < 48 → ∃ c, c ≤ 8 ∧ hA o = nI c) (hwf : ∀ j, j < 384 → gc_wf (cs j)) :
    ∀ d m wt wc, gc_ms m wc ≤ d → gc_Mk S0 c0 (gc_hcf hA) cs m wt wc → ∃ (m' : Int64) (wt' : Nat → Int32), gc_Mk S0 c0 (gc_hcf hA) cs m' wt' 0 ∧ (∀ o, vl_mb m' o = true → vl_mb m o = true ∨ S0 o) ∧
      (∀ {f_expressionCount f_functionCount f_codeEnd f_depth f_letCount f_height f_heldNames f_usedCount f_marking f_top f_frame f_at f_openCount f_stepCount f_resultSort f_resultNumber f_levelNow : Int32} {a_kindOf a_partX a_partY a_partZ a_weightOf a_needOf a_names a_known a_knownNumber a_functionOf a_op a_operand a_workNode a_workPhase a_workLast a_workPatch a_letPlace a_isUsed a_functionAt a_openFrame a_openAt : Nat → Int32} {a_globals a_stack : Nat → Int64} (post : SX → Prop), wpX_sweep (fun u => post u) (f_expressionCount, f_functionCount, f_codeEnd, f_depth, f_letCount, f_height, f_heldNames, f_usedCount, m', f_marking, 0, f_top, f_frame, f_at, f_openCount, f_stepCount, f_resultSort, f_resultNumber, f_levelNow, a_kindOf, a_partX, a_partY, a_partZ, a_weightOf, a_needOf, a_names, a_known, a_knownNumber, a_functionOf, a_op, a_operand, a_workNode, a_workPhase, a_workLast, a_workPatch, a_letPlace, a_isUsed, a_functionAt, hA, cs, wt', a_globals, a_stack, a_openFrame, a_openAt) → ∃ n, wX_collectAll_9 post n f_expressionCount f_functionCount f_codeEnd f_depth f_letCount f_height f_heldNames f_usedCount m f_marking (nI wc) f_top f_frame f_at f_openCount f_stepCount f_resultSort f_resultNumber f_levelNow a_kindOf a_partX a_partY a_partZ a_weightOf a_needOf a_names a_known a_knownNumber a_functionOf a_op a_operand a_workNode a_workPhase a_workLast a_workPatch a_letPlace a_isUsed a_functionAt hA cs wt a_globals a_stack a_openFrame a_openAt) ∧
      (∀ {f_expressionCount f_functionCount f_codeEnd f_depth f_letCount f_height f_heldNames f_usedCount f_marking f_top f_frame f_at f_openCount f_stepCount f_resultSort f_resultNumber f_levelNow : Int32} {a_kindOf a_partX a_partY a_partZ a_weightOf a_needOf a_names a_known a_knownNumber a_functionOf a_op a_operand a_workNode a_workPhase a_workLast a_workPatch a_letPlace a_isUsed a_functionAt a_openFrame a_openAt : Nat → Int32} {a_globals a_stack : Nat → Int64} (post : Int32 → SX → Prop), (∃ n27 : Nat, wX_needed_27 post f_expressionCount f_functionCount f_codeEnd f_depth f_letCount f_height f_heldNames f_usedCount m' f_marking 0 f_top f_frame f_at f_openCount f_stepCount f_resultSort f_resultNumber f_levelNow a_kindOf a_partX a_partY a_partZ a_weightOf a_needOf a_names a_known a_knownNumber a_functionOf a_op a_operand a_workNode a_workPhase a_workLast a_workPatch a_letPlace a_isUsed a_functionAt hA cs wt' a_globals a_stack a_openFrame a_openAt n27 0 0) → ∃ n, wX_needed_9 post n f_expressionCount f_functionCount f_codeEnd f_depth f_letCount f_height f_heldNames f_usedCount m f_marking (nI wc) f_top f_frame f_at f_openCount f_stepCount f_resultSort f_resultNumber f_levelNow a_kindOf a_partX a_partY a_partZ a_weightOf a_needOf a_names a_known a_knownNumber a_functionOf a_op a_operand a_workNode a_workPhase a_workLast a_workPatch a_letPlace a_isUsed a_functionAt hA cs wt a_globals a_stack a_openFrame a_openAt) := by
  intro d
  induction d with
  | zero =>
    intro m wt wc hd h
    have e : wc = 0 := by unfold gc_ms at hd; omega
    subst e
    exact ⟨m, wt, h, fun o z => Or.inl z, fun post hp => ⟨1, br_t (by decide) hp⟩, fun post hp => ⟨1, br_t (by decide) hp⟩⟩
  | succ d ih =>
    intro m wt wc hd h
    have hw := gc_Mp_w h
    cases wc with
    | zero => exact ⟨m, wt, h, fun o z => Or.inl z, fun post hp => ⟨1, br_t (by decide) hp⟩, fun post hp => ⟨1, br_t (by decide) hp⟩⟩
    | succ wc =>
      obtain ⟨m1, wt1, wc1, g1, n1, x1, y1, hp1⟩ := gc_next h hh hwf
      obtain ⟨m2, wt2, g2, x2, hp2, hp3⟩ := ih m1 wt1 wc1 (by omega) g1
      refine ⟨m2, wt2, g2, fun o z => (x2 o z).elim (x1 o) Or.inr, fun post hp => ?_, fun post hp => ?_⟩
      · obtain ⟨n, hn⟩ := hp2 post hp
        exact ⟨n + 1, br_f (nI_nle (by omega) (by omega)) (hp1 _ hn)⟩
      · obtain ⟨n, hn⟩ := hp3 post hp
        exact ⟨n + 1, br_f (nI_nle (by omega) (by omega)) (hp1 _ hn)⟩
theorem gc_all {uc : Int32} {us hA wt : Nat → Int32} {cs gl st : Nat → Int64} {t : Nat} (hU : gc_Us (gc_R (gc_rt gl st t) (gc_hcf hA) cs) uc us) (hC : gc_Ce hA cs) (ht : t ≤ 500) (hwf : ∀ k, k < t → gc_wf (st k)) (hwg : ∀ k, k < 4 → gc_wf (gl k)) :
    ∃ (uc' : Int32) (m' : Int64) (us' : Nat → Int32) (wt' : Nat → Int32), gc_Ok (gc_R (gc_rt gl st t) (gc_hcf hA) cs) uc' m' 0 0 us' hA cs wt' ∧ (∀ o, o < 48 → us' o = 1 → gc_R (gc_rt gl st t) (gc_hcf hA) cs o) ∧
      ∀ {f_expressionCount f_functionCount f_codeEnd f_depth f_letCount f_height f_heldNames f_marking f_waitCount f_frame f_at f_openCount f_stepCount f_resultSort f_resultNumber f_levelNow : Int32} {f_marks : Int64} {a_kindOf a_partX a_partY a_partZ a_weightOf a_needOf a_names a_known a_knownNumber a_functionOf a_op a_operand a_workNode a_workPhase a_workLast a_workPatch a_letPlace a_functionAt a_openFrame a_openAt : Nat → Int32} (post : SX → Prop), post (f_expressionCount, f_functionCount, f_codeEnd, f_depth, f_letCount, f_height, f_heldNames, uc', m', 0, 0, nI t, f_frame, f_at, f_openCount, f_stepCount, f_resultSort, f_resultNumber, f_levelNow, a_kindOf, a_partX, a_partY, a_partZ, a_weightOf, a_needOf, a_names, a_known, a_knownNumber, a_functionOf, a_op, a_operand, a_workNode, a_workPhase, a_workLast, a_workPatch, a_letPlace, us', a_functionAt, hA, cs, wt', gl, st, a_openFrame, a_openAt) →
      wpX_collectAll post (f_expressionCount, f_functionCount, f_codeEnd, f_depth, f_letCount, f_height, f_heldNames, uc, f_marks, f_marking, f_waitCount, nI t, f_frame, f_at, f_openCount, f_stepCount, f_resultSort, f_resultNumber, f_levelNow, a_kindOf, a_partX, a_partY, a_partZ, a_weightOf, a_needOf, a_names, a_known, a_knownNumber, a_functionOf, a_op, a_operand, a_workNode, a_workPhase, a_workLast, a_workPatch, a_letPlace, us, a_functionAt, hA, cs, wt, gl, st, a_openFrame, a_openAt) := by
  obtain ⟨m1, wt1, wc1, g1, x1, hp1⟩ := gc_rootsMk (wt0 := wt) (gc_hcf hA) cs ht hwf hwg
  obtain ⟨m2, wt2, g2, x2, hp2, hp3⟩ := gc_all9 hC.1 hC.2 _ m1 wt1 wc1 (Nat.le_refl _) g1
  have hall := gc_Mk_end g2
  obtain ⟨us', hs', hps⟩ := gc_sweep (m := m2) hU.1 hU.2.2.1
  refine ⟨_, m2, us', wt2, ⟨gc_Us_sw hU hall hs', hC, Or.inl rfl⟩, fun o ho z => ?_, fun post hp => by unfold wpX_collectAll; exact hp1 _ (hp2 _ (hps _ hp))⟩
  rw [hs' o] at z
  cases y : vl_mb m2 o with
  | true => exact (x2 o y).elim (x1 o) id
  | false => rw [if_pos ⟨ho, y⟩] at z; exact absurd z (by decide)
theorem gc_new30 {us fa hA : Nat → Int32} {i0 cnt : Nat} {u : Nat} {fn : Int32} (hi : i0 < 40) (hf : us i0 = 0) (hb : ∀ j, j < i0 → us j = 1) (hfn : vp_nar .byte fn.toInt8.toInt32 = fn) (hcn : cnt ≤ 8) :
    ∀ d k, k + d = i0 →
      ∀ {f_expressionCount f_functionCount f_codeEnd f_depth f_letCount f_height f_heldNames f_marking f_waitCount f_top f_frame f_at f_openCount f_stepCount f_resultSort f_resultNumber f_levelNow : Int32} {f_marks : Int64} {a_kindOf a_partX a_partY a_partZ a_weightOf a_needOf a_names a_known a_knownNumber a_functionOf a_op a_operand a_workNode a_workPhase a_workLast a_workPatch a_letPlace a_waiting a_openFrame a_openAt : Nat → Int32} {a_cells a_globals a_stack : Nat → Int64} (post : Int32 → SX → Prop), (f_marking = 0 → post (nI i0) (f_expressionCount, f_functionCount, f_codeEnd, f_depth, f_letCount, f_height, f_heldNames, nI (u + 1), f_marks, f_marking, f_waitCount, f_top, f_frame, f_at, f_openCount, f_stepCount, f_resultSort, f_resultNumber, f_levelNow, a_kindOf, a_partX, a_partY, a_partZ, a_weightOf, a_needOf, a_names, a_known, a_knownNumber, a_functionOf, a_op, a_operand, a_workNode, a_workPhase, a_workLast, a_workPatch, a_letPlace, upd us i0 1, upd fa i0 fn, upd hA i0 (nI cnt), a_cells, a_waiting, a_globals, a_stack, a_openFrame, a_openAt)) → (¬ f_marking = 0 → post (nI i0) (f_expressionCount, f_functionCount, f_codeEnd, f_depth, f_letCount, f_height, f_heldNames, nI (u + 1), vl_sb f_marks i0, f_marking, f_waitCount, f_top, f_frame, f_at, f_openCount, f_stepCount, f_resultSort, f_resultNumber, f_levelNow, a_kindOf, a_partX, a_partY, a_partZ, a_weightOf, a_needOf, a_names, a_known, a_knownNumber, a_functionOf, a_op, a_operand, a_workNode, a_workPhase, a_workLast, a_workPatch, a_letPlace, upd us i0 1, upd fa i0 fn, upd hA i0 (nI cnt), a_cells, a_waiting, a_globals, a_stack, a_openFrame, a_openAt)) →
      wX_newObject_30 post fn (nI cnt) f_expressionCount f_functionCount f_codeEnd f_depth f_letCount f_height f_heldNames (nI u) f_marks f_marking f_waitCount f_top f_frame f_at f_openCount f_stepCount f_resultSort f_resultNumber f_levelNow a_kindOf a_partX a_partY a_partZ a_weightOf a_needOf a_names a_known a_knownNumber a_functionOf a_op a_operand a_workNode a_workPhase a_workLast a_workPatch a_letPlace us fa hA a_cells a_waiting a_globals a_stack a_openFrame a_openAt (d + 1) (nI k) := by
  intro d
  induction d with
  | zero =>
    intro k hk
    have e : k = i0 := by omega
    subst e
    intros
    rename_i post hp1 hp2
    have hin : vp_in (nI k) 48 := vp_in_nI (by omega) (by omega)
    refine And.intro hin (br_t (by rw [nI_clamp (by omega)]; exact hf) (And.intro hin (nm_r (e' := upd us k 1) (by rw [nI_clamp (by omega)]; rfl) (nm_r (nI_1 u) (And.intro hin (nm_r (e' := upd fa k fn) (by rw [nI_clamp (by omega), hfn]) (And.intro hin (nm_r (e' := upd hA k (nI cnt)) (by rw [nI_clamp (by omega), vl_nb (by omega)]) (br_c hp1 (fun q => nm_e (hp2 q)))))))))))
  | succ d ih =>
    intro k hk
    intros
    rename_i post hp1 hp2
    have hin : vp_in (nI k) 48 := vp_in_nI (by omega) (by omega)
    exact And.intro hin (br_f (by rw [nI_clamp (by omega), hb k (by omega)]; decide) (nm_r (nI_1 k) (ih (k + 1) (by omega) post hp1 hp2)))
theorem gc_used40 {D : Nat → Prop} {uc : Int32} {us : Nat → Int32} (hU : gc_Us D uc us) : ct_n (fun o => decide (us o = 1)) 48 = ct_n (fun o => decide (us o = 1)) 40 :=
  ct_ext 48 (by omega) (fun i a b => by rw [hU.2.1 i a b]; decide)
theorem gc_new17 {R : Nat → Prop} {uc : Int32} {m : Int64} {mk wcI : Int32} {us hA wt fa : Nat → Int32} {cs : Nat → Int64} {fn : Int32} {cnt : Nat} (h : gc_Ok R uc m mk wcI us hA cs wt) (hlt : uc < 40) (hfn : vp_nar .byte fn.toInt8.toInt32 = fn) (hcn : cnt ≤ 8) :
    ∃ (o : Nat) (uc' : Int32) (m' : Int64) (us' : Nat → Int32), o < 40 ∧ ¬ R o ∧
      (∀ cs' : Nat → Int64, (∀ j, (j < 8 * o ∨ 8 * o + 8 ≤ j) → cs' j = cs j) → (∀ j, j < 384 → gc_wf (cs' j)) → gc_Ok (fun x => R x ∨ x = o) uc' m' mk wcI us' (upd hA o (nI cnt)) cs' wt) ∧
      ∀ {f_expressionCount f_functionCount f_codeEnd f_depth f_letCount f_height f_heldNames f_top f_frame f_at f_openCount f_stepCount f_resultSort f_resultNumber f_levelNow : Int32} {a_kindOf a_partX a_partY a_partZ a_weightOf a_needOf a_names a_known a_knownNumber a_functionOf a_op a_operand a_workNode a_workPhase a_workLast a_workPatch a_letPlace a_openFrame a_openAt : Nat → Int32} {a_globals a_stack : Nat → Int64} (post : Int32 → SX → Prop), post (nI o) (f_expressionCount, f_functionCount, f_codeEnd, f_depth, f_letCount, f_height, f_heldNames, uc', m', mk, wcI, f_top, f_frame, f_at, f_openCount, f_stepCount, f_resultSort, f_resultNumber, f_levelNow, a_kindOf, a_partX, a_partY, a_partZ, a_weightOf, a_needOf, a_names, a_known, a_knownNumber, a_functionOf, a_op, a_operand, a_workNode, a_workPhase, a_workLast, a_workPatch, a_letPlace, us', upd fa o fn, upd hA o (nI cnt), cs, wt, a_globals, a_stack, a_openFrame, a_openAt) →
      wX_newObject_17 post fn (nI cnt) f_expressionCount f_functionCount f_codeEnd f_depth f_letCount f_height f_heldNames uc m mk wcI f_top f_frame f_at f_openCount f_stepCount f_resultSort f_resultNumber f_levelNow a_kindOf a_partX a_partY a_partZ a_weightOf a_needOf a_names a_known a_knownNumber a_functionOf a_op a_operand a_workNode a_workPhase a_workLast a_workPatch a_letPlace us fa hA cs wt a_globals a_stack a_openFrame a_openAt := by
  obtain ⟨hU, hC, hM⟩ := h
  have h48 := gc_used40 hU
  have hlt' : ct_n (fun o => decide (us o = 1)) 40 < 40 := by
    have a := hU.2.2.1
    rw [a, h48] at hlt
    have := ct_le (fun o => decide (us o = 1)) 40
    exact (nI_ltI (b := 40) (by omega) (by omega)).mp hlt
  obtain ⟨o, ho, hfr, hbl⟩ := ct_free 40 hlt'
  have hf : us o = 0 := by
    rcases hU.1 o (by omega) with z | z
    · exact z
    · exact absurd hfr (by simp [z])
  have hb : ∀ j, j < o → us j = 1 := fun j hj => by simpa using hbl j hj
  have hnR : ¬ R o := fun z => by
    have := (hU.2.2.2 o z).2
    rw [hf] at this
    exact absurd this (by decide)
  have hcnt := ct_add (p := fun i => decide (us i = 1)) (q := fun i => decide (upd us o 1 i = 1)) (o := o) (by simp [hf]) (by simp [pk_us]) (fun i hi => by simp [pk_un hi]) 48
  rw [if_pos (by omega)] at hcnt
  have hUs : gc_Us (fun x => R x ∨ x = o) (nI (ct_n (fun o => decide (us o = 1)) 48 + 1)) (upd us o 1) := by
    refine ⟨fun i hi => ?_, fun i a b => ?_, by rw [hcnt], fun i hi => ?_⟩
    · by_cases q : i = o
      · rw [q, pk_us]; exact Or.inr rfl
      · rw [pk_un q]; exact hU.1 i hi
    · rw [pk_un (by omega)]; exact hU.2.1 i a b
    · by_cases q : i = o
      · rw [q, pk_us]; exact ⟨ho, rfl⟩
      · rw [pk_un q]; exact hU.2.2.2 i (hi.resolve_right q)
  have hCe : ∀ cs' : Nat → Int64, (∀ j, j < 384 → gc_wf (cs' j)) → gc_Ce (upd hA o (nI cnt)) cs' := fun cs' hw => by
    refine ⟨fun i hi => ?_, hw⟩
    by_cases q : i = o
    · rw [q, pk_us]; exact ⟨cnt, hcn, rfl⟩
    · rw [pk_un q]; exact hC.1 i hi
  rcases hM with q | ⟨q, S0, c0, wc, e, g, hS, hD⟩
  · subst q
    refine ⟨o, _, m, upd us o 1, ho, hnR, fun cs' _ hw => ⟨hUs, hCe cs' hw, Or.inl rfl⟩, fun post hp => br_t hlt ⟨o + 1, ?_⟩⟩
    rw [hU.2.2.1]
    exact gc_new30 ho hf hb hfn hcn o 0 (by omega) post (fun _ => hp) (fun z => absurd rfl z)
  · subst q
    have hoS : ¬ S0 o := fun z => by
      have := hS o z
      rw [hf] at this
      exact absurd this (by decide)
    have hS40 : ∀ x, S0 x → gc_hcf hA x ≤ 8 := fun x hx => by
      obtain ⟨c, hc, ec⟩ := hC.1 x (by have := g.1 x hx; omega)
      unfold gc_hcf
      rw [ec, nI_clamp (by omega)]
      exact hc
    refine ⟨o, _, vl_sb m o, upd us o 1, ho, hnR, fun cs' hcs hw => ⟨hUs, hCe cs' hw, Or.inr ⟨rfl, S0, c0, wc, e, gc_Mk_cg (gc_Mk_new g hoS ho) (fun x hx => ?_) (fun x k hx hk => ?_), fun x hx => ?_, fun x hx => ?_⟩⟩, fun post hp => br_t hlt ⟨o + 1, ?_⟩⟩
    · have : ¬ x = o := fun z => hoS (z ▸ hx)
      unfold gc_hcf
      rw [pk_un this]
    · have : ¬ x = o := fun z => hoS (z ▸ hx)
      have := hS40 x hx
      exact hcs _ (by omega)
    · have : ¬ x = o := fun z => hoS (z ▸ hx)
      rw [pk_un this]; exact hS x hx
    · rcases hx with hx | hx
      · exact (hD x hx).imp id (vl_sb_m (by omega))
      · rw [hx]; exact Or.inr (vl_sb_s m (by omega))
    · rw [hU.2.2.1]
      exact gc_new30 ho hf hb hfn hcn o 0 (by omega) post (fun z => absurd z (by decide)) (fun _ => hp)
theorem gc_new {D : Nat → Prop} {uc : Int32} {m : Int64} {mk wcI lv : Int32} {us hA wt fa : Nat → Int32} {cs gl st : Nat → Int64} {t cnt : Nat} {fn : Int32} (h : gc_Ok D uc m mk wcI us hA cs wt) (ht : t ≤ 500) (hwf : ∀ k, k < t → gc_wf (st k)) (hwg : ∀ k, k < 4 → gc_wf (gl k))
    (hR : ∀ o, gc_R (gc_rt gl st t) (gc_hcf hA) cs o → D o) (hfn : vp_nar .byte fn.toInt8.toInt32 = fn) (hcn : cnt ≤ 8) :
    (∃ (uc' : Int32) (m' : Int64) (mk' : Int32) (wc' : Int32) (us' : Nat → Int32) (wt' : Nat → Int32), gc_Ok (gc_R (gc_rt gl st t) (gc_hcf hA) cs) uc' m' mk' wc' us' hA cs wt' ∧ (∀ o, o < 40 → gc_R (gc_rt gl st t) (gc_hcf hA) cs o) ∧
      ∀ {f_expressionCount f_functionCount f_codeEnd f_depth f_letCount f_height f_heldNames f_frame f_at f_openCount f_stepCount f_resultSort f_resultNumber : Int32} {a_kindOf a_partX a_partY a_partZ a_weightOf a_needOf a_names a_known a_knownNumber a_functionOf a_op a_operand a_workNode a_workPhase a_workLast a_workPatch a_letPlace a_openFrame a_openAt : Nat → Int32} (post : Int32 → SX → Prop), post (-1) (f_expressionCount, f_functionCount, f_codeEnd, f_depth, f_letCount, f_height, f_heldNames, uc', m', mk', wc', nI t, f_frame, f_at, f_openCount, f_stepCount, f_resultSort, f_resultNumber, lv, a_kindOf, a_partX, a_partY, a_partZ, a_weightOf, a_needOf, a_names, a_known, a_knownNumber, a_functionOf, a_op, a_operand, a_workNode, a_workPhase, a_workLast, a_workPatch, a_letPlace, us', fa, hA, cs, wt', gl, st, a_openFrame, a_openAt) →
      wpX_newObject post (f_expressionCount, f_functionCount, f_codeEnd, f_depth, f_letCount, f_height, f_heldNames, uc, m, mk, wcI, nI t, f_frame, f_at, f_openCount, f_stepCount, f_resultSort, f_resultNumber, lv, a_kindOf, a_partX, a_partY, a_partZ, a_weightOf, a_needOf, a_names, a_known, a_knownNumber, a_functionOf, a_op, a_operand, a_workNode, a_workPhase, a_workLast, a_workPatch, a_letPlace, us, fa, hA, cs, wt, gl, st, a_openFrame, a_openAt) fn (nI cnt)) ∨
    (∃ (o : Nat) (uc' : Int32) (m' : Int64) (mk' : Int32) (wc' : Int32) (us' : Nat → Int32) (wt' : Nat → Int32), o < 40 ∧ ¬ gc_R (gc_rt gl st t) (gc_hcf hA) cs o ∧
      (∀ cs' : Nat → Int64, (∀ j, (j < 8 * o ∨ 8 * o + 8 ≤ j) → cs' j = cs j) → (∀ j, j < 384 → gc_wf (cs' j)) → gc_Ok (fun x => gc_R (gc_rt gl st t) (gc_hcf hA) cs x ∨ x = o) uc' m' mk' wc' us' (upd hA o (nI cnt)) cs' wt') ∧
      ∀ {f_expressionCount f_functionCount f_codeEnd f_depth f_letCount f_height f_heldNames f_frame f_at f_openCount f_stepCount f_resultSort f_resultNumber : Int32} {a_kindOf a_partX a_partY a_partZ a_weightOf a_needOf a_names a_known a_knownNumber a_functionOf a_op a_operand a_workNode a_workPhase a_workLast a_workPatch a_letPlace a_openFrame a_openAt : Nat → Int32} (post : Int32 → SX → Prop), post (nI o) (f_expressionCount, f_functionCount, f_codeEnd, f_depth, f_letCount, f_height, f_heldNames, uc', m', mk', wc', nI t, f_frame, f_at, f_openCount, f_stepCount, f_resultSort, f_resultNumber, lv, a_kindOf, a_partX, a_partY, a_partZ, a_weightOf, a_needOf, a_names, a_known, a_knownNumber, a_functionOf, a_op, a_operand, a_workNode, a_workPhase, a_workLast, a_workPatch, a_letPlace, us', upd fa o fn, upd hA o (nI cnt), cs, wt', gl, st, a_openFrame, a_openAt) →
      wpX_newObject post (f_expressionCount, f_functionCount, f_codeEnd, f_depth, f_letCount, f_height, f_heldNames, uc, m, mk, wcI, nI t, f_frame, f_at, f_openCount, f_stepCount, f_resultSort, f_resultNumber, lv, a_kindOf, a_partX, a_partY, a_partZ, a_weightOf, a_needOf, a_names, a_known, a_knownNumber, a_functionOf, a_op, a_operand, a_workNode, a_workPhase, a_workLast, a_workPatch, a_letPlace, us, fa, hA, cs, wt, gl, st, a_openFrame, a_openAt) fn (nI cnt)) := by
  obtain ⟨uc1, m1, mk1, wc1, us1, wt1, ok1, hp1⟩ := gc_somewhat (lv := lv) h ht hwf hwg hR
  by_cases z : uc1 < 40
  · obtain ⟨o, uc2, m2, us2, ho, hn, hok, hp2⟩ := gc_new17 (fa := fa) ok1 z hfn hcn
    exact Or.inr ⟨o, uc2, m2, mk1, wc1, us2, wt1, ho, hn, hok, fun post hp => by unfold wpX_newObject; exact hp1 _ (br_t z (hp2 post hp))⟩
  · obtain ⟨uc2, m2, us2, wt2, ok2, ex2, hp2⟩ := gc_all (wt := wt1) ok1.1 ok1.2.1 ht hwf hwg
    by_cases y : uc2 < 40
    · obtain ⟨o, uc3, m3, us3, ho, hn, hok, hp3⟩ := gc_new17 (fa := fa) ok2 y hfn hcn
      exact Or.inr ⟨o, uc3, m3, 0, 0, us3, wt2, ho, hn, hok, fun post hp => by unfold wpX_newObject; exact hp1 _ (br_f z (hp2 _ (hp3 post hp)))⟩
    · refine Or.inl ⟨uc2, m2, 0, 0, us2, wt2, ok2, fun o ho => ex2 o (by omega) ?_, fun post hp => by unfold wpX_newObject; exact hp1 _ (br_f z (hp2 _ (br_f y hp)))⟩
      have a := gc_used40 ok2.1
      have b := ct_le (fun o => decide (us2 o = 1)) 40
      have c : ct_n (fun o => decide (us2 o = 1)) 40 = 40 := by
        have e := ok2.1.2.2.1
        rw [e, a] at y
        have : ¬ ct_n (fun o => decide (us2 o = 1)) 40 < 40 := fun q => y ((nI_ltI (b := 40) (by omega) (by omega)).mpr q)
        omega
      simpa using ct_full 40 c o ho
end
section
/-! Y's mark: needed becomes the least closed set -/
def ym_R (rt : Nat → Prop) (hs hv : Nat → Int32) (w : Nat) : Prop := ∀ S : Nat → Prop, (∀ w, rt w → S w) → (∀ w k w', S w → k < 6 → w' < 40 → ¬ hs (6 * w + k) < 2 → hv (6 * w + k) = nI w' → S w') → S w
def ym_rt (gs gv es ev vs vv : Nat → Int32) (nb : Nat) (ln : Nat → Nat) (t : Nat) (w : Nat) : Prop :=
  w < 40 ∧ ((∃ g, g < 4 ∧ ¬ gs g < 2 ∧ gv g = nI w) ∨ (∃ b k, b < nb ∧ k < ln b ∧ ¬ es (24 * b + k) < 2 ∧ ev (24 * b + k) = nI w) ∨ (∃ k, k < t ∧ ¬ vs k < 2 ∧ vv k = nI w))
def ym_wf (s v : Int32) : Prop := s < 2 ∨ ∃ w, w < 40 ∧ v = nI w
def ym_I (Q : Nat → Prop) (nd : Nat → Int32) : Prop := (∀ w, w < 40 → nd w = 0 ∨ nd w = 1) ∧ (∀ w, w < 40 → nd w = 1 → Q w)
def ym_ct (nd : Nat → Int32) (n : Nat) : Nat := ct_n (fun w => decide (nd w = 1)) n
def ym_cl (hs hv : Nat → Int32) (S : Nat → Prop) : Prop := ∀ w k w', S w → k < 6 → w' < 40 → ¬ hs (6 * w + k) < 2 → hv (6 * w + k) = nI w' → S w'
theorem ym_R_rt {rt : Nat → Prop} {hs hv : Nat → Int32} {w : Nat} (h : rt w) : ym_R rt hs hv w := fun _ h1 _ => h1 w h
theorem ym_R_cl {rt : Nat → Prop} {hs hv : Nat → Int32} : ym_cl hs hv (ym_R rt hs hv) := fun w k w' h hk hw a b S h1 h2 => h2 w k w' (h S h1 h2) hk hw a b
theorem ym_R_40 {rt : Nat → Prop} {hs hv : Nat → Int32} (hr : ∀ w, rt w → w < 40) {w : Nat} (h : ym_R rt hs hv w) : w < 40 := h (fun w => w < 40) hr (fun _ _ _ _ _ h _ _ => h)
/-- what a pass leaves: more is needed, nothing that a set of this kind doesn't hold -/
def ym_S (nd nd' : Nat → Int32) (K : (Nat → Prop) → Prop) : Prop :=
  (∀ w, w < 40 → nd' w = 0 ∨ nd' w = 1) ∧ (∀ w, nd w = 1 → nd' w = 1) ∧ ∀ S, K S → (∀ w, w < 40 → nd w = 1 → S w) → (∀ w, w < 40 → nd' w = 1 → S w)
theorem ym_S_t {nd nd' nd'' : Nat → Int32} {K : (Nat → Prop) → Prop} (a : ym_S nd nd' K) (b : ym_S nd' nd'' K) : ym_S nd nd'' K :=
  ⟨b.1, fun w h => b.2.1 w (a.2.1 w h), fun S k h => b.2.2 S k (a.2.2 S k h)⟩
theorem ym_S_r {nd : Nat → Int32} {K : (Nat → Prop) → Prop} (h : ∀ w, w < 40 → nd w = 0 ∨ nd w = 1) : ym_S nd nd K := ⟨h, fun _ h => h, fun _ _ h => h⟩
theorem ym_meet {nd : Nat → Int32} {s v : Int32} {K : (Nat → Prop) → Prop} (hv : ym_wf s v) (h01 : ∀ w, w < 40 → nd w = 0 ∨ nd w = 1) (hK : ∀ S, K S → (∀ w, w < 40 → nd w = 1 → S w) → ∀ w, w < 40 → ¬ s < 2 → v = nI w → S w) :
    ∃ nd' : Nat → Int32, ym_S nd nd' K ∧ (∀ w, w < 40 → ¬ s < 2 → v = nI w → nd' w = 1) ∧
      ∀ {g_made g_functions g_bodies g_high g_top g_steps g_over g_how g_givenSort g_given : Int32} {b_ek b_ex b_ey b_ez b_ew b_outside b_globalSort b_global b_body b_heldSort b_held b_envSort b_env b_length b_base b_floor b_begun b_stage b_last b_valueSort b_value : Nat → Int32} (post : SY → Prop), post (g_made, g_functions, g_bodies, g_high, g_top, g_steps, g_over, g_how, g_givenSort, g_given, b_ek, b_ex, b_ey, b_ez, b_ew, b_outside, b_globalSort, b_global, b_body, b_heldSort, b_held, nd', b_envSort, b_env, b_length, b_base, b_floor, b_begun, b_stage, b_last, b_valueSort, b_value) → wpY_meet post (g_made, g_functions, g_bodies, g_high, g_top, g_steps, g_over, g_how, g_givenSort, g_given, b_ek, b_ex, b_ey, b_ez, b_ew, b_outside, b_globalSort, b_global, b_body, b_heldSort, b_held, nd, b_envSort, b_env, b_length, b_base, b_floor, b_begun, b_stage, b_last, b_valueSort, b_value) s v := by
  by_cases z : s < 2
  · exact ⟨nd, ym_S_r h01, fun w hw q => absurd z q, fun post hp => br_t z hp⟩
  · obtain ⟨w, hw, e⟩ := hv.resolve_left z
    refine ⟨upd nd w 1, ⟨fun i hi => ?_, fun i hi => ?_, fun S hS h i hi q => ?_⟩, fun i hi _ ei => ?_, fun post hp => br_f z (And.intro (by rw [e]; exact vp_in_nI hw (by omega)) (nm_r (e' := upd nd w 1) (by rw [e, nI_clamp (by omega)]; rfl) hp))⟩
    · by_cases q : i = w
      · rw [q, pk_us]; exact Or.inr rfl
      · rw [pk_un q]; exact h01 i hi
    · by_cases q : i = w
      · rw [q, pk_us]
      · rw [pk_un q]; exact hi
    · by_cases y : i = w
      · subst y; exact hK S hS h i hi z e
      · rw [pk_un y] at q; exact h i hi q
    · have : i = w := (nI_eq (by omega) (by omega)).mp (ei.symm.trans e)
      rw [this, pk_us]
section
variable {gs gv es ev vs vv hs hv ln : Nat → Int32} {lnN : Nat → Nat} {nb t : Nat}
theorem ym_23 {K : (Nat → Prop) → Prop} (hwf : ∀ g, g < 4 → ym_wf (gs g) (gv g)) (hK : ∀ S, K S → ∀ g w, g < 4 → w < 40 → ¬ gs g < 2 → gv g = nI w → S w) :
    ∀ d k (nd : Nat → Int32), k + d = 4 → (∀ w, w < 40 → nd w = 0 ∨ nd w = 1) → ∃ nd' : Nat → Int32, ym_S nd nd' K ∧ (∀ j w, k ≤ j → j < 4 → w < 40 → ¬ gs j < 2 → gv j = nI w → nd' w = 1) ∧
      ∀ {g_made g_functions g_bodies g_high g_top g_steps g_over g_how g_givenSort g_given : Int32} {b_ek b_ex b_ey b_ez b_ew b_outside b_body b_heldSort b_held b_envSort b_env b_length b_base b_floor b_begun b_stage b_last b_valueSort b_value : Nat → Int32} (post : Int32 → SY → Prop), (∃ n52 : Nat, wY_mark_52 post n52 0 g_made g_functions g_bodies g_high g_top g_steps g_over g_how g_givenSort g_given b_ek b_ex b_ey b_ez b_ew b_outside gs gv b_body b_heldSort b_held nd' b_envSort b_env b_length b_base b_floor b_begun b_stage b_last b_valueSort b_value) → wY_mark_23 post (d + 1) (nI k) g_made g_functions g_bodies g_high g_top g_steps g_over g_how g_givenSort g_given b_ek b_ex b_ey b_ez b_ew b_outside gs gv b_body b_heldSort b_held nd b_envSort b_env b_length b_base b_floor b_begun b_stage b_last b_valueSort b_value := by
  intro d
  induction d with
  | zero =>
    intro k nd hk h
    exact ⟨nd, ym_S_r h, fun j w a b => by omega, fun post hp => br_t (nI_le (a := 4) (by omega) (by omega)) hp⟩
  | succ d ih =>
    intro k nd hk h
    obtain ⟨nd1, s1, c1, p1⟩ := ym_meet (K := K) (hwf k (by omega)) h (fun S hS _ w hw a b => hK S hS k w (by omega) hw a b)
    obtain ⟨nd2, s2, c2, p2⟩ := ih (k + 1) nd1 (by omega) s1.1
    have hin : vp_in (nI k) 4 := vp_in_nI (by omega) (by omega)
    refine ⟨nd2, ym_S_t s1 s2, fun j w a b hw x y => ?_, fun post hp => br_f (nI_ge (b := 4) (by omega) (by omega)) (And.intro hin (And.intro hin ?_))⟩
    · by_cases q : j = k
      · subst q; exact s2.2.1 w (c1 w hw x y)
      · exact c2 j w (by omega) b hw x y
    · rw [nI_clamp (by omega)]
      exact p1 _ (nm_r (nI_1 k) (p2 post hp))
theorem ym_112 {K : (Nat → Prop) → Prop} (ht : t ≤ 420) (hwf : ∀ g, g < t → ym_wf (vs g) (vv g)) (hK : ∀ S, K S → ∀ g w, g < t → w < 40 → ¬ vs g < 2 → vv g = nI w → S w) :
    ∀ d k (nd : Nat → Int32), k + d = t → (∀ w, w < 40 → nd w = 0 ∨ nd w = 1) → ∃ nd' : Nat → Int32, ym_S nd nd' K ∧ (∀ j w, k ≤ j → j < t → w < 40 → ¬ vs j < 2 → vv j = nI w → nd' w = 1) ∧
      ∀ {g_made g_functions g_bodies g_high g_steps g_over g_how g_givenSort g_given : Int32} {b_ek b_ex b_ey b_ez b_ew b_outside b_globalSort b_global b_body b_heldSort b_held b_envSort b_env b_length b_base b_floor b_begun b_stage b_last : Nat → Int32} (post : Int32 → SY → Prop), (∃ n144 : Nat, wY_mark_144 post n144 0 g_made g_functions g_bodies g_high (nI t) g_steps g_over g_how g_givenSort g_given b_ek b_ex b_ey b_ez b_ew b_outside b_globalSort b_global b_body b_heldSort b_held nd' b_envSort b_env b_length b_base b_floor b_begun b_stage b_last vs vv) → wY_mark_112 post (d + 1) (nI k) g_made g_functions g_bodies g_high (nI t) g_steps g_over g_how g_givenSort g_given b_ek b_ex b_ey b_ez b_ew b_outside b_globalSort b_global b_body b_heldSort b_held nd b_envSort b_env b_length b_base b_floor b_begun b_stage b_last vs vv := by
  intro d
  induction d with
  | zero =>
    intro k nd hk h
    exact ⟨nd, ym_S_r h, fun j w a b => by omega, fun post hp => br_t (nI_le (by omega) (by omega)) hp⟩
  | succ d ih =>
    intro k nd hk h
    obtain ⟨nd1, s1, c1, p1⟩ := ym_meet (K := K) (hwf k (by omega)) h (fun S hS _ w hw a b => hK S hS k w (by omega) hw a b)
    obtain ⟨nd2, s2, c2, p2⟩ := ih (k + 1) nd1 (by omega) s1.1
    have hin : vp_in (nI k) 420 := vp_in_nI (by omega) (by omega)
    refine ⟨nd2, ym_S_t s1 s2, fun j w a b hw x y => ?_, fun post hp => br_f (nI_ge (by omega) (by omega)) (And.intro hin (And.intro hin ?_))⟩
    · by_cases q : j = k
      · subst q; exact s2.2.1 w (c1 w hw x y)
      · exact c2 j w (by omega) b hw x y
    · rw [nI_clamp (by omega)]
      exact p1 _ (nm_r (nI_1 k) (p2 post hp))
theorem ym_62 {K : (Nat → Prop) → Prop} {b : Nat} (hb : b < 13) (hl : ln b = nI (lnN b)) (hl24 : lnN b ≤ 24) (hwf : ∀ g, g < lnN b → ym_wf (es (24 * b + g)) (ev (24 * b + g))) (hK : ∀ S, K S → ∀ g w, g < lnN b → w < 40 → ¬ es (24 * b + g) < 2 → ev (24 * b + g) = nI w → S w) :
    ∀ d k (nd : Nat → Int32), k + d = lnN b → (∀ w, w < 40 → nd w = 0 ∨ nd w = 1) → ∃ nd' : Nat → Int32, ym_S nd nd' K ∧ (∀ j w, k ≤ j → j < lnN b → w < 40 → ¬ es (24 * b + j) < 2 → ev (24 * b + j) = nI w → nd' w = 1) ∧
      ∀ {g_made g_functions g_bodies g_high g_top g_steps g_over g_how g_givenSort g_given : Int32} {b_ek b_ex b_ey b_ez b_ew b_outside b_globalSort b_global b_body b_heldSort b_held b_base b_floor b_begun b_stage b_last b_valueSort b_value : Nat → Int32} (post : Int32 → SY → Prop) (J : Int32 → Int32 → Int32 → Int32 → Int32 → Int32 → Int32 → Int32 → Int32 → Int32 → Int32 → (Nat → Int32) → (Nat → Int32) → (Nat → Int32) → (Nat → Int32) → (Nat → Int32) → (Nat → Int32) → (Nat → Int32) → (Nat → Int32) → (Nat → Int32) → (Nat → Int32) → (Nat → Int32) → (Nat → Int32) → (Nat → Int32) → (Nat → Int32) → (Nat → Int32) → (Nat → Int32) → (Nat → Int32) → (Nat → Int32) → (Nat → Int32) → (Nat → Int32) → (Nat → Int32) → (Nat → Int32) → Prop), J (nI (b + 1)) g_made g_functions g_bodies g_high g_top g_steps g_over g_how g_givenSort g_given b_ek b_ex b_ey b_ez b_ew b_outside b_globalSort b_global b_body b_heldSort b_held nd' es ev ln b_base b_floor b_begun b_stage b_last b_valueSort b_value → wY_mark_62 post J (nI b) (d + 1) (nI k) g_made g_functions g_bodies g_high g_top g_steps g_over g_how g_givenSort g_given b_ek b_ex b_ey b_ez b_ew b_outside b_globalSort b_global b_body b_heldSort b_held nd es ev ln b_base b_floor b_begun b_stage b_last b_valueSort b_value := by
  intro d
  induction d with
  | zero =>
    intro k nd hk h
    refine ⟨nd, ym_S_r h, fun j w a b => by omega, fun post J hp => And.intro (vp_in_nI hb (by omega)) (br_t ?_ (nm_r (nI_1 b) hp))⟩
    rw [nI_clamp (by omega), hl]
    exact nI_le (by omega) (by omega)
  | succ d ih =>
    intro k nd hk h
    obtain ⟨nd1, s1, c1, p1⟩ := ym_meet (K := K) (hwf k (by omega)) h (fun S hS _ w hw a b => hK S hS k w (by omega) hw a b)
    obtain ⟨nd2, s2, c2, p2⟩ := ih (k + 1) nd1 (by omega) s1.1
    have e8 : 24 * nI b + nI k = nI (24 * b + k) := by
      rw [show (24 : Int32) = nI 24 from rfl, pk_mul, nI_add]
    have hin : vp_in (24 * nI b + nI k) 312 := by rw [e8]; exact vp_in_nI (by omega) (by omega)
    refine ⟨nd2, ym_S_t s1 s2, fun j w a b hw x y => ?_, fun post J hp => And.intro (vp_in_nI hb (by omega)) (br_f ?_ (And.intro hin (And.intro hin ?_)))⟩
    · by_cases q : j = k
      · subst q; exact s2.2.1 w (c1 w hw x y)
      · exact c2 j w (by omega) b hw x y
    · rw [nI_clamp (by omega), hl]
      exact nI_ge (by omega) (by omega)
    · rw [e8, nI_clamp (by omega)]
      exact p1 _ (nm_r (nI_1 k) (p2 post J hp))
theorem ym_52 {K : (Nat → Prop) → Prop} (hnb : nb ≤ 13) (hl : ∀ b, b < nb → ln b = nI (lnN b) ∧ lnN b ≤ 24) (hwf : ∀ b g, b < nb → g < lnN b → ym_wf (es (24 * b + g)) (ev (24 * b + g))) (hK : ∀ S, K S → ∀ b g w, b < nb → g < lnN b → w < 40 → ¬ es (24 * b + g) < 2 → ev (24 * b + g) = nI w → S w) :
    ∀ d k (nd : Nat → Int32), k + d = nb → (∀ w, w < 40 → nd w = 0 ∨ nd w = 1) → ∃ nd' : Nat → Int32, ym_S nd nd' K ∧ (∀ b j w, k ≤ b → b < nb → j < lnN b → w < 40 → ¬ es (24 * b + j) < 2 → ev (24 * b + j) = nI w → nd' w = 1) ∧
      ∀ {g_made g_functions g_high g_top g_steps g_over g_how g_givenSort g_given : Int32} {b_ek b_ex b_ey b_ez b_ew b_outside b_globalSort b_global b_body b_heldSort b_held b_base b_floor b_begun b_stage b_last b_valueSort b_value : Nat → Int32} (post : Int32 → SY → Prop), (∃ n112 : Nat, wY_mark_112 post n112 0 g_made g_functions (nI nb) g_high g_top g_steps g_over g_how g_givenSort g_given b_ek b_ex b_ey b_ez b_ew b_outside b_globalSort b_global b_body b_heldSort b_held nd' es ev ln b_base b_floor b_begun b_stage b_last b_valueSort b_value) → wY_mark_52 post (d + 1) (nI k) g_made g_functions (nI nb) g_high g_top g_steps g_over g_how g_givenSort g_given b_ek b_ex b_ey b_ez b_ew b_outside b_globalSort b_global b_body b_heldSort b_held nd es ev ln b_base b_floor b_begun b_stage b_last b_valueSort b_value := by
  intro d
  induction d with
  | zero =>
    intro k nd hk h
    exact ⟨nd, ym_S_r h, fun b j w a c => by omega, fun post hp => br_t (nI_le (by omega) (by omega)) hp⟩
  | succ d ih =>
    intro k nd hk h
    obtain ⟨nd1, s1, c1, p1⟩ := ym_62 (K := K) (b := k) (by omega) (hl k (by omega)).1 (hl k (by omega)).2 (fun g hg => hwf k g (by omega) hg) (fun S hS g w hg => hK S hS k g w (by omega) hg) (lnN k) 0 nd (by omega) h
    obtain ⟨nd2, s2, c2, p2⟩ := ih (k + 1) nd1 (by omega) s1.1
    refine ⟨nd2, ym_S_t s1 s2, fun b j w a c hj hw x y => ?_, fun post hp => br_f (nI_ge (by omega) (by omega)) ⟨lnN k + 1, p1 post _ (p2 post hp)⟩⟩
    by_cases q : b = k
    · subst q; exact s2.2.1 w (c1 j w (by omega) hj hw x y)
    · exact c2 b j w (by omega) c hj hw x y
theorem ym_152 {Q : Nat → Prop} (hwf : ∀ w k, w < 40 → k < 6 → Q w → ym_wf (hs (6 * w + k)) (hv (6 * w + k))) (hQ : ym_cl hs hv Q) :
    ∀ d k (nd : Nat → Int32), k + d = 240 → (∀ w, w < 40 → nd w = 0 ∨ nd w = 1) → (∀ w, w < 40 → nd w = 1 → Q w) → ∃ nd' : Nat → Int32, ym_S nd nd' (ym_cl hs hv) ∧ (∀ j w, k ≤ j → j < 240 → nd (j / 6) = 1 → w < 40 → ¬ hs j < 2 → hv j = nI w → nd' w = 1) ∧
      ∀ {g_made g_functions g_bodies g_high g_top g_steps g_over g_how g_givenSort g_given : Int32} {b_ek b_ex b_ey b_ez b_ew b_outside b_globalSort b_global b_body b_envSort b_env b_length b_base b_floor b_begun b_stage b_last b_valueSort b_value : Nat → Int32} (post : Int32 → SY → Prop) (J : Int32 → Int32 → Int32 → Int32 → Int32 → Int32 → Int32 → Int32 → Int32 → Int32 → Int32 → (Nat → Int32) → (Nat → Int32) → (Nat → Int32) → (Nat → Int32) → (Nat → Int32) → (Nat → Int32) → (Nat → Int32) → (Nat → Int32) → (Nat → Int32) → (Nat → Int32) → (Nat → Int32) → (Nat → Int32) → (Nat → Int32) → (Nat → Int32) → (Nat → Int32) → (Nat → Int32) → (Nat → Int32) → (Nat → Int32) → (Nat → Int32) → (Nat → Int32) → (Nat → Int32) → (Nat → Int32) → Prop) (r : Nat), J (nI (r + 1)) g_made g_functions g_bodies g_high g_top g_steps g_over g_how g_givenSort g_given b_ek b_ex b_ey b_ez b_ew b_outside b_globalSort b_global b_body hs hv nd' b_envSort b_env b_length b_base b_floor b_begun b_stage b_last b_valueSort b_value → wY_mark_152 post J (nI r) (d + 1) (nI k) g_made g_functions g_bodies g_high g_top g_steps g_over g_how g_givenSort g_given b_ek b_ex b_ey b_ez b_ew b_outside b_globalSort b_global b_body hs hv nd b_envSort b_env b_length b_base b_floor b_begun b_stage b_last b_valueSort b_value := by
  intro d
  induction d with
  | zero =>
    intro k nd hk h hq
    exact ⟨nd, ym_S_r h, fun j w a b => by omega, fun post J r hp => br_t (nI_le (a := 240) (by omega) (by omega)) (nm_r (nI_1 r) hp)⟩
  | succ d ih =>
    intro k nd hk h hq
    have e6 : nI k / 6 = nI (k / 6) := pk_div (d := 6) (by omega) (by omega) (by omega)
    have hin : vp_in (nI k / 6) 40 := by rw [e6]; exact vp_in_nI (by omega) (by omega)
    have ek : 6 * (k / 6) + k % 6 = k := by omega
    rcases h (k / 6) (by omega) with z | z
    · obtain ⟨nd2, s2, c2, p2⟩ := ih (k + 1) nd (by omega) h hq
      refine ⟨nd2, s2, fun j w a b x hw y v => ?_, fun post J r hp => br_f (nI_ge (b := 240) (by omega) (by omega)) (And.intro (by decide) (And.intro hin (br_t ?_ (nm_r (nI_1 k) (p2 post J r hp)))))⟩
      · by_cases q : j = k
        · subst q; rw [z] at x; exact absurd x (by decide)
        · exact c2 j w (by omega) b x hw y v
      · rw [e6, nI_clamp (by omega)]; exact z
    · have hw6 := hwf (k / 6) (k % 6) (by omega) (by omega) (hq (k / 6) (by omega) z)
      rw [ek] at hw6
      obtain ⟨nd1, s1, c1, p1⟩ := ym_meet (K := ym_cl hs hv) hw6 h (fun S hS hn w hw a b => hS (k / 6) (k % 6) w (hn _ (by omega) z) (by omega) hw (by rw [ek]; exact a) (by rw [ek]; exact b))
      obtain ⟨nd2, s2, c2, p2⟩ := ih (k + 1) nd1 (by omega) s1.1 (s1.2.2 Q hQ hq)
      have hk' : vp_in (nI k) 240 := vp_in_nI (by omega) (by omega)
      refine ⟨nd2, ym_S_t s1 s2, fun j w a b x hw y v => ?_, fun post J r hp => br_f (nI_ge (b := 240) (by omega) (by omega)) (And.intro (by decide) (And.intro hin (br_f ?_ (And.intro hk' (And.intro hk' ?_)))))⟩
      · by_cases q : j = k
        · subst q; exact s2.2.1 w (c1 w hw y v)
        · exact c2 j w (by omega) b (s1.2.1 _ x) hw y v
      · rw [e6, nI_clamp (by omega), z]; decide
      · rw [nI_clamp (by omega)]
        exact p1 _ (nm_r (nI_1 k) (p2 post J r hp))
def ym_cln (hs hv nd : Nat → Int32) : Prop := ym_cl hs hv (fun w => w < 40 ∧ nd w = 1)
theorem ym_144 {Q : Nat → Prop} (hwf : ∀ w k, w < 40 → k < 6 → Q w → ym_wf (hs (6 * w + k)) (hv (6 * w + k))) (hQ : ym_cl hs hv Q) :
    ∀ d r (nd : Nat → Int32), r + d = 40 → (∀ w, w < 40 → nd w = 0 ∨ nd w = 1) → (∀ w, w < 40 → nd w = 1 → Q w) → (ym_cln hs hv nd ∨ r ≤ ym_ct nd 40) → ∃ nd' : Nat → Int32, ym_S nd nd' (ym_cl hs hv) ∧ ym_cln hs hv nd' ∧
      ∀ {g_made g_functions g_bodies g_high g_top g_steps g_over g_how g_givenSort g_given : Int32} {b_ek b_ex b_ey b_ez b_ew b_outside b_globalSort b_global b_body b_envSort b_env b_length b_base b_floor b_begun b_stage b_last b_valueSort b_value : Nat → Int32} (post : Int32 → SY → Prop), (∃ n203 : Nat, wY_mark_203 post g_made g_functions g_bodies g_high g_top g_steps g_over g_how g_givenSort g_given b_ek b_ex b_ey b_ez b_ew b_outside b_globalSort b_global b_body hs hv nd' b_envSort b_env b_length b_base b_floor b_begun b_stage b_last b_valueSort b_value n203 0 0) → wY_mark_144 post (d + 1) (nI r) g_made g_functions g_bodies g_high g_top g_steps g_over g_how g_givenSort g_given b_ek b_ex b_ey b_ez b_ew b_outside b_globalSort b_global b_body hs hv nd b_envSort b_env b_length b_base b_floor b_begun b_stage b_last b_valueSort b_value := by
  intro d
  induction d with
  | zero =>
    intro r nd hk h hq hc
    refine ⟨nd, ym_S_r h, ?_, fun post hp => br_t (nI_le (a := 40) (by omega) (by omega)) hp⟩
    rcases hc with hc | hc
    · exact hc
    · intro w k w' hw hk' hw' a b
      have e : ct_n (fun w => decide (nd w = 1)) 40 = 40 := Nat.le_antisymm (ct_le _ 40) (by unfold ym_ct at hc; omega)
      exact ⟨hw', by simpa using ct_full 40 e w' hw'⟩
  | succ d ih =>
    intro r nd hk h hq hc
    obtain ⟨nd1, s1, c1, p1⟩ := ym_152 hwf hQ 240 0 nd (by omega) h hq
    have hmono : ym_ct nd 40 ≤ ym_ct nd1 40 := ct_mono 40 (fun i _ z => by simpa using s1.2.1 i (by simpa using z))
    have hc1 : ym_cln hs hv nd1 ∨ r + 1 ≤ ym_ct nd1 40 := by
      by_cases q : ∀ w, w < 40 → nd1 w = 1 → nd w = 1
      · refine Or.inl (fun w k w' hw hk' hw' a b => ⟨hw', ?_⟩)
        refine c1 (6 * w + k) w' (by omega) (by omega) ?_ hw' a b
        rw [show (6 * w + k) / 6 = w by omega]
        exact q w hw.1 hw.2
      · have hn : ¬ ym_cln hs hv nd := fun z => q (fun w hw e => (s1.2.2 _ z (fun w hw e => ⟨hw, e⟩) w hw e).2)
        have hr := hc.resolve_left hn
        refine Or.inr ?_
        by_cases y : ym_ct nd1 40 ≤ r
        · exfalso
          apply q
          intro w hw e
          have hlt : ct_n (fun i => decide (nd i = 1)) 40 < ct_n (fun i => decide (nd1 i = 1)) 40 ∨ nd w = 1 := by
            rcases h w hw with z | z
            · refine Or.inl ?_
              have a := ct_add (p := fun i => decide (nd i = 1)) (q := fun i => decide (upd nd w 1 i = 1)) (o := w) (by simp [z]) (by simp [pk_us]) (fun i hi => by simp [pk_un hi]) 40
              rw [if_pos hw] at a
              have b : ct_n (fun i => decide (upd nd w 1 i = 1)) 40 ≤ ct_n (fun i => decide (nd1 i = 1)) 40 := ct_mono 40 (fun i _ z => by
                by_cases y : i = w
                · subst y; simpa using e
                · simp only [pk_un y] at z
                  simpa using s1.2.1 i (by simpa using z))
              omega
            · exact Or.inr z
          rcases hlt with z | z
          · unfold ym_ct at hr y; omega
          · exact z
        · omega
    obtain ⟨nd2, s2, c2, p2⟩ := ih (r + 1) nd1 (by omega) s1.1 (s1.2.2 Q hQ hq) hc1
    exact ⟨nd2, ym_S_t s1 s2, c2, fun post hp => br_f (nI_ge (b := 40) (by omega) (by omega)) ⟨241, p1 post _ r (p2 post hp)⟩⟩
theorem ym_203 {nd : Nat → Int32} (h : ∀ w, w < 40 → nd w = 0 ∨ nd w = 1) :
    ∀ d k, k + d = 40 → ∀ {g_made g_functions g_bodies g_high g_top g_steps g_over g_how g_givenSort g_given : Int32} {b_ek b_ex b_ey b_ez b_ew b_outside b_globalSort b_global b_body b_heldSort b_held b_envSort b_env b_length b_base b_floor b_begun b_stage b_last b_valueSort b_value : Nat → Int32} (post : Int32 → SY → Prop), post (nI (ym_ct nd 40)) (g_made, g_functions, g_bodies, g_high, g_top, g_steps, g_over, g_how, g_givenSort, g_given, b_ek, b_ex, b_ey, b_ez, b_ew, b_outside, b_globalSort, b_global, b_body, b_heldSort, b_held, nd, b_envSort, b_env, b_length, b_base, b_floor, b_begun, b_stage, b_last, b_valueSort, b_value) → wY_mark_203 post g_made g_functions g_bodies g_high g_top g_steps g_over g_how g_givenSort g_given b_ek b_ex b_ey b_ez b_ew b_outside b_globalSort b_global b_body b_heldSort b_held nd b_envSort b_env b_length b_base b_floor b_begun b_stage b_last b_valueSort b_value (d + 1) (nI (ym_ct nd k)) (nI k) := by
  intro d
  induction d with
  | zero =>
    intro k hk
    intros
    rename_i post hp
    have e : k = 40 := by omega
    subst e
    exact br_t (nI_le (a := 40) (by omega) (by omega)) hp
  | succ d ih =>
    intro k hk
    intros
    rename_i post hp
    have hin : vp_in (nI k) 40 := vp_in_nI (by omega) (by omega)
    have es : ym_ct nd (k + 1) = ym_ct nd k + (if decide (nd k = 1) = true then 1 else 0) := rfl
    refine br_f (nI_ge (b := 40) (by omega) (by omega)) (And.intro hin ?_)
    rcases h k (by omega) with z | z
    · refine br_t (by rw [nI_clamp (by omega)]; exact z) (nm_r (nI_1 k) ?_)
      have := ih (k + 1) (by omega) post hp
      rw [es, z] at this
      simpa using this
    · refine br_f (by rw [nI_clamp (by omega), z]; decide) (nm_r (nI_1 _) (nm_r (nI_1 k) ?_))
      have := ih (k + 1) (by omega) post hp
      rw [es, z] at this
      simpa using this
theorem ym_2 : ∀ d k (nd : Nat → Int32), k + d = 40 → (∀ w, w < k → nd w = 0) → ∃ nd' : Nat → Int32, (∀ w, w < 40 → nd' w = 0) ∧
      ∀ {g_made g_functions g_bodies g_high g_top g_steps g_over g_how g_givenSort g_given : Int32} {b_ek b_ex b_ey b_ez b_ew b_outside b_globalSort b_global b_body b_heldSort b_held b_envSort b_env b_length b_base b_floor b_begun b_stage b_last b_valueSort b_value : Nat → Int32} (post : Int32 → SY → Prop), (∃ n23 : Nat, wY_mark_23 post n23 0 g_made g_functions g_bodies g_high g_top g_steps g_over g_how g_givenSort g_given b_ek b_ex b_ey b_ez b_ew b_outside b_globalSort b_global b_body b_heldSort b_held nd' b_envSort b_env b_length b_base b_floor b_begun b_stage b_last b_valueSort b_value) → wY_mark_2 post g_made g_functions g_bodies g_high g_top g_steps g_over g_how g_givenSort g_given (d + 1) (nI k) b_ek b_ex b_ey b_ez b_ew b_outside b_globalSort b_global b_body b_heldSort b_held nd b_envSort b_env b_length b_base b_floor b_begun b_stage b_last b_valueSort b_value := by
  intro d
  induction d with
  | zero =>
    intro k nd hk h
    exact ⟨nd, fun w hw => h w (by omega), fun post hp => br_t (nI_le (a := 40) (by omega) (by omega)) hp⟩
  | succ d ih =>
    intro k nd hk h
    obtain ⟨nd', h', p'⟩ := ih (k + 1) (upd nd k 0) (by omega) (fun w hw => by
      by_cases q : w = k
      · rw [q, pk_us]
      · rw [pk_un q]; exact h w (by omega))
    exact ⟨nd', h', fun post hp => br_f (nI_ge (b := 40) (by omega) (by omega)) (And.intro (vp_in_nI (by omega) (by omega)) (nm_r (e' := upd nd k 0) (by rw [nI_clamp (by omega)]; rfl) (nm_r (nI_1 k) (p' post hp))))⟩
theorem ym_mark {nd : Nat → Int32} (hnb : nb ≤ 13) (hl : ∀ b, b < nb → ln b = nI (lnN b) ∧ lnN b ≤ 24) (ht : t ≤ 420) (hg : ∀ g, g < 4 → ym_wf (gs g) (gv g)) (he : ∀ b g, b < nb → g < lnN b → ym_wf (es (24 * b + g)) (ev (24 * b + g))) (hvv : ∀ g, g < t → ym_wf (vs g) (vv g))
    (hwf : ∀ w k, k < 6 → ym_R (ym_rt gs gv es ev vs vv nb lnN t) hs hv w → ym_wf (hs (6 * w + k)) (hv (6 * w + k))) :
    ∃ nd' : Nat → Int32, (∀ w, w < 40 → nd' w = 0 ∨ nd' w = 1) ∧ (∀ w, w < 40 → (nd' w = 1 ↔ ym_R (ym_rt gs gv es ev vs vv nb lnN t) hs hv w)) ∧
      ∀ {g_made g_functions g_high g_steps g_over g_how g_givenSort g_given : Int32} {b_ek b_ex b_ey b_ez b_ew b_outside b_body b_base b_floor b_begun b_stage b_last : Nat → Int32} (post : Int32 → SY → Prop), post (nI (ym_ct nd' 40)) (g_made, g_functions, nI nb, g_high, nI t, g_steps, g_over, g_how, g_givenSort, g_given, b_ek, b_ex, b_ey, b_ez, b_ew, b_outside, gs, gv, b_body, hs, hv, nd', es, ev, ln, b_base, b_floor, b_begun, b_stage, b_last, vs, vv) →
      wpY_mark post (g_made, g_functions, nI nb, g_high, nI t, g_steps, g_over, g_how, g_givenSort, g_given, b_ek, b_ex, b_ey, b_ez, b_ew, b_outside, gs, gv, b_body, hs, hv, nd, es, ev, ln, b_base, b_floor, b_begun, b_stage, b_last, vs, vv) := by
  obtain ⟨n0, z0, p0⟩ := ym_2 40 0 nd (by omega) (fun w hw => by omega)
  obtain ⟨n1, s1, c1, p1⟩ := ym_23 (K := fun S => ∀ w, ym_rt gs gv es ev vs vv nb lnN t w → S w) hg (fun S hS g w hg hw a b => hS w ⟨hw, Or.inl ⟨g, hg, a, b⟩⟩) 4 0 n0 rfl (fun w hw => Or.inl (z0 w hw))
  obtain ⟨n2, s2, c2, p2⟩ := ym_52 (K := fun S => ∀ w, ym_rt gs gv es ev vs vv nb lnN t w → S w) hnb hl he (fun S hS b g w hb hg hw a c => hS w ⟨hw, Or.inr (Or.inl ⟨b, g, hb, hg, a, c⟩)⟩) nb 0 n1 (by omega) s1.1
  obtain ⟨n3, s3, c3, p3⟩ := ym_112 (K := fun S => ∀ w, ym_rt gs gv es ev vs vv nb lnN t w → S w) ht hvv (fun S hS g w hg hw a b => hS w ⟨hw, Or.inr (Or.inr ⟨g, hg, a, b⟩)⟩) t 0 n2 (by omega) s2.1
  have s03 := ym_S_t (ym_S_t s1 s2) s3
  have hz : ∀ w, w < 40 → n0 w = 1 → False := fun w hw e => by rw [z0 w hw] at e; exact absurd e (by decide)
  have hq : ∀ w, w < 40 → n3 w = 1 → ym_R (ym_rt gs gv es ev vs vv nb lnN t) hs hv w := s03.2.2 _ (fun w h => ym_R_rt h) (fun w hw e => (hz w hw e).elim)
  obtain ⟨n4, s4, c4, p4⟩ := ym_144 (Q := ym_R (ym_rt gs gv es ev vs vv nb lnN t) hs hv) (fun w k _ hk h => hwf w k hk h) ym_R_cl 40 0 n3 (by omega) s3.1 hq (Or.inr (Nat.zero_le _))
  refine ⟨n4, s4.1, fun w hw => ⟨fun e => s4.2.2 _ ym_R_cl hq w hw e, fun h => ?_⟩, fun post hp => ⟨41, p0 post ⟨5, p1 post ⟨nb + 1, p2 post ⟨t + 1, p3 post ⟨41, p4 post ⟨41, ym_203 s4.1 40 0 (by omega) post hp⟩⟩⟩⟩⟩⟩⟩
  refine (h (fun w => w < 40 ∧ n4 w = 1) (fun w hr => ⟨hr.1, s4.2.1 w ?_⟩) (fun w k w' h hk hw' a b => c4 w k w' h hk hw' a b)).2
  rcases hr.2 with ⟨g, hg', a, b⟩ | ⟨b, g, hb, hg', a, c⟩ | ⟨g, hg', a, b⟩
  · exact s3.2.1 w (s2.2.1 w (c1 g w (by omega) hg' hr.1 a b))
  · exact s3.2.1 w (c2 b g w (by omega) hb hg' hr.1 a c)
  · exact c3 g w (by omega) hg' hr.1 a b
end
end
section
/-! Y's make: a place that isn't needed, its six cells emptied -/
theorem ym_83 {w : Nat} (hw : w < 40) :
    ∀ d k (hs : Nat → Int32), k + d = 6 → ∃ hs' : Nat → Int32, (∀ j, 6 * w + k ≤ j → j < 6 * w + 6 → hs' j = 0) ∧ (∀ j, (j < 6 * w + k ∨ 6 * w + 6 ≤ j) → hs' j = hs j) ∧
      ∀ {g_made g_functions g_bodies g_high g_top g_steps g_over g_how g_givenSort g_given : Int32} {b_ek b_ex b_ey b_ez b_ew b_outside b_globalSort b_global b_body b_held b_needed b_envSort b_env b_length b_base b_floor b_begun b_stage b_last b_valueSort b_value : Nat → Int32} (post : Int32 → SY → Prop), post (nI w) (g_made, g_functions, g_bodies, g_high, g_top, g_steps, g_over, g_how, g_givenSort, g_given, b_ek, b_ex, b_ey, b_ez, b_ew, b_outside, b_globalSort, b_global, b_body, hs', b_held, b_needed, b_envSort, b_env, b_length, b_base, b_floor, b_begun, b_stage, b_last, b_valueSort, b_value) → wY_make_83 post (nI w) g_made g_functions g_bodies g_high g_top g_steps g_over g_how g_givenSort g_given (d + 1) (nI (6 * w + k)) b_ek b_ex b_ey b_ez b_ew b_outside b_globalSort b_global b_body hs b_held b_needed b_envSort b_env b_length b_base b_floor b_begun b_stage b_last b_valueSort b_value := by
  have e6 : 6 * nI w + 6 = nI (6 * w + 6) := by
    rw [show (6 : Int32) = nI 6 from rfl, pk_mul, nI_add]
  intro d
  induction d with
  | zero =>
    intro k hs hk
    refine ⟨hs, fun j a b => by omega, fun j _ => rfl, fun post hp => br_t ?_ hp⟩
    rw [e6]; exact nI_le (by omega) (by omega)
  | succ d ih =>
    intro k hs hk
    obtain ⟨hs', a, b, p⟩ := ih (k + 1) (upd hs (6 * w + k) 0) (by omega)
    refine ⟨hs', fun j x y => ?_, fun j x => ?_, fun post hp => br_f (by rw [e6]; exact nI_ge (by omega) (by omega)) (And.intro (vp_in_nI (by omega) (by omega)) (nm_r (e' := upd hs (6 * w + k) 0) (by rw [nI_clamp (by omega)]) (nm_r (e' := nI (6 * w + (k + 1))) (nI_1 (6 * w + k)) (p post hp))))⟩
    · by_cases q : j = 6 * w + k
      · rw [b j (by omega), q, pk_us]
      · exact a j (by omega) y
    · rw [b j (by omega), pk_un (by omega)]
theorem ym_57 {nd : Nat → Int32} (h01 : ∀ w, w < 40 → nd w = 0 ∨ nd w = 1) :
    ∀ k x, k ≤ 40 → x < 40 → (nd x = 0 ∨ ∃ j, j < k ∧ nd j = 0) → ∃ w, w < 40 ∧ nd w = 0 ∧
      ∀ {g_made g_functions g_bodies g_high g_top g_steps g_over g_how g_givenSort g_given : Int32} {b_ek b_ex b_ey b_ez b_ew b_outside b_globalSort b_global b_body b_heldSort b_held b_envSort b_env b_length b_base b_floor b_begun b_stage b_last b_valueSort b_value : Nat → Int32} (post : Int32 → SY → Prop), (∃ n83 : Nat, wY_make_83 post (nI w) g_made g_functions g_bodies g_high g_top g_steps g_over g_how g_givenSort g_given n83 (nI (6 * w)) b_ek b_ex b_ey b_ez b_ew b_outside b_globalSort b_global b_body b_heldSort b_held nd b_envSort b_env b_length b_base b_floor b_begun b_stage b_last b_valueSort b_value) → wY_make_57 post g_made g_functions g_bodies g_high g_top g_steps g_over g_how g_givenSort g_given b_ek b_ex b_ey b_ez b_ew b_outside b_globalSort b_global b_body b_heldSort b_held nd b_envSort b_env b_length b_base b_floor b_begun b_stage b_last b_valueSort b_value (k + 1) (nI x) (nI k + (-1)) := by
  intro k
  induction k with
  | zero =>
    intro x hk hx h
    refine ⟨x, hx, h.resolve_right (fun ⟨j, hj, _⟩ => by omega), fun post hp => br_t (by decide) (nm_r (e' := nI (6 * x)) ?_ hp)⟩
    rw [show (6 : Int32) = nI 6 from rfl, pk_mul]
  | succ k ih =>
    intro x hk hx h
    have hin : vp_in (nI (k + 1) + (-1)) 40 := by rw [pk_m1]; exact vp_in_nI (by omega) (by omega)
    have hpos : ¬ nI (k + 1) + (-1) < 0 := by rw [pk_m1]; exact nI_pos (by omega)
    rcases h01 k (by omega) with z | z
    · obtain ⟨w, hw, hn, p⟩ := ih k (by omega) (by omega) (Or.inl z)
      refine ⟨w, hw, hn, fun post hp => br_f hpos (And.intro hin (br_t ?_ (nm_r (e' := nI k + (-1)) (by rw [pk_m1]) ?_)))⟩
      · rw [pk_m1, nI_clamp (by omega)]; exact z
      · rw [pk_m1]; exact p post hp
    · obtain ⟨w, hw, hn, p⟩ := ih x (by omega) hx (by
        rcases h with h | ⟨j, hj, e⟩
        · exact Or.inl h
        · by_cases q : j = k
          · subst q; rw [z] at e; exact absurd e (by decide)
          · exact Or.inr ⟨j, by omega, e⟩)
      refine ⟨w, hw, hn, fun post hp => br_f hpos (And.intro hin (br_f ?_ (nm_r (e' := nI k + (-1)) (by rw [pk_m1]) (p post hp))))⟩
      rw [pk_m1, nI_clamp (by omega), z]; decide
section
variable {gs gv es ev vs vv hs hv ln : Nat → Int32} {lnN : Nat → Nat} {nb t : Nat}
/-- the run is tired -/
theorem ym_make200 : ∀ {g_made g_functions g_bodies g_high g_top g_how g_givenSort g_given : Int32} {b_ek b_ex b_ey b_ez b_ew b_outside b_globalSort b_global b_body b_heldSort b_held b_needed b_envSort b_env b_length b_base b_floor b_begun b_stage b_last b_valueSort b_value : Nat → Int32} (post : Int32 → SY → Prop), post (-1) (g_made, g_functions, g_bodies, g_high, g_top, 200, 1, 2, g_givenSort, g_given, b_ek, b_ex, b_ey, b_ez, b_ew, b_outside, b_globalSort, b_global, b_body, b_heldSort, b_held, b_needed, b_envSort, b_env, b_length, b_base, b_floor, b_begun, b_stage, b_last, b_valueSort, b_value) → wpY_make post (g_made, g_functions, g_bodies, g_high, g_top, 200, 0, g_how, g_givenSort, g_given, b_ek, b_ex, b_ey, b_ez, b_ew, b_outside, b_globalSort, b_global, b_body, b_heldSort, b_held, b_needed, b_envSort, b_env, b_length, b_base, b_floor, b_begun, b_stage, b_last, b_valueSort, b_value) := by
  intros
  rename_i hp
  exact br_t rfl (br_f (by decide) hp)
theorem ym_make {nd : Nat → Int32} {st : Nat} (hst : st < 200) (hnb : nb ≤ 13) (hl : ∀ b, b < nb → ln b = nI (lnN b) ∧ lnN b ≤ 24) (ht : t ≤ 420) (hg : ∀ g, g < 4 → ym_wf (gs g) (gv g)) (he : ∀ b g, b < nb → g < lnN b → ym_wf (es (24 * b + g)) (ev (24 * b + g))) (hvv : ∀ g, g < t → ym_wf (vs g) (vv g))
    (hwf : ∀ w k, k < 6 → ym_R (ym_rt gs gv es ev vs vv nb lnN t) hs hv w → ym_wf (hs (6 * w + k)) (hv (6 * w + k))) :
    ((∀ w, w < 40 → ym_R (ym_rt gs gv es ev vs vv nb lnN t) hs hv w) → ∃ nd' : Nat → Int32,
      ∀ {g_made g_functions g_high g_how g_givenSort g_given : Int32} {b_ek b_ex b_ey b_ez b_ew b_outside b_body b_base b_floor b_begun b_stage b_last : Nat → Int32} (post : Int32 → SY → Prop), post (-1) (g_made, g_functions, nI nb, g_high, nI t, nI st, 1, 3, g_givenSort, g_given, b_ek, b_ex, b_ey, b_ez, b_ew, b_outside, gs, gv, b_body, hs, hv, nd', es, ev, ln, b_base, b_floor, b_begun, b_stage, b_last, vs, vv) →
      wpY_make post (g_made, g_functions, nI nb, g_high, nI t, nI st, 0, g_how, g_givenSort, g_given, b_ek, b_ex, b_ey, b_ez, b_ew, b_outside, gs, gv, b_body, hs, hv, nd, es, ev, ln, b_base, b_floor, b_begun, b_stage, b_last, vs, vv)) ∧
    (¬ (∀ w, w < 40 → ym_R (ym_rt gs gv es ev vs vv nb lnN t) hs hv w) → ∃ (w : Nat) (nd' hs' : Nat → Int32), w < 40 ∧ ¬ ym_R (ym_rt gs gv es ev vs vv nb lnN t) hs hv w ∧ (∀ j, 6 * w ≤ j → j < 6 * w + 6 → hs' j = 0) ∧ (∀ j, (j < 6 * w ∨ 6 * w + 6 ≤ j) → hs' j = hs j) ∧
      ∀ {g_made g_functions g_high g_how g_givenSort g_given : Int32} {b_ek b_ex b_ey b_ez b_ew b_outside b_body b_base b_floor b_begun b_stage b_last : Nat → Int32} (post : Int32 → SY → Prop), post (nI w) (g_made, g_functions, nI nb, g_high, nI t, nI (st + 1), 0, g_how, g_givenSort, g_given, b_ek, b_ex, b_ey, b_ez, b_ew, b_outside, gs, gv, b_body, hs', hv, nd', es, ev, ln, b_base, b_floor, b_begun, b_stage, b_last, vs, vv) →
      wpY_make post (g_made, g_functions, nI nb, g_high, nI t, nI st, 0, g_how, g_givenSort, g_given, b_ek, b_ex, b_ey, b_ez, b_ew, b_outside, gs, gv, b_body, hs, hv, nd, es, ev, ln, b_base, b_floor, b_begun, b_stage, b_last, vs, vv)) := by
  obtain ⟨n1, h01, hR, hp1⟩ := ym_mark (nd := nd) hnb hl ht hg he hvv hwf
  have h200 : ¬ nI st = 200 := fun z => by
    have := (nI_eq (a := st) (b := 200) (by omega) (by omega)).mp z
    omega
  refine ⟨fun hall => ⟨n1, fun post hp => br_f h200 (hp1 _ (br_t ?_ (br_f (by decide) hp)))⟩, fun hn => ?_⟩
  · have e : ym_ct n1 40 = 40 := ct_all 40 (fun i hi => by simpa using (hR i hi).mpr (hall i hi))
    rw [e]; rfl
  · have hlt : ym_ct n1 40 < 40 := by
      have a := ct_le (fun w => decide (n1 w = 1)) 40
      by_cases q : ym_ct n1 40 = 40
      · exact absurd (fun w hw => (hR w hw).mp (by simpa using ct_full 40 q w hw)) hn
      · unfold ym_ct at q ⊢; omega
    obtain ⟨i, hi, hf, _⟩ := ct_free 40 hlt
    have hfi : n1 i = 0 := by
      rcases h01 i hi with z | z
      · exact z
      · exact absurd hf (by simp [z])
    obtain ⟨w, hw, hnw, p2⟩ := ym_57 h01 40 39 (by omega) (by omega) (Or.inr ⟨i, hi, hfi⟩)
    obtain ⟨hs', a, b, p3⟩ := ym_83 hw 6 0 hs (by omega)
    refine ⟨w, n1, hs', hw, fun z => ?_, a, b, fun post hp => br_f h200 (hp1 _ (br_f ?_ (br_t rfl (nm_r (nI_1 st) ⟨41, p2 post ⟨7, p3 post hp⟩⟩))))⟩
    · have := (hR w hw).mpr z
      rw [hnw] at this
      exact absurd this (by decide)
    · intro z
      have := (nI_eq (a := ym_ct n1 40) (b := 40) (by omega) (by omega)).mp z
      omega
end
end
section
/-! the two memories: P o w t, X's place o is Y's place w; t = 0 a pair, t = e + 1 a function made by expression e -/
def hp_V (P : Nat → Nat → Nat → Prop) (x : Int64) (s v : Int32) : Prop :=
  (s = 0 ∧ x = 0) ∨ (s = 1 ∧ x = vl_iv v) ∨ ∃ o w t, P o w t ∧ x = vl_ob o ∧ v = nI w ∧ s = (if t = 0 then 2 else 3)
def hp_rk (mk : Nat) (i : Nat) : Nat := ct_n (fun k => mk.testBit k) i
/-- what a function of kind (function number f, mask mk, body x) holds: X by rank, Y by number -/
def hp_F (P : Nat → Nat → Nat → Prop) (mk : Nat) (cs : Nat → Int64) (o : Nat) (S V : Nat → Int32) : Prop :=
  ∀ i, i < 6 → (mk.testBit i = true → hp_V P (cs (8 * o + hp_rk mk i)) (S i) (V i)) ∧ (mk.testBit i = false → S i = 0)
def hp_N (FT : Nat → Nat → Nat → Nat → Prop) (P : Nat → Nat → Nat → Prop) (fa hA : Nat → Int32) (cs : Nat → Int64) (bd hs hv : Nat → Int32) (o w t : Nat) : Prop :=
  o < 40 ∧ w < 40 ∧
  ((t = 0 ∧ fa o = -1 ∧ hA o = nI 2 ∧ hp_V P (cs (8 * o + 0)) (hs (6 * w + 0)) (hv (6 * w + 0)) ∧ hp_V P (cs (8 * o + 1)) (hs (6 * w + 1)) (hv (6 * w + 1)) ∧ ∀ k, 2 ≤ k → k < 6 → hs (6 * w + k) = 0) ∨
   (∃ e f mk x, t = e + 1 ∧ FT e f mk x ∧ f ≤ 12 ∧ mk < 64 ∧ fa o = nI f ∧ hA o = nI (hp_rk mk 6) ∧ bd w = nI x ∧ hp_F P mk cs o (fun i => hs (6 * w + i)) (fun i => hv (6 * w + i))))
def hp_H (FT : Nat → Nat → Nat → Nat → Prop) (P : Nat → Nat → Nat → Prop) (fa hA : Nat → Int32) (cs : Nat → Int64) (bd hs hv : Nat → Int32) : Prop :=
  (∀ o w t w' t', P o w t → P o w' t' → w = w' ∧ t = t') ∧ (∀ o o' w t t', P o w t → P o' w t' → o = o') ∧ ∀ o w t, P o w t → hp_N FT P fa hA cs bd hs hv o w t
theorem hp_rk_le (mk i : Nat) : hp_rk mk i ≤ i := ct_le _ i
theorem hp_rk_mono (mk : Nat) : ∀ {i j : Nat}, i ≤ j → hp_rk mk i ≤ hp_rk mk j := by
  intro i j h
  induction h with
  | refl => exact Nat.le_refl _
  | step _ ih => unfold hp_rk at ih ⊢; rw [ct_n]; omega
theorem hp_rk_lt {mk i j : Nat} (h : i < j) (hb : mk.testBit i = true) : hp_rk mk i < hp_rk mk j := by
  have a := hp_rk_mono mk (show i + 1 ≤ j from h)
  have b : hp_rk mk (i + 1) = hp_rk mk i + 1 := by unfold hp_rk; rw [ct_n, if_pos hb]
  omega
theorem hp_rk_sur (mk : Nat) : ∀ n k, k < hp_rk mk n → ∃ i, i < n ∧ mk.testBit i = true ∧ hp_rk mk i = k
  | 0, k, h => absurd h (by unfold hp_rk ct_n; omega)
  | n + 1, k, h => by
    by_cases z : k < hp_rk mk n
    · obtain ⟨i, a, b, c⟩ := hp_rk_sur mk n k z
      exact ⟨i, by omega, b, c⟩
    · have e : hp_rk mk (n + 1) = hp_rk mk n + (if mk.testBit n = true then 1 else 0) := rfl
      by_cases y : mk.testBit n = true
      · rw [if_pos y] at e
        exact ⟨n, by omega, y, by omega⟩
      · rw [if_neg y] at e; omega
theorem hp_V_mono {P P' : Nat → Nat → Nat → Prop} (h : ∀ o w t, P o w t → P' o w t) {x : Int64} {s v : Int32} (hv : hp_V P x s v) : hp_V P' x s v := by
  rcases hv with hv | hv | ⟨o, w, t, a, b⟩
  · exact Or.inl hv
  · exact Or.inr (Or.inl hv)
  · exact Or.inr (Or.inr ⟨o, w, t, h o w t a, b⟩)
/-- a value whose object is kept -/
theorem hp_V_res {P : Nat → Nat → Nat → Prop} {R : Nat → Prop} (h40 : ∀ o w t, P o w t → o < 40) {x : Int64} {s v : Int32} (hv : hp_V P x s v) (hR : ∀ c, c < 40 → x = vl_ob c → R c) : hp_V (fun o w t => P o w t ∧ R o) x s v := by
  rcases hv with hv | hv | ⟨o, w, t, a, b, c⟩
  · exact Or.inl hv
  · exact Or.inr (Or.inl hv)
  · exact Or.inr (Or.inr ⟨o, w, t, ⟨a, hR o (h40 o w t a) b⟩, b, c⟩)
theorem hp_V_wf {P : Nat → Nat → Nat → Prop} (h40 : ∀ o w t, P o w t → o < 40) {x : Int64} {s v : Int32} (hv : hp_V P x s v) : gc_wf x := by
  rcases hv with ⟨_, hv⟩ | ⟨_, hv⟩ | ⟨o, w, t, a, b, c⟩
  · exact Or.inl hv
  · exact Or.inr (Or.inl ⟨_, hv⟩)
  · exact Or.inr (Or.inr ⟨o, h40 o w t a, b⟩)
theorem hp_V_ywf {P : Nat → Nat → Nat → Prop} (h40 : ∀ o w t, P o w t → w < 40) {x : Int64} {s v : Int32} (hv : hp_V P x s v) : ym_wf s v := by
  rcases hv with ⟨hv, _⟩ | ⟨hv, _⟩ | ⟨o, w, t, a, b, c, d⟩
  · rw [hv]; exact Or.inl (by decide)
  · rw [hv]; exact Or.inl (by decide)
  · exact Or.inr ⟨w, h40 o w t a, c⟩
/-- X's value an object: so is Y's -/
theorem hp_V_x {P : Nat → Nat → Nat → Prop} (h40 : ∀ o w t, P o w t → o < 40) {c : Nat} (hc : c < 40) {s v : Int32} (hv : hp_V P (vl_ob c) s v) : ∃ w t, P c w t ∧ v = nI w ∧ s = (if t = 0 then 2 else 3) ∧ ¬ s < 2 := by
  rcases hv with ⟨_, e⟩ | ⟨_, e⟩ | ⟨o, w, t, a, b, d, e⟩
  · exact absurd e (vl_ob_ne0 (by omega))
  · exact absurd e.symm (vl_iv_ob (by omega))
  · have := h40 o w t a
    rw [vl_ob_inj (by omega) (by omega) b]
    refine ⟨w, t, a, d, e, ?_⟩
    rw [e]; split <;> decide
theorem hp_V_y {P : Nat → Nat → Nat → Prop} {x : Int64} {s v : Int32} (hv : hp_V P x s v) (hs : ¬ s < 2) : ∃ o w t, P o w t ∧ x = vl_ob o ∧ v = nI w ∧ s = (if t = 0 then 2 else 3) := by
  rcases hv with ⟨e, _⟩ | ⟨e, _⟩ | h
  · rw [e] at hs; exact absurd (by decide) hs
  · rw [e] at hs; exact absurd (by decide) hs
  · exact h
section
variable {FT : Nat → Nat → Nat → Nat → Prop} {P : Nat → Nat → Nat → Prop} {fa hA : Nat → Int32} {cs : Nat → Int64} {bd hs hv : Nat → Int32}
theorem hp_o40 (h : hp_H FT P fa hA cs bd hs hv) : ∀ o w t, P o w t → o < 40 := fun o w t p => (h.2.2 o w t p).1
theorem hp_w40 (h : hp_H FT P fa hA cs bd hs hv) : ∀ o w t, P o w t → w < 40 := fun o w t p => (h.2.2 o w t p).2.1
/-- X's cells of a node and Y's -/
theorem hp_chX (h : hp_H FT P fa hA cs bd hs hv) {o w t k : Nat} (p : P o w t) (hk : k < gc_hcf hA o) : ∃ i, i < 6 ∧ hp_V P (cs (8 * o + k)) (hs (6 * w + i)) (hv (6 * w + i)) := by
  obtain ⟨ho, hw, hN⟩ := h.2.2 o w t p
  unfold gc_hcf at hk
  rcases hN with ⟨_, _, e, a, b, _⟩ | ⟨e', f, mk, x, _, _, _, hmk, _, e, _, hF⟩
  · rw [e, nI_clamp (by omega)] at hk
    by_cases z : k = 0
    · subst z; exact ⟨0, by omega, a⟩
    · have : k = 1 := by omega
      subst this; exact ⟨1, by omega, b⟩
  · have := hp_rk_le mk 6
    rw [e, nI_clamp (by omega)] at hk
    obtain ⟨i, hi, hb, e2⟩ := hp_rk_sur mk 6 k hk
    subst e2
    exact ⟨i, hi, (hF i hi).1 hb⟩
theorem hp_chY (h : hp_H FT P fa hA cs bd hs hv) {o w t i : Nat} (p : P o w t) (hi : i < 6) : hs (6 * w + i) = 0 ∨ ∃ k, k < gc_hcf hA o ∧ hp_V P (cs (8 * o + k)) (hs (6 * w + i)) (hv (6 * w + i)) := by
  obtain ⟨ho, hw, hN⟩ := h.2.2 o w t p
  unfold gc_hcf
  rcases hN with ⟨_, _, e, a, b, c⟩ | ⟨e', f, mk, x, _, _, _, hmk, _, e, _, hF⟩
  · rw [e, nI_clamp (by omega)]
    by_cases z : i = 0
    · subst z; exact Or.inr ⟨0, by omega, a⟩
    · by_cases y : i = 1
      · subst y; exact Or.inr ⟨1, by omega, b⟩
      · exact Or.inl (c i (by omega) hi)
  · have := hp_rk_le mk 6
    rw [e, nI_clamp (by omega)]
    cases z : mk.testBit i with
    | false => exact Or.inl ((hF i hi).2 z)
    | true => exact Or.inr ⟨_, hp_rk_lt hi z, (hF i hi).1 z⟩
theorem hp_reach {rX rY : Nat → Prop} (h : hp_H FT P fa hA cs bd hs hv) (ha : ∀ o, rX o → ∃ w t, P o w t ∧ rY w) (hb : ∀ w, rY w → ∃ o t, P o w t ∧ gc_R rX (gc_hcf hA) cs o) :
    (∀ o, gc_R rX (gc_hcf hA) cs o → ∃ w t, P o w t ∧ ym_R rY hs hv w) ∧ (∀ w, ym_R rY hs hv w → ∃ o t, P o w t ∧ gc_R rX (gc_hcf hA) cs o) := by
  constructor
  · intro o ho
    refine ho (fun o => ∃ w t, P o w t ∧ ym_R rY hs hv w) (fun o r => ?_) (fun o k c hS hk hc e => ?_)
    · obtain ⟨w, t, p, q⟩ := ha o r
      exact ⟨w, t, p, ym_R_rt q⟩
    · obtain ⟨w, t, p, q⟩ := hS
      obtain ⟨i, hi, hV⟩ := hp_chX h p hk
      rw [e] at hV
      obtain ⟨w', t', p', ev, es, en⟩ := hp_V_x (hp_o40 h) hc hV
      exact ⟨w', t', p', ym_R_cl w i w' q hi (hp_w40 h _ _ _ p') en ev⟩
  · intro w hw
    refine hw (fun w => ∃ o t, P o w t ∧ gc_R rX (gc_hcf hA) cs o) hb (fun w i w' hS hi hw' en ev => ?_)
    obtain ⟨o, t, p, q⟩ := hS
    rcases hp_chY h p hi with z | ⟨k, hk, hV⟩
    · rw [z] at en; exact absurd (by decide) en
    · obtain ⟨o', w2, t', p', ex, ev2, es⟩ := hp_V_y hV en
      have hw2 := hp_w40 h _ _ _ p'
      have : w' = w2 := (nI_eq (by omega) (by omega)).mp (ev.symm.trans ev2)
      subst this
      exact ⟨o', t', p', gc_R_cl q hk (hp_o40 h _ _ _ p') ex⟩
theorem hp_full {rX rY : Nat → Prop} (h : hp_H FT P fa hA cs bd hs hv) (ha : ∀ o, rX o → ∃ w t, P o w t ∧ rY w) (hb : ∀ w, rY w → ∃ o t, P o w t ∧ gc_R rX (gc_hcf hA) cs o) :
    (∀ o, o < 40 → gc_R rX (gc_hcf hA) cs o) ↔ (∀ w, w < 40 → ym_R rY hs hv w) := by
  obtain ⟨h1, h2⟩ := hp_reach h ha hb
  constructor
  · intro H w hw
    have e := ct_rel (p := fun _ => true) (G := fun o w => ∃ t, P o w t) (m := 40) (fun i i' j ⟨t, a⟩ ⟨t', b⟩ => h.2.1 i i' j t t' a b) 40 (fun w => @decide (ym_R rY hs hv w) (Classical.propDecidable _)) (fun i hi _ => by
      obtain ⟨w, t, p, q⟩ := h1 i (H i hi)
      exact ⟨w, hp_w40 h _ _ _ p, @decide_eq_true _ (Classical.propDecidable _) q, t, p⟩)
    rw [ct_all 40 (fun _ _ => rfl)] at e
    have e2 := ct_le (fun w => @decide (ym_R rY hs hv w) (Classical.propDecidable _)) 40
    have e3 := ct_full 40 (Nat.le_antisymm e2 e) w hw
    exact @of_decide_eq_true _ (Classical.propDecidable _) e3
  · intro H o ho
    have e := ct_rel (p := fun _ => true) (G := fun w o => ∃ t, P o w t) (m := 40) (fun i i' j ⟨t, a⟩ ⟨t', b⟩ => (h.1 j i t i' t' a b).1) 40 (fun o => @decide (gc_R rX (gc_hcf hA) cs o) (Classical.propDecidable _)) (fun i hi _ => by
      obtain ⟨o, t, p, q⟩ := h2 i (H i hi)
      exact ⟨o, hp_o40 h _ _ _ p, @decide_eq_true _ (Classical.propDecidable _) q, t, p⟩)
    rw [ct_all 40 (fun _ _ => rfl)] at e
    have e2 := ct_le (fun o => @decide (gc_R rX (gc_hcf hA) cs o) (Classical.propDecidable _)) 40
    have e3 := ct_full 40 (Nat.le_antisymm e2 e) o ho
    exact @of_decide_eq_true _ (Classical.propDecidable _) e3
/-- the number that X counts is the number that Y counts -/
theorem hp_count {rX rY : Nat → Prop} {pX pY : Nat → Bool} {n : Nat} (h : hp_H FT P fa hA cs bd hs hv) (ha : ∀ o, rX o → ∃ w t, P o w t ∧ rY w) (hb : ∀ w, rY w → ∃ o t, P o w t ∧ gc_R rX (gc_hcf hA) cs o) (hn : 40 ≤ n)
    (hX : ∀ o, o < n → (pX o = true ↔ gc_R rX (gc_hcf hA) cs o)) (hY : ∀ w, w < 40 → (pY w = true ↔ ym_R rY hs hv w)) : ct_n pX n = ct_n pY 40 := by
  obtain ⟨h1, h2⟩ := hp_reach h ha hb
  apply Nat.le_antisymm
  · exact ct_rel (G := fun o w => ∃ t, P o w t) (fun i i' j ⟨t, a⟩ ⟨t', b⟩ => h.2.1 i i' j t t' a b) n pY (fun i hi q => by
      obtain ⟨w, t, p, r⟩ := h1 i ((hX i hi).mp q)
      exact ⟨w, hp_w40 h _ _ _ p, (hY w (hp_w40 h _ _ _ p)).mpr r, t, p⟩)
  · exact ct_rel (G := fun w o => ∃ t, P o w t) (fun i i' j ⟨t, a⟩ ⟨t', b⟩ => (h.1 j i t i' t' a b).1) 40 pX (fun i hi q => by
      obtain ⟨o, t, p, r⟩ := h2 i ((hY i hi).mp q)
      have := hp_o40 h _ _ _ p
      exact ⟨o, by omega, (hX o (by omega)).mpr r, t, p⟩)
theorem hp_F_mono {P' : Nat → Nat → Nat → Prop} (hm : ∀ o w t, P o w t → P' o w t) {mk o : Nat} {S V : Nat → Int32} (h : hp_F P mk cs o S V) : hp_F P' mk cs o S V :=
  fun i hi => ⟨fun b => hp_V_mono hm ((h i hi).1 b), (h i hi).2⟩
/-- the memory cut down to what is reachable -/
theorem hp_res {R : Nat → Prop} (h : hp_H FT P fa hA cs bd hs hv) (hR : ∀ o k c, R o → k < gc_hcf hA o → c < 40 → cs (8 * o + k) = vl_ob c → R c) : hp_H FT (fun o w t => P o w t ∧ R o) fa hA cs bd hs hv := by
  refine ⟨fun o w t w' t' a b => h.1 o w t w' t' a.1 b.1, fun o o' w t t' a b => h.2.1 o o' w t t' a.1 b.1, fun o w t p => ?_⟩
  obtain ⟨ho, hw, hN⟩ := h.2.2 o w t p.1
  refine ⟨ho, hw, ?_⟩
  have h40 := hp_o40 h
  rcases hN with ⟨t0, f0, e, a, b, c⟩ | ⟨e', f, mk, x, et, hft, hf, hmk, ef, e, eb, hF⟩
  · have e2 : gc_hcf hA o = 2 := by unfold gc_hcf; rw [e, nI_clamp (by omega)]
    exact Or.inl ⟨t0, f0, e, hp_V_res h40 a (fun c hc z => hR o 0 c p.2 (by omega) hc z), hp_V_res h40 b (fun c hc z => hR o 1 c p.2 (by omega) hc z), c⟩
  · have l6 := hp_rk_le mk 6
    have e2 : gc_hcf hA o = hp_rk mk 6 := by unfold gc_hcf; rw [e, nI_clamp (by omega)]
    refine Or.inr ⟨e', f, mk, x, et, hft, hf, hmk, ef, e, eb, fun i hi => ⟨fun b => hp_V_res h40 ((hF i hi).1 b) (fun c hc z => hR o _ c p.2 ?_ hc z), (hF i hi).2⟩⟩
    rw [e2]; exact hp_rk_lt hi b
/-- a new node -/
theorem hp_ext {fa' hA' bd' hs' hv' : Nat → Int32} {cs' : Nat → Int64} {o0 w0 t0 : Nat} (h : hp_H FT P fa hA cs bd hs hv) (ho : ∀ w t, ¬ P o0 w t) (hw : ∀ o t, ¬ P o w0 t)
    (hfa : ∀ o, o ≠ o0 → fa' o = fa o) (hhA : ∀ o, o ≠ o0 → hA' o = hA o) (hcs : ∀ j, (j < 8 * o0 ∨ 8 * o0 + 8 ≤ j) → cs' j = cs j) (hbd : ∀ w, w ≠ w0 → bd' w = bd w) (hhs : ∀ j, (j < 6 * w0 ∨ 6 * w0 + 6 ≤ j) → hs' j = hs j) (hhv : ∀ j, (j < 6 * w0 ∨ 6 * w0 + 6 ≤ j) → hv' j = hv j)
    (hN : hp_N FT (fun o w t => P o w t ∨ (o = o0 ∧ w = w0 ∧ t = t0)) fa' hA' cs' bd' hs' hv' o0 w0 t0) : hp_H FT (fun o w t => P o w t ∨ (o = o0 ∧ w = w0 ∧ t = t0)) fa' hA' cs' bd' hs' hv' := by
  refine ⟨fun o w t w' t' a b => ?_, fun o o' w t t' a b => ?_, fun o w t p => ?_⟩
  · rcases a with a | ⟨a1, a2, a3⟩
    · rcases b with b | ⟨b1, b2, b3⟩
      · exact h.1 o w t w' t' a b
      · exact absurd (b1 ▸ a) (ho w t)
    · rcases b with b | ⟨b1, b2, b3⟩
      · exact absurd (a1 ▸ b) (ho w' t')
      · exact ⟨a2.trans b2.symm, a3.trans b3.symm⟩
  · rcases a with a | ⟨a1, a2, a3⟩
    · rcases b with b | ⟨b1, b2, b3⟩
      · exact h.2.1 o o' w t t' a b
      · exact absurd (b2 ▸ a) (hw o t)
    · rcases b with b | ⟨b1, b2, b3⟩
      · exact absurd (a2 ▸ b) (hw o' t')
      · exact a1.trans b1.symm
  · rcases p with p | ⟨p1, p2, p3⟩
    · have no : o ≠ o0 := fun z => ho w t (z ▸ p)
      have nw : w ≠ w0 := fun z => hw o t (z ▸ p)
      obtain ⟨a, b, hN'⟩ := h.2.2 o w t p
      refine ⟨a, b, ?_⟩
      have hm : ∀ o w t, P o w t → (P o w t ∨ (o = o0 ∧ w = w0 ∧ t = t0)) := fun o w t p => Or.inl p
      rcases hN' with ⟨t0', f0, e, va, vb, c⟩ | ⟨e', f, mk, x, et, hft, hf, hmk, ef, e, eb, hF⟩
      · refine Or.inl ⟨t0', (hfa o no).trans f0, (hhA o no).trans e, ?_, ?_, fun k k1 k2 => ?_⟩
        · rw [hcs _ (by omega), hhs _ (by omega), hhv _ (by omega)]; exact hp_V_mono hm va
        · rw [hcs _ (by omega), hhs _ (by omega), hhv _ (by omega)]; exact hp_V_mono hm vb
        · rw [hhs _ (by omega)]; exact c k k1 k2
      · refine Or.inr ⟨e', f, mk, x, et, hft, hf, hmk, (hfa o no).trans ef, (hhA o no).trans e, (hbd w nw).trans eb, fun i hi => ⟨fun b => ?_, fun b => ?_⟩⟩
        · have := hp_rk_le mk i
          have q := (hF i hi).1 b
          show hp_V _ _ (hs' (6 * w + i)) (hv' (6 * w + i))
          rw [hcs _ (by omega), hhs _ (by omega), hhv _ (by omega)]
          exact hp_V_mono hm q
        · show hs' (6 * w + i) = 0
          rw [hhs _ (by omega)]
          exact (hF i hi).2 b
    · rw [p1, p2, p3]; exact hN
/-- a pair's cell is set -/
theorem hp_set {o1 w1 k1 : Nat} {x : Int64} {s v : Int32} (h : hp_H FT P fa hA cs bd hs hv) (p1 : P o1 w1 0) (hk : k1 < 2) (hx : hp_V P x s v) : hp_H FT P fa hA (vp_updL cs (8 * o1 + k1) x) bd (upd hs (6 * w1 + k1) s) (upd hv (6 * w1 + k1) v) := by
  refine ⟨h.1, h.2.1, fun o w t p => ?_⟩
  obtain ⟨a, b, hN'⟩ := h.2.2 o w t p
  refine ⟨a, b, ?_⟩
  by_cases z : o = o1
  · subst z
    obtain ⟨ew, et⟩ := h.1 o w t w1 0 p p1
    subst ew et
    rcases hN' with ⟨t0', f0, e, va, vb, c⟩ | ⟨e', f, mk, x', et, _⟩
    · refine Or.inl ⟨t0', f0, e, ?_, ?_, fun k k2 k6 => ?_⟩
      · by_cases y : k1 = 0
        · subst y; rw [pk_uLs, pk_us, pk_us]; exact hx
        · rw [pk_uLn (by omega), pk_un (by omega), pk_un (by omega)]; exact va
      · by_cases y : k1 = 1
        · subst y; rw [pk_uLs, pk_us, pk_us]; exact hx
        · rw [pk_uLn (by omega), pk_un (by omega), pk_un (by omega)]; exact vb
      · rw [pk_un (by omega)]; exact c k k2 k6
    · exact absurd et (by omega)
  · have nw : w ≠ w1 := fun q => z (h.2.1 o o1 w1 t 0 (q ▸ p) p1)
    rcases hN' with ⟨t0', f0, e, va, vb, c⟩ | ⟨e', f, mk, x', et, hft, hf, hmk, ef, e, eb, hF⟩
    · refine Or.inl ⟨t0', f0, e, ?_, ?_, fun k k2 k6 => ?_⟩
      · rw [pk_uLn (by omega), pk_un (by omega), pk_un (by omega)]; exact va
      · rw [pk_uLn (by omega), pk_un (by omega), pk_un (by omega)]; exact vb
      · rw [pk_un (by omega)]; exact c k k2 k6
    · refine Or.inr ⟨e', f, mk, x', et, hft, hf, hmk, ef, e, eb, fun i hi => ⟨fun b => ?_, fun b => ?_⟩⟩
      · have := hp_rk_le mk i
        have q := (hF i hi).1 b
        show hp_V _ _ (upd hs (6 * w1 + k1) s (6 * w + i)) (upd hv (6 * w1 + k1) v (6 * w + i))
        rw [pk_uLn (by omega), pk_un (by omega), pk_un (by omega)]
        exact q
      · show upd hs (6 * w1 + k1) s (6 * w + i) = 0
        rw [pk_un (by omega)]
        exact (hF i hi).2 b
end
end
section
/-! the tables of expressions (K kind, X Y Z parts, W weight, M names) and the code -/
def tb_c (a : Nat → Int32) (e : Nat) : Nat := (a e).toNatClampNeg
def tb_hx (k : Nat) : Bool := (decide (3 ≤ k) && decide (k ≤ 16)) || decide (k = 19)
def tb_hy (k : Nat) : Bool := (decide (3 ≤ k) && decide (k ≤ 9)) || (decide (12 ≤ k) && decide (k ≤ 14)) || decide (k = 16) || decide (k = 18) || decide (k = 19)
/-- which places of the environment a node names -/
def tb_m (k x mx my mz : Nat) : Nat :=
  if k = 1 then 2 ^ x else if k = 14 then mx ||| my / 2 else if k = 15 then mx / 4
  else (if tb_hx k = true then mx else 0) ||| (if tb_hy k = true then my else 0) ||| (if k = 8 then mz else 0)
def tb_w (k wx wy wz : Nat) : Nat := 1 + (if tb_hx k = true then wx else 0) + (if tb_hy k = true then wy else 0) + (if k = 8 then wz else 0)
/-- node e is as express makes it -/
def tb_N (K X Y Z W M : Nat → Int32) (e : Nat) : Prop :=
  (K e = nI (tb_c K e) ∧ tb_c K e ≤ 19) ∧
  (tb_hx (tb_c K e) = true → X e = nI (tb_c X e) ∧ tb_c X e < e) ∧ (tb_hy (tb_c K e) = true → Y e = nI (tb_c Y e) ∧ tb_c Y e < e) ∧ (tb_c K e = 8 → Z e = nI (tb_c Z e) ∧ tb_c Z e < e) ∧
  (tb_c K e = 1 → X e = nI (tb_c X e) ∧ tb_c X e ≤ 7) ∧ ((tb_c K e = 17 ∨ tb_c K e = 18) → X e = nI (tb_c X e) ∧ tb_c X e ≤ 3) ∧
  (W e = nI (tb_c W e) ∧ tb_c W e ≤ 30 ∧ tb_c W e = tb_w (tb_c K e) (tb_c W (tb_c X e)) (tb_c W (tb_c Y e)) (tb_c W (tb_c Z e))) ∧
  (M e = nI (tb_c M e) ∧ tb_c M e < 256 ∧ tb_c M e = tb_m (tb_c K e) (tb_c X e) (tb_c M (tb_c X e)) (tb_c M (tb_c Y e)) (tb_c M (tb_c Z e)))
/-- what is known beforehand of node e -/
def tb_Kn (K X Y KN KV : Nat → Int32) (e : Nat) : Prop :=
  (KN e = 0 ∧ K e ≠ 0) ∨ (KN e = 1 ∧ K e = 0 ∧ KV e = X e) ∨
  (KN e = 1 ∧ (K e = 3 ∨ K e = 4 ∨ K e = 5) ∧ KN (tb_c X e) = 1 ∧ KN (tb_c Y e) = 1 ∧ KV e = (if K e = 3 then KV (tb_c X e) + KV (tb_c Y e) else if K e = 4 then KV (tb_c X e) - KV (tb_c Y e) else KV (tb_c X e) * KV (tb_c Y e)))
/-! code -/
def cp_V (OP OD : Nat → Int32) (hm : Option Nat) (L : List Nat) (i p : Nat) : Prop :=
  (i < L.length ∧ OP p = 1 ∧ OD p = nI (L.getD i 0)) ∨
  (∃ mk, hm = some mk ∧ L.length ≤ i ∧ i < L.length + 2 ∧ OP p = 1 ∧ OD p = nI (L.length + 1 - i)) ∨
  (∃ mk, hm = some mk ∧ L.length + 2 ≤ i ∧ mk.testBit (i - L.length - 2) = true ∧ OP p = 8 ∧ OD p = nI (hp_rk mk (i - L.length - 2)))
/-- kinds with two plain parts -/
def cp_two (k : Int32) : Prop := k = 3 ∨ k = 4 ∨ k = 5 ∨ k = 6 ∨ k = 7 ∨ k = 9 ∨ k = 12 ∨ k = 13 ∨ k = 16
/-- the instruction of a plain kind -/
def cp_I (K X OP OD : Nat → Int32) (e : Nat) (l : Bool) (p : Nat) : Prop :=
  (K e = 16 ∧ OP p = (if l = true then 24 else 23)) ∨ (K e ≠ 16 ∧ OP p = K e ∧ OD p = X e)
def cp_B (K X Y Z M KN KV FO : Nat → Int32) (hm : Option Nat) (OP OD : Nat → Int32) (C : Nat → Bool → List Nat → Nat → Nat → Nat → Prop) (e : Nat) (l : Bool) (L : List Nat) (h p q : Nat) : Prop :=
  (KN e = 1 ∧ OP p = 0 ∧ OD p = KV e ∧ q = p + 1) ∨
  (KN e = 0 ∧ (
   (K e = 1 ∧ cp_V OP OD hm L (tb_c X e) p ∧ q = p + 1) ∨
   (K e = 2 ∧ OP p = 2 ∧ q = p + 1) ∨
   (K e = 17 ∧ OP p = 17 ∧ OD p = X e ∧ q = p + 1) ∨
   (K e = 15 ∧ (∀ i, i < 6 → (tb_c M e).testBit i = true → cp_V OP OD hm L i (p + hp_rk (tb_c M e) i)) ∧ OP (p + hp_rk (tb_c M e) 6) = 22 ∧ OD (p + hp_rk (tb_c M e) 6) = 16 * FO e + nI (hp_rk (tb_c M e) 6) ∧ q = p + hp_rk (tb_c M e) 6 + 1) ∨
   (K e = 8 ∧ ∃ p1 p2, C (tb_c X e) false L h p p1 ∧ OP p1 = 19 ∧ OD p1 = nI (p2 + 1) ∧ C (tb_c Y e) l L h (p1 + 1) p2 ∧ OP p2 = 14 ∧ OD p2 = nI q ∧ C (tb_c Z e) l L h (p2 + 1) q) ∨
   (K e = 14 ∧ ∃ p1 p2, C (tb_c X e) false L h p p1 ∧ C (tb_c Y e) l (h :: L) (h + 1) p1 p2 ∧ OP p2 = 21 ∧ q = p2 + 1) ∨
   (K e = 19 ∧ ∃ p1, C (tb_c X e) false L h p p1 ∧ OP p1 = 20 ∧ C (tb_c Y e) l L h (p1 + 1) q) ∨
   (cp_two (K e) ∧ ∃ p1 p2, C (tb_c X e) false L h p p1 ∧ C (tb_c Y e) false L (h + 1) p1 p2 ∧ cp_I K X OP OD e l p2 ∧ q = p2 + 1) ∨
   ((K e = 10 ∨ K e = 11) ∧ ∃ p1, C (tb_c X e) false L h p p1 ∧ cp_I K X OP OD e l p1 ∧ q = p1 + 1) ∨
   (K e = 18 ∧ ∃ p1, C (tb_c Y e) false L h p p1 ∧ cp_I K X OP OD e l p1 ∧ q = p1 + 1)))
def cp_C (K X Y Z M KN KV FO : Nat → Int32) (hm : Option Nat) (OP OD : Nat → Int32) : Nat → Nat → Bool → List Nat → Nat → Nat → Nat → Prop
  | 0 => fun _ _ _ _ _ _ => False
  | d + 1 => cp_B K X Y Z M KN KV FO hm OP OD (cp_C K X Y Z M KN KV FO hm OP OD d)
section
variable {K X Y Z M KN KV FO : Nat → Int32} {hm : Option Nat} {OP OD : Nat → Int32}
theorem cp_lt : ∀ d e l L h p q, cp_C K X Y Z M KN KV FO hm OP OD d e l L h p q → p < q := by
  intro d
  induction d with
  | zero => intro e l L h p q z; exact z.elim
  | succ d ih =>
    intro e l L h p q z
    rcases z with ⟨_, _, _, z⟩ | ⟨_, z⟩
    · omega
    · rcases z with ⟨_, _, z⟩ | ⟨_, _, z⟩ | ⟨_, _, _, z⟩ | ⟨_, _, _, _, z⟩ | ⟨_, p1, p2, a, _, _, b, _, _, c⟩ | ⟨_, p1, p2, a, b, _, z⟩ | ⟨_, p1, a, _, b⟩ | ⟨_, p1, p2, a, b, _, z⟩ | ⟨_, p1, a, _, z⟩ | ⟨_, p1, a, _, z⟩
      · omega
      · omega
      · omega
      · omega
      · have := ih _ _ _ _ _ _ a; have := ih _ _ _ _ _ _ b; have := ih _ _ _ _ _ _ c; omega
      · have := ih _ _ _ _ _ _ a; have := ih _ _ _ _ _ _ b; omega
      · have := ih _ _ _ _ _ _ a; have := ih _ _ _ _ _ _ b; omega
      · have := ih _ _ _ _ _ _ a; have := ih _ _ _ _ _ _ b; omega
      · have := ih _ _ _ _ _ _ a; omega
      · have := ih _ _ _ _ _ _ a; omega
theorem cp_V_loc {OP' OD' : Nat → Int32} {L : List Nat} {i p : Nat} (h1 : OP' p = OP p) (h2 : OD' p = OD p) (h : cp_V OP OD hm L i p) : cp_V OP' OD' hm L i p := by
  unfold cp_V at h ⊢
  rw [h1, h2]
  exact h
theorem cp_I_loc {OP' OD' : Nat → Int32} {e : Nat} {l : Bool} {p : Nat} (h1 : OP' p = OP p) (h2 : OD' p = OD p) (h : cp_I K X OP OD e l p) : cp_I K X OP' OD' e l p := by
  unfold cp_I at h ⊢
  rw [h1, h2]
  exact h
/-- the code of a node rests on its own stretch alone -/
theorem cp_loc {OP' OD' : Nat → Int32} : ∀ d e l L h p q, (∀ j, p ≤ j → j < q → OP' j = OP j ∧ OD' j = OD j) → cp_C K X Y Z M KN KV FO hm OP OD d e l L h p q → cp_C K X Y Z M KN KV FO hm OP' OD' d e l L h p q := by
  intro d
  induction d with
  | zero => intro e l L h p q _ z; exact z.elim
  | succ d ih =>
    intro e l L h p q g z0
    have hlt := cp_lt _ _ _ _ _ _ _ z0
    rcases z0 with ⟨a, b, c, z⟩ | ⟨kn, z⟩
    · have := g p (by omega) (by omega)
      exact Or.inl ⟨a, this.1.trans b, this.2.trans c, z⟩
    · refine Or.inr ⟨kn, ?_⟩
      rcases z with ⟨k, v, z⟩ | ⟨k, v, z⟩ | ⟨k, v, w, z⟩ | ⟨k, v, w, x, z⟩ | ⟨k, p1, p2, a, o1, d1, b, o2, d2, c⟩ | ⟨k, p1, p2, a, b, o1, z⟩ | ⟨k, p1, a, o1, b⟩ | ⟨k, p1, p2, a, b, i, z⟩ | ⟨k, p1, a, i, z⟩ | ⟨k, p1, a, i, z⟩
      · have := g p (by omega) (by omega)
        exact Or.inl ⟨k, cp_V_loc this.1 this.2 v, z⟩
      · have := g p (by omega) (by omega)
        exact Or.inr (Or.inl ⟨k, this.1.trans v, z⟩)
      · have := g p (by omega) (by omega)
        exact Or.inr (Or.inr (Or.inl ⟨k, this.1.trans v, this.2.trans w, z⟩))
      · refine Or.inr (Or.inr (Or.inr (Or.inl ⟨k, fun i hi hb => ?_, ?_, ?_, z⟩)))
        · have hr := hp_rk_lt hi hb
          have := g (p + hp_rk (tb_c M e) i) (by omega) (by omega)
          exact cp_V_loc this.1 this.2 (v i hi hb)
        · exact (g _ (by omega) (by omega)).1.trans w
        · exact (g _ (by omega) (by omega)).2.trans x
      · have l1 := cp_lt _ _ _ _ _ _ _ a
        have l2 := cp_lt _ _ _ _ _ _ _ b
        have l3 := cp_lt _ _ _ _ _ _ _ c
        exact Or.inr (Or.inr (Or.inr (Or.inr (Or.inl ⟨k, p1, p2, ih _ _ _ _ _ _ (fun j x y => g j (by omega) (by omega)) a, (g p1 (by omega) (by omega)).1.trans o1, (g p1 (by omega) (by omega)).2.trans d1,
          ih _ _ _ _ _ _ (fun j x y => g j (by omega) (by omega)) b, (g p2 (by omega) (by omega)).1.trans o2, (g p2 (by omega) (by omega)).2.trans d2, ih _ _ _ _ _ _ (fun j x y => g j (by omega) (by omega)) c⟩))))
      · have l1 := cp_lt _ _ _ _ _ _ _ a
        have l2 := cp_lt _ _ _ _ _ _ _ b
        exact Or.inr (Or.inr (Or.inr (Or.inr (Or.inr (Or.inl ⟨k, p1, p2, ih _ _ _ _ _ _ (fun j x y => g j (by omega) (by omega)) a, ih _ _ _ _ _ _ (fun j x y => g j (by omega) (by omega)) b, (g p2 (by omega) (by omega)).1.trans o1, z⟩)))))
      · have l1 := cp_lt _ _ _ _ _ _ _ a
        have l2 := cp_lt _ _ _ _ _ _ _ b
        exact Or.inr (Or.inr (Or.inr (Or.inr (Or.inr (Or.inr (Or.inl ⟨k, p1, ih _ _ _ _ _ _ (fun j x y => g j (by omega) (by omega)) a, (g p1 (by omega) (by omega)).1.trans o1, ih _ _ _ _ _ _ (fun j x y => g j (by omega) (by omega)) b⟩))))))
      · have l1 := cp_lt _ _ _ _ _ _ _ a
        have l2 := cp_lt _ _ _ _ _ _ _ b
        exact Or.inr (Or.inr (Or.inr (Or.inr (Or.inr (Or.inr (Or.inr (Or.inl ⟨k, p1, p2, ih _ _ _ _ _ _ (fun j x y => g j (by omega) (by omega)) a, ih _ _ _ _ _ _ (fun j x y => g j (by omega) (by omega)) b, cp_I_loc (g p2 (by omega) (by omega)).1 (g p2 (by omega) (by omega)).2 i, z⟩)))))))
      · have l1 := cp_lt _ _ _ _ _ _ _ a
        exact Or.inr (Or.inr (Or.inr (Or.inr (Or.inr (Or.inr (Or.inr (Or.inr (Or.inl ⟨k, p1, ih _ _ _ _ _ _ (fun j x y => g j (by omega) (by omega)) a, cp_I_loc (g p1 (by omega) (by omega)).1 (g p1 (by omega) (by omega)).2 i, z⟩))))))))
      · have l1 := cp_lt _ _ _ _ _ _ _ a
        exact Or.inr (Or.inr (Or.inr (Or.inr (Or.inr (Or.inr (Or.inr (Or.inr (Or.inr ⟨k, p1, ih _ _ _ _ _ _ (fun j x y => g j (by omega) (by omega)) a, cp_I_loc (g p1 (by omega) (by omega)).1 (g p1 (by omega) (by omega)).2 i, z⟩))))))))
end
end
section
/-! compiling: the small methods -/
section
variable {f_expressionCount f_functionCount f_codeEnd f_depth f_letCount f_height f_heldNames f_usedCount f_marking f_waitCount f_top f_frame f_at f_openCount f_stepCount f_resultSort f_resultNumber f_levelNow : Int32} {f_marks : Int64} {a_kindOf a_partX a_partY a_partZ a_weightOf a_needOf a_names a_known a_knownNumber a_functionOf a_op a_operand a_workNode a_workPhase a_workLast a_workPatch a_letPlace a_isUsed a_functionAt a_heldCount a_waiting a_openFrame a_openAt : Nat → Int32} {a_cells a_globals a_stack : Nat → Int64}
theorem cp_write {post : SX → Prop} {p : Nat} {what n : Int32} (hp : p < 1560) (hw : vp_nar .byte what.toInt8.toInt32 = what) (h : post (f_expressionCount, f_functionCount, nI (p + 1), f_depth, f_letCount, f_height, f_heldNames, f_usedCount, f_marks, f_marking, f_waitCount, f_top, f_frame, f_at, f_openCount, f_stepCount, f_resultSort, f_resultNumber, f_levelNow, a_kindOf, a_partX, a_partY, a_partZ, a_weightOf, a_needOf, a_names, a_known, a_knownNumber, a_functionOf, upd a_op p what, upd a_operand p n, a_workNode, a_workPhase, a_workLast, a_workPatch, a_letPlace, a_isUsed, a_functionAt, a_heldCount, a_cells, a_waiting, a_globals, a_stack, a_openFrame, a_openAt)) : wpX_write post (f_expressionCount, f_functionCount, nI p, f_depth, f_letCount, f_height, f_heldNames, f_usedCount, f_marks, f_marking, f_waitCount, f_top, f_frame, f_at, f_openCount, f_stepCount, f_resultSort, f_resultNumber, f_levelNow, a_kindOf, a_partX, a_partY, a_partZ, a_weightOf, a_needOf, a_names, a_known, a_knownNumber, a_functionOf, a_op, a_operand, a_workNode, a_workPhase, a_workLast, a_workPatch, a_letPlace, a_isUsed, a_functionAt, a_heldCount, a_cells, a_waiting, a_globals, a_stack, a_openFrame, a_openAt) what n :=
  And.intro (vp_in_nI hp (by omega)) (nm_r (e' := upd a_op p what) (by rw [nI_clamp (by omega), hw]) (And.intro (vp_in_nI hp (by omega)) (nm_r (e' := upd a_operand p n) (by rw [nI_clamp (by omega)]) (nm_r (nI_1 p) h))))
theorem cp_nb01 {l : Int32} (hl : l = 0 ∨ l = 1) : vp_nar .boolean l = l := by
  rcases hl with rfl | rfl <;> rfl
theorem cp_push {post : SX → Prop} {dp : Int32} {d e : Nat} {l : Int32} (hdp : dp + 1 = nI d) (hd : d < 34) (he : e < 60) (hl : l = 0 ∨ l = 1) (h : post (f_expressionCount, f_functionCount, f_codeEnd, nI d, f_letCount, f_height, f_heldNames, f_usedCount, f_marks, f_marking, f_waitCount, f_top, f_frame, f_at, f_openCount, f_stepCount, f_resultSort, f_resultNumber, f_levelNow, a_kindOf, a_partX, a_partY, a_partZ, a_weightOf, a_needOf, a_names, a_known, a_knownNumber, a_functionOf, a_op, a_operand, upd a_workNode d (nI e), upd a_workPhase d 0, upd a_workLast d l, a_workPatch, a_letPlace, a_isUsed, a_functionAt, a_heldCount, a_cells, a_waiting, a_globals, a_stack, a_openFrame, a_openAt)) : wpX_push post (f_expressionCount, f_functionCount, f_codeEnd, dp, f_letCount, f_height, f_heldNames, f_usedCount, f_marks, f_marking, f_waitCount, f_top, f_frame, f_at, f_openCount, f_stepCount, f_resultSort, f_resultNumber, f_levelNow, a_kindOf, a_partX, a_partY, a_partZ, a_weightOf, a_needOf, a_names, a_known, a_knownNumber, a_functionOf, a_op, a_operand, a_workNode, a_workPhase, a_workLast, a_workPatch, a_letPlace, a_isUsed, a_functionAt, a_heldCount, a_cells, a_waiting, a_globals, a_stack, a_openFrame, a_openAt) (nI e) l :=
  have hin : vp_in (nI d) 34 := vp_in_nI hd (by omega)
  nm_r hdp (And.intro hin (nm_r (e' := upd a_workNode d (nI e)) (by rw [nI_clamp (by omega), vl_nb (by omega)]) (And.intro hin (nm_r (e' := upd a_workPhase d 0) (by rw [nI_clamp (by omega)]; rfl) (And.intro hin (nm_r (e' := upd a_workLast d l) (by rw [nI_clamp (by omega), cp_nb01 hl]) h))))))
end
theorem cp_bit {m k : Nat} (hm : m < 2 ^ 31) (hk : k < 31) : (nI m >>> (nI k &&& 31)) &&& 1 = nI (if m.testBit k = true then 1 else 0) := by
  rw [pk_shrN hm _ k (s_l k (by omega)), pk_andN (Nat.lt_of_le_of_lt (Nat.div_le_self _ _) (by omega)) 1 (by decide)]
  congr 1
  rw [Nat.testBit_eq_decide_div_mod_eq]
  have := Nat.mod_lt (m / 2 ^ k) (show 0 < 2 by omega)
  by_cases z : m / 2 ^ k % 2 = 1
  · simp [z]
  · have : m / 2 ^ k % 2 = 0 := by omega
    simp [this]
theorem cp_rank {mk o : Nat} (hm : mk < 2 ^ 31) (ho : o ≤ 30) : ∀ d k, k + d = o →
    ∀ {f_expressionCount f_functionCount f_codeEnd f_depth f_letCount f_height f_usedCount f_marking f_waitCount f_top f_frame f_at f_openCount f_stepCount f_resultSort f_resultNumber f_levelNow : Int32} {f_marks : Int64} {a_kindOf a_partX a_partY a_partZ a_weightOf a_needOf a_names a_known a_knownNumber a_functionOf a_op a_operand a_workNode a_workPhase a_workLast a_workPatch a_letPlace a_isUsed a_functionAt a_heldCount a_waiting a_openFrame a_openAt : Nat → Int32} {a_cells a_globals a_stack : Nat → Int64} (post : Int32 → Prop), post (nI (hp_rk mk o)) → wX_rankAmongHeld_4 post (nI o) f_expressionCount f_functionCount f_codeEnd f_depth f_letCount f_height (nI mk) f_usedCount f_marks f_marking f_waitCount f_top f_frame f_at f_openCount f_stepCount f_resultSort f_resultNumber f_levelNow a_kindOf a_partX a_partY a_partZ a_weightOf a_needOf a_names a_known a_knownNumber a_functionOf a_op a_operand a_workNode a_workPhase a_workLast a_workPatch a_letPlace a_isUsed a_functionAt a_heldCount a_cells a_waiting a_globals a_stack a_openFrame a_openAt (d + 1) (nI (hp_rk mk k)) (nI k) := by
  intro d
  induction d with
  | zero =>
    intro k hk
    intros
    rename_i post hp
    have e : k = o := by omega
    subst e
    exact br_t (nI_le (by omega) (by omega)) hp
  | succ d ih =>
    intro k hk
    intros
    rename_i post hp
    refine br_f (nI_ge (by omega) (by omega)) (nm_r (e' := nI (hp_rk mk (k + 1))) ?_ (nm_r (nI_1 k) (ih (k + 1) (by omega) post hp)))
    rw [cp_bit hm (by omega), nI_add]
    rfl
/-- a name's place: bound by a LET, the argument or function, or held -/
def cp_sc (hm : Option Nat) (L : List Nat) (i : Nat) : Prop := i < L.length ∨ ∃ mk, hm = some mk ∧ (i < L.length + 2 ∨ mk.testBit (i - L.length - 2) = true)
def cp_lp (lP : Nat → Int32) (L : List Nat) : Prop := ∀ i, i < L.length → lP (L.length - 1 - i) = nI (L.getD i 0)
theorem cp_var {hm : Option Nat} {L : List Nat} {i p h : Nat} {lP op od : Nat → Int32} {hN : Int32} (hs : cp_sc hm L i) (hh : ∀ mk, hm = some mk → hN = nI mk ∧ mk < 256) (hi : i ≤ 7) (hL : L.length ≤ 30) (hlp : cp_lp lP L) (hp : p < 1560) :
    ∃ (wh n : Int32), (∀ OP OD : Nat → Int32, OP p = wh → OD p = n → cp_V OP OD hm L i p) ∧
      ∀ {f_expressionCount f_functionCount f_depth f_usedCount f_marking f_waitCount f_top f_frame f_at f_openCount f_stepCount f_resultSort f_resultNumber f_levelNow : Int32} {f_marks : Int64} {a_kindOf a_partX a_partY a_partZ a_weightOf a_needOf a_names a_known a_knownNumber a_functionOf a_workNode a_workPhase a_workLast a_workPatch a_isUsed a_functionAt a_heldCount a_waiting a_openFrame a_openAt : Nat → Int32} {a_cells a_globals a_stack : Nat → Int64} (post : SX → Prop), post (f_expressionCount, f_functionCount, nI (p + 1), f_depth, nI L.length, nI (h + 1), hN, f_usedCount, f_marks, f_marking, f_waitCount, f_top, f_frame, f_at, f_openCount, f_stepCount, f_resultSort, f_resultNumber, f_levelNow, a_kindOf, a_partX, a_partY, a_partZ, a_weightOf, a_needOf, a_names, a_known, a_knownNumber, a_functionOf, upd op p wh, upd od p n, a_workNode, a_workPhase, a_workLast, a_workPatch, lP, a_isUsed, a_functionAt, a_heldCount, a_cells, a_waiting, a_globals, a_stack, a_openFrame, a_openAt) → wpX_compileVariable post (f_expressionCount, f_functionCount, nI p, f_depth, nI L.length, nI h, hN, f_usedCount, f_marks, f_marking, f_waitCount, f_top, f_frame, f_at, f_openCount, f_stepCount, f_resultSort, f_resultNumber, f_levelNow, a_kindOf, a_partX, a_partY, a_partZ, a_weightOf, a_needOf, a_names, a_known, a_knownNumber, a_functionOf, op, od, a_workNode, a_workPhase, a_workLast, a_workPatch, lP, a_isUsed, a_functionAt, a_heldCount, a_cells, a_waiting, a_globals, a_stack, a_openFrame, a_openAt) (nI i) := by
  have e2 : nI L.length + 2 = nI (L.length + 2) := nI_add _ 2
  by_cases c1 : i < L.length
  · refine ⟨1, nI (L.getD i 0), fun OP OD a b => Or.inl ⟨c1, a, b⟩, fun post hp' => nm_r (nI_1 h) (br_f (nI_ge c1 (by omega)) ?_)⟩
    have e : (nI L.length - 1) - nI i = nI (L.length - 1 - i) := by
      rw [show (1 : Int32) = nI 1 from rfl, pk_sub (by omega), pk_sub (by omega)]
    rw [e]
    refine And.intro (vp_in_nI (by omega) (by omega)) ?_
    rw [nI_clamp (by omega), hlp i c1]
    refine cp_write hp (by decide) (br_f ?_ hp')
    rw [e2]; exact nI_ge (by omega) (by omega)
  · obtain ⟨mk, e, hs'⟩ := hs.resolve_left c1
    obtain ⟨rfl, hmk⟩ := hh mk e
    by_cases c2 : i < L.length + 2
    · refine ⟨1, nI (L.length + 1 - i), fun OP OD a b => Or.inr (Or.inl ⟨mk, e, by omega, c2, a, b⟩), fun post hp' => nm_r (nI_1 h) (br_t (nI_le (by omega) (by omega)) (br_f ?_ ?_))⟩
      · rw [e2]; exact nI_ge c2 (by omega)
      · rw [nI_1, pk_sub (by omega)]
        refine cp_write hp (by decide) (br_f ?_ hp')
        rw [e2]; exact nI_ge (by omega) (by omega)
    · have hb := hs'.resolve_left c2
      refine ⟨8, nI (hp_rk mk (i - L.length - 2)), fun OP OD a b => Or.inr (Or.inr ⟨mk, e, by omega, hb, a, b⟩), fun post hp' => nm_r (nI_1 h) (br_t (nI_le (by omega) (by omega)) (br_t ?_ (br_t ?_ ?_)))⟩
      · rw [e2]; exact nI_le (by omega) (by omega)
      · rw [e2]; exact nI_le (by omega) (by omega)
      · have e3 : (nI i - nI L.length) - 2 = nI (i - L.length - 2) := by
          rw [show (2 : Int32) = nI 2 from rfl, pk_sub (by omega), pk_sub (by omega)]
        rw [e3]
        exact ⟨(i - L.length - 2) + 1, cp_rank (by omega) (by omega) (i - L.length - 2) 0 (by omega) _ (cp_write hp (by decide) hp')⟩
/-- the names that a function is to hold are laid on the stack -/
theorem cp_making {hm : Option Nat} {L : List Nat} {p h e m f : Nat} {lP M FO : Nat → Int32} {hN : Int32} (hs : ∀ i, m.testBit i = true → cp_sc hm L i) (hh : ∀ mk, hm = some mk → hN = nI mk ∧ mk < 256) (hL : L.length ≤ 30) (hlp : cp_lp lP L) (hp : p + 6 < 1560) (he : e < 60) (hM : M e = nI m) (hm64 : m < 64) (hf : FO e = nI f) (hf12 : f ≤ 12) :
    ∀ d k (op od : Nat → Int32), k + d = 8 → ∃ (op' od' : Nat → Int32), (∀ j, (j < p + hp_rk m k ∨ p + hp_rk m 6 < j) → op' j = op j ∧ od' j = od j) ∧
      (∀ i, k ≤ i → i < 6 → m.testBit i = true → cp_V op' od' hm L i (p + hp_rk m i)) ∧ op' (p + hp_rk m 6) = 22 ∧ od' (p + hp_rk m 6) = 16 * FO e + nI (hp_rk m 6) ∧
      ∀ {f_expressionCount f_functionCount f_depth f_usedCount f_marking f_waitCount f_top f_frame f_at f_openCount f_stepCount f_resultSort f_resultNumber f_levelNow : Int32} {f_marks : Int64} {a_kindOf a_partX a_partY a_partZ a_weightOf a_needOf a_known a_knownNumber a_workNode a_workPhase a_workLast a_workPatch a_isUsed a_functionAt a_heldCount a_waiting a_openFrame a_openAt : Nat → Int32} {a_cells a_globals a_stack : Nat → Int64} (post : SX → Prop), post (f_expressionCount, f_functionCount, nI (p + hp_rk m 6 + 1), f_depth, nI L.length, nI (h + 1), hN, f_usedCount, f_marks, f_marking, f_waitCount, f_top, f_frame, f_at, f_openCount, f_stepCount, f_resultSort, f_resultNumber, f_levelNow, a_kindOf, a_partX, a_partY, a_partZ, a_weightOf, a_needOf, M, a_known, a_knownNumber, FO, op', od', a_workNode, a_workPhase, a_workLast, a_workPatch, lP, a_isUsed, a_functionAt, a_heldCount, a_cells, a_waiting, a_globals, a_stack, a_openFrame, a_openAt) →
      wX_compileMaking_4 post (nI e) (d + 1) (nI (hp_rk m k)) (nI k) f_expressionCount f_functionCount (nI (p + hp_rk m k)) f_depth (nI L.length) (nI (h + hp_rk m k)) hN f_usedCount f_marks f_marking f_waitCount f_top f_frame f_at f_openCount f_stepCount f_resultSort f_resultNumber f_levelNow a_kindOf a_partX a_partY a_partZ a_weightOf a_needOf M a_known a_knownNumber FO op od a_workNode a_workPhase a_workLast a_workPatch lP a_isUsed a_functionAt a_heldCount a_cells a_waiting a_globals a_stack a_openFrame a_openAt := by
  have hbig : ∀ i, 6 ≤ i → m.testBit i = false := fun i hi => Nat.testBit_lt_two_pow (Nat.lt_of_lt_of_le hm64 (Nat.pow_le_pow_right (n := 2) (by omega) hi))
  have h8 : hp_rk m 8 = hp_rk m 6 := ct_ext 8 (by omega) (fun i a _ => hbig i a)
  have h6 := hp_rk_le m 6
  intro d
  induction d with
  | zero =>
    intro k op od hk
    have ek : k = 8 := by omega
    subst ek
    rw [h8]
    refine ⟨upd op (p + hp_rk m 6) 22, upd od (p + hp_rk m 6) (16 * FO e + nI (hp_rk m 6)), fun j hj => ⟨pk_un (by omega), pk_un (by omega)⟩, fun i a b => by omega, pk_us, pk_us, fun post hpp => br_t (nI_le (a := 8) (by omega) (by omega)) (And.intro (vp_in_nI he (by omega)) ?_)⟩
    rw [nI_clamp (by omega)]
    refine cp_write (by omega) (by decide) (nm_r (e' := nI (h + 1)) ?_ hpp)
    rw [← nI_add h (hp_rk m 6), show (1 : Int32) = nI 1 from rfl, ← nI_add h 1]
    grind
  | succ d ih =>
    intro k op od hk
    have hr : hp_rk m (k + 1) = hp_rk m k + (if m.testBit k = true then 1 else 0) := rfl
    have hc : ((M (nI e).toNatClampNeg >>> (nI k &&& 31)) &&& 1) = nI (if m.testBit k = true then 1 else 0) := by
      rw [nI_clamp (by omega), hM, cp_bit (by omega) (by omega)]
    by_cases z : m.testBit k = true
    · have hk6 : k < 6 := by
        by_cases q : k < 6
        · exact q
        · rw [hbig k (by omega)] at z; exact absurd z (by decide)
      have hlt := hp_rk_lt hk6 z
      obtain ⟨wh, n, hv, hpv⟩ := cp_var (h := h + hp_rk m k) (p := p + hp_rk m k) (op := op) (od := od) (hs k z) hh (by omega) hL hlp (by omega)
      rw [if_pos z] at hr
      obtain ⟨op', od', g1, g2, g3, g4, hpi⟩ := ih (k + 1) (upd op (p + hp_rk m k) wh) (upd od (p + hp_rk m k) n) (by omega)
      refine ⟨op', od', fun j hj => ?_, fun i a b c => ?_, g3, g4, fun post hpp => br_f (nI_ge (b := 8) (by omega) (by omega)) (And.intro (vp_in_nI he (by omega)) (br_f ?_ (hpv _ (nm_r (nI_1 _) (nm_r (nI_1 k) ?_)))))⟩
      · have := g1 j (by omega)
        rw [pk_un (by omega), pk_un (by omega)] at this
        exact this
      · by_cases q : i = k
        · subst q
          have := g1 (p + hp_rk m i) (by omega)
          rw [pk_us, pk_us] at this
          exact hv op' od' this.1 this.2
        · exact g2 i (by omega) b c
      · rw [hc, if_pos z]; decide
      · have := hpi post hpp
        rw [hr] at this
        exact this
    · rw [if_neg z] at hr
      obtain ⟨op', od', g1, g2, g3, g4, hpi⟩ := ih (k + 1) op od (by omega)
      refine ⟨op', od', fun j hj => g1 j (by omega), fun i a b c => g2 i (by
        by_cases q : i = k
        · subst q; exact absurd c z
        · omega) b c, g3, g4, fun post hpp => br_f (nI_ge (b := 8) (by omega) (by omega)) (And.intro (vp_in_nI he (by omega)) (br_t ?_ (nm_r (nI_1 k) ?_)))⟩
      · rw [hc, if_neg z]; rfl
      · have := hpi post hpp
        rw [hr] at this
        exact this
end
section
/-! one step of compiling -/
def cp_W (post : SX → Prop) (N : Nat) (u : SX) : Prop := match u with
  | (f_expressionCount, f_functionCount, f_codeEnd, f_depth, f_letCount, f_height, f_heldNames, f_usedCount, f_marks, f_marking, f_waitCount, f_top, f_frame, f_at, f_openCount, f_stepCount, f_resultSort, f_resultNumber, f_levelNow, a_kindOf, a_partX, a_partY, a_partZ, a_weightOf, a_needOf, a_names, a_known, a_knownNumber, a_functionOf, a_op, a_operand, a_workNode, a_workPhase, a_workLast, a_workPatch, a_letPlace, a_isUsed, a_functionAt, a_heldCount, a_cells, a_waiting, a_globals, a_stack, a_openFrame, a_openAt) => wX_compileBody_21 post N f_expressionCount f_functionCount f_codeEnd f_depth f_letCount f_height f_heldNames f_usedCount f_marks f_marking f_waitCount f_top f_frame f_at f_openCount f_stepCount f_resultSort f_resultNumber f_levelNow a_kindOf a_partX a_partY a_partZ a_weightOf a_needOf a_names a_known a_knownNumber a_functionOf a_op a_operand a_workNode a_workPhase a_workLast a_workPatch a_letPlace a_isUsed a_functionAt a_heldCount a_cells a_waiting a_globals a_stack a_openFrame a_openAt
def cp_dn (u : SX) (x : Int32) : SX := match u with
  | (f_expressionCount, f_functionCount, f_codeEnd, f_depth, f_letCount, f_height, f_heldNames, f_usedCount, f_marks, f_marking, f_waitCount, f_top, f_frame, f_at, f_openCount, f_stepCount, f_resultSort, f_resultNumber, f_levelNow, a_kindOf, a_partX, a_partY, a_partZ, a_weightOf, a_needOf, a_names, a_known, a_knownNumber, a_functionOf, a_op, a_operand, a_workNode, a_workPhase, a_workLast, a_workPatch, a_letPlace, a_isUsed, a_functionAt, a_heldCount, a_cells, a_waiting, a_globals, a_stack, a_openFrame, a_openAt) => (f_expressionCount, f_functionCount, f_codeEnd, x, f_letCount, f_height, f_heldNames, f_usedCount, f_marks, f_marking, f_waitCount, f_top, f_frame, f_at, f_openCount, f_stepCount, f_resultSort, f_resultNumber, f_levelNow, a_kindOf, a_partX, a_partY, a_partZ, a_weightOf, a_needOf, a_names, a_known, a_knownNumber, a_functionOf, a_op, a_operand, a_workNode, a_workPhase, a_workLast, a_workPatch, a_letPlace, a_isUsed, a_functionAt, a_heldCount, a_cells, a_waiting, a_globals, a_stack, a_openFrame, a_openAt)
section
variable {f_expressionCount f_functionCount f_codeEnd f_depth f_letCount f_height f_heldNames f_usedCount f_marking f_waitCount f_top f_frame f_at f_openCount f_stepCount f_resultSort f_resultNumber f_levelNow : Int32} {f_marks : Int64} {a_kindOf a_partX a_partY a_partZ a_weightOf a_needOf a_names a_known a_knownNumber a_functionOf a_op a_operand a_workNode a_workPhase a_workLast a_workPatch a_letPlace a_isUsed a_functionAt a_heldCount a_waiting a_openFrame a_openAt : Nat → Int32} {a_cells a_globals a_stack : Nat → Int64}
theorem cp_go {post : SX → Prop} {N d ph : Nat} {U : SX} (hd : d < 34) (hw : a_workPhase d = nI ph) (hph : ph < 100) (hs : ∀ post' : Int32 → SX → Prop, post' 0 U → wpX_compileStep post' (f_expressionCount, f_functionCount, f_codeEnd, nI d, f_letCount, f_height, f_heldNames, f_usedCount, f_marks, f_marking, f_waitCount, f_top, f_frame, f_at, f_openCount, f_stepCount, f_resultSort, f_resultNumber, f_levelNow, a_kindOf, a_partX, a_partY, a_partZ, a_weightOf, a_needOf, a_names, a_known, a_knownNumber, a_functionOf, a_op, a_operand, a_workNode, upd a_workPhase d (nI (ph + 1)), a_workLast, a_workPatch, a_letPlace, a_isUsed, a_functionAt, a_heldCount, a_cells, a_waiting, a_globals, a_stack, a_openFrame, a_openAt) (nI d) (nI ph)) (h : cp_W post N U) : cp_W post (N + 1) (f_expressionCount, f_functionCount, f_codeEnd, nI d, f_letCount, f_height, f_heldNames, f_usedCount, f_marks, f_marking, f_waitCount, f_top, f_frame, f_at, f_openCount, f_stepCount, f_resultSort, f_resultNumber, f_levelNow, a_kindOf, a_partX, a_partY, a_partZ, a_weightOf, a_needOf, a_names, a_known, a_knownNumber, a_functionOf, a_op, a_operand, a_workNode, a_workPhase, a_workLast, a_workPatch, a_letPlace, a_isUsed, a_functionAt, a_heldCount, a_cells, a_waiting, a_globals, a_stack, a_openFrame, a_openAt) := by
  have hin : vp_in (nI d) 34 := vp_in_nI hd (by omega)
  match U, hs, h with
  | (f_expressionCount', f_functionCount', f_codeEnd', f_depth', f_letCount', f_height', f_heldNames', f_usedCount', f_marks', f_marking', f_waitCount', f_top', f_frame', f_at', f_openCount', f_stepCount', f_resultSort', f_resultNumber', f_levelNow', a_kindOf', a_partX', a_partY', a_partZ', a_weightOf', a_needOf', a_names', a_known', a_knownNumber', a_functionOf', a_op', a_operand', a_workNode', a_workPhase', a_workLast', a_workPatch', a_letPlace', a_isUsed', a_functionAt', a_heldCount', a_cells', a_waiting', a_globals', a_stack', a_openFrame', a_openAt'), hs, h =>
    exact br_f (nI_pos (by omega)) (And.intro hin (nm_r ((congrArg a_workPhase (nI_clamp (n := d) (by omega))).trans hw) (And.intro hin (And.intro hin (nm_r (e' := upd a_workPhase d (nI (ph + 1))) (by rw [nI_clamp (by omega), hw, nI_1, vl_nb (by omega)]) (hs _ (br_t rfl h)))))))
theorem cp_done {post : SX → Prop} {N d ph : Nat} {U : SX} (hd : d < 34) (hw : a_workPhase d = nI ph) (hph : ph < 100) (hs : ∀ post' : Int32 → SX → Prop, post' 1 U → wpX_compileStep post' (f_expressionCount, f_functionCount, f_codeEnd, nI d, f_letCount, f_height, f_heldNames, f_usedCount, f_marks, f_marking, f_waitCount, f_top, f_frame, f_at, f_openCount, f_stepCount, f_resultSort, f_resultNumber, f_levelNow, a_kindOf, a_partX, a_partY, a_partZ, a_weightOf, a_needOf, a_names, a_known, a_knownNumber, a_functionOf, a_op, a_operand, a_workNode, upd a_workPhase d (nI (ph + 1)), a_workLast, a_workPatch, a_letPlace, a_isUsed, a_functionAt, a_heldCount, a_cells, a_waiting, a_globals, a_stack, a_openFrame, a_openAt) (nI d) (nI ph)) (h : cp_W post N (cp_dn U (nI d - 1))) : cp_W post (N + 1) (f_expressionCount, f_functionCount, f_codeEnd, nI d, f_letCount, f_height, f_heldNames, f_usedCount, f_marks, f_marking, f_waitCount, f_top, f_frame, f_at, f_openCount, f_stepCount, f_resultSort, f_resultNumber, f_levelNow, a_kindOf, a_partX, a_partY, a_partZ, a_weightOf, a_needOf, a_names, a_known, a_knownNumber, a_functionOf, a_op, a_operand, a_workNode, a_workPhase, a_workLast, a_workPatch, a_letPlace, a_isUsed, a_functionAt, a_heldCount, a_cells, a_waiting, a_globals, a_stack, a_openFrame, a_openAt) := by
  have hin : vp_in (nI d) 34 := vp_in_nI hd (by omega)
  match U, hs, h with
  | (f_expressionCount', f_functionCount', f_codeEnd', f_depth', f_letCount', f_height', f_heldNames', f_usedCount', f_marks', f_marking', f_waitCount', f_top', f_frame', f_at', f_openCount', f_stepCount', f_resultSort', f_resultNumber', f_levelNow', a_kindOf', a_partX', a_partY', a_partZ', a_weightOf', a_needOf', a_names', a_known', a_knownNumber', a_functionOf', a_op', a_operand', a_workNode', a_workPhase', a_workLast', a_workPatch', a_letPlace', a_isUsed', a_functionAt', a_heldCount', a_cells', a_waiting', a_globals', a_stack', a_openFrame', a_openAt'), hs, h =>
    exact br_f (nI_pos (by omega)) (And.intro hin (nm_r ((congrArg a_workPhase (nI_clamp (n := d) (by omega))).trans hw) (And.intro hin (And.intro hin (nm_r (e' := upd a_workPhase d (nI (ph + 1))) (by rw [nI_clamp (by omega), hw, nI_1, vl_nb (by omega)]) (hs _ (br_f (by decide) (nm_e h))))))))
variable {post : Int32 → SX → Prop} {d e p h ph : Nat}
theorem cs_known (hd : d < 34) (hn : a_workNode d = nI e) (he : e < 60) (hkn : a_known e = 1) (hp : p < 1560) (hq : post 1 (f_expressionCount, f_functionCount, nI (p + 1), f_depth, f_letCount, nI (h + 1), f_heldNames, f_usedCount, f_marks, f_marking, f_waitCount, f_top, f_frame, f_at, f_openCount, f_stepCount, f_resultSort, f_resultNumber, f_levelNow, a_kindOf, a_partX, a_partY, a_partZ, a_weightOf, a_needOf, a_names, a_known, a_knownNumber, a_functionOf, upd a_op p 0, upd a_operand p (a_knownNumber e), a_workNode, a_workPhase, a_workLast, a_workPatch, a_letPlace, a_isUsed, a_functionAt, a_heldCount, a_cells, a_waiting, a_globals, a_stack, a_openFrame, a_openAt)) : wpX_compileStep post (f_expressionCount, f_functionCount, nI p, f_depth, f_letCount, nI h, f_heldNames, f_usedCount, f_marks, f_marking, f_waitCount, f_top, f_frame, f_at, f_openCount, f_stepCount, f_resultSort, f_resultNumber, f_levelNow, a_kindOf, a_partX, a_partY, a_partZ, a_weightOf, a_needOf, a_names, a_known, a_knownNumber, a_functionOf, a_op, a_operand, a_workNode, a_workPhase, a_workLast, a_workPatch, a_letPlace, a_isUsed, a_functionAt, a_heldCount, a_cells, a_waiting, a_globals, a_stack, a_openFrame, a_openAt) (nI d) (nI ph) :=
  And.intro (vp_in_nI hd (by omega)) (nm_r ((congrArg a_workNode (nI_clamp (n := d) (by omega))).trans hn) (And.intro (vp_in_nI he (by omega)) (nm_e (And.intro (vp_in_nI he (by omega)) (br_f (fun z => absurd (((congrArg a_known (nI_clamp (n := e) (by omega))).trans hkn).symm.trans z) (by decide)) (And.intro (vp_in_nI he (by omega)) (by
    rw [nI_clamp (by omega)]
    exact cp_write hp (by decide) (nm_r (nI_1 h) hq))))))))
theorem cs_leaf {k : Int32} (hd : d < 34) (hn : a_workNode d = nI e) (he : e < 60) (hkn : a_known e = 0) (hk : a_kindOf e = k) (hkk : k = 2 ∨ k = 17) (hp : p < 1560) (hq : post 1 (f_expressionCount, f_functionCount, nI (p + 1), f_depth, f_letCount, nI (h + 1), f_heldNames, f_usedCount, f_marks, f_marking, f_waitCount, f_top, f_frame, f_at, f_openCount, f_stepCount, f_resultSort, f_resultNumber, f_levelNow, a_kindOf, a_partX, a_partY, a_partZ, a_weightOf, a_needOf, a_names, a_known, a_knownNumber, a_functionOf, upd a_op p k, upd a_operand p (a_partX e), a_workNode, a_workPhase, a_workLast, a_workPatch, a_letPlace, a_isUsed, a_functionAt, a_heldCount, a_cells, a_waiting, a_globals, a_stack, a_openFrame, a_openAt)) : wpX_compileStep post (f_expressionCount, f_functionCount, nI p, f_depth, f_letCount, nI h, f_heldNames, f_usedCount, f_marks, f_marking, f_waitCount, f_top, f_frame, f_at, f_openCount, f_stepCount, f_resultSort, f_resultNumber, f_levelNow, a_kindOf, a_partX, a_partY, a_partZ, a_weightOf, a_needOf, a_names, a_known, a_knownNumber, a_functionOf, a_op, a_operand, a_workNode, a_workPhase, a_workLast, a_workPatch, a_letPlace, a_isUsed, a_functionAt, a_heldCount, a_cells, a_waiting, a_globals, a_stack, a_openFrame, a_openAt) (nI d) (nI ph) := by
  rcases hkk with rfl | rfl
  · exact And.intro (vp_in_nI hd (by omega)) (nm_r ((congrArg a_workNode (nI_clamp (n := d) (by omega))).trans hn) (And.intro (vp_in_nI he (by omega)) (nm_r ((congrArg a_kindOf (nI_clamp (n := e) (by omega))).trans hk) (And.intro (vp_in_nI he (by omega)) (br_t ((congrArg a_known (nI_clamp (n := e) (by omega))).trans hkn) (br_f (by decide) (br_t rfl (And.intro (vp_in_nI he (by omega)) (by
      rw [nI_clamp (by omega)]
      exact cp_write hp (by decide) (nm_r (nI_1 h) hq))))) )))))
  · exact And.intro (vp_in_nI hd (by omega)) (nm_r ((congrArg a_workNode (nI_clamp (n := d) (by omega))).trans hn) (And.intro (vp_in_nI he (by omega)) (nm_r ((congrArg a_kindOf (nI_clamp (n := e) (by omega))).trans hk) (And.intro (vp_in_nI he (by omega)) (br_t ((congrArg a_known (nI_clamp (n := e) (by omega))).trans hkn) (br_f (by decide) (br_f (by decide) (br_t rfl (And.intro (vp_in_nI he (by omega)) (by
      rw [nI_clamp (by omega)]
      exact cp_write hp (by decide) (nm_r (nI_1 h) hq)))))) )))))
theorem cs_if0 {x : Nat} (hd : d < 34) (hn : a_workNode d = nI e) (he : e < 60) (hkn : a_known e = 0) (hk : a_kindOf e = 8) (hx : a_partX e = nI x) (hx60 : x < 60) (hd1 : d + 1 < 34) (hq : post 0 (f_expressionCount, f_functionCount, f_codeEnd, nI (d + 1), f_letCount, f_height, f_heldNames, f_usedCount, f_marks, f_marking, f_waitCount, f_top, f_frame, f_at, f_openCount, f_stepCount, f_resultSort, f_resultNumber, f_levelNow, a_kindOf, a_partX, a_partY, a_partZ, a_weightOf, a_needOf, a_names, a_known, a_knownNumber, a_functionOf, a_op, a_operand, upd a_workNode (d + 1) (nI x), upd a_workPhase (d + 1) 0, upd a_workLast (d + 1) 0, a_workPatch, a_letPlace, a_isUsed, a_functionAt, a_heldCount, a_cells, a_waiting, a_globals, a_stack, a_openFrame, a_openAt)) : wpX_compileStep post (f_expressionCount, f_functionCount, f_codeEnd, nI d, f_letCount, f_height, f_heldNames, f_usedCount, f_marks, f_marking, f_waitCount, f_top, f_frame, f_at, f_openCount, f_stepCount, f_resultSort, f_resultNumber, f_levelNow, a_kindOf, a_partX, a_partY, a_partZ, a_weightOf, a_needOf, a_names, a_known, a_knownNumber, a_functionOf, a_op, a_operand, a_workNode, a_workPhase, a_workLast, a_workPatch, a_letPlace, a_isUsed, a_functionAt, a_heldCount, a_cells, a_waiting, a_globals, a_stack, a_openFrame, a_openAt) (nI d) (nI 0) :=
  And.intro (vp_in_nI hd (by omega)) (nm_r ((congrArg a_workNode (nI_clamp (n := d) (by omega))).trans hn) (And.intro (vp_in_nI he (by omega)) (nm_r ((congrArg a_kindOf (nI_clamp (n := e) (by omega))).trans hk) (And.intro (vp_in_nI he (by omega)) (br_t ((congrArg a_known (nI_clamp (n := e) (by omega))).trans hkn) (br_f (by decide) (br_f (by decide) (br_f (by decide) (br_f (by decide) (br_t rfl (br_t rfl (And.intro (vp_in_nI he (by omega)) (by
    rw [nI_clamp (by omega), hx]
    exact cp_push (nI_1 d) hd1 hx60 (Or.inl rfl) (And.intro rfl hq))))))))) )))))
theorem cs_if1 {y : Nat} (hd : d < 34) (hn : a_workNode d = nI e) (he : e < 60) (hkn : a_known e = 0) (hk : a_kindOf e = 8) (hy : a_partY e = nI y) (hy60 : y < 60) (hd1 : d + 1 < 34) (hl : a_workLast d = 0 ∨ a_workLast d = 1) (hp : p < 1560) (hq : post 0 (f_expressionCount, f_functionCount, nI (p + 1), nI (d + 1), f_letCount, nI h, f_heldNames, f_usedCount, f_marks, f_marking, f_waitCount, f_top, f_frame, f_at, f_openCount, f_stepCount, f_resultSort, f_resultNumber, f_levelNow, a_kindOf, a_partX, a_partY, a_partZ, a_weightOf, a_needOf, a_names, a_known, a_knownNumber, a_functionOf, upd a_op p 19, upd a_operand p 0, upd a_workNode (d + 1) (nI y), upd a_workPhase (d + 1) 0, upd a_workLast (d + 1) (a_workLast d), upd a_workPatch d (nI p), a_letPlace, a_isUsed, a_functionAt, a_heldCount, a_cells, a_waiting, a_globals, a_stack, a_openFrame, a_openAt)) : wpX_compileStep post (f_expressionCount, f_functionCount, nI p, nI d, f_letCount, nI (h + 1), f_heldNames, f_usedCount, f_marks, f_marking, f_waitCount, f_top, f_frame, f_at, f_openCount, f_stepCount, f_resultSort, f_resultNumber, f_levelNow, a_kindOf, a_partX, a_partY, a_partZ, a_weightOf, a_needOf, a_names, a_known, a_knownNumber, a_functionOf, a_op, a_operand, a_workNode, a_workPhase, a_workLast, a_workPatch, a_letPlace, a_isUsed, a_functionAt, a_heldCount, a_cells, a_waiting, a_globals, a_stack, a_openFrame, a_openAt) (nI d) (nI 1) :=
  And.intro (vp_in_nI hd (by omega)) (nm_r ((congrArg a_workNode (nI_clamp (n := d) (by omega))).trans hn) (And.intro (vp_in_nI he (by omega)) (nm_r ((congrArg a_kindOf (nI_clamp (n := e) (by omega))).trans hk) (And.intro (vp_in_nI he (by omega)) (br_t ((congrArg a_known (nI_clamp (n := e) (by omega))).trans hkn) (br_f (by decide) (br_f (by decide) (br_f (by decide) (br_f (by decide) (br_t rfl (br_f (by decide) (br_t rfl (And.intro (vp_in_nI hd (by omega)) (nm_r (e' := upd a_workPatch d (nI p)) (by rw [nI_clamp (by omega), vl_ns (by omega)]) (cp_write hp (by decide) (nm_r (nI_pred h) (And.intro (vp_in_nI he (by omega)) (And.intro (vp_in_nI hd (by omega)) (by
    rw [nI_clamp (by omega), nI_clamp (by omega), hy]
    exact cp_push (nI_1 d) hd1 hy60 hl (And.intro rfl hq))))))))))))))) )))))
theorem cs_if2 {z p1 : Nat} (hd : d < 34) (hn : a_workNode d = nI e) (he : e < 60) (hkn : a_known e = 0) (hk : a_kindOf e = 8) (hz : a_partZ e = nI z) (hz60 : z < 60) (hd1 : d + 1 < 34) (hl : a_workLast d = 0 ∨ a_workLast d = 1) (hp : p < 1560) (hpt : a_workPatch d = nI p1) (hp1 : p1 < 1560) (hq : post 0 (f_expressionCount, f_functionCount, nI (p + 1), nI (d + 1), f_letCount, nI h, f_heldNames, f_usedCount, f_marks, f_marking, f_waitCount, f_top, f_frame, f_at, f_openCount, f_stepCount, f_resultSort, f_resultNumber, f_levelNow, a_kindOf, a_partX, a_partY, a_partZ, a_weightOf, a_needOf, a_names, a_known, a_knownNumber, a_functionOf, upd a_op p 14, upd (upd a_operand p1 (nI (p + 1))) p 0, upd a_workNode (d + 1) (nI z), upd a_workPhase (d + 1) 0, upd a_workLast (d + 1) (a_workLast d), upd a_workPatch d (nI p), a_letPlace, a_isUsed, a_functionAt, a_heldCount, a_cells, a_waiting, a_globals, a_stack, a_openFrame, a_openAt)) : wpX_compileStep post (f_expressionCount, f_functionCount, nI p, nI d, f_letCount, nI (h + 1), f_heldNames, f_usedCount, f_marks, f_marking, f_waitCount, f_top, f_frame, f_at, f_openCount, f_stepCount, f_resultSort, f_resultNumber, f_levelNow, a_kindOf, a_partX, a_partY, a_partZ, a_weightOf, a_needOf, a_names, a_known, a_knownNumber, a_functionOf, a_op, a_operand, a_workNode, a_workPhase, a_workLast, a_workPatch, a_letPlace, a_isUsed, a_functionAt, a_heldCount, a_cells, a_waiting, a_globals, a_stack, a_openFrame, a_openAt) (nI d) (nI 2) :=
  have ept : a_workPatch (nI d).toNatClampNeg = nI p1 := (congrArg a_workPatch (nI_clamp (n := d) (by omega))).trans hpt
  And.intro (vp_in_nI hd (by omega)) (nm_r ((congrArg a_workNode (nI_clamp (n := d) (by omega))).trans hn) (And.intro (vp_in_nI he (by omega)) (nm_r ((congrArg a_kindOf (nI_clamp (n := e) (by omega))).trans hk) (And.intro (vp_in_nI he (by omega)) (br_t ((congrArg a_known (nI_clamp (n := e) (by omega))).trans hkn) (br_f (by decide) (br_f (by decide) (br_f (by decide) (br_f (by decide) (br_t rfl (br_f (by decide) (br_f (by decide) (br_t rfl (And.intro (vp_in_nI hd (by omega)) (And.intro (by rw [ept]; exact vp_in_nI hp1 (by omega)) (nm_r (e' := upd a_operand p1 (nI (p + 1))) (by rw [ept, nI_clamp (by omega), nI_1]) (And.intro (vp_in_nI hd (by omega)) (nm_r (e' := upd a_workPatch d (nI p)) (by rw [nI_clamp (by omega), vl_ns (by omega)]) (cp_write hp (by decide) (nm_r (nI_pred h) (And.intro (vp_in_nI he (by omega)) (And.intro (vp_in_nI hd (by omega)) (by
    rw [nI_clamp (by omega), nI_clamp (by omega), hz]
    exact cp_push (nI_1 d) hd1 hz60 hl (And.intro rfl hq))))))))))))))))))) )))))
theorem cs_if3 {p1 : Nat} (hd : d < 34) (hn : a_workNode d = nI e) (he : e < 60) (hkn : a_known e = 0) (hk : a_kindOf e = 8) (hpt : a_workPatch d = nI p1) (hp1 : p1 < 1560) (hq : post 1 (f_expressionCount, f_functionCount, nI p, f_depth, f_letCount, f_height, f_heldNames, f_usedCount, f_marks, f_marking, f_waitCount, f_top, f_frame, f_at, f_openCount, f_stepCount, f_resultSort, f_resultNumber, f_levelNow, a_kindOf, a_partX, a_partY, a_partZ, a_weightOf, a_needOf, a_names, a_known, a_knownNumber, a_functionOf, a_op, upd a_operand p1 (nI p), a_workNode, a_workPhase, a_workLast, a_workPatch, a_letPlace, a_isUsed, a_functionAt, a_heldCount, a_cells, a_waiting, a_globals, a_stack, a_openFrame, a_openAt)) : wpX_compileStep post (f_expressionCount, f_functionCount, nI p, f_depth, f_letCount, f_height, f_heldNames, f_usedCount, f_marks, f_marking, f_waitCount, f_top, f_frame, f_at, f_openCount, f_stepCount, f_resultSort, f_resultNumber, f_levelNow, a_kindOf, a_partX, a_partY, a_partZ, a_weightOf, a_needOf, a_names, a_known, a_knownNumber, a_functionOf, a_op, a_operand, a_workNode, a_workPhase, a_workLast, a_workPatch, a_letPlace, a_isUsed, a_functionAt, a_heldCount, a_cells, a_waiting, a_globals, a_stack, a_openFrame, a_openAt) (nI d) (nI 3) :=
  have ept : a_workPatch (nI d).toNatClampNeg = nI p1 := (congrArg a_workPatch (nI_clamp (n := d) (by omega))).trans hpt
  And.intro (vp_in_nI hd (by omega)) (nm_r ((congrArg a_workNode (nI_clamp (n := d) (by omega))).trans hn) (And.intro (vp_in_nI he (by omega)) (nm_r ((congrArg a_kindOf (nI_clamp (n := e) (by omega))).trans hk) (And.intro (vp_in_nI he (by omega)) (br_t ((congrArg a_known (nI_clamp (n := e) (by omega))).trans hkn) (br_f (by decide) (br_f (by decide) (br_f (by decide) (br_f (by decide) (br_t rfl (br_f (by decide) (br_f (by decide) (br_f (by decide) (And.intro (vp_in_nI hd (by omega)) (And.intro (by rw [ept]; exact vp_in_nI hp1 (by omega)) (nm_r (e' := upd a_operand p1 (nI p)) (by rw [ept, nI_clamp (by omega)]) (And.intro rfl hq)))))))))))) )))))
theorem cs_let0 {x : Nat} (hd : d < 34) (hn : a_workNode d = nI e) (he : e < 60) (hkn : a_known e = 0) (hk : a_kindOf e = 14) (hx : a_partX e = nI x) (hx60 : x < 60) (hd1 : d + 1 < 34) (hq : post 0 (f_expressionCount, f_functionCount, f_codeEnd, nI (d + 1), f_letCount, f_height, f_heldNames, f_usedCount, f_marks, f_marking, f_waitCount, f_top, f_frame, f_at, f_openCount, f_stepCount, f_resultSort, f_resultNumber, f_levelNow, a_kindOf, a_partX, a_partY, a_partZ, a_weightOf, a_needOf, a_names, a_known, a_knownNumber, a_functionOf, a_op, a_operand, upd a_workNode (d + 1) (nI x), upd a_workPhase (d + 1) 0, upd a_workLast (d + 1) 0, a_workPatch, a_letPlace, a_isUsed, a_functionAt, a_heldCount, a_cells, a_waiting, a_globals, a_stack, a_openFrame, a_openAt)) : wpX_compileStep post (f_expressionCount, f_functionCount, f_codeEnd, nI d, f_letCount, f_height, f_heldNames, f_usedCount, f_marks, f_marking, f_waitCount, f_top, f_frame, f_at, f_openCount, f_stepCount, f_resultSort, f_resultNumber, f_levelNow, a_kindOf, a_partX, a_partY, a_partZ, a_weightOf, a_needOf, a_names, a_known, a_knownNumber, a_functionOf, a_op, a_operand, a_workNode, a_workPhase, a_workLast, a_workPatch, a_letPlace, a_isUsed, a_functionAt, a_heldCount, a_cells, a_waiting, a_globals, a_stack, a_openFrame, a_openAt) (nI d) (nI 0) :=
  And.intro (vp_in_nI hd (by omega)) (nm_r ((congrArg a_workNode (nI_clamp (n := d) (by omega))).trans hn) (And.intro (vp_in_nI he (by omega)) (nm_r ((congrArg a_kindOf (nI_clamp (n := e) (by omega))).trans hk) (And.intro (vp_in_nI he (by omega)) (br_t ((congrArg a_known (nI_clamp (n := e) (by omega))).trans hkn) (br_f (by decide) (br_f (by decide) (br_f (by decide) (br_f (by decide) (br_f (by decide) (br_t rfl (br_t rfl (And.intro (vp_in_nI he (by omega)) (by
    rw [nI_clamp (by omega), hx]
    exact cp_push (nI_1 d) hd1 hx60 (Or.inl rfl) (And.intro rfl hq)))))))))) )))))
theorem cs_let1 {y c : Nat} (hd : d < 34) (hn : a_workNode d = nI e) (he : e < 60) (hkn : a_known e = 0) (hk : a_kindOf e = 14) (hy : a_partY e = nI y) (hy60 : y < 60) (hd1 : d + 1 < 34) (hl : a_workLast d = 0 ∨ a_workLast d = 1) (hc : c < 34) (hh : h < 128) (hq : post 0 (f_expressionCount, f_functionCount, f_codeEnd, nI (d + 1), nI (c + 1), nI (h + 1), f_heldNames, f_usedCount, f_marks, f_marking, f_waitCount, f_top, f_frame, f_at, f_openCount, f_stepCount, f_resultSort, f_resultNumber, f_levelNow, a_kindOf, a_partX, a_partY, a_partZ, a_weightOf, a_needOf, a_names, a_known, a_knownNumber, a_functionOf, a_op, a_operand, upd a_workNode (d + 1) (nI y), upd a_workPhase (d + 1) 0, upd a_workLast (d + 1) (a_workLast d), a_workPatch, upd a_letPlace c (nI h), a_isUsed, a_functionAt, a_heldCount, a_cells, a_waiting, a_globals, a_stack, a_openFrame, a_openAt)) : wpX_compileStep post (f_expressionCount, f_functionCount, f_codeEnd, nI d, nI c, nI (h + 1), f_heldNames, f_usedCount, f_marks, f_marking, f_waitCount, f_top, f_frame, f_at, f_openCount, f_stepCount, f_resultSort, f_resultNumber, f_levelNow, a_kindOf, a_partX, a_partY, a_partZ, a_weightOf, a_needOf, a_names, a_known, a_knownNumber, a_functionOf, a_op, a_operand, a_workNode, a_workPhase, a_workLast, a_workPatch, a_letPlace, a_isUsed, a_functionAt, a_heldCount, a_cells, a_waiting, a_globals, a_stack, a_openFrame, a_openAt) (nI d) (nI 1) :=
  And.intro (vp_in_nI hd (by omega)) (nm_r ((congrArg a_workNode (nI_clamp (n := d) (by omega))).trans hn) (And.intro (vp_in_nI he (by omega)) (nm_r ((congrArg a_kindOf (nI_clamp (n := e) (by omega))).trans hk) (And.intro (vp_in_nI he (by omega)) (br_t ((congrArg a_known (nI_clamp (n := e) (by omega))).trans hkn) (br_f (by decide) (br_f (by decide) (br_f (by decide) (br_f (by decide) (br_f (by decide) (br_t rfl (br_f (by decide) (br_t rfl (And.intro (vp_in_nI hc (by omega)) (nm_r (e' := upd a_letPlace c (nI h)) (by rw [nI_clamp (by omega), nI_pred, vl_nb (by omega)]) (nm_r (nI_1 c) (And.intro (vp_in_nI he (by omega)) (And.intro (vp_in_nI hd (by omega)) (by
    rw [nI_clamp (by omega), nI_clamp (by omega), hy]
    exact cp_push (nI_1 d) hd1 hy60 hl (And.intro rfl hq))))))))))))))) )))))
theorem cs_let2 {c : Nat} (hd : d < 34) (hn : a_workNode d = nI e) (he : e < 60) (hkn : a_known e = 0) (hk : a_kindOf e = 14) (hp : p < 1560) (hq : post 1 (f_expressionCount, f_functionCount, nI (p + 1), f_depth, nI c, nI h, f_heldNames, f_usedCount, f_marks, f_marking, f_waitCount, f_top, f_frame, f_at, f_openCount, f_stepCount, f_resultSort, f_resultNumber, f_levelNow, a_kindOf, a_partX, a_partY, a_partZ, a_weightOf, a_needOf, a_names, a_known, a_knownNumber, a_functionOf, upd a_op p 21, upd a_operand p 0, a_workNode, a_workPhase, a_workLast, a_workPatch, a_letPlace, a_isUsed, a_functionAt, a_heldCount, a_cells, a_waiting, a_globals, a_stack, a_openFrame, a_openAt)) : wpX_compileStep post (f_expressionCount, f_functionCount, nI p, f_depth, nI (c + 1), nI (h + 1), f_heldNames, f_usedCount, f_marks, f_marking, f_waitCount, f_top, f_frame, f_at, f_openCount, f_stepCount, f_resultSort, f_resultNumber, f_levelNow, a_kindOf, a_partX, a_partY, a_partZ, a_weightOf, a_needOf, a_names, a_known, a_knownNumber, a_functionOf, a_op, a_operand, a_workNode, a_workPhase, a_workLast, a_workPatch, a_letPlace, a_isUsed, a_functionAt, a_heldCount, a_cells, a_waiting, a_globals, a_stack, a_openFrame, a_openAt) (nI d) (nI 2) :=
  And.intro (vp_in_nI hd (by omega)) (nm_r ((congrArg a_workNode (nI_clamp (n := d) (by omega))).trans hn) (And.intro (vp_in_nI he (by omega)) (nm_r ((congrArg a_kindOf (nI_clamp (n := e) (by omega))).trans hk) (And.intro (vp_in_nI he (by omega)) (br_t ((congrArg a_known (nI_clamp (n := e) (by omega))).trans hkn) (br_f (by decide) (br_f (by decide) (br_f (by decide) (br_f (by decide) (br_f (by decide) (br_t rfl (br_f (by decide) (br_f (by decide) (nm_r (nI_pred c) (cp_write hp (by decide) (nm_r (nI_pred h) (And.intro rfl hq)))))))))))) )))))
theorem cs_then0 {x : Nat} (hd : d < 34) (hn : a_workNode d = nI e) (he : e < 60) (hkn : a_known e = 0) (hk : a_kindOf e = 19) (hx : a_partX e = nI x) (hx60 : x < 60) (hd1 : d + 1 < 34) (hq : post 0 (f_expressionCount, f_functionCount, f_codeEnd, nI (d + 1), f_letCount, f_height, f_heldNames, f_usedCount, f_marks, f_marking, f_waitCount, f_top, f_frame, f_at, f_openCount, f_stepCount, f_resultSort, f_resultNumber, f_levelNow, a_kindOf, a_partX, a_partY, a_partZ, a_weightOf, a_needOf, a_names, a_known, a_knownNumber, a_functionOf, a_op, a_operand, upd a_workNode (d + 1) (nI x), upd a_workPhase (d + 1) 0, upd a_workLast (d + 1) 0, a_workPatch, a_letPlace, a_isUsed, a_functionAt, a_heldCount, a_cells, a_waiting, a_globals, a_stack, a_openFrame, a_openAt)) : wpX_compileStep post (f_expressionCount, f_functionCount, f_codeEnd, nI d, f_letCount, f_height, f_heldNames, f_usedCount, f_marks, f_marking, f_waitCount, f_top, f_frame, f_at, f_openCount, f_stepCount, f_resultSort, f_resultNumber, f_levelNow, a_kindOf, a_partX, a_partY, a_partZ, a_weightOf, a_needOf, a_names, a_known, a_knownNumber, a_functionOf, a_op, a_operand, a_workNode, a_workPhase, a_workLast, a_workPatch, a_letPlace, a_isUsed, a_functionAt, a_heldCount, a_cells, a_waiting, a_globals, a_stack, a_openFrame, a_openAt) (nI d) (nI 0) :=
  And.intro (vp_in_nI hd (by omega)) (nm_r ((congrArg a_workNode (nI_clamp (n := d) (by omega))).trans hn) (And.intro (vp_in_nI he (by omega)) (nm_r ((congrArg a_kindOf (nI_clamp (n := e) (by omega))).trans hk) (And.intro (vp_in_nI he (by omega)) (br_t ((congrArg a_known (nI_clamp (n := e) (by omega))).trans hkn) (br_f (by decide) (br_f (by decide) (br_f (by decide) (br_f (by decide) (br_f (by decide) (br_f (by decide) (br_t rfl (br_t rfl (And.intro (vp_in_nI he (by omega)) (by
    rw [nI_clamp (by omega), hx]
    exact cp_push (nI_1 d) hd1 hx60 (Or.inl rfl) (And.intro rfl hq))))))))))) )))))
theorem cs_then1 {y : Nat} (hd : d < 34) (hn : a_workNode d = nI e) (he : e < 60) (hkn : a_known e = 0) (hk : a_kindOf e = 19) (hy : a_partY e = nI y) (hy60 : y < 60) (hd1 : d + 1 < 34) (hl : a_workLast d = 0 ∨ a_workLast d = 1) (hp : p < 1560) (hq : post 0 (f_expressionCount, f_functionCount, nI (p + 1), nI (d + 1), f_letCount, nI h, f_heldNames, f_usedCount, f_marks, f_marking, f_waitCount, f_top, f_frame, f_at, f_openCount, f_stepCount, f_resultSort, f_resultNumber, f_levelNow, a_kindOf, a_partX, a_partY, a_partZ, a_weightOf, a_needOf, a_names, a_known, a_knownNumber, a_functionOf, upd a_op p 20, upd a_operand p 0, upd a_workNode (d + 1) (nI y), upd a_workPhase (d + 1) 0, upd a_workLast (d + 1) (a_workLast d), a_workPatch, a_letPlace, a_isUsed, a_functionAt, a_heldCount, a_cells, a_waiting, a_globals, a_stack, a_openFrame, a_openAt)) : wpX_compileStep post (f_expressionCount, f_functionCount, nI p, nI d, f_letCount, nI (h + 1), f_heldNames, f_usedCount, f_marks, f_marking, f_waitCount, f_top, f_frame, f_at, f_openCount, f_stepCount, f_resultSort, f_resultNumber, f_levelNow, a_kindOf, a_partX, a_partY, a_partZ, a_weightOf, a_needOf, a_names, a_known, a_knownNumber, a_functionOf, a_op, a_operand, a_workNode, a_workPhase, a_workLast, a_workPatch, a_letPlace, a_isUsed, a_functionAt, a_heldCount, a_cells, a_waiting, a_globals, a_stack, a_openFrame, a_openAt) (nI d) (nI 1) :=
  And.intro (vp_in_nI hd (by omega)) (nm_r ((congrArg a_workNode (nI_clamp (n := d) (by omega))).trans hn) (And.intro (vp_in_nI he (by omega)) (nm_r ((congrArg a_kindOf (nI_clamp (n := e) (by omega))).trans hk) (And.intro (vp_in_nI he (by omega)) (br_t ((congrArg a_known (nI_clamp (n := e) (by omega))).trans hkn) (br_f (by decide) (br_f (by decide) (br_f (by decide) (br_f (by decide) (br_f (by decide) (br_f (by decide) (br_t rfl (br_f (by decide) (br_t rfl (cp_write hp (by decide) (nm_r (nI_pred h) (And.intro (vp_in_nI he (by omega)) (And.intro (vp_in_nI hd (by omega)) (by
    rw [nI_clamp (by omega), nI_clamp (by omega), hy]
    exact cp_push (nI_1 d) hd1 hy60 hl (And.intro rfl hq))))))))))))))) )))))
theorem cs_then2 (hd : d < 34) (hn : a_workNode d = nI e) (he : e < 60) (hkn : a_known e = 0) (hk : a_kindOf e = 19) (hq : post 1 (f_expressionCount, f_functionCount, f_codeEnd, f_depth, f_letCount, f_height, f_heldNames, f_usedCount, f_marks, f_marking, f_waitCount, f_top, f_frame, f_at, f_openCount, f_stepCount, f_resultSort, f_resultNumber, f_levelNow, a_kindOf, a_partX, a_partY, a_partZ, a_weightOf, a_needOf, a_names, a_known, a_knownNumber, a_functionOf, a_op, a_operand, a_workNode, a_workPhase, a_workLast, a_workPatch, a_letPlace, a_isUsed, a_functionAt, a_heldCount, a_cells, a_waiting, a_globals, a_stack, a_openFrame, a_openAt)) : wpX_compileStep post (f_expressionCount, f_functionCount, f_codeEnd, f_depth, f_letCount, f_height, f_heldNames, f_usedCount, f_marks, f_marking, f_waitCount, f_top, f_frame, f_at, f_openCount, f_stepCount, f_resultSort, f_resultNumber, f_levelNow, a_kindOf, a_partX, a_partY, a_partZ, a_weightOf, a_needOf, a_names, a_known, a_knownNumber, a_functionOf, a_op, a_operand, a_workNode, a_workPhase, a_workLast, a_workPatch, a_letPlace, a_isUsed, a_functionAt, a_heldCount, a_cells, a_waiting, a_globals, a_stack, a_openFrame, a_openAt) (nI d) (nI 2) :=
  And.intro (vp_in_nI hd (by omega)) (nm_r ((congrArg a_workNode (nI_clamp (n := d) (by omega))).trans hn) (And.intro (vp_in_nI he (by omega)) (nm_r ((congrArg a_kindOf (nI_clamp (n := e) (by omega))).trans hk) (And.intro (vp_in_nI he (by omega)) (br_t ((congrArg a_known (nI_clamp (n := e) (by omega))).trans hkn) (br_f (by decide) (br_f (by decide) (br_f (by decide) (br_f (by decide) (br_f (by decide) (br_f (by decide) (br_t rfl (br_f (by decide) (br_f (by decide) (And.intro rfl hq)))))))))) )))))
/-- the tests that a plain kind passes -/
def cp_pl (k : Int32) : Prop := ¬ k = 1 ∧ ¬ k = 2 ∧ ¬ k = 17 ∧ ¬ k = 15 ∧ ¬ k = 8 ∧ ¬ k = 14 ∧ ¬ k = 19 ∧ ¬ k < 3
theorem cp_two_pl {k : Int32} (h : cp_two k) : cp_pl k ∧ ¬ k = 18 ∧ ¬ k = 10 ∧ ¬ k = 11 := by
  unfold cp_pl
  rcases h with rfl | rfl | rfl | rfl | rfl | rfl | rfl | rfl | rfl <;> decide
theorem cs_hx1 {post : Int32 → Prop} {k : Int32} (h1 : ¬ k < 3) (h2 : ¬ k = 17) (h3 : ¬ k = 18) (hq : post 1) : wpX_hasX post (f_expressionCount, f_functionCount, f_codeEnd, f_depth, f_letCount, f_height, f_heldNames, f_usedCount, f_marks, f_marking, f_waitCount, f_top, f_frame, f_at, f_openCount, f_stepCount, f_resultSort, f_resultNumber, f_levelNow, a_kindOf, a_partX, a_partY, a_partZ, a_weightOf, a_needOf, a_names, a_known, a_knownNumber, a_functionOf, a_op, a_operand, a_workNode, a_workPhase, a_workLast, a_workPatch, a_letPlace, a_isUsed, a_functionAt, a_heldCount, a_cells, a_waiting, a_globals, a_stack, a_openFrame, a_openAt) k := br_f h1 (br_f h2 (br_f h3 hq))
theorem cs_hx0 {post : Int32 → Prop} (hq : post 0) : wpX_hasX post (f_expressionCount, f_functionCount, f_codeEnd, f_depth, f_letCount, f_height, f_heldNames, f_usedCount, f_marks, f_marking, f_waitCount, f_top, f_frame, f_at, f_openCount, f_stepCount, f_resultSort, f_resultNumber, f_levelNow, a_kindOf, a_partX, a_partY, a_partZ, a_weightOf, a_needOf, a_names, a_known, a_knownNumber, a_functionOf, a_op, a_operand, a_workNode, a_workPhase, a_workLast, a_workPatch, a_letPlace, a_isUsed, a_functionAt, a_heldCount, a_cells, a_waiting, a_globals, a_stack, a_openFrame, a_openAt) 18 := br_f (by decide) (br_f (by decide) (br_t rfl hq))
theorem cs_hy1 {post : Int32 → Prop} {k : Int32} (h1 : ¬ k = 10) (h2 : ¬ k = 11) (h3 : ¬ k = 15) (h4 : ¬ k = 17) (h5 : ¬ k < 3) (hq : post 1) : wpX_hasY post (f_expressionCount, f_functionCount, f_codeEnd, f_depth, f_letCount, f_height, f_heldNames, f_usedCount, f_marks, f_marking, f_waitCount, f_top, f_frame, f_at, f_openCount, f_stepCount, f_resultSort, f_resultNumber, f_levelNow, a_kindOf, a_partX, a_partY, a_partZ, a_weightOf, a_needOf, a_names, a_known, a_knownNumber, a_functionOf, a_op, a_operand, a_workNode, a_workPhase, a_workLast, a_workPatch, a_letPlace, a_isUsed, a_functionAt, a_heldCount, a_cells, a_waiting, a_globals, a_stack, a_openFrame, a_openAt) k := br_f h1 (br_f h2 (br_f h3 (br_f h4 (br_f h5 hq))))
theorem cs_hy0 {post : Int32 → Prop} {k : Int32} (h1 : k = 10 ∨ k = 11) (hq : post 0) : wpX_hasY post (f_expressionCount, f_functionCount, f_codeEnd, f_depth, f_letCount, f_height, f_heldNames, f_usedCount, f_marks, f_marking, f_waitCount, f_top, f_frame, f_at, f_openCount, f_stepCount, f_resultSort, f_resultNumber, f_levelNow, a_kindOf, a_partX, a_partY, a_partZ, a_weightOf, a_needOf, a_names, a_known, a_knownNumber, a_functionOf, a_op, a_operand, a_workNode, a_workPhase, a_workLast, a_workPatch, a_letPlace, a_isUsed, a_functionAt, a_heldCount, a_cells, a_waiting, a_globals, a_stack, a_openFrame, a_openAt) k := by
  rcases h1 with rfl | rfl
  · exact br_t rfl hq
  · exact br_f (by decide) (br_t rfl hq)
theorem cs_plain {k : Int32} (hd : d < 34) (hn : a_workNode d = nI e) (he : e < 60) (hkn : a_known e = 0) (hk : a_kindOf e = k) (hpl : cp_pl k) (hq : wpX_compilePlain (fun r u => narrow .boolean (.int r) = .int r ∧ post r u) (f_expressionCount, f_functionCount, f_codeEnd, f_depth, f_letCount, f_height, f_heldNames, f_usedCount, f_marks, f_marking, f_waitCount, f_top, f_frame, f_at, f_openCount, f_stepCount, f_resultSort, f_resultNumber, f_levelNow, a_kindOf, a_partX, a_partY, a_partZ, a_weightOf, a_needOf, a_names, a_known, a_knownNumber, a_functionOf, a_op, a_operand, a_workNode, a_workPhase, a_workLast, a_workPatch, a_letPlace, a_isUsed, a_functionAt, a_heldCount, a_cells, a_waiting, a_globals, a_stack, a_openFrame, a_openAt) (nI d) (nI e) k (nI ph)) : wpX_compileStep post (f_expressionCount, f_functionCount, f_codeEnd, f_depth, f_letCount, f_height, f_heldNames, f_usedCount, f_marks, f_marking, f_waitCount, f_top, f_frame, f_at, f_openCount, f_stepCount, f_resultSort, f_resultNumber, f_levelNow, a_kindOf, a_partX, a_partY, a_partZ, a_weightOf, a_needOf, a_names, a_known, a_knownNumber, a_functionOf, a_op, a_operand, a_workNode, a_workPhase, a_workLast, a_workPatch, a_letPlace, a_isUsed, a_functionAt, a_heldCount, a_cells, a_waiting, a_globals, a_stack, a_openFrame, a_openAt) (nI d) (nI ph) :=
  And.intro (vp_in_nI hd (by omega)) (nm_r ((congrArg a_workNode (nI_clamp (n := d) (by omega))).trans hn) (And.intro (vp_in_nI he (by omega)) (nm_r ((congrArg a_kindOf (nI_clamp (n := e) (by omega))).trans hk) (And.intro (vp_in_nI he (by omega)) (br_t ((congrArg a_known (nI_clamp (n := e) (by omega))).trans hkn) (br_f hpl.1 (br_f hpl.2.1 (br_f hpl.2.2.1 (br_f hpl.2.2.2.1 (br_f hpl.2.2.2.2.1 (br_f hpl.2.2.2.2.2.1 (br_f hpl.2.2.2.2.2.2.1 hq))))))) )))))
theorem cs_pt0 {x : Nat} {k : Int32} (hd : d < 34) (hn : a_workNode d = nI e) (he : e < 60) (hkn : a_known e = 0) (hk : a_kindOf e = k) (hk2 : cp_two k) (hx : a_partX e = nI x) (hx60 : x < 60) (hd1 : d + 1 < 34) (hq : post 0 (f_expressionCount, f_functionCount, f_codeEnd, nI (d + 1), f_letCount, f_height, f_heldNames, f_usedCount, f_marks, f_marking, f_waitCount, f_top, f_frame, f_at, f_openCount, f_stepCount, f_resultSort, f_resultNumber, f_levelNow, a_kindOf, a_partX, a_partY, a_partZ, a_weightOf, a_needOf, a_names, a_known, a_knownNumber, a_functionOf, a_op, a_operand, upd a_workNode (d + 1) (nI x), upd a_workPhase (d + 1) 0, upd a_workLast (d + 1) 0, a_workPatch, a_letPlace, a_isUsed, a_functionAt, a_heldCount, a_cells, a_waiting, a_globals, a_stack, a_openFrame, a_openAt)) : wpX_compileStep post (f_expressionCount, f_functionCount, f_codeEnd, nI d, f_letCount, f_height, f_heldNames, f_usedCount, f_marks, f_marking, f_waitCount, f_top, f_frame, f_at, f_openCount, f_stepCount, f_resultSort, f_resultNumber, f_levelNow, a_kindOf, a_partX, a_partY, a_partZ, a_weightOf, a_needOf, a_names, a_known, a_knownNumber, a_functionOf, a_op, a_operand, a_workNode, a_workPhase, a_workLast, a_workPatch, a_letPlace, a_isUsed, a_functionAt, a_heldCount, a_cells, a_waiting, a_globals, a_stack, a_openFrame, a_openAt) (nI d) (nI 0) := by
  obtain ⟨hp, h18, h10, h11⟩ := cp_two_pl hk2
  have h3 := hp.2.2.2.2.2.2.2
  refine cs_plain hd hn he hkn hk hp ?_
  unfold wpX_compilePlain
  refine cs_hx1 h3 hp.2.2.1 h18 (br_f (by decide) (cs_hy1 h10 h11 hp.2.2.2.1 hp.2.2.1 h3 (br_f (by decide) (br_t rfl (cs_hx1 h3 hp.2.2.1 h18 (br_f (by decide) (And.intro (vp_in_nI he (by omega)) ?_)))))))
  rw [nI_clamp (by omega), hx]
  exact cp_push (nI_1 d) hd1 hx60 (Or.inl rfl) (And.intro rfl hq)
theorem cs_pt1 {y : Nat} {k : Int32} (hd : d < 34) (hn : a_workNode d = nI e) (he : e < 60) (hkn : a_known e = 0) (hk : a_kindOf e = k) (hk2 : cp_two k) (hy : a_partY e = nI y) (hy60 : y < 60) (hd1 : d + 1 < 34) (hq : post 0 (f_expressionCount, f_functionCount, f_codeEnd, nI (d + 1), f_letCount, f_height, f_heldNames, f_usedCount, f_marks, f_marking, f_waitCount, f_top, f_frame, f_at, f_openCount, f_stepCount, f_resultSort, f_resultNumber, f_levelNow, a_kindOf, a_partX, a_partY, a_partZ, a_weightOf, a_needOf, a_names, a_known, a_knownNumber, a_functionOf, a_op, a_operand, upd a_workNode (d + 1) (nI y), upd a_workPhase (d + 1) 0, upd a_workLast (d + 1) 0, a_workPatch, a_letPlace, a_isUsed, a_functionAt, a_heldCount, a_cells, a_waiting, a_globals, a_stack, a_openFrame, a_openAt)) : wpX_compileStep post (f_expressionCount, f_functionCount, f_codeEnd, nI d, f_letCount, f_height, f_heldNames, f_usedCount, f_marks, f_marking, f_waitCount, f_top, f_frame, f_at, f_openCount, f_stepCount, f_resultSort, f_resultNumber, f_levelNow, a_kindOf, a_partX, a_partY, a_partZ, a_weightOf, a_needOf, a_names, a_known, a_knownNumber, a_functionOf, a_op, a_operand, a_workNode, a_workPhase, a_workLast, a_workPatch, a_letPlace, a_isUsed, a_functionAt, a_heldCount, a_cells, a_waiting, a_globals, a_stack, a_openFrame, a_openAt) (nI d) (nI 1) := by
  obtain ⟨hp, h18, h10, h11⟩ := cp_two_pl hk2
  have h3 := hp.2.2.2.2.2.2.2
  refine cs_plain hd hn he hkn hk hp ?_
  unfold wpX_compilePlain
  refine cs_hx1 h3 hp.2.2.1 h18 (br_f (by decide) (cs_hy1 h10 h11 hp.2.2.2.1 hp.2.2.1 h3 (br_f (by decide) (br_f (by decide) (br_t rfl (br_f (by decide) (And.intro (vp_in_nI he (by omega)) ?_)))))))
  rw [nI_clamp (by omega), hy]
  exact cp_push (nI_1 d) hd1 hy60 (Or.inl rfl) (And.intro rfl hq)
/-- the instruction that ends a plain kind -/
def cp_in (k : Int32) (l : Bool) : Int32 := if k = 16 then (if l = true then 24 else 23) else k
def cp_io (k x : Int32) : Int32 := if k = 16 then 0 else x
theorem cs_86 {post : Int32 → SX → Prop} {k z : Int32} {l : Bool} (hd : d < 34) (he : e < 60) (hk : vp_nar .byte k.toInt8.toInt32 = k) (hl : a_workLast d = (if l = true then 1 else 0)) (hp : p < 1560) (hq : wX_compilePlain_127 post z f_expressionCount f_functionCount (nI (p + 1)) f_depth f_letCount f_height f_heldNames f_usedCount f_marks f_marking f_waitCount f_top f_frame f_at f_openCount f_stepCount f_resultSort f_resultNumber f_levelNow a_kindOf a_partX a_partY a_partZ a_weightOf a_needOf a_names a_known a_knownNumber a_functionOf (upd a_op p (cp_in k l)) (upd a_operand p (cp_io k (a_partX e))) a_workNode a_workPhase a_workLast a_workPatch a_letPlace a_isUsed a_functionAt a_heldCount a_cells a_waiting a_globals a_stack a_openFrame a_openAt) : wX_compilePlain_86 post (nI d) (nI e) k z f_expressionCount f_functionCount (nI p) f_depth f_letCount f_height f_heldNames f_usedCount f_marks f_marking f_waitCount f_top f_frame f_at f_openCount f_stepCount f_resultSort f_resultNumber f_levelNow a_kindOf a_partX a_partY a_partZ a_weightOf a_needOf a_names a_known a_knownNumber a_functionOf a_op a_operand a_workNode a_workPhase a_workLast a_workPatch a_letPlace a_isUsed a_functionAt a_heldCount a_cells a_waiting a_globals a_stack a_openFrame a_openAt := by
  unfold cp_in cp_io at hq
  by_cases z16 : k = 16
  · rw [if_pos z16, if_pos z16] at hq
    refine br_t z16 (And.intro (vp_in_nI hd (by omega)) ?_)
    rw [nI_clamp (by omega), hl]
    cases l with
    | true => exact br_f (by decide) (cp_write hp (by decide) hq)
    | false => exact br_t rfl (cp_write hp (by decide) hq)
  · rw [if_neg z16, if_neg z16] at hq
    refine br_f z16 (And.intro (vp_in_nI he (by omega)) ?_)
    rw [nI_clamp (by omega)]
    exact cp_write hp hk hq
theorem cp_two_b {k : Int32} (h : cp_two k) : vp_nar .byte k.toInt8.toInt32 = k := by
  rcases h with rfl | rfl | rfl | rfl | rfl | rfl | rfl | rfl | rfl <;> rfl
theorem cs_pt2 {k : Int32} {l : Bool} (hd : d < 34) (hn : a_workNode d = nI e) (he : e < 60) (hkn : a_known e = 0) (hk : a_kindOf e = k) (hk2 : cp_two k) (hl : a_workLast d = (if l = true then 1 else 0)) (hp1 : p < 1560) (hq : post 1 (f_expressionCount, f_functionCount, nI (p + 1), f_depth, f_letCount, nI h, f_heldNames, f_usedCount, f_marks, f_marking, f_waitCount, f_top, f_frame, f_at, f_openCount, f_stepCount, f_resultSort, f_resultNumber, f_levelNow, a_kindOf, a_partX, a_partY, a_partZ, a_weightOf, a_needOf, a_names, a_known, a_knownNumber, a_functionOf, upd a_op p (cp_in k l), upd a_operand p (cp_io k (a_partX e)), a_workNode, a_workPhase, a_workLast, a_workPatch, a_letPlace, a_isUsed, a_functionAt, a_heldCount, a_cells, a_waiting, a_globals, a_stack, a_openFrame, a_openAt)) : wpX_compileStep post (f_expressionCount, f_functionCount, nI p, f_depth, f_letCount, nI (h + 1), f_heldNames, f_usedCount, f_marks, f_marking, f_waitCount, f_top, f_frame, f_at, f_openCount, f_stepCount, f_resultSort, f_resultNumber, f_levelNow, a_kindOf, a_partX, a_partY, a_partZ, a_weightOf, a_needOf, a_names, a_known, a_knownNumber, a_functionOf, a_op, a_operand, a_workNode, a_workPhase, a_workLast, a_workPatch, a_letPlace, a_isUsed, a_functionAt, a_heldCount, a_cells, a_waiting, a_globals, a_stack, a_openFrame, a_openAt) (nI d) (nI 2) := by
  obtain ⟨hp, h18, h10, h11⟩ := cp_two_pl hk2
  have h3 := hp.2.2.2.2.2.2.2
  refine cs_plain hd hn he hkn hk hp ?_
  unfold wpX_compilePlain
  exact cs_hx1 h3 hp.2.2.1 h18 (br_f (by decide) (cs_hy1 h10 h11 hp.2.2.2.1 hp.2.2.1 h3 (br_f (by decide) (br_f (by decide) (br_f (by decide) (cs_86 hd he (cp_two_b hk2) hl hp1 (br_f (by decide) (nm_r (nI_pred h) (And.intro rfl hq)))))))))
theorem cs_pu0 {x : Nat} {k : Int32} (hd : d < 34) (hn : a_workNode d = nI e) (he : e < 60) (hkn : a_known e = 0) (hk : a_kindOf e = k) (hk2 : k = 10 ∨ k = 11) (hx : a_partX e = nI x) (hx60 : x < 60) (hd1 : d + 1 < 34) (hq : post 0 (f_expressionCount, f_functionCount, f_codeEnd, nI (d + 1), f_letCount, f_height, f_heldNames, f_usedCount, f_marks, f_marking, f_waitCount, f_top, f_frame, f_at, f_openCount, f_stepCount, f_resultSort, f_resultNumber, f_levelNow, a_kindOf, a_partX, a_partY, a_partZ, a_weightOf, a_needOf, a_names, a_known, a_knownNumber, a_functionOf, a_op, a_operand, upd a_workNode (d + 1) (nI x), upd a_workPhase (d + 1) 0, upd a_workLast (d + 1) 0, a_workPatch, a_letPlace, a_isUsed, a_functionAt, a_heldCount, a_cells, a_waiting, a_globals, a_stack, a_openFrame, a_openAt)) : wpX_compileStep post (f_expressionCount, f_functionCount, f_codeEnd, nI d, f_letCount, f_height, f_heldNames, f_usedCount, f_marks, f_marking, f_waitCount, f_top, f_frame, f_at, f_openCount, f_stepCount, f_resultSort, f_resultNumber, f_levelNow, a_kindOf, a_partX, a_partY, a_partZ, a_weightOf, a_needOf, a_names, a_known, a_knownNumber, a_functionOf, a_op, a_operand, a_workNode, a_workPhase, a_workLast, a_workPatch, a_letPlace, a_isUsed, a_functionAt, a_heldCount, a_cells, a_waiting, a_globals, a_stack, a_openFrame, a_openAt) (nI d) (nI 0) := by
  have hp : cp_pl k ∧ ¬ k = 18 := by
    unfold cp_pl
    rcases hk2 with rfl | rfl <;> decide
  obtain ⟨hp, h18⟩ := hp
  have h3 := hp.2.2.2.2.2.2.2
  refine cs_plain hd hn he hkn hk hp ?_
  unfold wpX_compilePlain
  refine cs_hx1 h3 hp.2.2.1 h18 (br_f (by decide) (cs_hy0 hk2 (br_t rfl (br_t rfl (cs_hx1 h3 hp.2.2.1 h18 (br_f (by decide) (And.intro (vp_in_nI he (by omega)) ?_)))))))
  rw [nI_clamp (by omega), hx]
  exact cp_push (nI_1 d) hd1 hx60 (Or.inl rfl) (And.intro rfl hq)
theorem cs_pu1 {k : Int32} {l : Bool} (hd : d < 34) (hn : a_workNode d = nI e) (he : e < 60) (hkn : a_known e = 0) (hk : a_kindOf e = k) (hk2 : k = 10 ∨ k = 11) (hl : a_workLast d = (if l = true then 1 else 0)) (hp1 : p < 1560) (hq : post 1 (f_expressionCount, f_functionCount, nI (p + 1), f_depth, f_letCount, f_height, f_heldNames, f_usedCount, f_marks, f_marking, f_waitCount, f_top, f_frame, f_at, f_openCount, f_stepCount, f_resultSort, f_resultNumber, f_levelNow, a_kindOf, a_partX, a_partY, a_partZ, a_weightOf, a_needOf, a_names, a_known, a_knownNumber, a_functionOf, upd a_op p (cp_in k l), upd a_operand p (cp_io k (a_partX e)), a_workNode, a_workPhase, a_workLast, a_workPatch, a_letPlace, a_isUsed, a_functionAt, a_heldCount, a_cells, a_waiting, a_globals, a_stack, a_openFrame, a_openAt)) : wpX_compileStep post (f_expressionCount, f_functionCount, nI p, f_depth, f_letCount, f_height, f_heldNames, f_usedCount, f_marks, f_marking, f_waitCount, f_top, f_frame, f_at, f_openCount, f_stepCount, f_resultSort, f_resultNumber, f_levelNow, a_kindOf, a_partX, a_partY, a_partZ, a_weightOf, a_needOf, a_names, a_known, a_knownNumber, a_functionOf, a_op, a_operand, a_workNode, a_workPhase, a_workLast, a_workPatch, a_letPlace, a_isUsed, a_functionAt, a_heldCount, a_cells, a_waiting, a_globals, a_stack, a_openFrame, a_openAt) (nI d) (nI 1) := by
  have hp : cp_pl k ∧ ¬ k = 18 ∧ vp_nar .byte k.toInt8.toInt32 = k := by
    unfold cp_pl
    rcases hk2 with rfl | rfl
    · exact ⟨by decide, by decide, rfl⟩
    · exact ⟨by decide, by decide, rfl⟩
  obtain ⟨hp, h18, hb⟩ := hp
  have h3 := hp.2.2.2.2.2.2.2
  refine cs_plain hd hn he hkn hk hp ?_
  unfold wpX_compilePlain
  exact cs_hx1 h3 hp.2.2.1 h18 (br_f (by decide) (cs_hy0 hk2 (br_t rfl (br_f (by decide) (br_t rfl (br_t rfl (cs_86 hd he hb hl hp1 (br_t rfl (And.intro rfl hq)))))))))
theorem cs_pg0 {y : Nat} (hd : d < 34) (hn : a_workNode d = nI e) (he : e < 60) (hkn : a_known e = 0) (hk : a_kindOf e = 18) (hy : a_partY e = nI y) (hy60 : y < 60) (hd1 : d + 1 < 34) (hq : post 0 (f_expressionCount, f_functionCount, f_codeEnd, nI (d + 1), f_letCount, f_height, f_heldNames, f_usedCount, f_marks, f_marking, f_waitCount, f_top, f_frame, f_at, f_openCount, f_stepCount, f_resultSort, f_resultNumber, f_levelNow, a_kindOf, a_partX, a_partY, a_partZ, a_weightOf, a_needOf, a_names, a_known, a_knownNumber, a_functionOf, a_op, a_operand, upd a_workNode (d + 1) (nI y), upd a_workPhase (d + 1) 0, upd a_workLast (d + 1) 0, a_workPatch, a_letPlace, a_isUsed, a_functionAt, a_heldCount, a_cells, a_waiting, a_globals, a_stack, a_openFrame, a_openAt)) : wpX_compileStep post (f_expressionCount, f_functionCount, f_codeEnd, nI d, f_letCount, f_height, f_heldNames, f_usedCount, f_marks, f_marking, f_waitCount, f_top, f_frame, f_at, f_openCount, f_stepCount, f_resultSort, f_resultNumber, f_levelNow, a_kindOf, a_partX, a_partY, a_partZ, a_weightOf, a_needOf, a_names, a_known, a_knownNumber, a_functionOf, a_op, a_operand, a_workNode, a_workPhase, a_workLast, a_workPatch, a_letPlace, a_isUsed, a_functionAt, a_heldCount, a_cells, a_waiting, a_globals, a_stack, a_openFrame, a_openAt) (nI d) (nI 0) := by
  refine cs_plain hd hn he hkn hk (by unfold cp_pl; decide) ?_
  unfold wpX_compilePlain
  refine cs_hx0 (br_t rfl (br_t rfl (cs_hx0 (br_t rfl (And.intro (vp_in_nI he (by omega)) ?_)))))
  rw [nI_clamp (by omega), hy]
  exact cp_push (nI_1 d) hd1 hy60 (Or.inl rfl) (And.intro rfl hq)
theorem cs_pg1 {l : Bool} (hd : d < 34) (hn : a_workNode d = nI e) (he : e < 60) (hkn : a_known e = 0) (hk : a_kindOf e = 18) (hl : a_workLast d = (if l = true then 1 else 0)) (hp1 : p < 1560) (hq : post 1 (f_expressionCount, f_functionCount, nI (p + 1), f_depth, f_letCount, f_height, f_heldNames, f_usedCount, f_marks, f_marking, f_waitCount, f_top, f_frame, f_at, f_openCount, f_stepCount, f_resultSort, f_resultNumber, f_levelNow, a_kindOf, a_partX, a_partY, a_partZ, a_weightOf, a_needOf, a_names, a_known, a_knownNumber, a_functionOf, upd a_op p (cp_in 18 l), upd a_operand p (cp_io 18 (a_partX e)), a_workNode, a_workPhase, a_workLast, a_workPatch, a_letPlace, a_isUsed, a_functionAt, a_heldCount, a_cells, a_waiting, a_globals, a_stack, a_openFrame, a_openAt)) : wpX_compileStep post (f_expressionCount, f_functionCount, nI p, f_depth, f_letCount, f_height, f_heldNames, f_usedCount, f_marks, f_marking, f_waitCount, f_top, f_frame, f_at, f_openCount, f_stepCount, f_resultSort, f_resultNumber, f_levelNow, a_kindOf, a_partX, a_partY, a_partZ, a_weightOf, a_needOf, a_names, a_known, a_knownNumber, a_functionOf, a_op, a_operand, a_workNode, a_workPhase, a_workLast, a_workPatch, a_letPlace, a_isUsed, a_functionAt, a_heldCount, a_cells, a_waiting, a_globals, a_stack, a_openFrame, a_openAt) (nI d) (nI 1) := by
  refine cs_plain hd hn he hkn hk (by unfold cp_pl; decide) ?_
  unfold wpX_compilePlain
  exact cs_hx0 (br_t rfl (br_f (by decide) (br_t rfl (br_t rfl (cs_86 hd he rfl hl hp1 (br_t rfl (And.intro rfl hq)))))))
end
end
section
/-! compiling a node, by its parts -/
section
variable {f_expressionCount f_functionCount f_codeEnd f_depth f_letCount f_height f_heldNames f_usedCount f_marking f_waitCount f_top f_frame f_at f_openCount f_stepCount f_resultSort f_resultNumber f_levelNow : Int32} {f_marks : Int64} {a_kindOf a_partX a_partY a_partZ a_weightOf a_needOf a_names a_known a_knownNumber a_functionOf a_op a_operand a_workNode a_workPhase a_workLast a_workPatch a_letPlace a_isUsed a_functionAt a_heldCount a_waiting a_openFrame a_openAt : Nat → Int32} {a_cells a_globals a_stack : Nat → Int64}
variable {post : Int32 → SX → Prop} {d e x ph : Nat}
theorem cs_var (hd : d < 34) (hn : a_workNode d = nI e) (he : e < 60) (hkn : a_known e = 0) (hk : a_kindOf e = 1) (hx : a_partX e = nI x) (hq : wpX_compileVariable (fun u => post 1 u) (f_expressionCount, f_functionCount, f_codeEnd, f_depth, f_letCount, f_height, f_heldNames, f_usedCount, f_marks, f_marking, f_waitCount, f_top, f_frame, f_at, f_openCount, f_stepCount, f_resultSort, f_resultNumber, f_levelNow, a_kindOf, a_partX, a_partY, a_partZ, a_weightOf, a_needOf, a_names, a_known, a_knownNumber, a_functionOf, a_op, a_operand, a_workNode, a_workPhase, a_workLast, a_workPatch, a_letPlace, a_isUsed, a_functionAt, a_heldCount, a_cells, a_waiting, a_globals, a_stack, a_openFrame, a_openAt) (nI x)) : wpX_compileStep post (f_expressionCount, f_functionCount, f_codeEnd, f_depth, f_letCount, f_height, f_heldNames, f_usedCount, f_marks, f_marking, f_waitCount, f_top, f_frame, f_at, f_openCount, f_stepCount, f_resultSort, f_resultNumber, f_levelNow, a_kindOf, a_partX, a_partY, a_partZ, a_weightOf, a_needOf, a_names, a_known, a_knownNumber, a_functionOf, a_op, a_operand, a_workNode, a_workPhase, a_workLast, a_workPatch, a_letPlace, a_isUsed, a_functionAt, a_heldCount, a_cells, a_waiting, a_globals, a_stack, a_openFrame, a_openAt) (nI d) (nI ph) :=
  And.intro (vp_in_nI hd (by omega)) (nm_r ((congrArg a_workNode (nI_clamp (n := d) (by omega))).trans hn) (And.intro (vp_in_nI he (by omega)) (nm_r ((congrArg a_kindOf (nI_clamp (n := e) (by omega))).trans hk) (And.intro (vp_in_nI he (by omega)) (br_t ((congrArg a_known (nI_clamp (n := e) (by omega))).trans hkn) (br_t rfl (And.intro (vp_in_nI he (by omega)) (by
    rw [nI_clamp (by omega), hx]
    exact hq))) )))))
theorem cs_fun (hd : d < 34) (hn : a_workNode d = nI e) (he : e < 60) (hkn : a_known e = 0) (hk : a_kindOf e = 15) (hq : wpX_compileMaking (fun u => post 1 u) (f_expressionCount, f_functionCount, f_codeEnd, f_depth, f_letCount, f_height, f_heldNames, f_usedCount, f_marks, f_marking, f_waitCount, f_top, f_frame, f_at, f_openCount, f_stepCount, f_resultSort, f_resultNumber, f_levelNow, a_kindOf, a_partX, a_partY, a_partZ, a_weightOf, a_needOf, a_names, a_known, a_knownNumber, a_functionOf, a_op, a_operand, a_workNode, a_workPhase, a_workLast, a_workPatch, a_letPlace, a_isUsed, a_functionAt, a_heldCount, a_cells, a_waiting, a_globals, a_stack, a_openFrame, a_openAt) (nI e)) : wpX_compileStep post (f_expressionCount, f_functionCount, f_codeEnd, f_depth, f_letCount, f_height, f_heldNames, f_usedCount, f_marks, f_marking, f_waitCount, f_top, f_frame, f_at, f_openCount, f_stepCount, f_resultSort, f_resultNumber, f_levelNow, a_kindOf, a_partX, a_partY, a_partZ, a_weightOf, a_needOf, a_names, a_known, a_knownNumber, a_functionOf, a_op, a_operand, a_workNode, a_workPhase, a_workLast, a_workPatch, a_letPlace, a_isUsed, a_functionAt, a_heldCount, a_cells, a_waiting, a_globals, a_stack, a_openFrame, a_openAt) (nI d) (nI ph) :=
  And.intro (vp_in_nI hd (by omega)) (nm_r ((congrArg a_workNode (nI_clamp (n := d) (by omega))).trans hn) (And.intro (vp_in_nI he (by omega)) (nm_r ((congrArg a_kindOf (nI_clamp (n := e) (by omega))).trans hk) (And.intro (vp_in_nI he (by omega)) (br_t ((congrArg a_known (nI_clamp (n := e) (by omega))).trans hkn) (br_f (by decide) (br_f (by decide) (br_f (by decide) (br_t rfl hq)))) )))))
end
theorem cp_goE : ∀ {f_expressionCount f_functionCount f_codeEnd f_letCount f_height f_heldNames f_usedCount f_marking f_waitCount f_top f_frame f_at f_openCount f_stepCount f_resultSort f_resultNumber f_levelNow : Int32} {f_marks : Int64} {a_kindOf a_partX a_partY a_partZ a_weightOf a_needOf a_names a_known a_knownNumber a_functionOf a_op a_operand a_workNode a_workPhase a_workLast a_workPatch a_letPlace a_isUsed a_functionAt a_heldCount a_waiting a_openFrame a_openAt : Nat → Int32} {a_cells a_globals a_stack : Nat → Int64} {post : SX → Prop} {d ph : Nat} {U : SX} (_ : d < 34) (_ : a_workPhase d = nI ph) (_ : ph < 100) (_ : ∀ post' : Int32 → SX → Prop, post' 0 U → wpX_compileStep post' (f_expressionCount, f_functionCount, f_codeEnd, nI d, f_letCount, f_height, f_heldNames, f_usedCount, f_marks, f_marking, f_waitCount, f_top, f_frame, f_at, f_openCount, f_stepCount, f_resultSort, f_resultNumber, f_levelNow, a_kindOf, a_partX, a_partY, a_partZ, a_weightOf, a_needOf, a_names, a_known, a_knownNumber, a_functionOf, a_op, a_operand, a_workNode, upd a_workPhase d (nI (ph + 1)), a_workLast, a_workPatch, a_letPlace, a_isUsed, a_functionAt, a_heldCount, a_cells, a_waiting, a_globals, a_stack, a_openFrame, a_openAt) (nI d) (nI ph)) (_ : ∃ N, cp_W post N U), ∃ N, cp_W post N (f_expressionCount, f_functionCount, f_codeEnd, nI d, f_letCount, f_height, f_heldNames, f_usedCount, f_marks, f_marking, f_waitCount, f_top, f_frame, f_at, f_openCount, f_stepCount, f_resultSort, f_resultNumber, f_levelNow, a_kindOf, a_partX, a_partY, a_partZ, a_weightOf, a_needOf, a_names, a_known, a_knownNumber, a_functionOf, a_op, a_operand, a_workNode, a_workPhase, a_workLast, a_workPatch, a_letPlace, a_isUsed, a_functionAt, a_heldCount, a_cells, a_waiting, a_globals, a_stack, a_openFrame, a_openAt) := by
  intros
  rename_i a b c s h
  obtain ⟨N, h⟩ := h
  exact ⟨N + 1, cp_go a b c s h⟩
theorem cp_doneE : ∀ {f_expressionCount f_functionCount f_codeEnd f_letCount f_height f_heldNames f_usedCount f_marking f_waitCount f_top f_frame f_at f_openCount f_stepCount f_resultSort f_resultNumber f_levelNow : Int32} {f_marks : Int64} {a_kindOf a_partX a_partY a_partZ a_weightOf a_needOf a_names a_known a_knownNumber a_functionOf a_op a_operand a_workNode a_workPhase a_workLast a_workPatch a_letPlace a_isUsed a_functionAt a_heldCount a_waiting a_openFrame a_openAt : Nat → Int32} {a_cells a_globals a_stack : Nat → Int64} {post : SX → Prop} {d ph : Nat} {U : SX} (_ : d < 34) (_ : a_workPhase d = nI ph) (_ : ph < 100) (_ : ∀ post' : Int32 → SX → Prop, post' 1 U → wpX_compileStep post' (f_expressionCount, f_functionCount, f_codeEnd, nI d, f_letCount, f_height, f_heldNames, f_usedCount, f_marks, f_marking, f_waitCount, f_top, f_frame, f_at, f_openCount, f_stepCount, f_resultSort, f_resultNumber, f_levelNow, a_kindOf, a_partX, a_partY, a_partZ, a_weightOf, a_needOf, a_names, a_known, a_knownNumber, a_functionOf, a_op, a_operand, a_workNode, upd a_workPhase d (nI (ph + 1)), a_workLast, a_workPatch, a_letPlace, a_isUsed, a_functionAt, a_heldCount, a_cells, a_waiting, a_globals, a_stack, a_openFrame, a_openAt) (nI d) (nI ph)) (_ : ∃ N, cp_W post N (cp_dn U (nI d - 1))), ∃ N, cp_W post N (f_expressionCount, f_functionCount, f_codeEnd, nI d, f_letCount, f_height, f_heldNames, f_usedCount, f_marks, f_marking, f_waitCount, f_top, f_frame, f_at, f_openCount, f_stepCount, f_resultSort, f_resultNumber, f_levelNow, a_kindOf, a_partX, a_partY, a_partZ, a_weightOf, a_needOf, a_names, a_known, a_knownNumber, a_functionOf, a_op, a_operand, a_workNode, a_workPhase, a_workLast, a_workPatch, a_letPlace, a_isUsed, a_functionAt, a_heldCount, a_cells, a_waiting, a_globals, a_stack, a_openFrame, a_openAt) := by
  intros
  rename_i a b c s h
  obtain ⟨N, h⟩ := h
  exact ⟨N + 1, cp_done a b c s h⟩
def cp_Nd (K X Y Z W M PY PZ KN KV FO : Nat → Int32) (hm : Option Nat) (hN : Int32) (e : Nat) : Prop :=
  ∀ (l : Bool) (L : List Nat) (h p d : Nat) (op od wN wP wL wPt lP : Nat → Int32),
    (∀ i, (tb_c M e).testBit i = true → cp_sc hm L i) → cp_lp lP L → d + tb_c W e ≤ 33 → L.length + tb_c W e ≤ 31 → h + tb_c W e ≤ 100 → p + 4 * tb_c W e ≤ 1560 → wN d = nI e → wP d = nI 0 → wL d = (if l = true then 1 else 0) →
    ∃ (q : Nat) (op' od' wN' wP' wL' wPt' lP' : Nat → Int32), q + 1 ≤ p + 4 * tb_c W e ∧ (∀ D, e < D → cp_C K X Y Z M KN KV FO hm op' od' D e l L h p q) ∧ (∀ j, (j < p ∨ q ≤ j) → op' j = op j ∧ od' j = od j) ∧ (∀ j, j < d → wN' j = wN j ∧ wP' j = wP j ∧ wL' j = wL j ∧ wPt' j = wPt j) ∧ (∀ j, j < L.length → lP' j = lP j) ∧
      ∀ {f_expressionCount f_functionCount f_usedCount f_marking f_waitCount f_top f_frame f_at f_openCount f_stepCount f_resultSort f_resultNumber f_levelNow : Int32} {f_marks : Int64} {a_weightOf a_needOf a_isUsed a_functionAt a_heldCount a_waiting a_openFrame a_openAt : Nat → Int32} {a_cells a_globals a_stack : Nat → Int64} (post : SX → Prop), (∃ N, cp_W post N (f_expressionCount, f_functionCount, nI q, nI d - 1, nI L.length, nI (h + 1), hN, f_usedCount, f_marks, f_marking, f_waitCount, f_top, f_frame, f_at, f_openCount, f_stepCount, f_resultSort, f_resultNumber, f_levelNow, K, X, PY, PZ, a_weightOf, a_needOf, M, KN, KV, FO, op', od', wN', wP', wL', wPt', lP', a_isUsed, a_functionAt, a_heldCount, a_cells, a_waiting, a_globals, a_stack, a_openFrame, a_openAt)) →
        ∃ N, cp_W post N (f_expressionCount, f_functionCount, nI p, nI d, nI L.length, nI h, hN, f_usedCount, f_marks, f_marking, f_waitCount, f_top, f_frame, f_at, f_openCount, f_stepCount, f_resultSort, f_resultNumber, f_levelNow, K, X, PY, PZ, a_weightOf, a_needOf, M, KN, KV, FO, op, od, wN, wP, wL, wPt, lP, a_isUsed, a_functionAt, a_heldCount, a_cells, a_waiting, a_globals, a_stack, a_openFrame, a_openAt)
section
variable {K X Y Z W M PY PZ KN KV FO : Nat → Int32} {hm : Option Nat} {hN : Int32} {e : Nat}
theorem cp_l01 (l : Bool) : (if l = true then (1 : Int32) else 0) = 0 ∨ (if l = true then (1 : Int32) else 0) = 1 := by
  cases l
  · exact Or.inl rfl
  · exact Or.inr rfl
theorem cp_nd_kn (he : e < 60) (hkn : KN e = 1) (hw : 1 ≤ tb_c W e) : cp_Nd K X Y Z W M PY PZ KN KV FO hm hN e := by
  intro l L h p d op od wN wP wL wPt lP hsc hlp b1 b2 b3 b4 hwn hwp hwl
  refine ⟨p + 1, upd op p 0, upd od p (KV e), wN, upd wP d (nI 1), wL, wPt, lP, by omega, fun D hD => ?_, fun j hj => ⟨pk_un (by omega), pk_un (by omega)⟩, fun j hj => ⟨rfl, pk_un (by omega), rfl, rfl⟩, fun j hj => rfl, fun post hW => cp_doneE (by omega) hwp (by omega) (fun post' hq => cs_known (by omega) hwn he hkn (by omega) hq) hW⟩
  cases D with
  | zero => omega
  | succ D => exact Or.inl ⟨hkn, pk_us, pk_us, rfl⟩
theorem cp_nd_leaf (he : e < 60) (hkn : KN e = 0) (hk : K e = 2 ∨ K e = 17) (hw : 1 ≤ tb_c W e) : cp_Nd K X Y Z W M PY PZ KN KV FO hm hN e := by
  intro l L h p d op od wN wP wL wPt lP hsc hlp b1 b2 b3 b4 hwn hwp hwl
  refine ⟨p + 1, upd op p (K e), upd od p (X e), wN, upd wP d (nI 1), wL, wPt, lP, by omega, fun D hD => ?_, fun j hj => ⟨pk_un (by omega), pk_un (by omega)⟩, fun j hj => ⟨rfl, pk_un (by omega), rfl, rfl⟩, fun j hj => rfl, fun post hW => cp_doneE (by omega) hwp (by omega) (fun post' hq => cs_leaf (by omega) hwn he hkn rfl hk (by omega) hq) hW⟩
  cases D with
  | zero => omega
  | succ D =>
    rcases hk with hk | hk
    · exact Or.inr ⟨hkn, Or.inr (Or.inl ⟨hk, by rw [pk_us]; exact hk, rfl⟩)⟩
    · exact Or.inr ⟨hkn, Or.inr (Or.inr (Or.inl ⟨hk, by rw [pk_us]; exact hk, pk_us, rfl⟩))⟩
theorem cp_nd_var (hh : ∀ mk, hm = some mk → hN = nI mk ∧ mk < 256) (he : e < 60) (hkn : KN e = 0) (hk : K e = 1) (hw : 1 ≤ tb_c W e) (hx : X e = nI (tb_c X e)) (hx7 : tb_c X e ≤ 7) (hm1 : (tb_c M e).testBit (tb_c X e) = true) : cp_Nd K X Y Z W M PY PZ KN KV FO hm hN e := by
  intro l L h p d op od wN wP wL wPt lP hsc hlp b1 b2 b3 b4 hwn hwp hwl
  obtain ⟨wh, n, hv, hpv⟩ := cp_var (h := h) (op := op) (od := od) (hsc _ hm1) hh hx7 (by omega) hlp (show p < 1560 by omega)
  refine ⟨p + 1, upd op p wh, upd od p n, wN, upd wP d (nI 1), wL, wPt, lP, by omega, fun D hD => ?_, fun j hj => ⟨pk_un (by omega), pk_un (by omega)⟩, fun j hj => ⟨rfl, pk_un (by omega), rfl, rfl⟩, fun j hj => rfl, fun post hW => cp_doneE (by omega) hwp (by omega) (fun post' hq => cs_var (by omega) hwn he hkn hk hx (hpv _ hq)) hW⟩
  cases D with
  | zero => omega
  | succ D => exact Or.inr ⟨hkn, Or.inl ⟨hk, hv _ _ pk_us pk_us, rfl⟩⟩
theorem cp_nd_fun {f : Nat} (hh : ∀ mk, hm = some mk → hN = nI mk ∧ mk < 256) (he : e < 60) (hkn : KN e = 0) (hk : K e = 15) (hw : 2 ≤ tb_c W e) (hM : M e = nI (tb_c M e)) (hM64 : tb_c M e < 64) (hf : FO e = nI f) (hf12 : f ≤ 12) : cp_Nd K X Y Z W M PY PZ KN KV FO hm hN e := by
  intro l L h p d op od wN wP wL wPt lP hsc hlp b1 b2 b3 b4 hwn hwp hwl
  have h6 := hp_rk_le (tb_c M e) 6
  obtain ⟨op', od', g1, g2, g3, g4, hpv⟩ := cp_making (h := h) (p := p) hsc hh (by omega) hlp (by omega) he hM hM64 hf hf12 8 0 op od (by omega)
  refine ⟨p + hp_rk (tb_c M e) 6 + 1, op', od', wN, upd wP d (nI 1), wL, wPt, lP, by omega, fun D hD => ?_, fun j hj => g1 j ?_, fun j hj => ⟨rfl, pk_un (by omega), rfl, rfl⟩, fun j hj => rfl, fun post hW => cp_doneE (by omega) hwp (by omega) (fun post' hq => cs_fun (by omega) hwn he hkn hk ⟨9, hpv _ hq⟩) hW⟩
  · cases D with
    | zero => omega
    | succ D => exact Or.inr ⟨hkn, Or.inr (Or.inr (Or.inr (Or.inl ⟨hk, fun i hi hb => g2 i (by omega) hi hb, g3, g4, rfl⟩)))⟩
  · have : hp_rk (tb_c M e) 0 = 0 := rfl
    omega
theorem cp_nd_if (he : e < 60) (hkn : KN e = 0) (hk : K e = 8) (hx : X e = nI (tb_c X e)) (hxe : tb_c X e < e) (hy : PY e = nI (tb_c Y e)) (hye : tb_c Y e < e) (hz : PZ e = nI (tb_c Z e)) (hze : tb_c Z e < e)
    (hw : tb_c W e = 1 + tb_c W (tb_c X e) + tb_c W (tb_c Y e) + tb_c W (tb_c Z e)) (hwx : 1 ≤ tb_c W (tb_c X e)) (hwy : 1 ≤ tb_c W (tb_c Y e)) (hwz : 1 ≤ tb_c W (tb_c Z e))
    (hmx : ∀ i, (tb_c M (tb_c X e)).testBit i = true → (tb_c M e).testBit i = true) (hmy : ∀ i, (tb_c M (tb_c Y e)).testBit i = true → (tb_c M e).testBit i = true) (hmz : ∀ i, (tb_c M (tb_c Z e)).testBit i = true → (tb_c M e).testBit i = true)
    (IHx : cp_Nd K X Y Z W M PY PZ KN KV FO hm hN (tb_c X e)) (IHy : cp_Nd K X Y Z W M PY PZ KN KV FO hm hN (tb_c Y e)) (IHz : cp_Nd K X Y Z W M PY PZ KN KV FO hm hN (tb_c Z e)) : cp_Nd K X Y Z W M PY PZ KN KV FO hm hN e := by
  intro l L h p d op od wN wP wL wPt lP hsc hlp b1 b2 b3 b4 hwn hwp hwl
  obtain ⟨p1, op1, od1, wN1, wP1, wL1, wPt1, lP1, q1, C1, f1, g1, k1, r1⟩ := IHx false L h p (d + 1) op od (upd wN (d + 1) (nI (tb_c X e))) (upd (upd wP d (nI 1)) (d + 1) 0) (upd wL (d + 1) 0) wPt lP
    (fun i hi => hsc i (hmx i hi)) hlp (by omega) (by omega) (by omega) (by omega) pk_us pk_us pk_us
  obtain ⟨e1a, e1b, e1c, e1d⟩ := g1 d (by omega)
  rw [pk_un (by omega)] at e1a e1c
  rw [pk_un (by omega), pk_us] at e1b
  have hlp1 : cp_lp lP1 L := fun i hi => by rw [k1 _ (by omega)]; exact hlp i hi
  have c1 := cp_lt _ _ _ _ _ _ _ (C1 _ (Nat.lt_succ_self _))
  obtain ⟨p2, op2, od2, wN2, wP2, wL2, wPt2, lP2, q2, C2, f2, g2, k2, r2⟩ := IHy l L h (p1 + 1) (d + 1) (upd op1 p1 19) (upd od1 p1 0) (upd wN1 (d + 1) (nI (tb_c Y e))) (upd (upd wP1 d (nI 2)) (d + 1) 0) (upd wL1 (d + 1) (wL1 d)) (upd wPt1 d (nI p1)) lP1
    (fun i hi => hsc i (hmy i hi)) hlp1 (by omega) (by omega) (by omega) (by omega) pk_us pk_us (by rw [pk_us, e1c, hwl])
  obtain ⟨e2a, e2b, e2c, e2d⟩ := g2 d (by omega)
  rw [pk_un (by omega)] at e2a e2c
  rw [pk_un (by omega), pk_us] at e2b
  rw [pk_us] at e2d
  have hlp2 : cp_lp lP2 L := fun i hi => by rw [k2 _ (by omega)]; exact hlp1 i hi
  have c2 := cp_lt _ _ _ _ _ _ _ (C2 _ (Nat.lt_succ_self _))
  obtain ⟨q, op3, od3, wN3, wP3, wL3, wPt3, lP3, q3, C3, f3, g3, k3, r3⟩ := IHz l L h (p2 + 1) (d + 1) (upd op2 p2 14) (upd (upd od2 p1 (nI (p2 + 1))) p2 0) (upd wN2 (d + 1) (nI (tb_c Z e))) (upd (upd wP2 d (nI 3)) (d + 1) 0) (upd wL2 (d + 1) (wL2 d)) (upd wPt2 d (nI p2)) lP2
    (fun i hi => hsc i (hmz i hi)) hlp2 (by omega) (by omega) (by omega) (by omega) pk_us pk_us (by rw [pk_us, e2c, e1c, hwl])
  obtain ⟨e3a, e3b, e3c, e3d⟩ := g3 d (by omega)
  rw [pk_un (by omega)] at e3a e3c
  rw [pk_un (by omega), pk_us] at e3b
  rw [pk_us] at e3d
  have c3 := cp_lt _ _ _ _ _ _ _ (C3 _ (Nat.lt_succ_self _))
  have hl01 : wL1 d = 0 ∨ wL1 d = 1 := by rw [e1c, hwl]; exact cp_l01 l
  have hl02 : wL2 d = 0 ∨ wL2 d = 1 := by rw [e2c]; exact hl01
  have F3 : ∀ j, (j < p2 + 1 ∨ q ≤ j) → op3 j = upd op2 p2 14 j ∧ od3 j = upd (upd od2 p1 (nI (p2 + 1))) p2 0 j := f3
  refine ⟨q, op3, upd od3 p2 (nI q), wN3, upd wP3 d (nI 4), wL3, wPt3, lP3, by omega, fun D hD => ?_, fun j hj => ?_, fun j hj => ?_, fun j hj => ?_, fun post hW => ?_⟩
  · cases D with
    | zero => omega
    | succ D =>
      refine Or.inr ⟨hkn, Or.inr (Or.inr (Or.inr (Or.inr (Or.inl ⟨hk, p1, p2, ?_, ?_, ?_, ?_, ?_, pk_us, ?_⟩))))⟩
      · refine cp_loc D _ _ _ _ _ _ (fun j a b => ?_) (C1 D (by omega))
        have x3 := f3 j (by omega)
        have x2 := f2 j (by omega)
        rw [pk_un (by omega), x3.1, x3.2, pk_un (by omega), pk_un (by omega), pk_un (by omega), x2.1, x2.2, pk_un (by omega), pk_un (by omega)]
        exact ⟨rfl, rfl⟩
      · have x3 := f3 p1 (by omega)
        have x2 := f2 p1 (by omega)
        rw [x3.1, pk_un (by omega), x2.1, pk_us]
      · have x3 := f3 p1 (by omega)
        rw [pk_un (by omega), x3.2, pk_un (by omega), pk_us]
      · refine cp_loc D _ _ _ _ _ _ (fun j a b => ?_) (C2 D (by omega))
        have x3 := f3 j (by omega)
        rw [pk_un (by omega), x3.1, x3.2, pk_un (by omega), pk_un (by omega), pk_un (by omega)]
        exact ⟨rfl, rfl⟩
      · have x3 := f3 p2 (by omega)
        rw [x3.1, pk_us]
      · refine cp_loc D _ _ _ _ _ _ (fun j a b => ?_) (C3 D (by omega))
        rw [pk_un (by omega)]
        exact ⟨rfl, rfl⟩
  · have x3 := f3 j (by omega)
    have x2 := f2 j (by omega)
    have x1 := f1 j (by omega)
    rw [pk_un (by omega), x3.1, x3.2, pk_un (by omega), pk_un (by omega), pk_un (by omega), x2.1, x2.2, pk_un (by omega), pk_un (by omega)]
    exact x1
  · have x3 := g3 j (by omega)
    have x2 := g2 j (by omega)
    have x1 := g1 j (by omega)
    rw [pk_un (by omega), pk_un (by omega), pk_un (by omega), pk_un (by omega), pk_un (by omega)] at x3 x2
    rw [pk_un (by omega), pk_un (by omega), pk_un (by omega), pk_un (by omega)] at x1
    rw [pk_un (by omega), x3.1, x3.2.1, x3.2.2.1, x3.2.2.2, x2.1, x2.2.1, x2.2.2.1, x2.2.2.2]
    exact x1
  · rw [k3 j hj, k2 j hj, k1 j hj]
  · refine cp_goE (by omega) hwp (by omega) (fun post' hq => cs_if0 (by omega) hwn he hkn hk hx (by omega) (by omega) hq) (r1 post ?_)
    rw [nI_pred]
    refine cp_goE (by omega) e1b (by omega) (fun post' hq => cs_if1 (by omega) (e1a.trans hwn) he hkn hk hy (by omega) (by omega) hl01 (by omega) hq) (r2 post ?_)
    rw [nI_pred]
    refine cp_goE (by omega) e2b (by omega) (fun post' hq => cs_if2 (p1 := p1) (by omega) (e2a.trans (e1a.trans hwn)) he hkn hk hz (by omega) (by omega) hl02 (by omega) e2d (by omega) hq) (r3 post ?_)
    rw [nI_pred]
    exact cp_doneE (by omega) e3b (by omega) (fun post' hq => cs_if3 (p1 := p2) (by omega) (e3a.trans (e2a.trans (e1a.trans hwn))) he hkn hk e3d (by omega) hq) hW
theorem cp_nd_let (he : e < 60) (hkn : KN e = 0) (hk : K e = 14) (hx : X e = nI (tb_c X e)) (hxe : tb_c X e < e) (hy : PY e = nI (tb_c Y e)) (hye : tb_c Y e < e)
    (hw : tb_c W e = 1 + tb_c W (tb_c X e) + tb_c W (tb_c Y e)) (hwx : 1 ≤ tb_c W (tb_c X e)) (hwy : 1 ≤ tb_c W (tb_c Y e))
    (hmx : ∀ i, (tb_c M (tb_c X e)).testBit i = true → (tb_c M e).testBit i = true) (hmy : ∀ i, (tb_c M (tb_c Y e)).testBit (i + 1) = true → (tb_c M e).testBit i = true)
    (IHx : cp_Nd K X Y Z W M PY PZ KN KV FO hm hN (tb_c X e)) (IHy : cp_Nd K X Y Z W M PY PZ KN KV FO hm hN (tb_c Y e)) : cp_Nd K X Y Z W M PY PZ KN KV FO hm hN e := by
  intro l L h p d op od wN wP wL wPt lP hsc hlp b1 b2 b3 b4 hwn hwp hwl
  obtain ⟨p1, op1, od1, wN1, wP1, wL1, wPt1, lP1, q1, C1, f1, g1, k1, r1⟩ := IHx false L h p (d + 1) op od (upd wN (d + 1) (nI (tb_c X e))) (upd (upd wP d (nI 1)) (d + 1) 0) (upd wL (d + 1) 0) wPt lP
    (fun i hi => hsc i (hmx i hi)) hlp (by omega) (by omega) (by omega) (by omega) pk_us pk_us pk_us
  obtain ⟨e1a, e1b, e1c, e1d⟩ := g1 d (by omega)
  rw [pk_un (by omega)] at e1a e1c
  rw [pk_un (by omega), pk_us] at e1b
  have hlp1 : cp_lp (upd lP1 L.length (nI h)) (h :: L) := fun i hi => by
    cases i with
    | zero => exact pk_us
    | succ i =>
      have hi' : i < L.length := by simpa using hi
      rw [List.length_cons, show L.length + 1 - 1 - (i + 1) = L.length - 1 - i by omega, pk_un (by omega), k1 _ (by omega), hlp i hi']
      rfl
  have c1 := cp_lt _ _ _ _ _ _ _ (C1 _ (Nat.lt_succ_self _))
  obtain ⟨p2, op2, od2, wN2, wP2, wL2, wPt2, lP2, q2, C2, f2, g2, k2, r2⟩ := IHy l (h :: L) (h + 1) p1 (d + 1) op1 od1 (upd wN1 (d + 1) (nI (tb_c Y e))) (upd (upd wP1 d (nI 2)) (d + 1) 0) (upd wL1 (d + 1) (wL1 d)) wPt1 (upd lP1 L.length (nI h))
    (fun i hi => by
      cases i with
      | zero => exact Or.inl (by simp)
      | succ i =>
        rcases hsc i (hmy i hi) with z | ⟨mk, a, b⟩
        · exact Or.inl (by simpa using z)
        · refine Or.inr ⟨mk, a, ?_⟩
          rw [List.length_cons]
          rcases b with b | b
          · exact Or.inl (by omega)
          · refine Or.inr ?_
            rw [show i + 1 - (L.length + 1) - 2 = i - L.length - 2 by omega]
            exact b) hlp1 (by omega) (by rw [List.length_cons]; omega) (by omega) (by omega) pk_us pk_us (by rw [pk_us, e1c, hwl])
  obtain ⟨e2a, e2b, e2c, e2d⟩ := g2 d (by omega)
  rw [pk_un (by omega)] at e2a e2c
  rw [pk_un (by omega), pk_us] at e2b
  have c2 := cp_lt _ _ _ _ _ _ _ (C2 _ (Nat.lt_succ_self _))
  have hl01 : wL1 d = 0 ∨ wL1 d = 1 := by rw [e1c, hwl]; exact cp_l01 l
  refine ⟨p2 + 1, upd op2 p2 21, upd od2 p2 0, wN2, upd wP2 d (nI 3), wL2, wPt2, lP2, by omega, fun D hD => ?_, fun j hj => ?_, fun j hj => ?_, fun j hj => ?_, fun post hW => ?_⟩
  · cases D with
    | zero => omega
    | succ D =>
      refine Or.inr ⟨hkn, Or.inr (Or.inr (Or.inr (Or.inr (Or.inr (Or.inl ⟨hk, p1, p2, ?_, ?_, pk_us, rfl⟩)))))⟩
      · refine cp_loc D _ _ _ _ _ _ (fun j a b => ?_) (C1 D (by omega))
        rw [pk_un (by omega), pk_un (by omega)]
        exact f2 j (by omega)
      · refine cp_loc D _ _ _ _ _ _ (fun j a b => ?_) (C2 D (by omega))
        rw [pk_un (by omega), pk_un (by omega)]
        exact ⟨rfl, rfl⟩
  · have x2 := f2 j (by omega)
    have x1 := f1 j (by omega)
    rw [pk_un (by omega), pk_un (by omega), x2.1, x2.2]
    exact x1
  · have x2 := g2 j (by omega)
    have x1 := g1 j (by omega)
    rw [pk_un (by omega), pk_un (by omega), pk_un (by omega), pk_un (by omega)] at x2 x1
    rw [pk_un (by omega), x2.1, x2.2.1, x2.2.2.1, x2.2.2.2]
    exact x1
  · rw [k2 j (by rw [List.length_cons]; omega), pk_un (by omega), k1 j hj]
  · refine cp_goE (by omega) hwp (by omega) (fun post' hq => cs_let0 (by omega) hwn he hkn hk hx (by omega) (by omega) hq) (r1 post ?_)
    rw [nI_pred]
    refine cp_goE (by omega) e1b (by omega) (fun post' hq => cs_let1 (by omega) (e1a.trans hwn) he hkn hk hy (by omega) (by omega) hl01 (by omega) (by omega) hq) (r2 post ?_)
    rw [nI_pred]
    exact cp_doneE (by omega) e2b (by omega) (fun post' hq => cs_let2 (by omega) (e2a.trans (e1a.trans hwn)) he hkn hk (by omega) hq) hW
theorem cp_nd_then (he : e < 60) (hkn : KN e = 0) (hk : K e = 19) (hx : X e = nI (tb_c X e)) (hxe : tb_c X e < e) (hy : PY e = nI (tb_c Y e)) (hye : tb_c Y e < e)
    (hw : tb_c W e = 1 + tb_c W (tb_c X e) + tb_c W (tb_c Y e)) (hwx : 1 ≤ tb_c W (tb_c X e)) (hwy : 1 ≤ tb_c W (tb_c Y e))
    (hmx : ∀ i, (tb_c M (tb_c X e)).testBit i = true → (tb_c M e).testBit i = true) (hmy : ∀ i, (tb_c M (tb_c Y e)).testBit i = true → (tb_c M e).testBit i = true)
    (IHx : cp_Nd K X Y Z W M PY PZ KN KV FO hm hN (tb_c X e)) (IHy : cp_Nd K X Y Z W M PY PZ KN KV FO hm hN (tb_c Y e)) : cp_Nd K X Y Z W M PY PZ KN KV FO hm hN e := by
  intro l L h p d op od wN wP wL wPt lP hsc hlp b1 b2 b3 b4 hwn hwp hwl
  obtain ⟨p1, op1, od1, wN1, wP1, wL1, wPt1, lP1, q1, C1, f1, g1, k1, r1⟩ := IHx false L h p (d + 1) op od (upd wN (d + 1) (nI (tb_c X e))) (upd (upd wP d (nI 1)) (d + 1) 0) (upd wL (d + 1) 0) wPt lP
    (fun i hi => hsc i (hmx i hi)) hlp (by omega) (by omega) (by omega) (by omega) pk_us pk_us pk_us
  obtain ⟨e1a, e1b, e1c, e1d⟩ := g1 d (by omega)
  rw [pk_un (by omega)] at e1a e1c
  rw [pk_un (by omega), pk_us] at e1b
  have hlp1 : cp_lp lP1 L := fun i hi => by rw [k1 _ (by omega)]; exact hlp i hi
  have c1 := cp_lt _ _ _ _ _ _ _ (C1 _ (Nat.lt_succ_self _))
  obtain ⟨q, op2, od2, wN2, wP2, wL2, wPt2, lP2, q2, C2, f2, g2, k2, r2⟩ := IHy l L h (p1 + 1) (d + 1) (upd op1 p1 20) (upd od1 p1 0) (upd wN1 (d + 1) (nI (tb_c Y e))) (upd (upd wP1 d (nI 2)) (d + 1) 0) (upd wL1 (d + 1) (wL1 d)) wPt1 lP1
    (fun i hi => hsc i (hmy i hi)) hlp1 (by omega) (by omega) (by omega) (by omega) pk_us pk_us (by rw [pk_us, e1c, hwl])
  obtain ⟨e2a, e2b, e2c, e2d⟩ := g2 d (by omega)
  rw [pk_un (by omega)] at e2a e2c
  rw [pk_un (by omega), pk_us] at e2b
  have c2 := cp_lt _ _ _ _ _ _ _ (C2 _ (Nat.lt_succ_self _))
  have hl01 : wL1 d = 0 ∨ wL1 d = 1 := by rw [e1c, hwl]; exact cp_l01 l
  refine ⟨q, op2, od2, wN2, upd wP2 d (nI 3), wL2, wPt2, lP2, by omega, fun D hD => ?_, fun j hj => ?_, fun j hj => ?_, fun j hj => ?_, fun post hW => ?_⟩
  · cases D with
    | zero => omega
    | succ D =>
      refine Or.inr ⟨hkn, Or.inr (Or.inr (Or.inr (Or.inr (Or.inr (Or.inr (Or.inl ⟨hk, p1, ?_, ?_, C2 D (by omega)⟩))))))⟩
      · refine cp_loc D _ _ _ _ _ _ (fun j a b => ?_) (C1 D (by omega))
        have x2 := f2 j (by omega)
        rw [pk_un (by omega), pk_un (by omega)] at x2
        exact x2
      · have x2 := f2 p1 (by omega)
        rw [x2.1, pk_us]
  · have x2 := f2 j (by omega)
    have x1 := f1 j (by omega)
    rw [pk_un (by omega), pk_un (by omega)] at x2
    rw [x2.1, x2.2]
    exact x1
  · have x2 := g2 j (by omega)
    have x1 := g1 j (by omega)
    rw [pk_un (by omega), pk_un (by omega), pk_un (by omega), pk_un (by omega)] at x2 x1
    rw [pk_un (by omega), x2.1, x2.2.1, x2.2.2.1, x2.2.2.2]
    exact x1
  · rw [k2 j hj, k1 j hj]
  · refine cp_goE (by omega) hwp (by omega) (fun post' hq => cs_then0 (by omega) hwn he hkn hk hx (by omega) (by omega) hq) (r1 post ?_)
    rw [nI_pred]
    refine cp_goE (by omega) e1b (by omega) (fun post' hq => cs_then1 (by omega) (e1a.trans hwn) he hkn hk hy (by omega) (by omega) hl01 (by omega) hq) (r2 post ?_)
    rw [nI_pred]
    exact cp_doneE (by omega) e2b (by omega) (fun post' hq => cs_then2 (by omega) (e2a.trans (e1a.trans hwn)) he hkn hk hq) hW
theorem cp_in_I {k : Int32} {op od : Nat → Int32} {l : Bool} {p : Nat} (hk : K e = k) (h1 : op p = cp_in k l) (h2 : od p = cp_io k (X e)) : cp_I K X op od e l p := by
  unfold cp_in at h1
  unfold cp_io at h2
  by_cases z : k = 16
  · rw [if_pos z] at h1
    exact Or.inl ⟨hk.trans z, h1⟩
  · rw [if_neg z] at h1 h2
    exact Or.inr ⟨fun q => z (hk.symm.trans q), h1.trans hk.symm, h2⟩
theorem cp_nd_two (he : e < 60) (hkn : KN e = 0) (hk : cp_two (K e)) (hx : X e = nI (tb_c X e)) (hxe : tb_c X e < e) (hy : PY e = nI (tb_c Y e)) (hye : tb_c Y e < e)
    (hw : tb_c W e = 1 + tb_c W (tb_c X e) + tb_c W (tb_c Y e)) (hwx : 1 ≤ tb_c W (tb_c X e)) (hwy : 1 ≤ tb_c W (tb_c Y e))
    (hmx : ∀ i, (tb_c M (tb_c X e)).testBit i = true → (tb_c M e).testBit i = true) (hmy : ∀ i, (tb_c M (tb_c Y e)).testBit i = true → (tb_c M e).testBit i = true)
    (IHx : cp_Nd K X Y Z W M PY PZ KN KV FO hm hN (tb_c X e)) (IHy : cp_Nd K X Y Z W M PY PZ KN KV FO hm hN (tb_c Y e)) : cp_Nd K X Y Z W M PY PZ KN KV FO hm hN e := by
  intro l L h p d op od wN wP wL wPt lP hsc hlp b1 b2 b3 b4 hwn hwp hwl
  obtain ⟨p1, op1, od1, wN1, wP1, wL1, wPt1, lP1, q1, C1, f1, g1, k1, r1⟩ := IHx false L h p (d + 1) op od (upd wN (d + 1) (nI (tb_c X e))) (upd (upd wP d (nI 1)) (d + 1) 0) (upd wL (d + 1) 0) wPt lP
    (fun i hi => hsc i (hmx i hi)) hlp (by omega) (by omega) (by omega) (by omega) pk_us pk_us pk_us
  obtain ⟨e1a, e1b, e1c, e1d⟩ := g1 d (by omega)
  rw [pk_un (by omega)] at e1a e1c
  rw [pk_un (by omega), pk_us] at e1b
  have hlp1 : cp_lp lP1 L := fun i hi => by rw [k1 _ (by omega)]; exact hlp i hi
  have c1 := cp_lt _ _ _ _ _ _ _ (C1 _ (Nat.lt_succ_self _))
  obtain ⟨p2, op2, od2, wN2, wP2, wL2, wPt2, lP2, q2, C2, f2, g2, k2, r2⟩ := IHy false L (h + 1) p1 (d + 1) op1 od1 (upd wN1 (d + 1) (nI (tb_c Y e))) (upd (upd wP1 d (nI 2)) (d + 1) 0) (upd wL1 (d + 1) 0) wPt1 lP1
    (fun i hi => hsc i (hmy i hi)) hlp1 (by omega) (by omega) (by omega) (by omega) pk_us pk_us pk_us
  obtain ⟨e2a, e2b, e2c, e2d⟩ := g2 d (by omega)
  rw [pk_un (by omega)] at e2a e2c
  rw [pk_un (by omega), pk_us] at e2b
  have c2 := cp_lt _ _ _ _ _ _ _ (C2 _ (Nat.lt_succ_self _))
  refine ⟨p2 + 1, upd op2 p2 (cp_in (K e) l), upd od2 p2 (cp_io (K e) (X e)), wN2, upd wP2 d (nI 3), wL2, wPt2, lP2, by omega, fun D hD => ?_, fun j hj => ?_, fun j hj => ?_, fun j hj => ?_, fun post hW => ?_⟩
  · cases D with
    | zero => omega
    | succ D =>
      refine Or.inr ⟨hkn, Or.inr (Or.inr (Or.inr (Or.inr (Or.inr (Or.inr (Or.inr (Or.inl ⟨hk, p1, p2, ?_, ?_, cp_in_I rfl pk_us pk_us, rfl⟩)))))))⟩
      · refine cp_loc D _ _ _ _ _ _ (fun j a b => ?_) (C1 D (by omega))
        rw [pk_un (by omega), pk_un (by omega)]
        exact f2 j (by omega)
      · refine cp_loc D _ _ _ _ _ _ (fun j a b => ?_) (C2 D (by omega))
        rw [pk_un (by omega), pk_un (by omega)]
        exact ⟨rfl, rfl⟩
  · have x2 := f2 j (by omega)
    have x1 := f1 j (by omega)
    rw [pk_un (by omega), pk_un (by omega), x2.1, x2.2]
    exact x1
  · have x2 := g2 j (by omega)
    have x1 := g1 j (by omega)
    rw [pk_un (by omega), pk_un (by omega), pk_un (by omega), pk_un (by omega)] at x2 x1
    rw [pk_un (by omega), x2.1, x2.2.1, x2.2.2.1, x2.2.2.2]
    exact x1
  · rw [k2 j hj, k1 j hj]
  · refine cp_goE (by omega) hwp (by omega) (fun post' hq => cs_pt0 (by omega) hwn he hkn rfl hk hx (by omega) (by omega) hq) (r1 post ?_)
    rw [nI_pred]
    refine cp_goE (by omega) e1b (by omega) (fun post' hq => cs_pt1 (by omega) (e1a.trans hwn) he hkn rfl hk hy (by omega) (by omega) hq) (r2 post ?_)
    rw [nI_pred]
    exact cp_doneE (by omega) e2b (by omega) (fun post' hq => cs_pt2 (l := l) (by omega) (e2a.trans (e1a.trans hwn)) he hkn rfl hk (e2c.trans (e1c.trans hwl)) (by omega) hq) hW
theorem cp_nd_un (he : e < 60) (hkn : KN e = 0) (hk : K e = 10 ∨ K e = 11) (hx : X e = nI (tb_c X e)) (hxe : tb_c X e < e)
    (hw : tb_c W e = 1 + tb_c W (tb_c X e)) (hwx : 1 ≤ tb_c W (tb_c X e)) (hmx : ∀ i, (tb_c M (tb_c X e)).testBit i = true → (tb_c M e).testBit i = true)
    (IHx : cp_Nd K X Y Z W M PY PZ KN KV FO hm hN (tb_c X e)) : cp_Nd K X Y Z W M PY PZ KN KV FO hm hN e := by
  intro l L h p d op od wN wP wL wPt lP hsc hlp b1 b2 b3 b4 hwn hwp hwl
  obtain ⟨p1, op1, od1, wN1, wP1, wL1, wPt1, lP1, q1, C1, f1, g1, k1, r1⟩ := IHx false L h p (d + 1) op od (upd wN (d + 1) (nI (tb_c X e))) (upd (upd wP d (nI 1)) (d + 1) 0) (upd wL (d + 1) 0) wPt lP
    (fun i hi => hsc i (hmx i hi)) hlp (by omega) (by omega) (by omega) (by omega) pk_us pk_us pk_us
  obtain ⟨e1a, e1b, e1c, e1d⟩ := g1 d (by omega)
  rw [pk_un (by omega)] at e1a e1c
  rw [pk_un (by omega), pk_us] at e1b
  have c1 := cp_lt _ _ _ _ _ _ _ (C1 _ (Nat.lt_succ_self _))
  refine ⟨p1 + 1, upd op1 p1 (cp_in (K e) l), upd od1 p1 (cp_io (K e) (X e)), wN1, upd wP1 d (nI 2), wL1, wPt1, lP1, by omega, fun D hD => ?_, fun j hj => ?_, fun j hj => ?_, fun j hj => k1 j hj, fun post hW => ?_⟩
  · cases D with
    | zero => omega
    | succ D =>
      refine Or.inr ⟨hkn, Or.inr (Or.inr (Or.inr (Or.inr (Or.inr (Or.inr (Or.inr (Or.inr (Or.inl ⟨hk, p1, ?_, cp_in_I rfl pk_us pk_us, rfl⟩))))))))⟩
      refine cp_loc D _ _ _ _ _ _ (fun j a b => ?_) (C1 D (by omega))
      rw [pk_un (by omega), pk_un (by omega)]
      exact ⟨rfl, rfl⟩
  · have x1 := f1 j (by omega)
    rw [pk_un (by omega), pk_un (by omega)]
    exact x1
  · have x1 := g1 j (by omega)
    rw [pk_un (by omega), pk_un (by omega), pk_un (by omega), pk_un (by omega)] at x1
    rw [pk_un (by omega)]
    exact x1
  · refine cp_goE (by omega) hwp (by omega) (fun post' hq => cs_pu0 (by omega) hwn he hkn rfl hk hx (by omega) (by omega) hq) (r1 post ?_)
    rw [nI_pred]
    exact cp_doneE (by omega) e1b (by omega) (fun post' hq => cs_pu1 (l := l) (by omega) (e1a.trans hwn) he hkn rfl hk (e1c.trans hwl) (by omega) hq) hW
theorem cp_nd_sg (he : e < 60) (hkn : KN e = 0) (hk : K e = 18) (hy : PY e = nI (tb_c Y e)) (hye : tb_c Y e < e)
    (hw : tb_c W e = 1 + tb_c W (tb_c Y e)) (hwy : 1 ≤ tb_c W (tb_c Y e)) (hmy : ∀ i, (tb_c M (tb_c Y e)).testBit i = true → (tb_c M e).testBit i = true)
    (IHy : cp_Nd K X Y Z W M PY PZ KN KV FO hm hN (tb_c Y e)) : cp_Nd K X Y Z W M PY PZ KN KV FO hm hN e := by
  intro l L h p d op od wN wP wL wPt lP hsc hlp b1 b2 b3 b4 hwn hwp hwl
  obtain ⟨p1, op1, od1, wN1, wP1, wL1, wPt1, lP1, q1, C1, f1, g1, k1, r1⟩ := IHy false L h p (d + 1) op od (upd wN (d + 1) (nI (tb_c Y e))) (upd (upd wP d (nI 1)) (d + 1) 0) (upd wL (d + 1) 0) wPt lP
    (fun i hi => hsc i (hmy i hi)) hlp (by omega) (by omega) (by omega) (by omega) pk_us pk_us pk_us
  obtain ⟨e1a, e1b, e1c, e1d⟩ := g1 d (by omega)
  rw [pk_un (by omega)] at e1a e1c
  rw [pk_un (by omega), pk_us] at e1b
  have c1 := cp_lt _ _ _ _ _ _ _ (C1 _ (Nat.lt_succ_self _))
  refine ⟨p1 + 1, upd op1 p1 (cp_in 18 l), upd od1 p1 (cp_io 18 (X e)), wN1, upd wP1 d (nI 2), wL1, wPt1, lP1, by omega, fun D hD => ?_, fun j hj => ?_, fun j hj => ?_, fun j hj => k1 j hj, fun post hW => ?_⟩
  · cases D with
    | zero => omega
    | succ D =>
      refine Or.inr ⟨hkn, Or.inr (Or.inr (Or.inr (Or.inr (Or.inr (Or.inr (Or.inr (Or.inr (Or.inr ⟨hk, p1, ?_, cp_in_I hk pk_us pk_us, rfl⟩))))))))⟩
      refine cp_loc D _ _ _ _ _ _ (fun j a b => ?_) (C1 D (by omega))
      rw [pk_un (by omega), pk_un (by omega)]
      exact ⟨rfl, rfl⟩
  · have x1 := f1 j (by omega)
    rw [pk_un (by omega), pk_un (by omega)]
    exact x1
  · have x1 := g1 j (by omega)
    rw [pk_un (by omega), pk_un (by omega), pk_un (by omega), pk_un (by omega)] at x1
    rw [pk_un (by omega)]
    exact x1
  · refine cp_goE (by omega) hwp (by omega) (fun post' hq => cs_pg0 (by omega) hwn he hkn hk hy (by omega) (by omega) hq) (r1 post ?_)
    rw [nI_pred]
    exact cp_doneE (by omega) e1b (by omega) (fun post' hq => cs_pg1 (l := l) (by omega) (e1a.trans hwn) he hkn hk (e1c.trans hwl) (by omega) hq) hW
end
end
section
/-! the tables as a whole; compiling every node, and a body -/
def tb_T (n fc : Nat) (K X Y Z W M PY PZ KN KV FO : Nat → Int32) : Prop :=
  ∀ e, e < n → tb_N K X Y Z W M e ∧ (tb_hy (tb_c K e) = true → PY e = Y e) ∧ (tb_c K e = 8 → PZ e = Z e) ∧ tb_Kn K X Y KN KV e ∧ (K e = 15 → ∃ f, FO e = nI f ∧ 1 ≤ f ∧ f ≤ fc)
section
variable {K X Y Z W M PY PZ KN KV FO : Nat → Int32}
theorem tb_lit {k : Int32} {e : Nat} (h : K e = k) : tb_c K e = k.toNatClampNeg := by unfold tb_c; rw [h]
theorem tb_N_w {e : Nat} (h : tb_N K X Y Z W M e) : 1 ≤ tb_c W e := by
  rw [h.2.2.2.2.2.2.1.2.2]; unfold tb_w; omega
theorem tb_two_k {e : Nat} (hk : cp_two (K e)) : tb_hx (tb_c K e) = true ∧ tb_hy (tb_c K e) = true ∧ ¬ tb_c K e = 8 ∧ ¬ tb_c K e = 14 ∧ ¬ tb_c K e = 15 ∧ ¬ tb_c K e = 1 := by
  rcases hk with h | h | h | h | h | h | h | h | h <;> (rw [tb_lit h]; decide)
theorem tb_or2 {m a b : Nat} (h : m = a ||| b) : (∀ i, a.testBit i = true → m.testBit i = true) ∧ (∀ i, b.testBit i = true → m.testBit i = true) :=
  ⟨fun i q => by rw [h, Nat.testBit_or, q]; rfl, fun i q => by rw [h, Nat.testBit_or, q]; simp⟩
theorem tb_or3 {m a b c : Nat} (h : m = a ||| b ||| c) : (∀ i, a.testBit i = true → m.testBit i = true) ∧ (∀ i, b.testBit i = true → m.testBit i = true) ∧ (∀ i, c.testBit i = true → m.testBit i = true) :=
  ⟨fun i q => by rw [h, Nat.testBit_or, Nat.testBit_or, q]; rfl, fun i q => by rw [h, Nat.testBit_or, Nat.testBit_or, q]; simp, fun i q => by rw [h, Nat.testBit_or, Nat.testBit_or, q]; simp⟩
theorem cp_node {n fc : Nat} {hm : Option Nat} {hN : Int32} (hn : n ≤ 60) (hfc : fc ≤ 12) (hT : tb_T n fc K X Y Z W M PY PZ KN KV FO) (hh : ∀ mk, hm = some mk → hN = nI mk ∧ mk < 256) : ∀ e, e < n → cp_Nd K X Y Z W M PY PZ KN KV FO hm hN e := by
  intro e
  induction e using Nat.strongRecOn with
  | ind e ih =>
    intro he
    obtain ⟨hNd, hPY, hPZ, hKn, hFO⟩ := hT e he
    have hw1 := tb_N_w hNd
    obtain ⟨⟨hk, hk19⟩, hx, hy, hz, hv, hg, ⟨hW, hW30, hWe⟩, ⟨hM, hM256, hMe⟩⟩ := hNd
    have wpos : ∀ c, c < e → 1 ≤ tb_c W c := fun c hc => tb_N_w (hT c (by omega)).1
    have e60 : e < 60 := by omega
    have hkn : KN e = 1 ∨ (KN e = 0 ∧ ¬ tb_c K e = 0) := by
      rcases hKn with ⟨a, b⟩ | ⟨a, _⟩ | ⟨a, _⟩
      · exact Or.inr ⟨a, fun z => b (by rw [hk, z]; rfl)⟩
      · exact Or.inl a
      · exact Or.inl a
    rcases hkn with hkn | ⟨hkn, hk0⟩
    · exact cp_nd_kn e60 hkn hw1
    · have two : ∀ k : Nat, tb_c K e = k → cp_two (nI k) → cp_Nd K X Y Z W M PY PZ KN KV FO hm hN e := fun k ek h2 => by
        have hk2 : cp_two (K e) := by rw [hk, ek]; exact h2
        obtain ⟨a1, a2, a3, a4, a5, a6⟩ := tb_two_k hk2
        obtain ⟨x1, x2⟩ := hx a1
        obtain ⟨y1, y2⟩ := hy a2
        unfold tb_w at hWe
        rw [if_pos a1, if_pos a2, if_neg a3] at hWe
        unfold tb_m at hMe
        rw [if_neg a6, if_neg a4, if_neg a5, if_pos a1, if_pos a2, if_neg a3] at hMe
        obtain ⟨m1, m2, _⟩ := tb_or3 hMe
        exact cp_nd_two e60 hkn hk2 x1 x2 ((hPY a2).trans y1) y2 (by omega) (wpos _ x2) (wpos _ y2) m1 m2 (ih _ x2 (by omega)) (ih _ y2 (by omega))
      have hc : tb_c K e = 1 ∨ tb_c K e = 2 ∨ tb_c K e = 3 ∨ tb_c K e = 4 ∨ tb_c K e = 5 ∨ tb_c K e = 6 ∨ tb_c K e = 7 ∨ tb_c K e = 8 ∨ tb_c K e = 9 ∨ tb_c K e = 10 ∨ tb_c K e = 11 ∨ tb_c K e = 12 ∨ tb_c K e = 13 ∨ tb_c K e = 14 ∨ tb_c K e = 15 ∨ tb_c K e = 16 ∨ tb_c K e = 17 ∨ tb_c K e = 18 ∨ tb_c K e = 19 := by omega
      rcases hc with z | z | z | z | z | z | z | z | z | z | z | z | z | z | z | z | z | z | z
      · obtain ⟨x1, x2⟩ := hv z
        rw [z] at hk hMe
        refine cp_nd_var hh e60 hkn hk hw1 x1 x2 ?_
        rw [hMe]
        exact Nat.testBit_two_pow_self
      · rw [z] at hk; exact cp_nd_leaf e60 hkn (Or.inl hk) hw1
      · exact two 3 z (by unfold cp_two; decide)
      · exact two 4 z (by unfold cp_two; decide)
      · exact two 5 z (by unfold cp_two; decide)
      · exact two 6 z (by unfold cp_two; decide)
      · exact two 7 z (by unfold cp_two; decide)
      · rw [z] at hx hy hWe hMe
        obtain ⟨x1, x2⟩ := hx rfl
        obtain ⟨y1, y2⟩ := hy rfl
        obtain ⟨z1, z2⟩ := hz z
        have hWe' : tb_c W e = 1 + tb_c W (tb_c X e) + tb_c W (tb_c Y e) + tb_c W (tb_c Z e) := hWe
        obtain ⟨m1, m2, m3⟩ := tb_or3 (show tb_c M e = tb_c M (tb_c X e) ||| tb_c M (tb_c Y e) ||| tb_c M (tb_c Z e) from hMe)
        exact cp_nd_if e60 hkn (by rw [hk, z]; rfl) x1 x2 ((hPY (by rw [z]; rfl)).trans y1) y2 ((hPZ z).trans z1) z2 hWe' (wpos _ x2) (wpos _ y2) (wpos _ z2) m1 m2 m3 (ih _ x2 (by omega)) (ih _ y2 (by omega)) (ih _ z2 (by omega))
      · exact two 9 z (by unfold cp_two; decide)
      · rw [z] at hx hWe hMe
        obtain ⟨x1, x2⟩ := hx rfl
        have hWe' : tb_c W e = 1 + tb_c W (tb_c X e) := hWe
        obtain ⟨m1, m2, m3⟩ := tb_or3 (show tb_c M e = tb_c M (tb_c X e) ||| 0 ||| 0 from hMe)
        exact cp_nd_un e60 hkn (Or.inl (by rw [hk, z]; rfl)) x1 x2 hWe' (wpos _ x2) m1 (ih _ x2 (by omega))
      · rw [z] at hx hWe hMe
        obtain ⟨x1, x2⟩ := hx rfl
        have hWe' : tb_c W e = 1 + tb_c W (tb_c X e) := hWe
        obtain ⟨m1, m2, m3⟩ := tb_or3 (show tb_c M e = tb_c M (tb_c X e) ||| 0 ||| 0 from hMe)
        exact cp_nd_un e60 hkn (Or.inr (by rw [hk, z]; rfl)) x1 x2 hWe' (wpos _ x2) m1 (ih _ x2 (by omega))
      · exact two 12 z (by unfold cp_two; decide)
      · exact two 13 z (by unfold cp_two; decide)
      · rw [z] at hx hy hWe hMe
        obtain ⟨x1, x2⟩ := hx rfl
        obtain ⟨y1, y2⟩ := hy rfl
        have hWe' : tb_c W e = 1 + tb_c W (tb_c X e) + tb_c W (tb_c Y e) := hWe
        obtain ⟨m1, m2⟩ := tb_or2 (show tb_c M e = tb_c M (tb_c X e) ||| tb_c M (tb_c Y e) / 2 from hMe)
        exact cp_nd_let e60 hkn (by rw [hk, z]; rfl) x1 x2 ((hPY (by rw [z]; rfl)).trans y1) y2 hWe' (wpos _ x2) (wpos _ y2) m1 (fun i hi => m2 i (by rw [← Nat.testBit_succ]; exact hi)) (ih _ x2 (by omega)) (ih _ y2 (by omega))
      · rw [z] at hx hWe hMe
        obtain ⟨x1, x2⟩ := hx rfl
        have hWe' : tb_c W e = 1 + tb_c W (tb_c X e) := hWe
        have := wpos _ x2
        have hMe' : tb_c M e = tb_c M (tb_c X e) / 4 := hMe
        have hm2 := (hT (tb_c X e) (by omega)).1.2.2.2.2.2.2.2.2.1
        obtain ⟨f, hf, hf1, hf2⟩ := hFO (by rw [hk, z]; rfl)
        exact cp_nd_fun hh e60 hkn (by rw [hk, z]; rfl) (by omega) hM (by omega) hf (by omega)
      · exact two 16 z (by unfold cp_two; decide)
      · rw [z] at hk; exact cp_nd_leaf e60 hkn (Or.inr hk) hw1
      · rw [z] at hy hWe hMe
        obtain ⟨y1, y2⟩ := hy rfl
        have hWe' : tb_c W e = 1 + tb_c W (tb_c Y e) := hWe
        obtain ⟨m1, m2, m3⟩ := tb_or3 (show tb_c M e = 0 ||| tb_c M (tb_c Y e) ||| 0 from hMe)
        exact cp_nd_sg e60 hkn (by rw [hk, z]; rfl) ((hPY (by rw [z]; rfl)).trans y1) y2 hWe' (wpos _ y2) m2 (ih _ y2 (by omega))
      · rw [z] at hx hy hWe hMe
        obtain ⟨x1, x2⟩ := hx rfl
        obtain ⟨y1, y2⟩ := hy rfl
        have hWe' : tb_c W e = 1 + tb_c W (tb_c X e) + tb_c W (tb_c Y e) := hWe
        obtain ⟨m1, m2, m3⟩ := tb_or3 (show tb_c M e = tb_c M (tb_c X e) ||| tb_c M (tb_c Y e) ||| 0 from hMe)
        exact cp_nd_then e60 hkn (by rw [hk, z]; rfl) x1 x2 ((hPY (by rw [z]; rfl)).trans y1) y2 hWe' (wpos _ x2) (wpos _ y2) m1 m2 (ih _ x2 (by omega)) (ih _ y2 (by omega))
theorem cp_body {n fc e p : Nat} {hm : Option Nat} {hN : Int32} {op od wN wP wL wPt lP : Nat → Int32} (hn : n ≤ 60) (hfc : fc ≤ 12) (hT : tb_T n fc K X Y Z W M PY PZ KN KV FO) (hh : ∀ mk, hm = some mk → hN = nI mk ∧ mk < 256) (he : e < n) (hs : ∀ i, (tb_c M e).testBit i = true → cp_sc hm [] i) (hp : p + 4 * tb_c W e ≤ 1560) :
    ∃ (q : Nat) (op' od' wN' wP' wL' wPt' lP' : Nat → Int32), q + 1 ≤ p + 4 * tb_c W e ∧ (∃ D, cp_C K X Y Z M KN KV FO hm op' od' D e true [] 2 p q) ∧ op' q = 25 ∧ (∀ j, (j < p ∨ q < j) → op' j = op j ∧ od' j = od j) ∧
      ∀ {f_expressionCount f_functionCount f_depth f_letCount f_height f_usedCount f_marking f_waitCount f_top f_frame f_at f_openCount f_stepCount f_resultSort f_resultNumber f_levelNow : Int32} {f_marks : Int64} {a_weightOf a_needOf a_isUsed a_functionAt a_heldCount a_waiting a_openFrame a_openAt : Nat → Int32} {a_cells a_globals a_stack : Nat → Int64} (post : SX → Prop), post (f_expressionCount, f_functionCount, nI (q + 1), -1, 0, 3, hN, f_usedCount, f_marks, f_marking, f_waitCount, f_top, f_frame, f_at, f_openCount, f_stepCount, f_resultSort, f_resultNumber, f_levelNow, K, X, PY, PZ, a_weightOf, a_needOf, M, KN, KV, FO, op', od', wN', wP', wL', wPt', lP', a_isUsed, a_functionAt, a_heldCount, a_cells, a_waiting, a_globals, a_stack, a_openFrame, a_openAt) →
        wpX_compileBody post (f_expressionCount, f_functionCount, nI p, f_depth, f_letCount, f_height, hN, f_usedCount, f_marks, f_marking, f_waitCount, f_top, f_frame, f_at, f_openCount, f_stepCount, f_resultSort, f_resultNumber, f_levelNow, K, X, PY, PZ, a_weightOf, a_needOf, M, KN, KV, FO, op, od, wN, wP, wL, wPt, lP, a_isUsed, a_functionAt, a_heldCount, a_cells, a_waiting, a_globals, a_stack, a_openFrame, a_openAt) (nI e) := by
  have hw30 := (hT e he).1.2.2.2.2.2.2.1.2.1
  obtain ⟨q, op1, od1, wN1, wP1, wL1, wPt1, lP1, q1, C1, f1, g1, k1, r1⟩ := cp_node hn hfc hT hh e he true [] 2 p 0 op od (upd wN 0 (nI e)) (upd wP 0 0) (upd wL 0 1) wPt lP hs (fun i hi => absurd hi (by simp)) (by omega) (by simp; omega) (by omega) hp pk_us pk_us pk_us
  have c1 := cp_lt _ _ _ _ _ _ _ (C1 _ (Nat.lt_succ_self _))
  refine ⟨q, upd op1 q 25, upd od1 q 0, wN1, wP1, wL1, wPt1, lP1, q1, ⟨e + 1, cp_loc _ _ _ _ _ _ _ (fun j a b => ⟨pk_un (by omega), pk_un (by omega)⟩) (C1 _ (Nat.lt_succ_self _))⟩, pk_us, fun j hj => ?_, fun post hpost => ?_⟩
  · rw [pk_un (by omega), pk_un (by omega)]
    exact f1 j (by omega)
  · unfold wpX_compileBody
    refine cp_push (d := 0) (by decide) (by omega) (by omega) (Or.inr rfl) ?_
    exact r1 post ⟨1, br_t (by decide) (cp_write (by omega) (by decide) hpost)⟩
theorem cp_tab {K' X' Y' Z' M' KN' KV' FO' : Nat → Int32} {hm : Option Nat} {OP OD : Nat → Int32} {n : Nat} (hT : ∀ e, e < n → tb_N K X Y Z W M e)
    (hA : ∀ e, e < n → K' e = K e ∧ X' e = X e ∧ Y' e = Y e ∧ Z' e = Z e ∧ M' e = M e ∧ KN' e = KN e ∧ KV' e = KV e ∧ FO' e = FO e) :
    ∀ d e, e < n → ∀ l L h p q, cp_C K X Y Z M KN KV FO hm OP OD d e l L h p q → cp_C K' X' Y' Z' M' KN' KV' FO' hm OP OD d e l L h p q := by
  intro d
  induction d with
  | zero => intro e _ l L h p q z; exact z.elim
  | succ d ih =>
    intro e he l L h p q z0
    obtain ⟨_, hx, hy, hz, _⟩ := hT e he
    obtain ⟨a1, a2, a3, a4, a5, a6, a7, a8⟩ := hA e he
    have c2 : tb_c X' e = tb_c X e := by unfold tb_c; rw [a2]
    have c3 : tb_c Y' e = tb_c Y e := by unfold tb_c; rw [a3]
    have c4 : tb_c Z' e = tb_c Z e := by unfold tb_c; rw [a4]
    have c5 : tb_c M' e = tb_c M e := by unfold tb_c; rw [a5]
    have cI : ∀ l p, cp_I K X OP OD e l p → cp_I K' X' OP OD e l p := fun l p q => by unfold cp_I; rw [a1, a2]; exact q
    show cp_B K' X' Y' Z' M' KN' KV' FO' hm OP OD _ e l L h p q
    unfold cp_B
    rw [a1, a2, a6, a7, a8, c2, c3, c4, c5]
    rcases z0 with z | ⟨kn, z⟩
    · exact Or.inl z
    · refine Or.inr ⟨kn, ?_⟩
      rcases z with z | z | z | z | ⟨k, p1, p2, a, o1, d1, b, o2, d2, c⟩ | ⟨k, p1, p2, a, b, o1, z⟩ | ⟨k, p1, a, o1, b⟩ | ⟨k, p1, p2, a, b, i, z⟩ | ⟨k, p1, a, i, z⟩ | ⟨k, p1, a, i, z⟩
      · exact Or.inl z
      · exact Or.inr (Or.inl z)
      · exact Or.inr (Or.inr (Or.inl z))
      · exact Or.inr (Or.inr (Or.inr (Or.inl z)))
      · have hk := tb_lit k
        have x := (hx (by rw [hk]; decide)).2
        have y := (hy (by rw [hk]; decide)).2
        have w := (hz (by rw [hk]; decide)).2
        exact Or.inr (Or.inr (Or.inr (Or.inr (Or.inl ⟨k, p1, p2, ih _ (by omega) _ _ _ _ _ a, o1, d1, ih _ (by omega) _ _ _ _ _ b, o2, d2, ih _ (by omega) _ _ _ _ _ c⟩))))
      · have hk := tb_lit k
        have x := (hx (by rw [hk]; decide)).2
        have y := (hy (by rw [hk]; decide)).2
        exact Or.inr (Or.inr (Or.inr (Or.inr (Or.inr (Or.inl ⟨k, p1, p2, ih _ (by omega) _ _ _ _ _ a, ih _ (by omega) _ _ _ _ _ b, o1, z⟩)))))
      · have hk := tb_lit k
        have x := (hx (by rw [hk]; decide)).2
        have y := (hy (by rw [hk]; decide)).2
        exact Or.inr (Or.inr (Or.inr (Or.inr (Or.inr (Or.inr (Or.inl ⟨k, p1, ih _ (by omega) _ _ _ _ _ a, o1, ih _ (by omega) _ _ _ _ _ b⟩))))))
      · obtain ⟨b1, b2, _⟩ := tb_two_k k
        have x := (hx b1).2
        have y := (hy b2).2
        exact Or.inr (Or.inr (Or.inr (Or.inr (Or.inr (Or.inr (Or.inr (Or.inl ⟨k, p1, p2, ih _ (by omega) _ _ _ _ _ a, ih _ (by omega) _ _ _ _ _ b, cI _ _ i, z⟩)))))))
      · have x := (hx (by rcases k with k | k <;> (rw [tb_lit k]; decide))).2
        exact Or.inr (Or.inr (Or.inr (Or.inr (Or.inr (Or.inr (Or.inr (Or.inr (Or.inl ⟨k, p1, ih _ (by omega) _ _ _ _ _ a, cI _ _ i, z⟩))))))))
      · have y := (hy (by rw [tb_lit k]; decide)).2
        exact Or.inr (Or.inr (Or.inr (Or.inr (Or.inr (Or.inr (Or.inr (Or.inr (Or.inr ⟨k, p1, ih _ (by omega) _ _ _ _ _ a, cI _ _ i, z⟩))))))))
end
end
section
/-! the relation -/
def tb_nd (m d : Nat) : Prop := (∀ i, d ≤ i → m.testBit i = false) ∧ (0 < d → m.testBit (d - 1) = true)
def rl_FT (n : Nat) (K X M FO : Nat → Int32) (e f mk x : Nat) : Prop := e < n ∧ K e = 15 ∧ FO e = nI f ∧ 1 ≤ f ∧ mk = tb_c M e ∧ x = tb_c X e
def rl_Cd (n : Nat) (K X Y Z M KN KV FO OP OD : Nat → Int32) : Prop :=
  ∀ e f, e < n → K e = 15 → FO e = nI f → f ≤ 12 → ∃ D q, q < 120 * f + 120 ∧ cp_C K X Y Z M KN KV FO (some (tb_c M e)) OP OD D (tb_c X e) true [] 2 (120 * f) q ∧ OP q = 25
def rl_St (n fc : Nat) (K X Y Z W M PY PZ ND KN KV FO OP OD : Nat → Int32) : Prop :=
  n ≤ 60 ∧ fc ≤ 12 ∧ tb_T n fc K X Y Z W M PY PZ KN KV FO ∧ rl_Cd n K X Y Z M KN KV FO OP OD ∧ ∀ e, e < n → ∃ d, d ≤ 8 ∧ ND e = nI d ∧ tb_nd (tb_c M e) d
def rl_Hp (n : Nat) (K X M FO : Nat → Int32) (P : Nat → Nat → Nat → Prop) (uc : Int32) (m : Int64) (mk wcI : Int32) (us fa hA : Nat → Int32) (cs : Nat → Int64) (wt : Nat → Int32) (gl : Nat → Int64) (bd hs hv gs gv : Nat → Int32) : Prop :=
  hp_H (rl_FT n K X M FO) P fa hA cs bd hs hv ∧ gc_Ok (fun o => ∃ w t, P o w t) uc m mk wcI us hA cs wt ∧ ∀ g, g < 4 → hp_V P (gl g) (gs g) (gv g)
def i_Rel (k : Nat) (u : SX) (v : SY) : Prop := match u, v with
  | (f_expressionCount, f_functionCount, f_codeEnd, f_depth, f_letCount, f_height, f_heldNames, f_usedCount, f_marks, f_marking, f_waitCount, f_top, f_frame, f_at, f_openCount, f_stepCount, f_resultSort, f_resultNumber, f_levelNow, a_kindOf, a_partX, a_partY, a_partZ, a_weightOf, a_needOf, a_names, a_known, a_knownNumber, a_functionOf, a_op, a_operand, a_workNode, a_workPhase, a_workLast, a_workPatch, a_letPlace, a_isUsed, a_functionAt, a_heldCount, a_cells, a_waiting, a_globals, a_stack, a_openFrame, a_openAt), (g_made, g_functions, g_bodies, g_high, g_top, g_steps, g_over, g_how, g_givenSort, g_given, b_ek, b_ex, b_ey, b_ez, b_ew, b_outside, b_globalSort, b_global, b_body, b_heldSort, b_held, b_needed, b_envSort, b_env, b_length, b_base, b_floor, b_begun, b_stage, b_last, b_valueSort, b_value) => b_ek = a_kindOf ∧ b_ex = a_partX ∧ b_ew = a_weightOf ∧ b_outside = a_names ∧ f_top = 0 ∧ g_top = 0 ∧ g_bodies = 0 ∧ g_steps = f_stepCount ∧ g_givenSort = f_resultSort ∧ g_given = f_resultNumber ∧
    ∃ (n fc : Nat) (P : Nat → Nat → Nat → Prop), f_expressionCount = nI n ∧ g_made = nI n ∧ f_functionCount = nI fc ∧ g_functions = nI fc ∧
      rl_St n fc a_kindOf a_partX b_ey b_ez a_weightOf a_names a_partY a_partZ a_needOf a_known a_knownNumber a_functionOf a_op a_operand ∧
      rl_Hp n a_kindOf a_partX a_names a_functionOf P f_usedCount f_marks f_marking f_waitCount a_isUsed a_functionAt a_heldCount a_cells a_waiting a_globals b_body b_heldSort b_held b_globalSort b_global
theorem rl_in {k : Nat} : ∀ {f_codeEnd f_depth f_letCount f_height f_heldNames f_usedCount f_marking f_waitCount f_frame f_at f_openCount f_stepCount f_resultSort f_resultNumber f_levelNow : Int32} {f_marks : Int64} {a_kindOf a_partX a_partY a_partZ a_weightOf a_needOf a_names a_known a_knownNumber a_functionOf a_op a_operand a_workNode a_workPhase a_workLast a_workPatch a_letPlace a_isUsed a_functionAt a_heldCount a_waiting a_openFrame a_openAt : Nat → Int32} {a_cells a_globals a_stack : Nat → Int64}, ∀ {g_high g_over g_how : Int32} {b_ey b_ez b_globalSort b_global b_body b_heldSort b_held b_needed b_envSort b_env b_length b_base b_floor b_begun b_stage b_last b_valueSort b_value : Nat → Int32} {n fc : Nat} {P : Nat → Nat → Nat → Prop}
    (_ : rl_St n fc a_kindOf a_partX b_ey b_ez a_weightOf a_names a_partY a_partZ a_needOf a_known a_knownNumber a_functionOf a_op a_operand)
    (_ : rl_Hp n a_kindOf a_partX a_names a_functionOf P f_usedCount f_marks f_marking f_waitCount a_isUsed a_functionAt a_heldCount a_cells a_waiting a_globals b_body b_heldSort b_held b_globalSort b_global),
    i_Rel k (nI n, nI fc, f_codeEnd, f_depth, f_letCount, f_height, f_heldNames, f_usedCount, f_marks, f_marking, f_waitCount, 0, f_frame, f_at, f_openCount, f_stepCount, f_resultSort, f_resultNumber, f_levelNow, a_kindOf, a_partX, a_partY, a_partZ, a_weightOf, a_needOf, a_names, a_known, a_knownNumber, a_functionOf, a_op, a_operand, a_workNode, a_workPhase, a_workLast, a_workPatch, a_letPlace, a_isUsed, a_functionAt, a_heldCount, a_cells, a_waiting, a_globals, a_stack, a_openFrame, a_openAt) (nI n, nI fc, 0, g_high, 0, f_stepCount, g_over, g_how, f_resultSort, f_resultNumber, a_kindOf, a_partX, b_ey, b_ez, a_weightOf, a_names, b_globalSort, b_global, b_body, b_heldSort, b_held, b_needed, b_envSort, b_env, b_length, b_base, b_floor, b_begun, b_stage, b_last, b_valueSort, b_value) := by
  intros
  rename_i h1 h2
  exact ⟨rfl, rfl, rfl, rfl, rfl, rfl, rfl, rfl, rfl, rfl, _, _, _, rfl, rfl, rfl, rfl, h1, h2⟩
theorem rl_el {k : Nat} {Q : SX → SY → Prop} (H : ∀ {f_codeEnd f_depth f_letCount f_height f_heldNames f_usedCount f_marking f_waitCount f_frame f_at f_openCount f_stepCount f_resultSort f_resultNumber f_levelNow : Int32} {f_marks : Int64} {a_kindOf a_partX a_partY a_partZ a_weightOf a_needOf a_names a_known a_knownNumber a_functionOf a_op a_operand a_workNode a_workPhase a_workLast a_workPatch a_letPlace a_isUsed a_functionAt a_heldCount a_waiting a_openFrame a_openAt : Nat → Int32} {a_cells a_globals a_stack : Nat → Int64}, ∀ {g_high g_over g_how : Int32} {b_ey b_ez b_globalSort b_global b_body b_heldSort b_held b_needed b_envSort b_env b_length b_base b_floor b_begun b_stage b_last b_valueSort b_value : Nat → Int32} {n fc : Nat} {P : Nat → Nat → Nat → Prop}
    (_ : rl_St n fc a_kindOf a_partX b_ey b_ez a_weightOf a_names a_partY a_partZ a_needOf a_known a_knownNumber a_functionOf a_op a_operand)
    (_ : rl_Hp n a_kindOf a_partX a_names a_functionOf P f_usedCount f_marks f_marking f_waitCount a_isUsed a_functionAt a_heldCount a_cells a_waiting a_globals b_body b_heldSort b_held b_globalSort b_global),
    Q (nI n, nI fc, f_codeEnd, f_depth, f_letCount, f_height, f_heldNames, f_usedCount, f_marks, f_marking, f_waitCount, 0, f_frame, f_at, f_openCount, f_stepCount, f_resultSort, f_resultNumber, f_levelNow, a_kindOf, a_partX, a_partY, a_partZ, a_weightOf, a_needOf, a_names, a_known, a_knownNumber, a_functionOf, a_op, a_operand, a_workNode, a_workPhase, a_workLast, a_workPatch, a_letPlace, a_isUsed, a_functionAt, a_heldCount, a_cells, a_waiting, a_globals, a_stack, a_openFrame, a_openAt) (nI n, nI fc, 0, g_high, 0, f_stepCount, g_over, g_how, f_resultSort, f_resultNumber, a_kindOf, a_partX, b_ey, b_ez, a_weightOf, a_names, b_globalSort, b_global, b_body, b_heldSort, b_held, b_needed, b_envSort, b_env, b_length, b_base, b_floor, b_begun, b_stage, b_last, b_valueSort, b_value)) : ∀ {u : SX} {v : SY}, i_Rel k u v → Q u v := by
  intro u v I
  match u, v, I with
  | (f_expressionCount, f_functionCount, f_codeEnd, f_depth, f_letCount, f_height, f_heldNames, f_usedCount, f_marks, f_marking, f_waitCount, f_top, f_frame, f_at, f_openCount, f_stepCount, f_resultSort, f_resultNumber, f_levelNow, a_kindOf, a_partX, a_partY, a_partZ, a_weightOf, a_needOf, a_names, a_known, a_knownNumber, a_functionOf, a_op, a_operand, a_workNode, a_workPhase, a_workLast, a_workPatch, a_letPlace, a_isUsed, a_functionAt, a_heldCount, a_cells, a_waiting, a_globals, a_stack, a_openFrame, a_openAt), (g_made, g_functions, g_bodies, g_high, g_top, g_steps, g_over, g_how, g_givenSort, g_given, b_ek, b_ex, b_ey, b_ez, b_ew, b_outside, b_globalSort, b_global, b_body, b_heldSort, b_held, b_needed, b_envSort, b_env, b_length, b_base, b_floor, b_begun, b_stage, b_last, b_valueSort, b_value), I =>
    obtain ⟨e1, e2, e3, e4, e5, e6, e7, e8, e9, e10, n, fc, P, e11, e12, e13, e14, h1, h2⟩ := I
    subst e1 e2 e3 e4 e5 e6 e7 e8 e9 e10 e11 e12 e13 e14
    exact H h1 h2
theorem i_up {k : Nat} {u : SX} {v : SY} (h : i_Rel k u v) : i_Rel (k + 5) u v := h
theorem i_vc0 : wpX_init (fun u => wpY_init (fun v => i_Rel 0 u v)) := by
  refine ⟨rfl, rfl, rfl, rfl, rfl, rfl, rfl, rfl, rfl, rfl, 0, 0, fun _ _ _ => False, rfl, rfl, rfl, rfl, ⟨by omega, by omega, fun e he => by omega, fun e f he => by omega, fun e he => by omega⟩, ⟨fun _ _ _ _ _ h => h.elim, fun _ _ _ _ _ h => h.elim, fun _ _ _ h => h.elim⟩, ⟨⟨fun o _ => Or.inl rfl, fun o _ _ => rfl, ?_, fun o ⟨w, t, h⟩ => h.elim⟩, ⟨fun o _ => ⟨0, by omega, rfl⟩, fun j _ => Or.inl rfl⟩, Or.inl rfl⟩, fun g _ => Or.inl ⟨rfl, rfl⟩⟩
  have e : ct_n (fun o => decide ((fun _ => (0 : Int32)) o = 1)) 48 = 0 := ct_ext (p := fun o => decide ((fun _ => (0 : Int32)) o = 1)) (n := 0) 48 (by omega) (fun i _ _ => rfl)
  exact (congrArg nI e).symm
theorem i_vc_givenSort {k : Nat} {u : SX} {v : SY} (I : i_Rel k u v) (hk : k + 5 ≤ 2560) : wpX_givenSort (fun r => wpY_givenSort (fun r' => r' = r ∧ i_Rel (k + 5) u v) v) u := by
  refine rl_el (k := k) (Q := fun u v => wpX_givenSort (fun r => wpY_givenSort (fun r' => r' = r ∧ i_Rel (k + 5) u v) v) u) ?_ I
  intros
  rename_i h1 h2
  exact ⟨rfl, rl_in h1 h2⟩
theorem i_vc_given {k : Nat} {u : SX} {v : SY} (I : i_Rel k u v) (hk : k + 5 ≤ 2560) : wpX_given (fun r => wpY_given (fun r' => r' = r ∧ i_Rel (k + 5) u v) v) u := by
  refine rl_el (k := k) (Q := fun u v => wpX_given (fun r => wpY_given (fun r' => r' = r ∧ i_Rel (k + 5) u v) v) u) ?_ I
  intros
  rename_i h1 h2
  exact ⟨rfl, rl_in h1 h2⟩
theorem i_vc_steps {k : Nat} {u : SX} {v : SY} (I : i_Rel k u v) (hk : k + 5 ≤ 2560) : wpX_steps (fun r => wpY_steps (fun r' => r' = r ∧ i_Rel (k + 5) u v) v) u := by
  refine rl_el (k := k) (Q := fun u v => wpX_steps (fun r => wpY_steps (fun r' => r' = r ∧ i_Rel (k + 5) u v) v) u) ?_ I
  intros
  rename_i h1 h2
  exact ⟨rfl, rl_in h1 h2⟩
theorem i_vc_level {k : Nat} {u : SX} {v : SY} (I : i_Rel k u v) (hk : k + 5 ≤ 2560) (v1 : Int32) : wpX_level (fun r u' => wpY_level (fun r' => r' = r ∧ i_Rel (k + 5) u' v) v v1) u v1 := by
  refine rl_el (k := k) (Q := fun u v => wpX_level (fun r u' => wpY_level (fun r' => r' = r ∧ i_Rel (k + 5) u' v) v v1) u v1) ?_ I
  intros
  rename_i h1 h2
  by_cases a : v1 < 0
  · exact br_t a (br_t a ⟨rfl, rfl, rl_in h1 h2⟩)
  · by_cases b : v1 ≤ 2
    · refine br_f a (br_t b ?_)
      refine br_f a (br_f (Int32.not_lt.mpr b) ⟨rfl, rfl, rl_in h1 ⟨h2.1, ⟨h2.2.1.1, h2.2.1.2.1, Or.inl rfl⟩, h2.2.2⟩⟩)
    · exact br_f a (br_f b (br_f a (br_t (Int32.not_le.mp b) ⟨rfl, rfl, rl_in h1 h2⟩)))
end
section
/-! clear, needed -/
theorem gc_tell {D : Nat → Prop} {uc : Int32} {m : Int64} {mk wcI : Int32} {us hA wt : Nat → Int32} {cs : Nat → Int64} {v : Int64} (h : gc_Ok D uc m mk wcI us hA cs wt) (hv : gc_wf v) (hD : ∀ c, c < 40 → v = vl_ob c → D c) :
    ∃ (m' : Int64) (wc' : Int32) (wt' : Nat → Int32), gc_Ok D uc m' mk wc' us hA cs wt' ∧
      (∀ o1 k1 (x : Int64), k1 < 8 → 8 * o1 + k1 < 384 → cs (8 * o1 + k1) = v → gc_wf x → (∀ c, c < 40 → x = vl_ob c → D c) → gc_Ok D uc m' mk wc' us hA (vp_updL cs (8 * o1 + k1) x) wt') ∧
      ∀ {f_expressionCount f_functionCount f_codeEnd f_depth f_letCount f_height f_heldNames f_usedCount f_top f_frame f_at f_openCount f_stepCount f_resultSort f_resultNumber f_levelNow : Int32} {a_kindOf a_partX a_partY a_partZ a_weightOf a_needOf a_names a_known a_knownNumber a_functionOf a_op a_operand a_workNode a_workPhase a_workLast a_workPatch a_letPlace a_isUsed a_functionAt a_heldCount a_openFrame a_openAt : Nat → Int32} {a_cells a_globals a_stack : Nat → Int64} (post : SX → Prop), post (f_expressionCount, f_functionCount, f_codeEnd, f_depth, f_letCount, f_height, f_heldNames, f_usedCount, m', mk, wc', f_top, f_frame, f_at, f_openCount, f_stepCount, f_resultSort, f_resultNumber, f_levelNow, a_kindOf, a_partX, a_partY, a_partZ, a_weightOf, a_needOf, a_names, a_known, a_knownNumber, a_functionOf, a_op, a_operand, a_workNode, a_workPhase, a_workLast, a_workPatch, a_letPlace, a_isUsed, a_functionAt, a_heldCount, a_cells, wt', a_globals, a_stack, a_openFrame, a_openAt) → wpX_tellOld post (f_expressionCount, f_functionCount, f_codeEnd, f_depth, f_letCount, f_height, f_heldNames, f_usedCount, m, mk, wcI, f_top, f_frame, f_at, f_openCount, f_stepCount, f_resultSort, f_resultNumber, f_levelNow, a_kindOf, a_partX, a_partY, a_partZ, a_weightOf, a_needOf, a_names, a_known, a_knownNumber, a_functionOf, a_op, a_operand, a_workNode, a_workPhase, a_workLast, a_workPatch, a_letPlace, a_isUsed, a_functionAt, a_heldCount, a_cells, wt, a_globals, a_stack, a_openFrame, a_openAt) v := by
  obtain ⟨hU, hC, hM⟩ := h
  have hCe : ∀ o1 k1 (x : Int64), 8 * o1 + k1 < 384 → gc_wf x → gc_Ce hA (vp_updL cs (8 * o1 + k1) x) := fun o1 k1 x hj hx => ⟨hC.1, fun j hj => by
    by_cases q : j = 8 * o1 + k1
    · rw [q, pk_uLs]; exact hx
    · rw [pk_uLn q]; exact hC.2 j hj⟩
  rcases hM with q | ⟨q, S0, c0, wc, e, g, hS, hDm⟩
  · exact ⟨m, wcI, wt, ⟨hU, hC, Or.inl q⟩, fun o1 k1 x h8 hj _ hx _ => ⟨hU, hCe o1 k1 x hj hx, Or.inl q⟩, fun post hp => br_t q hp⟩
  · obtain ⟨m', wt', wc', ⟨g', n'⟩, hc', _, hp'⟩ := gc_mark (fun m' wt' wc' => gc_Mk S0 c0 (gc_hcf hA) cs m' wt' wc' ∧ (∀ o, vl_mb m o = true → vl_mb m' o = true)) hv ⟨g, fun o h => h⟩ (gc_Mp_w g)
      (fun c hc ev hm => ⟨gc_Mp_mark g hc hm ((hDm c (hD c hc ev)).resolve_right (fun z => absurd (z.symm.trans hm) (by decide))), fun o h => vl_sb_m (by omega) h⟩)
    have hDm' : ∀ o, D o → S0 o ∨ vl_mb m' o = true := fun o ho => (hDm o ho).imp id (n' o)
    refine ⟨m', nI wc', wt', ⟨hU, hC, Or.inr ⟨q, S0, c0, wc', rfl, g', hS, hDm'⟩⟩, fun o1 k1 x h8 hj ecs hx hxD => ⟨hU, hCe o1 k1 x hj hx, Or.inr ⟨q, S0, c0, wc', rfl, gc_Mk_set g' (fun o ho => ?_) h8 (fun c hc z => hc' c hc (ecs.symm.trans z)) (fun c hc z => hDm' c (hxD c hc z)), hS, hDm'⟩⟩, fun post hp => ?_⟩
    · obtain ⟨c, hc, ec⟩ := hC.1 o (by have := g.1 o ho; omega)
      unfold gc_hcf
      rw [ec, nI_clamp (by omega)]
      exact hc
    · subst q e
      exact br_f (by decide) (hp' _ hp)
theorem i_vc_clear {k : Nat} {u : SX} {v : SY} (I : i_Rel k u v) (hk : k + 5 ≤ 2560) (v1 : Int32) : wpX_clear (fun r u' => wpY_clear (fun r' v' => r' = r ∧ i_Rel (k + 5) u' v') v v1) u v1 := by
  refine rl_el (k := k) (Q := fun u v => wpX_clear (fun r u' => wpY_clear (fun r' v' => r' = r ∧ i_Rel (k + 5) u' v') v v1) u v1) ?_ I
  intros
  rename_i h1 h2
  by_cases a : v1 < 0
  · refine br_t a ?_
    unfold wpY_clear
    exact br_t a (br_t rfl ⟨rfl, rl_in h1 h2⟩)
  · by_cases b : v1 ≤ 3
    · obtain ⟨g, hg, rfl⟩ := nI_of2 (n := 3) (by decide) a b
      obtain ⟨hH, hG, hgl⟩ := h2
      have V := hgl g (by omega)
      obtain ⟨m', wc', wt', ok, _, hp⟩ := gc_tell hG (hp_V_wf (hp_o40 hH) V) (fun c hc e => by
        rw [e] at V
        obtain ⟨w, t, p, _⟩ := hp_V_x (hp_o40 hH) hc V
        exact ⟨w, t, p⟩)
      have hin : vp_in (nI g) 4 := vp_in_nI (by omega) (by omega)
      refine br_f a (br_t b (And.intro hin ?_))
      rw [nI_clamp (by omega)]
      refine hp _ (And.intro hin (nm_e ?_))
      unfold wpY_clear
      refine br_f a (br_f (Int32.not_lt.mpr b) (br_f (by decide) (And.intro hin (nm_e ⟨rfl, rl_in h1 ⟨hH, ok, fun g' hg' => ?_⟩⟩))))
      rw [nI_clamp (by omega)]
      by_cases q : g' = g
      · rw [q, pk_uLs, pk_us]; exact Or.inl ⟨rfl, rfl⟩
      · rw [pk_uLn q, pk_un q]; exact hgl g' hg'
    · refine br_f a (br_f b ?_)
      unfold wpY_clear
      exact br_f a (br_t (Int32.not_le.mp b) (br_t rfl ⟨rfl, rl_in h1 h2⟩))
theorem gc_bit1 (m : Int64) {o : Nat} (h : o < 64) : ((((m.toUInt64 >>> ((nI o).toInt64.toUInt64 &&& Int64.toUInt64 63)).toInt64) &&& 1).toInt32) = nI (if vl_mb m o = true then 1 else 0) := by
  obtain ⟨n, hn, rfl⟩ := wb_of m
  have e := wb_bit hn h
  have a := vl_bit (lN n) h
  rw [e] at a ⊢
  have h2 := Nat.mod_lt (n / 2 ^ o) (show 0 < 2 by omega)
  rw [lN_i]
  cases z : vl_mb (lN n) o with
  | false =>
    have := (lN_eq (b := 0) (by omega) (by omega)).mp (a.mpr z)
    rw [this]
    rfl
  | true =>
    have : ¬ n / 2 ^ o % 2 = 0 := fun q => by
      rw [q] at a
      have := a.mp rfl
      rw [z] at this
      exact absurd this (by decide)
    rw [show n / 2 ^ o % 2 = 1 by omega]
    rfl
theorem gc_27 {m : Int64} : ∀ d k, k + d = 48 → ∀ {f_expressionCount f_functionCount f_codeEnd f_depth f_letCount f_height f_heldNames f_usedCount f_marking f_waitCount f_top f_frame f_at f_openCount f_stepCount f_resultSort f_resultNumber f_levelNow : Int32} {a_kindOf a_partX a_partY a_partZ a_weightOf a_needOf a_names a_known a_knownNumber a_functionOf a_op a_operand a_workNode a_workPhase a_workLast a_workPatch a_letPlace a_isUsed a_functionAt a_heldCount a_waiting a_openFrame a_openAt : Nat → Int32} {a_cells a_globals a_stack : Nat → Int64} (post : Int32 → SX → Prop), post (nI (ct_n (vl_mb m) 48)) (f_expressionCount, f_functionCount, f_codeEnd, f_depth, f_letCount, f_height, f_heldNames, f_usedCount, m, f_marking, f_waitCount, f_top, f_frame, f_at, f_openCount, f_stepCount, f_resultSort, f_resultNumber, f_levelNow, a_kindOf, a_partX, a_partY, a_partZ, a_weightOf, a_needOf, a_names, a_known, a_knownNumber, a_functionOf, a_op, a_operand, a_workNode, a_workPhase, a_workLast, a_workPatch, a_letPlace, a_isUsed, a_functionAt, a_heldCount, a_cells, a_waiting, a_globals, a_stack, a_openFrame, a_openAt) → wX_needed_27 post f_expressionCount f_functionCount f_codeEnd f_depth f_letCount f_height f_heldNames f_usedCount m f_marking f_waitCount f_top f_frame f_at f_openCount f_stepCount f_resultSort f_resultNumber f_levelNow a_kindOf a_partX a_partY a_partZ a_weightOf a_needOf a_names a_known a_knownNumber a_functionOf a_op a_operand a_workNode a_workPhase a_workLast a_workPatch a_letPlace a_isUsed a_functionAt a_heldCount a_cells a_waiting a_globals a_stack a_openFrame a_openAt (d + 1) (nI (ct_n (vl_mb m) k)) (nI k) := by
  intro d
  induction d with
  | zero =>
    intro k hk
    intros
    rename_i post hp
    have e : k = 48 := by omega
    subst e
    exact br_t (nI_le (a := 48) (by omega) (by omega)) hp
  | succ d ih =>
    intro k hk
    intros
    rename_i post hp
    refine br_f (nI_ge (b := 48) (by omega) (by omega)) (nm_r (e' := nI (ct_n (vl_mb m) (k + 1))) ?_ (nm_r (nI_1 k) (ih (k + 1) (by omega) post hp)))
    rw [gc_bit1 m (by omega), nI_add]
    rfl
theorem hp_ywf {FT : Nat → Nat → Nat → Nat → Prop} {P : Nat → Nat → Nat → Prop} {fa hA : Nat → Int32} {cs : Nat → Int64} {bd hs hv : Nat → Int32} {rX rY : Nat → Prop} (h : hp_H FT P fa hA cs bd hs hv) (h2 : ∀ w, ym_R rY hs hv w → ∃ o t, P o w t ∧ gc_R rX (gc_hcf hA) cs o) :
    ∀ w k, k < 6 → ym_R rY hs hv w → ym_wf (hs (6 * w + k)) (hv (6 * w + k)) := by
  intro w k hk hw
  obtain ⟨o, t, p, _⟩ := h2 w hw
  rcases hp_chY h p hk with z | ⟨k', _, V⟩
  · rw [z]; exact Or.inl (by decide)
  · exact hp_V_ywf (hp_w40 h) V
theorem i_vc_needed {k : Nat} {u : SX} {v : SY} (I : i_Rel k u v) (hk : k + 5 ≤ 2560) : wpX_needed (fun r u' => wpY_needed (fun r' v' => r' = r ∧ i_Rel (k + 5) u' v') v) u := by
  refine rl_el (k := k) (Q := fun u v => wpX_needed (fun r u' => wpY_needed (fun r' v' => r' = r ∧ i_Rel (k + 5) u' v') v) u) ?_ I
  intro f_codeEnd f_depth f_letCount f_height f_heldNames f_usedCount f_marking f_waitCount f_frame f_at f_openCount f_stepCount f_resultSort f_resultNumber f_levelNow f_marks a_kindOf a_partX a_partY a_partZ a_weightOf a_needOf a_names a_known a_knownNumber a_functionOf a_op a_operand a_workNode a_workPhase a_workLast a_workPatch a_letPlace a_isUsed a_functionAt a_heldCount a_waiting a_openFrame a_openAt a_cells a_globals a_stack g_high g_over g_how b_ey b_ez b_globalSort b_global b_body b_heldSort b_held b_needed b_envSort b_env b_length b_base b_floor b_begun b_stage b_last b_valueSort b_value n fc P h1 h2
  obtain ⟨hH, hG, hgl⟩ := h2
  have hwg : ∀ g, g < 4 → gc_wf (a_globals g) := fun g hg => hp_V_wf (hp_o40 hH) (hgl g hg)
  obtain ⟨m1, wt1, wc1, g1, x1, hp1⟩ := gc_rootsMk (st := a_stack) (gl := a_globals) (wt0 := a_waiting) (gc_hcf a_heldCount) a_cells (show 0 ≤ 500 by omega) (fun k hk => absurd hk (by omega)) hwg
  obtain ⟨m2, wt2, g2, x2, _, hp2⟩ := gc_all9 hG.2.1.1 hG.2.1.2 _ m1 wt1 wc1 (Nat.le_refl _) g1
  have hX : ∀ o, o < 48 → (vl_mb m2 o = true ↔ gc_R (gc_rt a_globals a_stack 0) (gc_hcf a_heldCount) a_cells o) := fun o _ => ⟨fun h => (x2 o h).elim (x1 o) id, fun h => gc_Mk_end g2 o h⟩
  have ha : ∀ o, gc_rt a_globals a_stack 0 o → ∃ w t, P o w t ∧ ym_rt b_globalSort b_global b_envSort b_env b_valueSort b_value 0 (fun _ => 0) 0 w := fun o ho => by
    obtain ⟨ho, ⟨g, hg, e⟩ | ⟨k, hk, _⟩⟩ := ho
    · have V := hgl g hg
      rw [e] at V
      obtain ⟨w, t, p, ev, es, en⟩ := hp_V_x (hp_o40 hH) ho V
      exact ⟨w, t, p, hp_w40 hH _ _ _ p, Or.inl ⟨g, hg, en, ev⟩⟩
    · omega
  have hb : ∀ w, ym_rt b_globalSort b_global b_envSort b_env b_valueSort b_value 0 (fun _ => 0) 0 w → ∃ o t, P o w t ∧ gc_R (gc_rt a_globals a_stack 0) (gc_hcf a_heldCount) a_cells o := fun w hw => by
    obtain ⟨hw40, ⟨g, hg, en, ev⟩ | ⟨b, k, hb, _⟩ | ⟨k, hk, _⟩⟩ := hw
    · obtain ⟨o, w', t, p, ex, ev', es⟩ := hp_V_y (hgl g hg) en
      have := hp_w40 hH _ _ _ p
      have e : w = w' := (nI_eq (by omega) (by omega)).mp (ev.symm.trans ev')
      subst e
      exact ⟨o, t, p, gc_R_rt ⟨hp_o40 hH _ _ _ p, Or.inl ⟨g, hg, ex⟩⟩⟩
    · omega
    · omega
  obtain ⟨nd', h01, hY, hpY⟩ := ym_mark (nd := b_needed) (gs := b_globalSort) (gv := b_global) (es := b_envSort) (ev := b_env) (vs := b_valueSort) (vv := b_value) (hs := b_heldSort) (hv := b_held) (ln := b_length) (lnN := fun _ => 0) (nb := 0) (t := 0) (by omega) (fun b hb => by omega) (by omega) (fun g hg => hp_V_ywf (hp_w40 hH) (hgl g hg)) (fun b g hb => by omega) (fun g hg => by omega) (hp_ywf hH (hp_reach hH ha hb).2)
  have hc := hp_count (pX := vl_mb m2) (pY := fun w => decide (nd' w = 1)) hH ha hb (show 40 ≤ 48 by omega) hX (fun w hw => by simpa using hY w hw)
  unfold wpX_needed
  refine hp1 _ (hp2 _ ⟨49, gc_27 48 0 (by omega) _ ?_⟩)
  unfold wpY_needed
  refine hpY _ ⟨congrArg nI hc.symm, rl_in h1 ⟨hH, ⟨hG.1, hG.2.1, Or.inl rfl⟩, hgl⟩⟩
end
section
/-! sort and number: paths through the pairs -/
theorem hp_sortOf {FT : Nat → Nat → Nat → Nat → Prop} {P : Nat → Nat → Nat → Prop} {fa hA : Nat → Int32} {cs : Nat → Int64} {bd hs hv : Nat → Int32} {x : Int64} {s v : Int32} (h : hp_H FT P fa hA cs bd hs hv) (hV : hp_V P x s v) :
    ∀ {f_expressionCount f_functionCount f_codeEnd f_depth f_letCount f_height f_heldNames f_usedCount f_marking f_waitCount f_top f_frame f_at f_openCount f_stepCount f_resultSort f_resultNumber f_levelNow : Int32} {f_marks : Int64} {a_kindOf a_partX a_partY a_partZ a_weightOf a_needOf a_names a_known a_knownNumber a_functionOf a_op a_operand a_workNode a_workPhase a_workLast a_workPatch a_letPlace a_isUsed a_heldCount a_waiting a_openFrame a_openAt : Nat → Int32} {a_cells a_globals a_stack : Nat → Int64} (post : Int32 → Prop), post s → wpX_sortOf post (f_expressionCount, f_functionCount, f_codeEnd, f_depth, f_letCount, f_height, f_heldNames, f_usedCount, f_marks, f_marking, f_waitCount, f_top, f_frame, f_at, f_openCount, f_stepCount, f_resultSort, f_resultNumber, f_levelNow, a_kindOf, a_partX, a_partY, a_partZ, a_weightOf, a_needOf, a_names, a_known, a_knownNumber, a_functionOf, a_op, a_operand, a_workNode, a_workPhase, a_workLast, a_workPatch, a_letPlace, a_isUsed, fa, a_heldCount, a_cells, a_waiting, a_globals, a_stack, a_openFrame, a_openAt) x := by
  intros
  rename_i post hp
  rcases hV with ⟨rfl, rfl⟩ | ⟨rfl, rfl⟩ | ⟨o, w, t, p, rfl, ev, es⟩
  · exact br_t rfl hp
  · exact br_f (vl_iv_ne0 v) (br_t (vl_iv_and v) hp)
  · obtain ⟨ho, hw, hN⟩ := h.2.2 o w t p
    refine br_f (vl_ob_ne0 (by omega)) (br_f (by rw [vl_ob_and (by omega)]; decide) (gc_place (by omega) (And.intro (vp_in_nI (by omega) (by omega)) ?_)))
    rw [nI_clamp (by omega)]
    rcases hN with ⟨t0, f0, _⟩ | ⟨e', f, mk, x', et, hft, hf, hmk, ef, _⟩
    · rw [t0, if_pos rfl] at es
      subst es
      exact br_f (by rw [f0]; decide) hp
    · rw [if_neg (by omega)] at es
      subst es
      exact br_t (by rw [ef]; exact nI_pos' (by omega)) hp
def pt_e : Nat → Nat → Bool
  | 0, _ => false
  | d + 1, r => if 2 ≤ r % 4 then true else pt_e d (r / 4)
theorem pt_and {r : Nat} (h : r < 2 ^ 31) : nI r &&& 3 = nI (r % 4) := pk_andN (by omega) 2 (by decide)
theorem pt_shr {r : Nat} (h : r < 2 ^ 31) : nI r >>> ((2 : Int32) &&& 31) = nI (r / 4) := pk_shrN h _ 2 (by decide)
theorem pt_div {r : Nat} (h : r < 2 ^ 31) : nI r / 4 = nI (r / 4) := pk_div (d := 4) h (by omega) (by omega)
theorem pt_rem {r : Nat} (h : r < 2 ^ 31) : nI r - nI r / 4 * 4 = nI (r % 4) := pk_rem (d := 4) h (by omega) (by omega)
theorem pt_hX : ∀ d k r, k + d = 8 → r < 2 ^ 31 → ∀ {f_expressionCount f_functionCount f_codeEnd f_depth f_letCount f_height f_heldNames f_usedCount f_marking f_waitCount f_top f_frame f_at f_openCount f_stepCount f_resultSort f_resultNumber f_levelNow : Int32} {f_marks : Int64} {a_kindOf a_partX a_partY a_partZ a_weightOf a_needOf a_names a_known a_knownNumber a_functionOf a_op a_operand a_workNode a_workPhase a_workLast a_workPatch a_letPlace a_isUsed a_functionAt a_heldCount a_waiting a_openFrame a_openAt : Nat → Int32} {a_cells a_globals a_stack : Nat → Int64} (post : Int32 → Prop), post (if pt_e d r = true then 1 else 0) → wX_hasEnd_4 post f_expressionCount f_functionCount f_codeEnd f_depth f_letCount f_height f_heldNames f_usedCount f_marks f_marking f_waitCount f_top f_frame f_at f_openCount f_stepCount f_resultSort f_resultNumber f_levelNow a_kindOf a_partX a_partY a_partZ a_weightOf a_needOf a_names a_known a_knownNumber a_functionOf a_op a_operand a_workNode a_workPhase a_workLast a_workPatch a_letPlace a_isUsed a_functionAt a_heldCount a_cells a_waiting a_globals a_stack a_openFrame a_openAt (d + 1) (nI r) (nI k) := by
  intro d
  induction d with
  | zero =>
    intro k r hk hr
    intros
    rename_i post hp
    exact br_t (nI_le (a := 8) (by omega) (by omega)) hp
  | succ d ih =>
    intro k r hk hr
    intros
    rename_i post hp
    refine br_f (nI_ge (b := 8) (by omega) (by omega)) ?_
    rw [pt_and hr]
    unfold pt_e at hp
    by_cases z : 2 ≤ r % 4
    · rw [if_pos z, if_pos rfl] at hp
      exact br_f (nI_ge (a := 1) (by omega) (by omega)) hp
    · rw [if_neg z] at hp
      exact br_t (nI_le (b := 1) (by omega) (by omega)) (nm_r (pt_shr hr) (nm_r (nI_1 k) (ih (k + 1) (r / 4) (by omega) (by omega) post hp)))
theorem pt_hY : ∀ d k r, k + d = 8 → r < 2 ^ 31 → ∀ {g_made g_functions g_bodies g_high g_top g_steps g_over g_how g_givenSort g_given : Int32} {b_ek b_ex b_ey b_ez b_ew b_outside b_globalSort b_global b_body b_heldSort b_held b_needed b_envSort b_env b_length b_base b_floor b_begun b_stage b_last b_valueSort b_value : Nat → Int32} (post : Int32 → Prop), post (if pt_e d r = true then 1 else 0) → wY_hasEnd_4 post g_made g_functions g_bodies g_high g_top g_steps g_over g_how g_givenSort g_given b_ek b_ex b_ey b_ez b_ew b_outside b_globalSort b_global b_body b_heldSort b_held b_needed b_envSort b_env b_length b_base b_floor b_begun b_stage b_last b_valueSort b_value (d + 1) (nI r) (nI k) := by
  intro d
  induction d with
  | zero =>
    intro k r hk hr
    intros
    rename_i post hp
    exact br_t (nI_le (a := 8) (by omega) (by omega)) hp
  | succ d ih =>
    intro k r hk hr
    intros
    rename_i post hp
    refine br_f (nI_ge (b := 8) (by omega) (by omega)) (And.intro (by decide) ?_)
    rw [pt_rem hr]
    unfold pt_e at hp
    by_cases z : 2 ≤ r % 4
    · rw [if_pos z, if_pos rfl] at hp
      exact br_f (nI_nlt (b := 2) (by omega) (by omega)) hp
    · rw [if_neg z] at hp
      exact br_t (nI_lt (b := 2) (by omega) (by omega)) (And.intro (by decide) (nm_r (pt_div hr) (nm_r (nI_1 k) (ih (k + 1) (r / 4) (by omega) (by omega) post hp))))
section
variable {FT : Nat → Nat → Nat → Nat → Prop} {P : Nat → Nat → Nat → Prop} {fa hA : Nat → Int32} {cs gl : Nat → Int64} {bd hs hv gs gv : Nat → Int32}
def pt_L (P : Nat → Nat → Nat → Prop) (hs hv gs gv : Nat → Int32) (g a : Nat) (x : Int64) (s v : Int32) : Prop := hp_V P x s v ∧ ((a = 240 ∧ s = gs g ∧ v = gv g) ∨ (a < 240 ∧ s = hs a ∧ v = hv a))
theorem pt_f {g : Nat} (h : hp_H FT P fa hA cs bd hs hv) (hg : g < 4) : ∀ d k r a x s v, k + d = 8 → r < 2 ^ 31 → pt_e d r = true → pt_L P hs hv gs gv g a x s v →
    (∃ a' x' s' v', pt_L P hs hv gs gv g a' x' s' v' ∧ (∀ {f_expressionCount f_functionCount f_codeEnd f_depth f_letCount f_height f_heldNames f_usedCount f_marking f_waitCount f_top f_frame f_at f_openCount f_stepCount f_resultSort f_resultNumber f_levelNow : Int32} {f_marks : Int64} {a_kindOf a_partX a_partY a_partZ a_weightOf a_needOf a_names a_known a_knownNumber a_functionOf a_op a_operand a_workNode a_workPhase a_workLast a_workPatch a_letPlace a_isUsed a_heldCount a_waiting a_openFrame a_openAt : Nat → Int32} {a_globals a_stack : Nat → Int64} (post : Int32 → Prop), post 1 → wX_isWay_10 post f_expressionCount f_functionCount f_codeEnd f_depth f_letCount f_height f_heldNames f_usedCount f_marks f_marking f_waitCount f_top f_frame f_at f_openCount f_stepCount f_resultSort f_resultNumber f_levelNow a_kindOf a_partX a_partY a_partZ a_weightOf a_needOf a_names a_known a_knownNumber a_functionOf a_op a_operand a_workNode a_workPhase a_workLast a_workPatch a_letPlace a_isUsed fa a_heldCount cs a_waiting a_globals a_stack a_openFrame a_openAt (d + 1) x (nI r)) ∧ (∀ {f_expressionCount f_functionCount f_codeEnd f_depth f_letCount f_height f_heldNames f_usedCount f_marking f_waitCount f_top f_frame f_at f_openCount f_stepCount f_resultSort f_resultNumber f_levelNow : Int32} {f_marks : Int64} {a_kindOf a_partX a_partY a_partZ a_weightOf a_needOf a_names a_known a_knownNumber a_functionOf a_op a_operand a_workNode a_workPhase a_workLast a_workPatch a_letPlace a_isUsed a_heldCount a_waiting a_openFrame a_openAt : Nat → Int32} {a_globals a_stack : Nat → Int64} (post : Int64 → Prop), post x' → wX_follow_10 post f_expressionCount f_functionCount f_codeEnd f_depth f_letCount f_height f_heldNames f_usedCount f_marks f_marking f_waitCount f_top f_frame f_at f_openCount f_stepCount f_resultSort f_resultNumber f_levelNow a_kindOf a_partX a_partY a_partZ a_weightOf a_needOf a_names a_known a_knownNumber a_functionOf a_op a_operand a_workNode a_workPhase a_workLast a_workPatch a_letPlace a_isUsed fa a_heldCount cs a_waiting a_globals a_stack a_openFrame a_openAt (d + 1) x (nI r)) ∧
      (∀ {g_made g_functions g_bodies g_high g_top g_steps g_over g_how g_givenSort g_given : Int32} {b_ek b_ex b_ey b_ez b_ew b_outside b_body b_needed b_envSort b_env b_length b_base b_floor b_begun b_stage b_last b_valueSort b_value : Nat → Int32} (post : Int32 → Prop), post (nI a') → wY_follow_10 post (nI g) g_made g_functions g_bodies g_high g_top g_steps g_over g_how g_givenSort g_given b_ek b_ex b_ey b_ez b_ew b_outside gs gv b_body hs hv b_needed b_envSort b_env b_length b_base b_floor b_begun b_stage b_last b_valueSort b_value (d + 1) (nI r) (nI a) (nI k))) ∨
    ((∀ {f_expressionCount f_functionCount f_codeEnd f_depth f_letCount f_height f_heldNames f_usedCount f_marking f_waitCount f_top f_frame f_at f_openCount f_stepCount f_resultSort f_resultNumber f_levelNow : Int32} {f_marks : Int64} {a_kindOf a_partX a_partY a_partZ a_weightOf a_needOf a_names a_known a_knownNumber a_functionOf a_op a_operand a_workNode a_workPhase a_workLast a_workPatch a_letPlace a_isUsed a_heldCount a_waiting a_openFrame a_openAt : Nat → Int32} {a_globals a_stack : Nat → Int64} (post : Int32 → Prop), post 0 → wX_isWay_10 post f_expressionCount f_functionCount f_codeEnd f_depth f_letCount f_height f_heldNames f_usedCount f_marks f_marking f_waitCount f_top f_frame f_at f_openCount f_stepCount f_resultSort f_resultNumber f_levelNow a_kindOf a_partX a_partY a_partZ a_weightOf a_needOf a_names a_known a_knownNumber a_functionOf a_op a_operand a_workNode a_workPhase a_workLast a_workPatch a_letPlace a_isUsed fa a_heldCount cs a_waiting a_globals a_stack a_openFrame a_openAt (d + 1) x (nI r)) ∧
      (∀ {g_made g_functions g_bodies g_high g_top g_steps g_over g_how g_givenSort g_given : Int32} {b_ek b_ex b_ey b_ez b_ew b_outside b_body b_needed b_envSort b_env b_length b_base b_floor b_begun b_stage b_last b_valueSort b_value : Nat → Int32} (post : Int32 → Prop), post (-1) → wY_follow_10 post (nI g) g_made g_functions g_bodies g_high g_top g_steps g_over g_how g_givenSort g_given b_ek b_ex b_ey b_ez b_ew b_outside gs gv b_body hs hv b_needed b_envSort b_env b_length b_base b_floor b_begun b_stage b_last b_valueSort b_value (d + 1) (nI r) (nI a) (nI k))) := by
  intro d
  induction d with
  | zero => intro k r a x s v hk hr he; exact absurd he (by unfold pt_e; decide)
  | succ d ih =>
    intro k r a x s v hk hr he hL
    unfold pt_e at he
    by_cases z : 2 ≤ r % 4
    · refine Or.inl ⟨a, x, s, v, hL, fun post hp => ?_, fun post hp => ?_, fun post hp => ?_⟩
      · refine br_t ?_ hp
        rw [pt_and hr]; exact nI_le (a := 2) (by omega) (by omega)
      · refine br_t ?_ hp
        rw [pt_and hr]; exact nI_le (a := 2) (by omega) (by omega)
      · exact br_f (nI_ge (b := 8) (by omega) (by omega)) (And.intro (by decide) (nm_r (pt_rem hr) (br_f (nI_nlt (b := 2) (by omega) (by omega)) hp)))
    · rw [if_neg z] at he
      have hX : ¬ 2 ≤ nI r &&& 3 := by rw [pt_and hr]; exact nI_ge (b := 2) (by omega) (by omega)
      obtain ⟨V, hloc⟩ := hL
      -- Y's look at the place
      have hY : ∀ {g_made g_functions g_bodies g_high g_top g_steps g_over g_how g_givenSort g_given : Int32} {b_ek b_ex b_ey b_ez b_ew b_outside b_body b_needed b_envSort b_env b_length b_base b_floor b_begun b_stage b_last b_valueSort b_value : Nat → Int32} (post : Int32 → Prop) (n : Nat), (s = 2 → ∀ w, v = nI w → w < 40 → wY_follow_10 post (nI g) g_made g_functions g_bodies g_high g_top g_steps g_over g_how g_givenSort g_given b_ek b_ex b_ey b_ez b_ew b_outside gs gv b_body hs hv b_needed b_envSort b_env b_length b_base b_floor b_begun b_stage b_last b_valueSort b_value n (nI (r / 4)) (nI (6 * w + r % 4)) (nI (k + 1))) → (¬ s = 2 → post (-1)) → ((∃ w, v = nI w ∧ w < 40) ∨ ¬ s = 2) → wY_follow_10 post (nI g) g_made g_functions g_bodies g_high g_top g_steps g_over g_how g_givenSort g_given b_ek b_ex b_ey b_ez b_ew b_outside gs gv b_body hs hv b_needed b_envSort b_env b_length b_base b_floor b_begun b_stage b_last b_valueSort b_value (n + 1) (nI r) (nI a) (nI k) := by
        intros
        rename_i post n c1 c2 c3
        refine br_f (nI_ge (b := 8) (by omega) (by omega)) (And.intro (by decide) (nm_r (pt_rem hr) (br_t (nI_lt (b := 2) (by omega) (by omega)) ?_)))
        have hgi : vp_in (nI g) 4 := vp_in_nI hg (by omega)
        rcases hloc with ⟨ea, es, ev⟩ | ⟨ha, es, ev⟩
        · subst ea
          refine br_t rfl (And.intro hgi (br_t rfl (And.intro hgi ?_)))
          rw [nI_clamp (by omega), ← es, ← ev]
          by_cases q : s = 2
          · obtain ⟨w, ew, hw⟩ := c3.resolve_right (fun f => f q)
            refine br_t q (nm_r (e' := nI (6 * w + r % 4)) (by rw [ew, show (6 : Int32) = nI 6 from rfl, pk_mul, nI_add]) (And.intro (by decide) (nm_r (pt_div hr) (nm_r (nI_1 k) (c1 q w ew hw)))))
          · exact br_f q (c2 q)
        · have hne : ¬ nI a = 240 := fun q => by
            have := (nI_eq (a := a) (b := 240) (by omega) (by omega)).mp q
            omega
          have hai : vp_in (nI a) 240 := vp_in_nI ha (by omega)
          refine br_f hne (And.intro hai (br_f hne (And.intro hai ?_)))
          rw [nI_clamp (by omega), ← es, ← ev]
          by_cases q : s = 2
          · obtain ⟨w, ew, hw⟩ := c3.resolve_right (fun f => f q)
            refine br_t q (nm_r (e' := nI (6 * w + r % 4)) (by rw [ew, show (6 : Int32) = nI 6 from rfl, pk_mul, nI_add]) (And.intro (by decide) (nm_r (pt_div hr) (nm_r (nI_1 k) (c1 q w ew hw)))))
          · exact br_f q (c2 q)
      by_cases q : s = 2
      · obtain ⟨o, w, t, p, ex, ev, es⟩ := hp_V_y V (by rw [q]; decide)
        have ht : t = 0 := by
          by_cases y : t = 0
          · exact y
          · rw [q, if_neg y] at es; exact absurd es (by decide)
        subst ht
        obtain ⟨ho, hw, hN⟩ := h.2.2 o w 0 p
        have hN2 : hp_V P (cs (8 * o + r % 4)) (hs (6 * w + r % 4)) (hv (6 * w + r % 4)) := by
          rcases hN with ⟨_, _, _, va, vb, _⟩ | ⟨e', f, mk, x', et, _⟩
          · by_cases y : r % 4 = 0
            · rw [y]; exact va
            · rw [show r % 4 = 1 by omega]; exact vb
          · exact absurd et (by omega)
        have e8 : 8 * nI o + (nI r &&& 3) = nI (8 * o + r % 4) := by rw [pt_and hr, show (8 : Int32) = nI 8 from rfl, pk_mul, nI_add]
        have hin : vp_in (8 * nI o + (nI r &&& 3)) 384 := by rw [e8]; exact vp_in_nI (by omega) (by omega)
        have ecs : cs (8 * nI o + (nI r &&& 3)).toNatClampNeg = cs (8 * o + r % 4) := by rw [e8, nI_clamp (by omega)]
        have X1 : ∀ {f_expressionCount f_functionCount f_codeEnd f_depth f_letCount f_height f_heldNames f_usedCount f_marking f_waitCount f_top f_frame f_at f_openCount f_stepCount f_resultSort f_resultNumber f_levelNow : Int32} {f_marks : Int64} {a_kindOf a_partX a_partY a_partZ a_weightOf a_needOf a_names a_known a_knownNumber a_functionOf a_op a_operand a_workNode a_workPhase a_workLast a_workPatch a_letPlace a_isUsed a_heldCount a_waiting a_openFrame a_openAt : Nat → Int32} {a_globals a_stack : Nat → Int64} (post : Int32 → Prop) (n : Nat), wX_isWay_10 post f_expressionCount f_functionCount f_codeEnd f_depth f_letCount f_height f_heldNames f_usedCount f_marks f_marking f_waitCount f_top f_frame f_at f_openCount f_stepCount f_resultSort f_resultNumber f_levelNow a_kindOf a_partX a_partY a_partZ a_weightOf a_needOf a_names a_known a_knownNumber a_functionOf a_op a_operand a_workNode a_workPhase a_workLast a_workPatch a_letPlace a_isUsed fa a_heldCount cs a_waiting a_globals a_stack a_openFrame a_openAt n (cs (8 * o + r % 4)) (nI (r / 4)) → wX_isWay_10 post f_expressionCount f_functionCount f_codeEnd f_depth f_letCount f_height f_heldNames f_usedCount f_marks f_marking f_waitCount f_top f_frame f_at f_openCount f_stepCount f_resultSort f_resultNumber f_levelNow a_kindOf a_partX a_partY a_partZ a_weightOf a_needOf a_names a_known a_knownNumber a_functionOf a_op a_operand a_workNode a_workPhase a_workLast a_workPatch a_letPlace a_isUsed fa a_heldCount cs a_waiting a_globals a_stack a_openFrame a_openAt (n + 1) x (nI r) := by
          intros
          rename_i post n hp
          refine br_f hX (hp_sortOf h V _ (br_t q ?_))
          rw [ex]
          exact gc_place (by omega) (And.intro hin (nm_r ecs (nm_r (pt_shr hr) hp)))
        have X2 : ∀ {f_expressionCount f_functionCount f_codeEnd f_depth f_letCount f_height f_heldNames f_usedCount f_marking f_waitCount f_top f_frame f_at f_openCount f_stepCount f_resultSort f_resultNumber f_levelNow : Int32} {f_marks : Int64} {a_kindOf a_partX a_partY a_partZ a_weightOf a_needOf a_names a_known a_knownNumber a_functionOf a_op a_operand a_workNode a_workPhase a_workLast a_workPatch a_letPlace a_isUsed a_heldCount a_waiting a_openFrame a_openAt : Nat → Int32} {a_globals a_stack : Nat → Int64} (post : Int64 → Prop) (n : Nat), wX_follow_10 post f_expressionCount f_functionCount f_codeEnd f_depth f_letCount f_height f_heldNames f_usedCount f_marks f_marking f_waitCount f_top f_frame f_at f_openCount f_stepCount f_resultSort f_resultNumber f_levelNow a_kindOf a_partX a_partY a_partZ a_weightOf a_needOf a_names a_known a_knownNumber a_functionOf a_op a_operand a_workNode a_workPhase a_workLast a_workPatch a_letPlace a_isUsed fa a_heldCount cs a_waiting a_globals a_stack a_openFrame a_openAt n (cs (8 * o + r % 4)) (nI (r / 4)) → wX_follow_10 post f_expressionCount f_functionCount f_codeEnd f_depth f_letCount f_height f_heldNames f_usedCount f_marks f_marking f_waitCount f_top f_frame f_at f_openCount f_stepCount f_resultSort f_resultNumber f_levelNow a_kindOf a_partX a_partY a_partZ a_weightOf a_needOf a_names a_known a_knownNumber a_functionOf a_op a_operand a_workNode a_workPhase a_workLast a_workPatch a_letPlace a_isUsed fa a_heldCount cs a_waiting a_globals a_stack a_openFrame a_openAt (n + 1) x (nI r) := by
          intros
          rename_i post n hp
          refine br_f hX ?_
          rw [ex]
          exact gc_place (by omega) (And.intro hin (nm_r ecs (nm_r (pt_shr hr) hp)))
        have Y1 : ∀ {g_made g_functions g_bodies g_high g_top g_steps g_over g_how g_givenSort g_given : Int32} {b_ek b_ex b_ey b_ez b_ew b_outside b_body b_needed b_envSort b_env b_length b_base b_floor b_begun b_stage b_last b_valueSort b_value : Nat → Int32} (post : Int32 → Prop) (n : Nat), wY_follow_10 post (nI g) g_made g_functions g_bodies g_high g_top g_steps g_over g_how g_givenSort g_given b_ek b_ex b_ey b_ez b_ew b_outside gs gv b_body hs hv b_needed b_envSort b_env b_length b_base b_floor b_begun b_stage b_last b_valueSort b_value n (nI (r / 4)) (nI (6 * w + r % 4)) (nI (k + 1)) → wY_follow_10 post (nI g) g_made g_functions g_bodies g_high g_top g_steps g_over g_how g_givenSort g_given b_ek b_ex b_ey b_ez b_ew b_outside gs gv b_body hs hv b_needed b_envSort b_env b_length b_base b_floor b_begun b_stage b_last b_valueSort b_value (n + 1) (nI r) (nI a) (nI k) := by
          intros
          rename_i post n hp
          refine hY post n (fun _ w' ew' hw' => ?_) (fun f => absurd q f) (Or.inl ⟨w, ev, hw⟩)
          have : w' = w := (nI_eq (by omega) (by omega)).mp (ew'.symm.trans ev)
          rw [this]; exact hp
        rcases ih (k + 1) (r / 4) (6 * w + r % 4) _ _ _ (by omega) (by omega) he ⟨hN2, Or.inr ⟨by omega, rfl, rfl⟩⟩ with ⟨a', x', s', v', L', i1, i2, i3⟩ | ⟨i1, i2⟩
        · exact Or.inl ⟨a', x', s', v', L', fun post hp => X1 post _ (i1 post hp), fun post hp => X2 post _ (i2 post hp), fun post hp => Y1 post _ (i3 post hp)⟩
        · exact Or.inr ⟨fun post hp => X1 post _ (i1 post hp), fun post hp => Y1 post _ (i2 post hp)⟩
      · refine Or.inr ⟨fun post hp => br_f hX (hp_sortOf h V _ (br_f q hp)), fun post hp => hY post _ (fun f => absurd f q) (fun _ => hp) (Or.inr q)⟩
theorem pt_main (h : hp_H FT P fa hA cs bd hs hv) (hgl : ∀ g, g < 4 → hp_V P (gl g) (gs g) (gv g)) (v1 v2 : Int32) :
    (∃ r : Int32, ¬ r = 1 ∧ (∀ {f_expressionCount f_functionCount f_codeEnd f_depth f_letCount f_height f_heldNames f_usedCount f_marking f_waitCount f_top f_frame f_at f_openCount f_stepCount f_resultSort f_resultNumber f_levelNow : Int32} {f_marks : Int64} {a_kindOf a_partX a_partY a_partZ a_weightOf a_needOf a_names a_known a_knownNumber a_functionOf a_op a_operand a_workNode a_workPhase a_workLast a_workPatch a_letPlace a_isUsed a_heldCount a_waiting a_openFrame a_openAt : Nat → Int32} {a_stack : Nat → Int64} (post : Int32 → Prop), post r → wpX_sort post (f_expressionCount, f_functionCount, f_codeEnd, f_depth, f_letCount, f_height, f_heldNames, f_usedCount, f_marks, f_marking, f_waitCount, f_top, f_frame, f_at, f_openCount, f_stepCount, f_resultSort, f_resultNumber, f_levelNow, a_kindOf, a_partX, a_partY, a_partZ, a_weightOf, a_needOf, a_names, a_known, a_knownNumber, a_functionOf, a_op, a_operand, a_workNode, a_workPhase, a_workLast, a_workPatch, a_letPlace, a_isUsed, fa, a_heldCount, cs, a_waiting, gl, a_stack, a_openFrame, a_openAt) v1 v2) ∧ (∀ {g_made g_functions g_bodies g_high g_top g_steps g_over g_how g_givenSort g_given : Int32} {b_ek b_ex b_ey b_ez b_ew b_outside b_body b_needed b_envSort b_env b_length b_base b_floor b_begun b_stage b_last b_valueSort b_value : Nat → Int32} (post : Int32 → Prop), post r → wpY_sort post (g_made, g_functions, g_bodies, g_high, g_top, g_steps, g_over, g_how, g_givenSort, g_given, b_ek, b_ex, b_ey, b_ez, b_ew, b_outside, gs, gv, b_body, hs, hv, b_needed, b_envSort, b_env, b_length, b_base, b_floor, b_begun, b_stage, b_last, b_valueSort, b_value) v1 v2)) ∨
    (∃ (x : Int64) (s v : Int32), hp_V P x s v ∧ (∀ {f_expressionCount f_functionCount f_codeEnd f_depth f_letCount f_height f_heldNames f_usedCount f_marking f_waitCount f_top f_frame f_at f_openCount f_stepCount f_resultSort f_resultNumber f_levelNow : Int32} {f_marks : Int64} {a_kindOf a_partX a_partY a_partZ a_weightOf a_needOf a_names a_known a_knownNumber a_functionOf a_op a_operand a_workNode a_workPhase a_workLast a_workPatch a_letPlace a_isUsed a_heldCount a_waiting a_openFrame a_openAt : Nat → Int32} {a_stack : Nat → Int64} (post : Int32 → Prop), post s → wpX_sort post (f_expressionCount, f_functionCount, f_codeEnd, f_depth, f_letCount, f_height, f_heldNames, f_usedCount, f_marks, f_marking, f_waitCount, f_top, f_frame, f_at, f_openCount, f_stepCount, f_resultSort, f_resultNumber, f_levelNow, a_kindOf, a_partX, a_partY, a_partZ, a_weightOf, a_needOf, a_names, a_known, a_knownNumber, a_functionOf, a_op, a_operand, a_workNode, a_workPhase, a_workLast, a_workPatch, a_letPlace, a_isUsed, fa, a_heldCount, cs, a_waiting, gl, a_stack, a_openFrame, a_openAt) v1 v2) ∧ (∀ {g_made g_functions g_bodies g_high g_top g_steps g_over g_how g_givenSort g_given : Int32} {b_ek b_ex b_ey b_ez b_ew b_outside b_body b_needed b_envSort b_env b_length b_base b_floor b_begun b_stage b_last b_valueSort b_value : Nat → Int32} (post : Int32 → Prop), post s → wpY_sort post (g_made, g_functions, g_bodies, g_high, g_top, g_steps, g_over, g_how, g_givenSort, g_given, b_ek, b_ex, b_ey, b_ez, b_ew, b_outside, gs, gv, b_body, hs, hv, b_needed, b_envSort, b_env, b_length, b_base, b_floor, b_begun, b_stage, b_last, b_valueSort, b_value) v1 v2) ∧
      (∀ {f_expressionCount f_functionCount f_codeEnd f_depth f_letCount f_height f_heldNames f_usedCount f_marking f_waitCount f_top f_frame f_at f_openCount f_stepCount f_resultSort f_resultNumber f_levelNow : Int32} {f_marks : Int64} {a_kindOf a_partX a_partY a_partZ a_weightOf a_needOf a_names a_known a_knownNumber a_functionOf a_op a_operand a_workNode a_workPhase a_workLast a_workPatch a_letPlace a_isUsed a_heldCount a_waiting a_openFrame a_openAt : Nat → Int32} {a_stack : Nat → Int64} (post : Int64 → Prop), post x → wpX_follow post (f_expressionCount, f_functionCount, f_codeEnd, f_depth, f_letCount, f_height, f_heldNames, f_usedCount, f_marks, f_marking, f_waitCount, f_top, f_frame, f_at, f_openCount, f_stepCount, f_resultSort, f_resultNumber, f_levelNow, a_kindOf, a_partX, a_partY, a_partZ, a_weightOf, a_needOf, a_names, a_known, a_knownNumber, a_functionOf, a_op, a_operand, a_workNode, a_workPhase, a_workLast, a_workPatch, a_letPlace, a_isUsed, fa, a_heldCount, cs, a_waiting, gl, a_stack, a_openFrame, a_openAt) v1 v2) ∧
      (∀ {g_made g_functions g_bodies g_high g_top g_steps g_over g_how g_givenSort g_given : Int32} {b_ek b_ex b_ey b_ez b_ew b_outside b_body b_needed b_envSort b_env b_length b_base b_floor b_begun b_stage b_last b_valueSort b_value : Nat → Int32} (post : Int32 → Prop), post v → wpY_follow (fun r_35 => (((r_35 = 240 → (vp_in v1 4 ∧ (post (gv v1.toNatClampNeg)))) ∧ (¬ r_35 = 240 → (vp_in r_35 240 ∧ (post (hv r_35.toNatClampNeg))))))) (g_made, g_functions, g_bodies, g_high, g_top, g_steps, g_over, g_how, g_givenSort, g_given, b_ek, b_ex, b_ey, b_ez, b_ew, b_outside, gs, gv, b_body, hs, hv, b_needed, b_envSort, b_env, b_length, b_base, b_floor, b_begun, b_stage, b_last, b_valueSort, b_value) v1 v2)) := by
  by_cases a : v1 < 0
  · exact Or.inl ⟨-1, by decide, fun post hp => br_t a hp, fun post hp => by unfold wpY_sort; exact br_t a (br_t rfl hp)⟩
  · by_cases b : 3 < v1
    · exact Or.inl ⟨-1, by decide, fun post hp => br_f a (br_t b hp), fun post hp => by unfold wpY_sort; exact br_f a (br_t b (br_t rfl hp))⟩
    · by_cases c : v2 < 0
      · exact Or.inl ⟨-1, by decide, fun post hp => br_f a (br_f b (br_t c hp)), fun post hp => by unfold wpY_sort; exact br_f a (br_f b (br_f (by decide) (br_t c (br_t rfl hp))))⟩
      · by_cases d : 65535 < v2
        · exact Or.inl ⟨-1, by decide, fun post hp => br_f a (br_f b (br_f c (br_t d hp))), fun post hp => by unfold wpY_sort; exact br_f a (br_f b (br_f (by decide) (br_f c (br_t d (br_t rfl hp)))))⟩
        · obtain ⟨g, hg, rfl⟩ := nI_of2 (n := 3) (by decide) a (Int32.not_lt.mp b)
          obtain ⟨r, hr, rfl⟩ := nI_of2 (n := 65535) (by decide) c (Int32.not_lt.mp d)
          have hgi : vp_in (nI g) 4 := vp_in_nI (by omega) (by omega)
          have egl : gl (nI g).toNatClampNeg = gl g := by rw [nI_clamp (by omega)]
          cases z : pt_e 8 r with
          | false =>
            refine Or.inl ⟨-1, by decide, fun post hp => br_f a (br_f b (br_f c (br_f d ⟨9, pt_hX 8 0 r (by omega) (by omega) _ ?_⟩))), fun post hp => by
              unfold wpY_sort
              refine br_f a (br_f b (br_f (by decide) (br_f c (br_f d (br_f (by decide) ⟨9, pt_hY 8 0 r (by omega) (by omega) _ ?_⟩)))))
              rw [z]; exact br_t rfl hp⟩
            rw [z]; exact br_t rfl hp
          | true =>
            have EX : ∀ {f_expressionCount f_functionCount f_codeEnd f_depth f_letCount f_height f_heldNames f_usedCount f_marking f_waitCount f_top f_frame f_at f_openCount f_stepCount f_resultSort f_resultNumber f_levelNow : Int32} {f_marks : Int64} {a_kindOf a_partX a_partY a_partZ a_weightOf a_needOf a_names a_known a_knownNumber a_functionOf a_op a_operand a_workNode a_workPhase a_workLast a_workPatch a_letPlace a_isUsed a_functionAt a_heldCount a_waiting a_openFrame a_openAt : Nat → Int32} {a_cells a_globals a_stack : Nat → Int64} (post : Int32 → Prop), post 1 → wpX_hasEnd post (f_expressionCount, f_functionCount, f_codeEnd, f_depth, f_letCount, f_height, f_heldNames, f_usedCount, f_marks, f_marking, f_waitCount, f_top, f_frame, f_at, f_openCount, f_stepCount, f_resultSort, f_resultNumber, f_levelNow, a_kindOf, a_partX, a_partY, a_partZ, a_weightOf, a_needOf, a_names, a_known, a_knownNumber, a_functionOf, a_op, a_operand, a_workNode, a_workPhase, a_workLast, a_workPatch, a_letPlace, a_isUsed, a_functionAt, a_heldCount, a_cells, a_waiting, a_globals, a_stack, a_openFrame, a_openAt) (nI r) := by
              intros
              rename_i post hp
              refine ⟨9, pt_hX 8 0 r (by omega) (by omega) _ ?_⟩
              rw [z]; exact hp
            have EY : ∀ {g_made g_functions g_bodies g_high g_top g_steps g_over g_how g_givenSort g_given : Int32} {b_ek b_ex b_ey b_ez b_ew b_outside b_globalSort b_global b_body b_heldSort b_held b_needed b_envSort b_env b_length b_base b_floor b_begun b_stage b_last b_valueSort b_value : Nat → Int32} (post : Int32 → Prop), post 1 → wpY_hasEnd post (g_made, g_functions, g_bodies, g_high, g_top, g_steps, g_over, g_how, g_givenSort, g_given, b_ek, b_ex, b_ey, b_ez, b_ew, b_outside, b_globalSort, b_global, b_body, b_heldSort, b_held, b_needed, b_envSort, b_env, b_length, b_base, b_floor, b_begun, b_stage, b_last, b_valueSort, b_value) (nI r) := by
              intros
              rename_i post hp
              refine ⟨9, pt_hY 8 0 r (by omega) (by omega) _ ?_⟩
              rw [z]; exact hp
            rcases pt_f (gs := gs) (gv := gv) h (show g < 4 by omega) 8 0 r 240 _ _ _ (by omega) (by omega) z ⟨hgl g (by omega), Or.inl ⟨rfl, rfl, rfl⟩⟩ with ⟨a', x', s', v', L', i1, i2, i3⟩ | ⟨i1, i2⟩
            · obtain ⟨V', hloc⟩ := L'
              have hcl : ∀ post : Int32 → Prop, post s' → ((nI a' = 240 → (vp_in (nI g) 4 ∧ (post (gs (nI g).toNatClampNeg)))) ∧ (¬ nI a' = 240 → (vp_in (nI a') 240 ∧ (post (hs (nI a').toNatClampNeg))))) := fun post hp => by
                rcases hloc with ⟨ea, es, _⟩ | ⟨ha, es, _⟩
                · subst ea
                  refine br_t rfl (And.intro hgi ?_)
                  rw [nI_clamp (by omega), ← es]; exact hp
                · have hne : ¬ nI a' = 240 := fun q => by
                    have := (nI_eq (a := a') (b := 240) (by omega) (by omega)).mp q
                    omega
                  refine br_f hne (And.intro (vp_in_nI ha (by omega)) ?_)
                  rw [nI_clamp (by omega), ← es]; exact hp
              have hcv : ∀ post : Int32 → Prop, post v' → ((nI a' = 240 → (vp_in (nI g) 4 ∧ (post (gv (nI g).toNatClampNeg)))) ∧ (¬ nI a' = 240 → (vp_in (nI a') 240 ∧ (post (hv (nI a').toNatClampNeg))))) := fun post hp => by
                rcases hloc with ⟨ea, _, es⟩ | ⟨ha, _, es⟩
                · subst ea
                  refine br_t rfl (And.intro hgi ?_)
                  rw [nI_clamp (by omega), ← es]; exact hp
                · have hne : ¬ nI a' = 240 := fun q => by
                    have := (nI_eq (a := a') (b := 240) (by omega) (by omega)).mp q
                    omega
                  refine br_f hne (And.intro (vp_in_nI ha (by omega)) ?_)
                  rw [nI_clamp (by omega), ← es]; exact hp
              have ha0 : (0 : Int32) ≤ nI a' := nI_pos' (by rcases hloc with ⟨q, _⟩ | ⟨q, _⟩ <;> omega)
              refine Or.inr ⟨x', s', v', V', fun post hp => ?_, fun post hp => ?_, fun post hp => And.intro hgi (nm_r egl ⟨9, i2 post hp⟩), fun post hp => ⟨9, i3 _ (hcv post hp)⟩⟩
              · exact br_f a (br_f b (br_f c (br_f d (EX _ (br_f (by decide) (And.intro hgi (nm_r egl ⟨9, i1 _ (br_f (by decide) (And.intro hgi (nm_r egl ⟨9, i2 _ (hp_sortOf h V' _ hp)⟩)))⟩)))))))
              · unfold wpY_sort
                exact br_f a (br_f b (br_f (by decide) (br_f c (br_f d (br_f (by decide) (EY _ (br_f (by decide) ⟨9, i3 _ (br_t ha0 (hcl post hp))⟩)))))))
            · refine Or.inl ⟨-3, by decide, fun post hp => ?_, fun post hp => ?_⟩
              · exact br_f a (br_f b (br_f c (br_f d (EX _ (br_f (by decide) (And.intro hgi (nm_r egl ⟨9, i1 _ (br_t rfl hp)⟩)))))))
              · unfold wpY_sort
                exact br_f a (br_f b (br_f (by decide) (br_f c (br_f d (br_f (by decide) (EY _ (br_f (by decide) ⟨9, i2 _ (br_f (by decide) hp)⟩)))))))
end
theorem i_vc_sort {k : Nat} {u : SX} {v : SY} (I : i_Rel k u v) (hk : k + 5 ≤ 2560) (v1 : Int32) (v2 : Int32) : wpX_sort (fun r => wpY_sort (fun r' => r' = r ∧ i_Rel (k + 5) u v) v v1 v2) u v1 v2 := by
  refine rl_el (k := k) (Q := fun u v => wpX_sort (fun r => wpY_sort (fun r' => r' = r ∧ i_Rel (k + 5) u v) v v1 v2) u v1 v2) ?_ I
  intros
  rename_i h1 h2
  rcases pt_main h2.1 h2.2.2 v1 v2 with ⟨r, _, hX, hY⟩ | ⟨x, s, v, _, hX, hY, _⟩
  · exact hX _ (hY _ ⟨rfl, rl_in h1 h2⟩)
  · exact hX _ (hY _ ⟨rfl, rl_in h1 h2⟩)
theorem i_vc_number {k : Nat} {u : SX} {v : SY} (I : i_Rel k u v) (hk : k + 5 ≤ 2560) (v1 : Int32) (v2 : Int32) : wpX_number (fun r => wpY_number (fun r' => r' = r ∧ i_Rel (k + 5) u v) v v1 v2) u v1 v2 := by
  refine rl_el (k := k) (Q := fun u v => wpX_number (fun r => wpY_number (fun r' => r' = r ∧ i_Rel (k + 5) u v) v v1 v2) u v1 v2) ?_ I
  intros
  rename_i h1 h2
  unfold wpX_number
  rcases pt_main h2.1 h2.2.2 v1 v2 with ⟨r, hr, hX, hY⟩ | ⟨x, s, v, V, hX, hY, fX, fY⟩
  · refine hX _ (br_f hr ?_)
    unfold wpY_number
    exact hY _ (br_f hr ⟨rfl, rl_in h1 h2⟩)
  · by_cases z : s = 1
    · have ex : x = vl_iv v := by
        rcases V with ⟨q, _⟩ | ⟨_, q⟩ | ⟨o, w, t, _, _, _, q⟩
        · rw [z] at q; exact absurd q (by decide)
        · exact q
        · rw [z] at q; split at q <;> exact absurd q (by decide)
      refine hX _ (br_t z (fX _ ?_))
      unfold wpY_number
      exact hY _ (br_t z (fY (fun r' => r' = (x >>> ((2 : Int32).toInt64 &&& 63)).toInt32 ∧ i_Rel (k + 5) _ _) ⟨by rw [ex, vl_iv_pl], rl_in h1 h2⟩))
    · refine hX _ (br_f z ?_)
      unfold wpY_number
      exact hY _ (br_f z ⟨rfl, rl_in h1 h2⟩)
end
section
/-! express: the tests and what is reckoned of a new node -/
theorem tb_hx_t {k : Nat} : tb_hx k = true ↔ ((3 ≤ k ∧ k ≤ 16) ∨ k = 19) := by unfold tb_hx; simp
theorem tb_hy_t {k : Nat} : tb_hy k = true ↔ ((3 ≤ k ∧ k ≤ 9) ∨ (12 ≤ k ∧ k ≤ 14) ∨ k = 16 ∨ k = 18 ∨ k = 19) := by
  unfold tb_hy
  simp
  omega
theorem ex_1 {c : Prop} [Decidable c] {post : Int32 → Prop} (hp : post (if c then 1 else 0)) (h : c) : post 1 := by rw [if_pos h] at hp; exact hp
theorem ex_0 {c : Prop} [Decidable c] {post : Int32 → Prop} (hp : post (if c then 1 else 0)) (h : ¬ c) : post 0 := by rw [if_neg h] at hp; exact hp
theorem ex_hxX {k : Nat} (hk : k ≤ 19) : ∀ {f_expressionCount f_functionCount f_codeEnd f_depth f_letCount f_height f_heldNames f_usedCount f_marking f_waitCount f_top f_frame f_at f_openCount f_stepCount f_resultSort f_resultNumber f_levelNow : Int32} {f_marks : Int64} {a_kindOf a_partX a_partY a_partZ a_weightOf a_needOf a_names a_known a_knownNumber a_functionOf a_op a_operand a_workNode a_workPhase a_workLast a_workPatch a_letPlace a_isUsed a_functionAt a_heldCount a_waiting a_openFrame a_openAt : Nat → Int32} {a_cells a_globals a_stack : Nat → Int64} (post : Int32 → Prop), post (if tb_hx k = true then 1 else 0) → wpX_hasX post (f_expressionCount, f_functionCount, f_codeEnd, f_depth, f_letCount, f_height, f_heldNames, f_usedCount, f_marks, f_marking, f_waitCount, f_top, f_frame, f_at, f_openCount, f_stepCount, f_resultSort, f_resultNumber, f_levelNow, a_kindOf, a_partX, a_partY, a_partZ, a_weightOf, a_needOf, a_names, a_known, a_knownNumber, a_functionOf, a_op, a_operand, a_workNode, a_workPhase, a_workLast, a_workPatch, a_letPlace, a_isUsed, a_functionAt, a_heldCount, a_cells, a_waiting, a_globals, a_stack, a_openFrame, a_openAt) (nI k) := by
  intros
  rename_i post hp
  refine pk_lt k 3 (fun h => ex_0 hp ?_) (fun h => pk_eq k 17 (fun h2 => ex_0 hp ?_) (fun h2 => pk_eq k 18 (fun h3 => ex_0 hp ?_) (fun h3 => ex_1 hp ?_)))
  all_goals rw [tb_hx_t]; omega
theorem ex_hyX {k : Nat} (hk : k ≤ 19) : ∀ {f_expressionCount f_functionCount f_codeEnd f_depth f_letCount f_height f_heldNames f_usedCount f_marking f_waitCount f_top f_frame f_at f_openCount f_stepCount f_resultSort f_resultNumber f_levelNow : Int32} {f_marks : Int64} {a_kindOf a_partX a_partY a_partZ a_weightOf a_needOf a_names a_known a_knownNumber a_functionOf a_op a_operand a_workNode a_workPhase a_workLast a_workPatch a_letPlace a_isUsed a_functionAt a_heldCount a_waiting a_openFrame a_openAt : Nat → Int32} {a_cells a_globals a_stack : Nat → Int64} (post : Int32 → Prop), post (if tb_hy k = true then 1 else 0) → wpX_hasY post (f_expressionCount, f_functionCount, f_codeEnd, f_depth, f_letCount, f_height, f_heldNames, f_usedCount, f_marks, f_marking, f_waitCount, f_top, f_frame, f_at, f_openCount, f_stepCount, f_resultSort, f_resultNumber, f_levelNow, a_kindOf, a_partX, a_partY, a_partZ, a_weightOf, a_needOf, a_names, a_known, a_knownNumber, a_functionOf, a_op, a_operand, a_workNode, a_workPhase, a_workLast, a_workPatch, a_letPlace, a_isUsed, a_functionAt, a_heldCount, a_cells, a_waiting, a_globals, a_stack, a_openFrame, a_openAt) (nI k) := by
  intros
  rename_i post hp
  refine pk_eq k 10 (fun h => ex_0 hp ?_) (fun h => pk_eq k 11 (fun h2 => ex_0 hp ?_) (fun h2 => pk_eq k 15 (fun h3 => ex_0 hp ?_) (fun h3 => pk_eq k 17 (fun h4 => ex_0 hp ?_) (fun h4 => pk_lt k 3 (fun h5 => ex_0 hp ?_) (fun h5 => ex_1 hp ?_)))))
  all_goals rw [tb_hy_t]; omega
theorem ex_hxY {k : Nat} (hk : k ≤ 19) : ∀ {g_made g_functions g_bodies g_high g_top g_steps g_over g_how g_givenSort g_given : Int32} {b_ek b_ex b_ey b_ez b_ew b_outside b_globalSort b_global b_body b_heldSort b_held b_needed b_envSort b_env b_length b_base b_floor b_begun b_stage b_last b_valueSort b_value : Nat → Int32} (post : Int32 → Prop), post (if tb_hx k = true then 1 else 0) → wpY_hasX post (g_made, g_functions, g_bodies, g_high, g_top, g_steps, g_over, g_how, g_givenSort, g_given, b_ek, b_ex, b_ey, b_ez, b_ew, b_outside, b_globalSort, b_global, b_body, b_heldSort, b_held, b_needed, b_envSort, b_env, b_length, b_base, b_floor, b_begun, b_stage, b_last, b_valueSort, b_value) (nI k) := by
  intros
  rename_i post hp
  refine pk_lt k 3 (fun h => pk_eq k 19 (fun h2 => ex_1 hp ?_) (fun h2 => ex_0 hp ?_)) (fun h => pk_le k 16 (fun h2 => ex_1 hp ?_) (fun h2 => pk_eq k 19 (fun h3 => ex_1 hp ?_) (fun h3 => ex_0 hp ?_)))
  all_goals rw [tb_hx_t]; omega
theorem ex_hyY {k : Nat} (hk : k ≤ 19) : ∀ {g_made g_functions g_bodies g_high g_top g_steps g_over g_how g_givenSort g_given : Int32} {b_ek b_ex b_ey b_ez b_ew b_outside b_globalSort b_global b_body b_heldSort b_held b_needed b_envSort b_env b_length b_base b_floor b_begun b_stage b_last b_valueSort b_value : Nat → Int32} (post : Int32 → Prop), post (if tb_hy k = true then 1 else 0) → wpY_hasY post (g_made, g_functions, g_bodies, g_high, g_top, g_steps, g_over, g_how, g_givenSort, g_given, b_ek, b_ex, b_ey, b_ez, b_ew, b_outside, b_globalSort, b_global, b_body, b_heldSort, b_held, b_needed, b_envSort, b_env, b_length, b_base, b_floor, b_begun, b_stage, b_last, b_valueSort, b_value) (nI k) := by
  intros
  rename_i post hp
  have h23 : ((nI k = 16 → post 1) ∧ (¬ nI k = 16 → ((nI k = 18 → post 1) ∧ (¬ nI k = 18 → ((nI k = 19 → post 1) ∧ (¬ nI k = 19 → post 0)))))) ∨ (3 ≤ k ∧ k ≤ 9) ∨ (12 ≤ k ∧ k ≤ 14) := by
    by_cases z : (3 ≤ k ∧ k ≤ 9) ∨ (12 ≤ k ∧ k ≤ 14)
    · exact Or.inr z
    · refine Or.inl (pk_eq k 16 (fun h => ex_1 hp ?_) (fun h => pk_eq k 18 (fun h2 => ex_1 hp ?_) (fun h2 => pk_eq k 19 (fun h3 => ex_1 hp ?_) (fun h3 => ex_0 hp ?_))))
      all_goals rw [tb_hy_t]; omega
  refine pk_lt k 3 (fun h => pk_lt k 12 (fun h2 => h23.resolve_right (by omega)) (fun h2 => by omega)) (fun h => pk_le k 9 (fun h2 => ex_1 hp ?_) (fun h2 => pk_lt k 12 (fun h3 => h23.resolve_right (by omega)) (fun h3 => pk_le k 14 (fun h4 => ex_1 hp ?_) (fun h4 => h23.resolve_right (by omega)))))
  all_goals rw [tb_hy_t]; omega
/-- x is an expression's number -/
def ex_E (n : Nat) (x : Int32) : Prop := ∃ j, j < n ∧ x = nI j
theorem ex_EX {n : Nat} {x : Int32} (hn : n ≤ 60) : ∀ {f_functionCount f_codeEnd f_depth f_letCount f_height f_heldNames f_usedCount f_marking f_waitCount f_top f_frame f_at f_openCount f_stepCount f_resultSort f_resultNumber f_levelNow : Int32} {f_marks : Int64} {a_kindOf a_partX a_partY a_partZ a_weightOf a_needOf a_names a_known a_knownNumber a_functionOf a_op a_operand a_workNode a_workPhase a_workLast a_workPatch a_letPlace a_isUsed a_functionAt a_heldCount a_waiting a_openFrame a_openAt : Nat → Int32} {a_cells a_globals a_stack : Nat → Int64} (post : Int32 → Prop), (ex_E n x → post 1) → (¬ ex_E n x → post 0) → wpX_isExpression post (nI n, f_functionCount, f_codeEnd, f_depth, f_letCount, f_height, f_heldNames, f_usedCount, f_marks, f_marking, f_waitCount, f_top, f_frame, f_at, f_openCount, f_stepCount, f_resultSort, f_resultNumber, f_levelNow, a_kindOf, a_partX, a_partY, a_partZ, a_weightOf, a_needOf, a_names, a_known, a_knownNumber, a_functionOf, a_op, a_operand, a_workNode, a_workPhase, a_workLast, a_workPatch, a_letPlace, a_isUsed, a_functionAt, a_heldCount, a_cells, a_waiting, a_globals, a_stack, a_openFrame, a_openAt) x := by
  intros
  rename_i post h1 h0
  rcases pk_ix x (n := n) (by omega) with z | z | z
  · exact br_t z (h0 (fun ⟨j, hj, e⟩ => by rw [e] at z; exact nI_pos (by omega) z))
  · by_cases y : x < 0
    · exact br_t y (h0 (fun ⟨j, hj, e⟩ => by rw [e] at y; exact nI_pos (by omega) y))
    · exact br_f y (br_t z (h0 (fun ⟨j, hj, e⟩ => by rw [e] at z; exact nI_ge hj (by omega) z)))
  · obtain ⟨j, hj, rfl⟩ := z
    exact br_f (nI_pos (by omega)) (br_f (nI_ge hj (by omega)) (h1 ⟨j, hj, rfl⟩))
theorem ex_EY {n : Nat} {x : Int32} (hn : n ≤ 60) : ∀ {g_functions g_bodies g_high g_top g_steps g_over g_how g_givenSort g_given : Int32} {b_ek b_ex b_ey b_ez b_ew b_outside b_globalSort b_global b_body b_heldSort b_held b_needed b_envSort b_env b_length b_base b_floor b_begun b_stage b_last b_valueSort b_value : Nat → Int32} (post : Int32 → Prop), (ex_E n x → post 1) → (¬ ex_E n x → post 0) → wpY_isExpression post (nI n, g_functions, g_bodies, g_high, g_top, g_steps, g_over, g_how, g_givenSort, g_given, b_ek, b_ex, b_ey, b_ez, b_ew, b_outside, b_globalSort, b_global, b_body, b_heldSort, b_held, b_needed, b_envSort, b_env, b_length, b_base, b_floor, b_begun, b_stage, b_last, b_valueSort, b_value) x := by
  intros
  rename_i post h1 h0
  unfold wpY_isExpression
  rcases pk_ix x (n := n) (by omega) with z | z | z
  · exact br_t z ⟨rfl, h0 (fun ⟨j, hj, e⟩ => by rw [e] at z; exact nI_pos (by omega) z)⟩
  · by_cases y : x < 0
    · exact br_t y ⟨rfl, h0 (fun ⟨j, hj, e⟩ => by rw [e] at y; exact nI_pos (by omega) y)⟩
    · obtain ⟨j, hj, rfl⟩ := nI_of y
      rw [nI_leI (by omega) hj] at z
      refine br_f y (br_t ?_ ⟨rfl, h0 (fun ⟨j', hj', e⟩ => by have := (nI_eq (by omega) (by omega)).mp e; omega)⟩)
      cases n with
      | zero => rw [Int32.lt_iff_toInt_lt, nI_toInt (by omega)]; exact Int.lt_of_lt_of_le (show (nI 0 - 1).toInt < 0 by decide) (by omega)
      | succ n => rw [nI_pred]; exact nI_lt (by omega) (by omega)
  · obtain ⟨j, hj, rfl⟩ := z
    refine br_f (nI_pos (by omega)) (br_f ?_ ⟨rfl, h1 ⟨j, hj, rfl⟩⟩)
    cases n with
    | zero => omega
    | succ n => rw [nI_pred]; exact nI_nlt (by omega) (by omega)
/-- the operands of a new node fit -/
def ex_fit (n k : Nat) (x y z : Int32) : Prop :=
  (k = 1 → 0 ≤ x ∧ x ≤ 7) ∧ ((k = 17 ∨ k = 18) → 0 ≤ x ∧ x ≤ 3) ∧ (tb_hx k = true → ex_E n x) ∧ (tb_hy k = true → ex_E n y) ∧ (k = 8 → ex_E n z)
theorem ex_107 {n k : Nat} {z : Int32} (hn : n ≤ 60) (hk : k ≤ 19) : ∀ {f_functionCount f_codeEnd f_depth f_letCount f_height f_heldNames f_usedCount f_marking f_waitCount f_top f_frame f_at f_openCount f_stepCount f_resultSort f_resultNumber f_levelNow : Int32} {f_marks : Int64} {a_kindOf a_partX a_partY a_partZ a_weightOf a_needOf a_names a_known a_knownNumber a_functionOf a_op a_operand a_workNode a_workPhase a_workLast a_workPatch a_letPlace a_isUsed a_functionAt a_heldCount a_waiting a_openFrame a_openAt : Nat → Int32} {a_cells a_globals a_stack : Nat → Int64} (post : Int32 → Prop), ((k = 8 → ex_E n z) → post 1) → (¬ (k = 8 → ex_E n z) → post 0) → wX_operandsFit_107 post (nI k) z (nI n) f_functionCount f_codeEnd f_depth f_letCount f_height f_heldNames f_usedCount f_marks f_marking f_waitCount f_top f_frame f_at f_openCount f_stepCount f_resultSort f_resultNumber f_levelNow a_kindOf a_partX a_partY a_partZ a_weightOf a_needOf a_names a_known a_knownNumber a_functionOf a_op a_operand a_workNode a_workPhase a_workLast a_workPatch a_letPlace a_isUsed a_functionAt a_heldCount a_cells a_waiting a_globals a_stack a_openFrame a_openAt := by
  intros
  rename_i post h1 h0
  exact pk_eq k 8 (fun e => ex_EX hn _ (fun q => br_f (by decide) (h1 (fun _ => q))) (fun q => br_t rfl (h0 (fun f => q (f e))))) (fun e => h1 (fun h => absurd h e))
theorem ex_89 {n k : Nat} {y z : Int32} (hn : n ≤ 60) (hk : k ≤ 19) : ∀ {f_functionCount f_codeEnd f_depth f_letCount f_height f_heldNames f_usedCount f_marking f_waitCount f_top f_frame f_at f_openCount f_stepCount f_resultSort f_resultNumber f_levelNow : Int32} {f_marks : Int64} {a_kindOf a_partX a_partY a_partZ a_weightOf a_needOf a_names a_known a_knownNumber a_functionOf a_op a_operand a_workNode a_workPhase a_workLast a_workPatch a_letPlace a_isUsed a_functionAt a_heldCount a_waiting a_openFrame a_openAt : Nat → Int32} {a_cells a_globals a_stack : Nat → Int64} (post : Int32 → Prop), ((tb_hy k = true → ex_E n y) ∧ (k = 8 → ex_E n z) → post 1) → (¬ ((tb_hy k = true → ex_E n y) ∧ (k = 8 → ex_E n z)) → post 0) → wX_operandsFit_89 post (nI k) y z (nI n) f_functionCount f_codeEnd f_depth f_letCount f_height f_heldNames f_usedCount f_marks f_marking f_waitCount f_top f_frame f_at f_openCount f_stepCount f_resultSort f_resultNumber f_levelNow a_kindOf a_partX a_partY a_partZ a_weightOf a_needOf a_names a_known a_knownNumber a_functionOf a_op a_operand a_workNode a_workPhase a_workLast a_workPatch a_letPlace a_isUsed a_functionAt a_heldCount a_cells a_waiting a_globals a_stack a_openFrame a_openAt := by
  intros
  rename_i post h1 h0
  refine ex_hyX hk _ ?_
  by_cases c : tb_hy k = true
  · rw [if_pos c]
    exact br_f (by decide) (ex_EX hn _ (fun q => br_f (by decide) (ex_107 hn hk _ (fun w => h1 ⟨fun _ => q, w⟩) (fun w => h0 (fun f => w f.2)))) (fun q => br_t rfl (h0 (fun f => q (f.1 c)))))
  · rw [if_neg c]
    exact br_t rfl (ex_107 hn hk _ (fun w => h1 ⟨fun f => absurd f c, w⟩) (fun w => h0 (fun f => w f.2)))
theorem ex_fitX {n k : Nat} {x y z : Int32} (hn : n ≤ 60) (hk : k ≤ 19) : ∀ {f_functionCount f_codeEnd f_depth f_letCount f_height f_heldNames f_usedCount f_marking f_waitCount f_top f_frame f_at f_openCount f_stepCount f_resultSort f_resultNumber f_levelNow : Int32} {f_marks : Int64} {a_kindOf a_partX a_partY a_partZ a_weightOf a_needOf a_names a_known a_knownNumber a_functionOf a_op a_operand a_workNode a_workPhase a_workLast a_workPatch a_letPlace a_isUsed a_functionAt a_heldCount a_waiting a_openFrame a_openAt : Nat → Int32} {a_cells a_globals a_stack : Nat → Int64} (post : Int32 → Prop), (ex_fit n k x y z → post 1) → (¬ ex_fit n k x y z → post 0) → wpX_operandsFit post (nI n, f_functionCount, f_codeEnd, f_depth, f_letCount, f_height, f_heldNames, f_usedCount, f_marks, f_marking, f_waitCount, f_top, f_frame, f_at, f_openCount, f_stepCount, f_resultSort, f_resultNumber, f_levelNow, a_kindOf, a_partX, a_partY, a_partZ, a_weightOf, a_needOf, a_names, a_known, a_knownNumber, a_functionOf, a_op, a_operand, a_workNode, a_workPhase, a_workLast, a_workPatch, a_letPlace, a_isUsed, a_functionAt, a_heldCount, a_cells, a_waiting, a_globals, a_stack, a_openFrame, a_openAt) (nI k) x y z := by
  intros
  rename_i post h1 h0
  refine pk_eq k 1 (fun e => ?_) (fun e => pk_eq k 17 (fun e2 => ?_) (fun e2 => pk_eq k 18 (fun e3 => ?_) (fun e3 => ?_)))
  · subst e
    by_cases a : x < 0
    · exact br_t a (h0 (fun f => absurd a (Int32.not_lt.mpr (f.1 rfl).1)))
    · by_cases b : 7 < x
      · exact br_f a (br_t b (h0 (fun f => absurd b (Int32.not_lt.mpr (f.1 rfl).2))))
      · exact br_f a (br_f b (h1 ⟨fun _ => ⟨Int32.not_lt.mp a, Int32.not_lt.mp b⟩, fun h => by omega, fun h => absurd h (by decide), fun h => absurd h (by decide), fun h => by omega⟩))
  · subst e2
    by_cases a : x < 0
    · exact br_t a (h0 (fun f => absurd a (Int32.not_lt.mpr (f.2.1 (Or.inl rfl)).1)))
    · by_cases b : 3 < x
      · exact br_f a (br_t b (h0 (fun f => absurd b (Int32.not_lt.mpr (f.2.1 (Or.inl rfl)).2))))
      · exact br_f a (br_f b (h1 ⟨fun h => by omega, fun _ => ⟨Int32.not_lt.mp a, Int32.not_lt.mp b⟩, fun h => absurd h (by decide), fun h => absurd h (by decide), fun h => by omega⟩))
  · subst e3
    by_cases a : x < 0
    · exact br_t a (h0 (fun f => absurd a (Int32.not_lt.mpr (f.2.1 (Or.inr rfl)).1)))
    · by_cases b : 3 < x
      · exact br_f a (br_t b (h0 (fun f => absurd b (Int32.not_lt.mpr (f.2.1 (Or.inr rfl)).2))))
      · exact br_f a (br_f b (ex_EX hn _ (fun q => br_f (by decide) (h1 ⟨fun h => by omega, fun _ => ⟨Int32.not_lt.mp a, Int32.not_lt.mp b⟩, fun h => absurd h (by decide), fun _ => q, fun h => by omega⟩)) (fun q => br_t rfl (h0 (fun f => q (f.2.2.2.1 (by decide)))))))
  · refine ex_hxX hk _ ?_
    by_cases c : tb_hx k = true
    · rw [if_pos c]
      exact br_f (by decide) (ex_EX hn _ (fun q => br_f (by decide) (ex_89 hn hk _ (fun w => h1 ⟨fun f => absurd f e, fun f => by omega, fun _ => q, w.1, w.2⟩) (fun w => h0 (fun f => w ⟨f.2.2.2.1, f.2.2.2.2⟩)))) (fun q => br_t rfl (h0 (fun f => q (f.2.2.1 c)))))
    · rw [if_neg c]
      exact br_t rfl (ex_89 hn hk _ (fun w => h1 ⟨fun f => absurd f e, fun f => by omega, fun f => absurd f c, w.1, w.2⟩) (fun w => h0 (fun f => w ⟨f.2.2.2.1, f.2.2.2.2⟩)))
/-! what is needed, and the names -/
theorem nd_0 : tb_nd 0 0 := ⟨fun i _ => Nat.zero_testBit i, fun h => absurd h (by omega)⟩
theorem nd_or {a b da db : Nat} (ha : tb_nd a da) (hb : tb_nd b db) : tb_nd (a ||| b) (if da ≤ db then db else da) := by
  by_cases z : da ≤ db
  · rw [if_pos z]
    refine ⟨fun i hi => ?_, fun h => ?_⟩
    · rw [Nat.testBit_or, ha.1 i (by omega), hb.1 i hi]; rfl
    · rw [Nat.testBit_or, hb.2 h]; simp
  · rw [if_neg z]
    refine ⟨fun i hi => ?_, fun h => ?_⟩
    · rw [Nat.testBit_or, ha.1 i hi, hb.1 i (by omega)]; rfl
    · rw [Nat.testBit_or, ha.2 h]; rfl
theorem nd_d2 {m d : Nat} (h : tb_nd m d) : tb_nd (m / 2) (d - 1) := by
  refine ⟨fun i hi => ?_, fun hd => ?_⟩
  · rw [← Nat.testBit_succ]; exact h.1 _ (by omega)
  · rw [← Nat.testBit_succ, show (d - 1 - 1).succ = d - 1 by omega]; exact h.2 (by omega)
theorem nd_d4 {m d : Nat} (h : tb_nd m d) : tb_nd (m / 4) (d - 2) := by
  have := nd_d2 (nd_d2 h)
  rw [Nat.div_div_eq_div_mul] at this
  rw [show d - 2 = d - 1 - 1 by omega]
  exact this
theorem nd_pw (x : Nat) : tb_nd (2 ^ x) (x + 1) := by
  refine ⟨fun i hi => ?_, fun _ => Nat.testBit_two_pow_self⟩
  rw [Nat.testBit_two_pow]
  simp
  omega
theorem nd_8 {m d : Nat} (h : tb_nd m d) (hm : m < 256) : d ≤ 8 := by
  by_cases z : d ≤ 8
  · exact z
  · have a := h.2 (by omega)
    have b : m.testBit (d - 1) = false := Nat.testBit_lt_two_pow (Nat.lt_of_lt_of_le hm (show 2 ^ 8 ≤ 2 ^ (d - 1) from Nat.pow_le_pow_right (by omega) (by omega)))
    rw [b] at a
    exact absurd a (by decide)
theorem nd_z {m d : Nat} (h : tb_nd m d) : d = 0 ↔ m = 0 := by
  constructor
  · intro z
    apply Nat.eq_of_testBit_eq
    intro i
    rw [h.1 i (by omega), Nat.zero_testBit]
  · intro z
    by_cases y : d = 0
    · exact y
    · have := h.2 (by omega)
      rw [z, Nat.zero_testBit] at this
      exact absurd this (by decide)
theorem nx_or (a b : Nat) : nI a ||| nI b = nI (a ||| b) := by
  apply Int32.toBitVec_inj.mp
  rw [Int32.toBitVec_or]
  show BitVec.ofNat 32 a ||| BitVec.ofNat 32 b = BitVec.ofNat 32 (a ||| b)
  exact BitVec.ofNat_or.symm
theorem ex_gr {a b : Nat} (ha : a < 1000) (hb : b < 1000) : ∀ {f_expressionCount f_functionCount f_codeEnd f_depth f_letCount f_height f_heldNames f_usedCount f_marking f_waitCount f_top f_frame f_at f_openCount f_stepCount f_resultSort f_resultNumber f_levelNow : Int32} {f_marks : Int64} {a_kindOf a_partX a_partY a_partZ a_weightOf a_needOf a_names a_known a_knownNumber a_functionOf a_op a_operand a_workNode a_workPhase a_workLast a_workPatch a_letPlace a_isUsed a_functionAt a_heldCount a_waiting a_openFrame a_openAt : Nat → Int32} {a_cells a_globals a_stack : Nat → Int64} (post : Int32 → Prop), post (nI (if a ≤ b then b else a)) → wpX_greater post (f_expressionCount, f_functionCount, f_codeEnd, f_depth, f_letCount, f_height, f_heldNames, f_usedCount, f_marks, f_marking, f_waitCount, f_top, f_frame, f_at, f_openCount, f_stepCount, f_resultSort, f_resultNumber, f_levelNow, a_kindOf, a_partX, a_partY, a_partZ, a_weightOf, a_needOf, a_names, a_known, a_knownNumber, a_functionOf, a_op, a_operand, a_workNode, a_workPhase, a_workLast, a_workPatch, a_letPlace, a_isUsed, a_functionAt, a_heldCount, a_cells, a_waiting, a_globals, a_stack, a_openFrame, a_openAt) (nI a) (nI b) := by
  intros
  rename_i post hp
  refine pk_le a b (fun h => ?_) (fun h => ?_)
  · rw [if_pos h] at hp; exact hp
  · rw [if_neg (by omega)] at hp; exact hp
/-- the parts of a new node: numbers jx, jy, jz, each used where the kind has that part -/
def ex_P (n k : Nat) (x y z : Int32) (jx jy jz : Nat) : Prop :=
  ((k = 1 ∨ k = 17 ∨ k = 18 ∨ tb_hx k = true) → x = nI jx) ∧ (k = 1 → jx ≤ 7) ∧ ((k = 17 ∨ k = 18) → jx ≤ 3) ∧ (tb_hx k = true → jx < n) ∧ (tb_hy k = true → y = nI jy ∧ jy < n) ∧ (k = 8 → z = nI jz ∧ jz < n)
theorem ex_part {n k : Nat} {x y z : Int32} (h : ex_fit n k x y z) : ∃ jx jy jz, ex_P n k x y z jx jy jz := by
  obtain ⟨h1, h2, h3, h4, h5⟩ := h
  have hx : ∃ jx, ((k = 1 ∨ k = 17 ∨ k = 18 ∨ tb_hx k = true) → x = nI jx) ∧ (k = 1 → jx ≤ 7) ∧ ((k = 17 ∨ k = 18) → jx ≤ 3) ∧ (tb_hx k = true → jx < n) := by
    by_cases a : k = 1
    · obtain ⟨j, hj, e⟩ := nI_of2 (n := 7) (by decide) (Int32.not_lt.mpr (h1 a).1) (h1 a).2
      subst a
      exact ⟨j, fun _ => e, fun _ => hj, fun q => by omega, fun q => absurd q (by decide)⟩
    · by_cases b : k = 17 ∨ k = 18
      · obtain ⟨j, hj, e⟩ := nI_of2 (n := 3) (by decide) (Int32.not_lt.mpr (h2 b).1) (h2 b).2
        exact ⟨j, fun _ => e, fun q => absurd q a, fun _ => hj, fun q => by rw [tb_hx_t] at q; omega⟩
      · by_cases c : tb_hx k = true
        · obtain ⟨j, hj, e⟩ := h3 c
          exact ⟨j, fun _ => e, fun q => absurd q a, fun q => absurd q b, fun _ => hj⟩
        · exact ⟨0, fun q => (q.elim a (fun q => q.elim (fun q => b (Or.inl q)) (fun q => q.elim (fun q => b (Or.inr q)) c))).elim, fun q => absurd q a, fun q => absurd q b, fun q => absurd q c⟩
  have hy : ∃ jy, tb_hy k = true → y = nI jy ∧ jy < n := by
    by_cases c : tb_hy k = true
    · obtain ⟨j, hj, e⟩ := h4 c
      exact ⟨j, fun _ => ⟨e, hj⟩⟩
    · exact ⟨0, fun q => absurd q c⟩
  have hz : ∃ jz, k = 8 → z = nI jz ∧ jz < n := by
    by_cases c : k = 8
    · obtain ⟨j, hj, e⟩ := h5 c
      exact ⟨j, fun _ => ⟨e, hj⟩⟩
    · exact ⟨0, fun q => absurd q c⟩
  obtain ⟨jx, a⟩ := hx
  obtain ⟨jy, b⟩ := hy
  obtain ⟨jz, c⟩ := hz
  exact ⟨jx, jy, jz, a.1, a.2.1, a.2.2.1, a.2.2.2, b, c⟩
section
variable {n k jx jy jz : Nat} {x y z : Int32} {ND M : Nat → Int32}
theorem ex_need (hn : n ≤ 60) (hk : k ≤ 19) (hP : ex_P n k x y z jx jy jz) (hND : ∀ e, e < n → ∃ d, d ≤ 8 ∧ ND e = nI d ∧ tb_nd (tb_c M e) d) :
    ∃ d, d < 100 ∧ tb_nd (tb_m k jx (tb_c M jx) (tb_c M jy) (tb_c M jz)) d ∧ ∀ {f_expressionCount f_functionCount f_codeEnd f_depth f_letCount f_height f_heldNames f_usedCount f_marking f_waitCount f_top f_frame f_at f_openCount f_stepCount f_resultSort f_resultNumber f_levelNow : Int32} {f_marks : Int64} {a_kindOf a_partX a_partY a_partZ a_weightOf a_names a_known a_knownNumber a_functionOf a_op a_operand a_workNode a_workPhase a_workLast a_workPatch a_letPlace a_isUsed a_functionAt a_heldCount a_waiting a_openFrame a_openAt : Nat → Int32} {a_cells a_globals a_stack : Nat → Int64} (post : Int32 → Prop), post (nI d) → wpX_needFor post (f_expressionCount, f_functionCount, f_codeEnd, f_depth, f_letCount, f_height, f_heldNames, f_usedCount, f_marks, f_marking, f_waitCount, f_top, f_frame, f_at, f_openCount, f_stepCount, f_resultSort, f_resultNumber, f_levelNow, a_kindOf, a_partX, a_partY, a_partZ, a_weightOf, ND, a_names, a_known, a_knownNumber, a_functionOf, a_op, a_operand, a_workNode, a_workPhase, a_workLast, a_workPatch, a_letPlace, a_isUsed, a_functionAt, a_heldCount, a_cells, a_waiting, a_globals, a_stack, a_openFrame, a_openAt) (nI k) x y z := by
  obtain ⟨p1, p2, p3, p4, p5, p6⟩ := hP
  have ne : ∀ a b : Nat, a < 100 → b < 100 → ¬ a = b → ¬ nI a = nI b := fun a b ha hb h q => h ((nI_eq (by omega) (by omega)).mp q)
  by_cases c1 : k = 1
  · subst c1
    have := p2 rfl
    refine ⟨jx + 1, by omega, nd_pw jx, fun post hp => br_t rfl ?_⟩
    rw [p1 (Or.inl rfl), nI_1]; exact hp
  · have n1 := ne k 1 (by omega) (by omega) c1
    by_cases c15 : k = 15
    · subst c15
      have hj := p4 (by decide)
      obtain ⟨d, hd, e, hnd⟩ := hND jx hj
      refine ⟨d - 2, by omega, nd_d4 hnd, fun post hp => br_f n1 (br_t rfl ?_)⟩
      rw [p1 (Or.inr (Or.inr (Or.inr (by decide)))), nI_clamp (by omega), e]
      refine And.intro (vp_in_nI (by omega) (by omega)) (pk_le d 2 (fun h => ?_) (fun h => And.intro (vp_in_nI (by omega) (by omega)) ?_))
      · rw [show d - 2 = 0 by omega] at hp; exact hp
      · rw [show (2 : Int32) = nI 2 from rfl, pk_sub (by omega)]; exact hp
    · have n15 := ne k 15 (by omega) (by omega) c15
      by_cases c18 : k = 18
      · subst c18
        obtain ⟨ey, hj⟩ := p5 (by decide)
        obtain ⟨d, hd, e, hnd⟩ := hND jy hj
        refine ⟨d, by omega, ?_, fun post hp => br_f n1 (br_f n15 (br_t rfl ?_))⟩
        · show tb_nd (0 ||| tb_c M jy ||| 0) d
          rw [Nat.zero_or, Nat.or_zero]; exact hnd
        · rw [ey, nI_clamp (by omega), e]
          exact And.intro (vp_in_nI (by omega) (by omega)) hp
      · have n18 := ne k 18 (by omega) (by omega) c18
        by_cases cx : tb_hx k = true
        · have hj := p4 cx
          have ex := p1 (Or.inr (Or.inr (Or.inr cx)))
          obtain ⟨dx, hdx, exd, hndx⟩ := hND jx hj
          have hinx : vp_in (nI jx) 60 := vp_in_nI (by omega) (by omega)
          by_cases c14 : k = 14
          · subst c14
            obtain ⟨ey, hjy⟩ := p5 (by decide)
            obtain ⟨dy, hdy, eyd, hndy⟩ := hND jy hjy
            refine ⟨if dx ≤ dy - 1 then dy - 1 else dx, by split <;> omega, nd_or hndx (nd_d2 hndy), fun post hp => br_f n1 (br_f n15 (br_f n18 (ex_hxX (by omega) _ (br_f (by decide) ?_))))⟩
            rw [ex, ey]
            refine And.intro hinx (nm_r (e' := nI dx) (by rw [nI_clamp (by omega), exd]) (br_t rfl (And.intro (vp_in_nI (by omega) (by omega)) ?_)))
            rw [nI_clamp (by omega), eyd]
            cases dy with
            | zero =>
              have hz : ¬ nI dx ≤ nI 0 - 1 := fun q => by
                rw [Int32.le_iff_toInt_le, nI_toInt (by omega), show (nI 0 - 1).toInt = -1 from by decide] at q
                omega
              refine br_f hz ?_
              by_cases w : dx ≤ 0 - 1
              · rw [if_pos w, show 0 - 1 = dx by omega] at hp; exact hp
              · rw [if_neg w] at hp; exact hp
            | succ dy =>
              rw [nI_pred]
              exact ex_gr (by omega) (by omega) _ hp
          · have n14 := ne k 14 (by omega) (by omega) c14
            by_cases cy : tb_hy k = true
            · obtain ⟨ey, hjy⟩ := p5 cy
              obtain ⟨dy, hdy, eyd, hndy⟩ := hND jy hjy
              have hxy := nd_or hndx hndy
              have ldxy : (if dx ≤ dy then dy else dx) ≤ 8 := by split <;> omega
              by_cases c8 : k = 8
              · subst c8
                obtain ⟨ez, hjz⟩ := p6 rfl
                obtain ⟨dz, hdz, ezd, hndz⟩ := hND jz hjz
                refine ⟨if (if dx ≤ dy then dy else dx) ≤ dz then dz else (if dx ≤ dy then dy else dx), by generalize (if dx ≤ dy then dy else dx) = q at ldxy; split <;> omega, nd_or hxy hndz, fun post hp => br_f n1 (br_f n15 (br_f n18 (ex_hxX (by omega) _ (br_f (by decide) ?_))))⟩
                rw [ex, ey, ez]
                refine And.intro hinx (nm_r (e' := nI dx) (by rw [nI_clamp (by omega), exd]) (br_f n14 (ex_hyX (by omega) _ (br_f (by decide) (And.intro (vp_in_nI (by omega) (by omega)) ?_)))))
                rw [nI_clamp (by omega), eyd]
                refine ex_gr (by omega) (by omega) _ (br_t rfl (And.intro (vp_in_nI (by omega) (by omega)) ?_))
                rw [nI_clamp (by omega), ezd]
                exact ex_gr (by omega) (by omega) _ hp
              · refine ⟨if dx ≤ dy then dy else dx, by omega, ?_, fun post hp => br_f n1 (br_f n15 (br_f n18 (ex_hxX (by omega) _ ?_)))⟩
                · unfold tb_m
                  rw [if_neg c1, if_neg c14, if_neg c15, if_pos cx, if_pos cy, if_neg c8, Nat.or_zero]; exact hxy
                · rw [if_pos cx, ex, ey]
                  refine br_f (by decide) (And.intro hinx (nm_r (e' := nI dx) (by rw [nI_clamp (by omega), exd]) (br_f n14 (ex_hyX (by omega) _ ?_))))
                  rw [if_pos cy]
                  refine br_f (by decide) (And.intro (vp_in_nI (by omega) (by omega)) ?_)
                  rw [nI_clamp (by omega), eyd]
                  exact ex_gr (by omega) (by omega) _ (br_f (ne k 8 (by omega) (by omega) c8) hp)
            · have c8 : ¬ k = 8 := fun q => cy (by rw [q]; decide)
              refine ⟨dx, by omega, ?_, fun post hp => br_f n1 (br_f n15 (br_f n18 (ex_hxX (by omega) _ ?_)))⟩
              · unfold tb_m
                rw [if_neg c1, if_neg c14, if_neg c15, if_pos cx, if_neg cy, if_neg c8, Nat.or_zero, Nat.or_zero]; exact hndx
              · rw [if_pos cx, ex]
                refine br_f (by decide) (And.intro hinx (nm_r (e' := nI dx) (by rw [nI_clamp (by omega), exd]) (br_f n14 (ex_hyX (by omega) _ ?_))))
                rw [if_neg cy]
                exact br_t rfl (br_f (ne k 8 (by omega) (by omega) c8) hp)
        · have cy : ¬ tb_hy k = true := fun q => by rw [tb_hy_t] at q; rw [tb_hx_t] at cx; omega
          have c8 : ¬ k = 8 := fun q => cy (by rw [q]; decide)
          have c14 : ¬ k = 14 := fun q => cy (by rw [q]; decide)
          refine ⟨0, by omega, ?_, fun post hp => br_f n1 (br_f n15 (br_f n18 (ex_hxX (by omega) _ ?_)))⟩
          · unfold tb_m
            rw [if_neg c1, if_neg c14, if_neg c15, if_neg cx, if_neg cy, if_neg c8]; exact nd_0
          · rw [if_neg cx]; exact br_t rfl hp
theorem ex_names (hn : n ≤ 60) (hk : k ≤ 19) (hP : ex_P n k x y z jx jy jz) (hM : ∀ e, e < n → M e = nI (tb_c M e) ∧ tb_c M e < 256) :
    tb_m k jx (tb_c M jx) (tb_c M jy) (tb_c M jz) < 256 ∧ (∀ {f_expressionCount f_functionCount f_codeEnd f_depth f_letCount f_height f_heldNames f_usedCount f_marking f_waitCount f_top f_frame f_at f_openCount f_stepCount f_resultSort f_resultNumber f_levelNow : Int32} {f_marks : Int64} {a_kindOf a_partX a_partY a_partZ a_weightOf a_needOf a_known a_knownNumber a_functionOf a_op a_operand a_workNode a_workPhase a_workLast a_workPatch a_letPlace a_isUsed a_functionAt a_heldCount a_waiting a_openFrame a_openAt : Nat → Int32} {a_cells a_globals a_stack : Nat → Int64} (post : Int32 → Prop), post (nI (tb_m k jx (tb_c M jx) (tb_c M jy) (tb_c M jz))) → wpX_namesFor post (f_expressionCount, f_functionCount, f_codeEnd, f_depth, f_letCount, f_height, f_heldNames, f_usedCount, f_marks, f_marking, f_waitCount, f_top, f_frame, f_at, f_openCount, f_stepCount, f_resultSort, f_resultNumber, f_levelNow, a_kindOf, a_partX, a_partY, a_partZ, a_weightOf, a_needOf, M, a_known, a_knownNumber, a_functionOf, a_op, a_operand, a_workNode, a_workPhase, a_workLast, a_workPatch, a_letPlace, a_isUsed, a_functionAt, a_heldCount, a_cells, a_waiting, a_globals, a_stack, a_openFrame, a_openAt) (nI k) x y z) ∧
    (∀ {g_made g_functions g_bodies g_high g_top g_steps g_over g_how g_givenSort g_given : Int32} {b_ek b_ex b_ey b_ez b_ew b_globalSort b_global b_body b_heldSort b_held b_needed b_envSort b_env b_length b_base b_floor b_begun b_stage b_last b_valueSort b_value : Nat → Int32} (post : Int32 → Prop), post (nI (tb_m k jx (tb_c M jx) (tb_c M jy) (tb_c M jz))) → wpY_setOf post (g_made, g_functions, g_bodies, g_high, g_top, g_steps, g_over, g_how, g_givenSort, g_given, b_ek, b_ex, b_ey, b_ez, b_ew, M, b_globalSort, b_global, b_body, b_heldSort, b_held, b_needed, b_envSort, b_env, b_length, b_base, b_floor, b_begun, b_stage, b_last, b_valueSort, b_value) (nI k) x y z) := by
  obtain ⟨p1, p2, p3, p4, p5, p6⟩ := hP
  have ne : ∀ a b : Nat, a < 100 → b < 100 → ¬ a = b → ¬ nI a = nI b := fun a b ha hb h q => h ((nI_eq (by omega) (by omega)).mp q)
  have sh1 : ∀ a, a < 256 → nI a >>> ((1 : Int32) &&& 31) = nI (a / 2) := fun a ha => pk_shrN (by omega) _ 1 (by decide)
  have sh2 : ∀ a, a < 256 → nI a >>> ((2 : Int32) &&& 31) = nI (a / 4) := fun a ha => pk_shrN (by omega) _ 2 (by decide)
  by_cases c1 : k = 1
  · subst c1
    have h7 := p2 rfl
    have e : (1 : Int32) <<< (nI jx &&& 31) = nI (2 ^ jx) := by
      have := pk_shlN (n := 1) (nI jx &&& 31) jx (s_l jx (by omega)) (by have : 2 ^ jx ≤ 2 ^ 7 := Nat.pow_le_pow_right (by omega) h7; omega)
      rw [Nat.one_mul] at this
      exact this
    have hlt : 2 ^ jx < 256 := by have : 2 ^ jx ≤ 2 ^ 7 := Nat.pow_le_pow_right (by omega) h7; omega
    refine ⟨hlt, fun post hp => br_t rfl ?_, fun post hp => br_t rfl ?_⟩
    · rw [p1 (Or.inl rfl), e]; exact hp
    · rw [p1 (Or.inl rfl), e]; exact hp
  · have n1 := ne k 1 (by omega) (by omega) c1
    by_cases c15 : k = 15
    · subst c15
      have hj := p4 (by decide)
      have ex := p1 (Or.inr (Or.inr (Or.inr (by decide))))
      obtain ⟨em, hm⟩ := hM jx hj
      refine ⟨show tb_c M jx / 4 < 256 by omega, fun post hp => br_f n1 (br_t rfl ?_), fun post hp => br_f n1 (br_f (by decide) (br_t rfl ?_))⟩
      · rw [ex, nI_clamp (by omega), em, sh2 _ hm]
        exact And.intro (vp_in_nI (by omega) (by omega)) hp
      · rw [ex, nI_clamp (by omega), em, sh2 _ hm]
        exact And.intro (vp_in_nI (by omega) (by omega)) hp
    · have n15 := ne k 15 (by omega) (by omega) c15
      by_cases c14 : k = 14
      · subst c14
        have hj := p4 (by decide)
        have ex := p1 (Or.inr (Or.inr (Or.inr (by decide))))
        obtain ⟨ey, hjy⟩ := p5 (by decide)
        obtain ⟨em, hm⟩ := hM jx hj
        obtain ⟨em2, hm2⟩ := hM jy hjy
        have e : nI (tb_c M jx) ||| (nI (tb_c M jy) >>> ((1 : Int32) &&& 31)) = nI (tb_c M jx ||| tb_c M jy / 2) := by rw [sh1 _ hm2, nx_or]
        refine ⟨show tb_c M jx ||| tb_c M jy / 2 < 256 from Nat.or_lt_two_pow (n := 8) hm (by omega), fun post hp => br_f n1 (br_f n15 (br_f (by decide) (ex_hxX (by omega) _ (br_f (by decide) ?_)))), fun post hp => br_f n1 (br_t rfl ?_)⟩
        · rw [ex, ey]
          refine And.intro (vp_in_nI (by omega) (by omega)) (nm_r (e' := nI (tb_c M jx)) (by rw [nI_clamp (by omega), em]) (br_t rfl (And.intro (vp_in_nI (by omega) (by omega)) ?_)))
          rw [nI_clamp (by omega), em2, e]; exact hp
        · rw [ex, ey, nI_clamp (by omega), nI_clamp (by omega), em, em2, e]
          exact And.intro (vp_in_nI (by omega) (by omega)) (And.intro (vp_in_nI (by omega) (by omega)) hp)
      · have n14 := ne k 14 (by omega) (by omega) c14
        have em : tb_m k jx (tb_c M jx) (tb_c M jy) (tb_c M jz) = (if tb_hx k = true then tb_c M jx else 0) ||| (if tb_hy k = true then tb_c M jy else 0) ||| (if k = 8 then tb_c M jz else 0) := by
          unfold tb_m; rw [if_neg c1, if_neg c14, if_neg c15]
        rw [em]
        have bx : (if tb_hx k = true then tb_c M jx else 0) < 256 := by
          split
          · rename_i c; exact (hM jx (p4 c)).2
          · omega
        have by' : (if tb_hy k = true then tb_c M jy else 0) < 256 := by
          split
          · rename_i c; exact (hM jy (p5 c).2).2
          · omega
        have bz : (if k = 8 then tb_c M jz else 0) < 256 := by
          split
          · rename_i c; exact (hM jz (p6 c).2).2
          · omega
        refine ⟨Nat.or_lt_two_pow (n := 8) (Nat.or_lt_two_pow (n := 8) bx by') bz, fun post hp => br_f n1 (br_f n15 ?_), fun post hp => br_f n1 (br_f n14 (br_f n15 (ex_hxY hk _ ?_)))⟩
        · by_cases c18 : k = 18
          · subst c18
            obtain ⟨ey, hjy⟩ := p5 (by decide)
            refine br_t rfl ?_
            rw [ey, nI_clamp (by omega), (hM jy hjy).1]
            refine And.intro (vp_in_nI (by omega) (by omega)) ?_
            have e : (if tb_hx 18 = true then tb_c M jx else 0) ||| (if tb_hy 18 = true then tb_c M jy else 0) ||| (if 18 = 8 then tb_c M jz else 0) = tb_c M jy := by
              show 0 ||| tb_c M jy ||| 0 = _
              rw [Nat.zero_or, Nat.or_zero]
            rw [e] at hp; exact hp
          · refine br_f (ne k 18 (by omega) (by omega) c18) (ex_hxX hk _ ?_)
            by_cases cx : tb_hx k = true
            · rw [if_pos cx] at hp ⊢
              have hj := p4 cx
              refine br_f (by decide) ?_
              rw [p1 (Or.inr (Or.inr (Or.inr cx)))]
              refine And.intro (vp_in_nI (by omega) (by omega)) (nm_r (e' := nI (tb_c M jx)) (by rw [nI_clamp (by omega), (hM jx hj).1]) (br_f n14 (ex_hyX hk _ ?_)))
              by_cases cy : tb_hy k = true
              · rw [if_pos cy] at hp ⊢
                obtain ⟨ey, hjy⟩ := p5 cy
                refine br_f (by decide) ?_
                rw [ey, nI_clamp (by omega), (hM jy hjy).1, nx_or]
                refine And.intro (vp_in_nI (by omega) (by omega)) (nm_e ?_)
                by_cases c8 : k = 8
                · rw [if_pos c8] at hp
                  obtain ⟨ez, hjz⟩ := p6 c8
                  rw [ez]
                  refine br_t (by rw [c8]; rfl) ?_
                  rw [nI_clamp (by omega), (hM jz hjz).1, nx_or]
                  exact And.intro (vp_in_nI (by omega) (by omega)) hp
                · rw [if_neg c8, Nat.or_zero] at hp
                  exact br_f (ne k 8 (by omega) (by omega) c8) hp
              · have c8 : ¬ k = 8 := fun q => cy (by rw [q]; decide)
                rw [if_neg cy, if_neg c8, Nat.or_zero, Nat.or_zero] at hp
                rw [if_neg cy]
                exact br_t rfl (br_f (ne k 8 (by omega) (by omega) c8) hp)
            · have cy : ¬ tb_hy k = true := fun q => by rw [tb_hy_t] at q; rw [tb_hx_t] at cx; omega
              have c8 : ¬ k = 8 := fun q => cy (by rw [q]; decide)
              rw [if_neg cx, if_neg cy, if_neg c8] at hp
              rw [if_neg cx]
              exact br_t rfl hp
        · have fin : ∀ (zx zy : Nat), ∀ {g_made g_functions g_bodies g_high g_top g_steps g_over g_how g_givenSort g_given : Int32} {b_ek b_ex b_ey b_ez b_ew b_globalSort b_global b_body b_heldSort b_held b_needed b_envSort b_env b_length b_base b_floor b_begun b_stage b_last b_valueSort b_value : Nat → Int32} (post : Int32 → Prop), post (nI (zx ||| zy ||| (if k = 8 then tb_c M jz else 0))) → wY_setOf_82 post (nI k) z (nI zy) (nI zx) g_made g_functions g_bodies g_high g_top g_steps g_over g_how g_givenSort g_given b_ek b_ex b_ey b_ez b_ew M b_globalSort b_global b_body b_heldSort b_held b_needed b_envSort b_env b_length b_base b_floor b_begun b_stage b_last b_valueSort b_value := by
            intro zx zy
            intros
            rename_i post hp
            by_cases c8 : k = 8
            · rw [if_pos c8] at hp
              obtain ⟨ez, hjz⟩ := p6 c8
              rw [ez]
              refine br_t (by rw [c8]; rfl) ?_
              rw [nI_clamp (by omega), (hM jz hjz).1, nx_or, nx_or]
              exact And.intro (vp_in_nI (by omega) (by omega)) hp
            · rw [if_neg c8] at hp
              refine br_f (ne k 8 (by omega) (by omega) c8) ?_
              rw [show (0 : Int32) = nI 0 from rfl, nx_or, nx_or]
              exact hp
          have mid : ∀ (zx : Nat), ∀ {g_made g_functions g_bodies g_high g_top g_steps g_over g_how g_givenSort g_given : Int32} {b_ek b_ex b_ey b_ez b_ew b_globalSort b_global b_body b_heldSort b_held b_needed b_envSort b_env b_length b_base b_floor b_begun b_stage b_last b_valueSort b_value : Nat → Int32} (post : Int32 → Prop), post (nI (zx ||| (if tb_hy k = true then tb_c M jy else 0) ||| (if k = 8 then tb_c M jz else 0))) → wY_setOf_64 post (nI k) y z (nI zx) g_made g_functions g_bodies g_high g_top g_steps g_over g_how g_givenSort g_given b_ek b_ex b_ey b_ez b_ew M b_globalSort b_global b_body b_heldSort b_held b_needed b_envSort b_env b_length b_base b_floor b_begun b_stage b_last b_valueSort b_value := by
            intro zx
            intros
            rename_i post hp
            refine ex_hyY hk _ ?_
            by_cases cy : tb_hy k = true
            · rw [if_pos cy] at hp ⊢
              obtain ⟨ey, hjy⟩ := p5 cy
              refine br_f (by decide) ?_
              rw [ey, nI_clamp (by omega), (hM jy hjy).1]
              exact And.intro (vp_in_nI (by omega) (by omega)) (fin _ _ _ hp)
            · rw [if_neg cy] at hp ⊢
              exact br_t rfl (fin zx 0 _ hp)
          by_cases cx : tb_hx k = true
          · rw [if_pos cx] at hp ⊢
            have hj := p4 cx
            refine br_f (by decide) ?_
            rw [p1 (Or.inr (Or.inr (Or.inr cx))), nI_clamp (by omega), (hM jx hj).1]
            exact And.intro (vp_in_nI (by omega) (by omega)) (mid _ _ hp)
          · rw [if_neg cx] at hp ⊢
            exact br_t rfl (mid 0 _ hp)
end
end
section
/-! express: a new node is stored -/
section
variable {n k jx jy jz : Nat} {x y z : Int32} {KN KV : Nat → Int32} {lv : Int32}
theorem ex_know (hn : n < 60) (hk : k ≤ 19) (hP : ex_P n k x y z jx jy jz) (hKN : ∀ e, e < n → KN e = 0 ∨ KN e = 1) :
    ∃ (KN' KV' : Nat → Int32), (∀ j, j ≠ n → KN' j = KN j ∧ KV' j = KV j) ∧
      ((KN' n = 0 ∧ ¬ k = 0) ∨ (KN' n = 1 ∧ k = 0 ∧ KV' n = x) ∨ (KN' n = 1 ∧ (k = 3 ∨ k = 4 ∨ k = 5) ∧ KN jx = 1 ∧ KN jy = 1 ∧ KV' n = (if k = 3 then KV jx + KV jy else if k = 4 then KV jx - KV jy else KV jx * KV jy))) ∧
      ∀ {f_expressionCount f_functionCount f_codeEnd f_depth f_letCount f_height f_heldNames f_usedCount f_marking f_waitCount f_top f_frame f_at f_openCount f_stepCount f_resultSort f_resultNumber : Int32} {f_marks : Int64} {a_kindOf a_partX a_partY a_partZ a_weightOf a_needOf a_names a_functionOf a_op a_operand a_workNode a_workPhase a_workLast a_workPatch a_letPlace a_isUsed a_functionAt a_heldCount a_waiting a_openFrame a_openAt : Nat → Int32} {a_cells a_globals a_stack : Nat → Int64} (post : SX → Prop), post (f_expressionCount, f_functionCount, f_codeEnd, f_depth, f_letCount, f_height, f_heldNames, f_usedCount, f_marks, f_marking, f_waitCount, f_top, f_frame, f_at, f_openCount, f_stepCount, f_resultSort, f_resultNumber, lv, a_kindOf, a_partX, a_partY, a_partZ, a_weightOf, a_needOf, a_names, KN', KV', a_functionOf, a_op, a_operand, a_workNode, a_workPhase, a_workLast, a_workPatch, a_letPlace, a_isUsed, a_functionAt, a_heldCount, a_cells, a_waiting, a_globals, a_stack, a_openFrame, a_openAt) → wpX_know post (f_expressionCount, f_functionCount, f_codeEnd, f_depth, f_letCount, f_height, f_heldNames, f_usedCount, f_marks, f_marking, f_waitCount, f_top, f_frame, f_at, f_openCount, f_stepCount, f_resultSort, f_resultNumber, lv, a_kindOf, a_partX, a_partY, a_partZ, a_weightOf, a_needOf, a_names, KN, KV, a_functionOf, a_op, a_operand, a_workNode, a_workPhase, a_workLast, a_workPatch, a_letPlace, a_isUsed, a_functionAt, a_heldCount, a_cells, a_waiting, a_globals, a_stack, a_openFrame, a_openAt) (nI n) (nI k) x y := by
  have ne : ∀ a b : Nat, a < 100 → b < 100 → ¬ a = b → ¬ nI a = nI b := fun a b ha hb h q => h ((nI_eq (by omega) (by omega)).mp q)
  have hin : vp_in (nI n) 60 := vp_in_nI hn (by omega)
  by_cases c0 : k = 0
  · subst c0
    refine ⟨upd KN n 1, upd KV n x, fun j hj => ⟨pk_un hj, pk_un hj⟩, Or.inr (Or.inl ⟨pk_us, rfl, pk_us⟩), fun post hp => br_t rfl (And.intro hin (nm_r (e' := upd KN n 1) (by rw [nI_clamp (by omega)]; rfl) (br_t rfl (And.intro hin (nm_r (e' := upd KV n x) (by rw [nI_clamp (by omega)]) ?_)))))⟩
    by_cases l : lv < 2
    · exact br_t l hp
    · exact br_f l (br_t (by decide) hp)
  · have n0 := ne k 0 (by omega) (by omega) c0
    have base : ∀ (KN' KV' : Nat → Int32), (∀ {f_expressionCount f_functionCount f_codeEnd f_depth f_letCount f_height f_heldNames f_usedCount f_marking f_waitCount f_top f_frame f_at f_openCount f_stepCount f_resultSort f_resultNumber : Int32} {f_marks : Int64} {a_kindOf a_partX a_partY a_partZ a_weightOf a_needOf a_names a_functionOf a_op a_operand a_workNode a_workPhase a_workLast a_workPatch a_letPlace a_isUsed a_functionAt a_heldCount a_waiting a_openFrame a_openAt : Nat → Int32} {a_cells a_globals a_stack : Nat → Int64} (post : SX → Prop), post (f_expressionCount, f_functionCount, f_codeEnd, f_depth, f_letCount, f_height, f_heldNames, f_usedCount, f_marks, f_marking, f_waitCount, f_top, f_frame, f_at, f_openCount, f_stepCount, f_resultSort, f_resultNumber, lv, a_kindOf, a_partX, a_partY, a_partZ, a_weightOf, a_needOf, a_names, KN', KV', a_functionOf, a_op, a_operand, a_workNode, a_workPhase, a_workLast, a_workPatch, a_letPlace, a_isUsed, a_functionAt, a_heldCount, a_cells, a_waiting, a_globals, a_stack, a_openFrame, a_openAt) → wX_know_26 post (nI n) (nI k) x y f_expressionCount f_functionCount f_codeEnd f_depth f_letCount f_height f_heldNames f_usedCount f_marks f_marking f_waitCount f_top f_frame f_at f_openCount f_stepCount f_resultSort f_resultNumber lv a_kindOf a_partX a_partY a_partZ a_weightOf a_needOf a_names (upd KN n 0) KV a_functionOf a_op a_operand a_workNode a_workPhase a_workLast a_workPatch a_letPlace a_isUsed a_functionAt a_heldCount a_cells a_waiting a_globals a_stack a_openFrame a_openAt) →
        (∀ {f_expressionCount f_functionCount f_codeEnd f_depth f_letCount f_height f_heldNames f_usedCount f_marking f_waitCount f_top f_frame f_at f_openCount f_stepCount f_resultSort f_resultNumber : Int32} {f_marks : Int64} {a_kindOf a_partX a_partY a_partZ a_weightOf a_needOf a_names a_functionOf a_op a_operand a_workNode a_workPhase a_workLast a_workPatch a_letPlace a_isUsed a_functionAt a_heldCount a_waiting a_openFrame a_openAt : Nat → Int32} {a_cells a_globals a_stack : Nat → Int64} (post : SX → Prop), post (f_expressionCount, f_functionCount, f_codeEnd, f_depth, f_letCount, f_height, f_heldNames, f_usedCount, f_marks, f_marking, f_waitCount, f_top, f_frame, f_at, f_openCount, f_stepCount, f_resultSort, f_resultNumber, lv, a_kindOf, a_partX, a_partY, a_partZ, a_weightOf, a_needOf, a_names, KN', KV', a_functionOf, a_op, a_operand, a_workNode, a_workPhase, a_workLast, a_workPatch, a_letPlace, a_isUsed, a_functionAt, a_heldCount, a_cells, a_waiting, a_globals, a_stack, a_openFrame, a_openAt) → wpX_know post (f_expressionCount, f_functionCount, f_codeEnd, f_depth, f_letCount, f_height, f_heldNames, f_usedCount, f_marks, f_marking, f_waitCount, f_top, f_frame, f_at, f_openCount, f_stepCount, f_resultSort, f_resultNumber, lv, a_kindOf, a_partX, a_partY, a_partZ, a_weightOf, a_needOf, a_names, KN, KV, a_functionOf, a_op, a_operand, a_workNode, a_workPhase, a_workLast, a_workPatch, a_letPlace, a_isUsed, a_functionAt, a_heldCount, a_cells, a_waiting, a_globals, a_stack, a_openFrame, a_openAt) (nI n) (nI k) x y) := by
      intro KN' KV' H
      intros
      rename_i post hp
      exact br_f n0 (And.intro hin (nm_r (e' := upd KN n 0) (by rw [nI_clamp (by omega)]; rfl) (br_f n0 (H post hp))))
    have plain : (∀ {f_expressionCount f_functionCount f_codeEnd f_depth f_letCount f_height f_heldNames f_usedCount f_marking f_waitCount f_top f_frame f_at f_openCount f_stepCount f_resultSort f_resultNumber : Int32} {f_marks : Int64} {a_kindOf a_partX a_partY a_partZ a_weightOf a_needOf a_names a_functionOf a_op a_operand a_workNode a_workPhase a_workLast a_workPatch a_letPlace a_isUsed a_functionAt a_heldCount a_waiting a_openFrame a_openAt : Nat → Int32} {a_cells a_globals a_stack : Nat → Int64} (post : SX → Prop), post (f_expressionCount, f_functionCount, f_codeEnd, f_depth, f_letCount, f_height, f_heldNames, f_usedCount, f_marks, f_marking, f_waitCount, f_top, f_frame, f_at, f_openCount, f_stepCount, f_resultSort, f_resultNumber, lv, a_kindOf, a_partX, a_partY, a_partZ, a_weightOf, a_needOf, a_names, upd KN n 0, KV, a_functionOf, a_op, a_operand, a_workNode, a_workPhase, a_workLast, a_workPatch, a_letPlace, a_isUsed, a_functionAt, a_heldCount, a_cells, a_waiting, a_globals, a_stack, a_openFrame, a_openAt) → wX_know_26 post (nI n) (nI k) x y f_expressionCount f_functionCount f_codeEnd f_depth f_letCount f_height f_heldNames f_usedCount f_marks f_marking f_waitCount f_top f_frame f_at f_openCount f_stepCount f_resultSort f_resultNumber lv a_kindOf a_partX a_partY a_partZ a_weightOf a_needOf a_names (upd KN n 0) KV a_functionOf a_op a_operand a_workNode a_workPhase a_workLast a_workPatch a_letPlace a_isUsed a_functionAt a_heldCount a_cells a_waiting a_globals a_stack a_openFrame a_openAt) →
        ∃ (KN' KV' : Nat → Int32), (∀ j, j ≠ n → KN' j = KN j ∧ KV' j = KV j) ∧
      ((KN' n = 0 ∧ ¬ k = 0) ∨ (KN' n = 1 ∧ k = 0 ∧ KV' n = x) ∨ (KN' n = 1 ∧ (k = 3 ∨ k = 4 ∨ k = 5) ∧ KN jx = 1 ∧ KN jy = 1 ∧ KV' n = (if k = 3 then KV jx + KV jy else if k = 4 then KV jx - KV jy else KV jx * KV jy))) ∧
      ∀ {f_expressionCount f_functionCount f_codeEnd f_depth f_letCount f_height f_heldNames f_usedCount f_marking f_waitCount f_top f_frame f_at f_openCount f_stepCount f_resultSort f_resultNumber : Int32} {f_marks : Int64} {a_kindOf a_partX a_partY a_partZ a_weightOf a_needOf a_names a_functionOf a_op a_operand a_workNode a_workPhase a_workLast a_workPatch a_letPlace a_isUsed a_functionAt a_heldCount a_waiting a_openFrame a_openAt : Nat → Int32} {a_cells a_globals a_stack : Nat → Int64} (post : SX → Prop), post (f_expressionCount, f_functionCount, f_codeEnd, f_depth, f_letCount, f_height, f_heldNames, f_usedCount, f_marks, f_marking, f_waitCount, f_top, f_frame, f_at, f_openCount, f_stepCount, f_resultSort, f_resultNumber, lv, a_kindOf, a_partX, a_partY, a_partZ, a_weightOf, a_needOf, a_names, KN', KV', a_functionOf, a_op, a_operand, a_workNode, a_workPhase, a_workLast, a_workPatch, a_letPlace, a_isUsed, a_functionAt, a_heldCount, a_cells, a_waiting, a_globals, a_stack, a_openFrame, a_openAt) → wpX_know post (f_expressionCount, f_functionCount, f_codeEnd, f_depth, f_letCount, f_height, f_heldNames, f_usedCount, f_marks, f_marking, f_waitCount, f_top, f_frame, f_at, f_openCount, f_stepCount, f_resultSort, f_resultNumber, lv, a_kindOf, a_partX, a_partY, a_partZ, a_weightOf, a_needOf, a_names, KN, KV, a_functionOf, a_op, a_operand, a_workNode, a_workPhase, a_workLast, a_workPatch, a_letPlace, a_isUsed, a_functionAt, a_heldCount, a_cells, a_waiting, a_globals, a_stack, a_openFrame, a_openAt) (nI n) (nI k) x y :=
      fun H => ⟨upd KN n 0, KV, fun j hj => ⟨pk_un hj, rfl⟩, Or.inl ⟨pk_us, c0⟩, base _ _ H⟩
    by_cases l : lv < 2
    · exact plain (fun post hp => br_t l hp)
    · by_cases k3 : k < 3
      · exact plain (fun post hp => br_f l (br_t (nI_lt (b := 3) k3 (by omega)) hp))
      · by_cases k6 : 6 ≤ k
        · exact plain (fun post hp => br_f l (br_f (nI_nlt (b := 3) (by omega) (by omega)) (br_t (nI_le (a := 6) k6 (by omega)) hp)))
        · have hx := hP.2.2.2.1 (by rw [tb_hx_t]; omega)
          have ex := hP.1 (Or.inr (Or.inr (Or.inr (by rw [tb_hx_t]; omega))))
          obtain ⟨ey, hy⟩ := hP.2.2.2.2.1 (by rw [tb_hy_t]; omega)
          have hinx : vp_in (nI jx) 60 := vp_in_nI (by omega) (by omega)
          have hiny : vp_in (nI jy) 60 := vp_in_nI (by omega) (by omega)
          subst ex ey
          have ekx : upd KN n 0 (nI jx).toNatClampNeg = KN jx := by rw [nI_clamp (by omega), pk_un (by omega)]
          have eky : upd KN n 0 (nI jy).toNatClampNeg = KN jy := by rw [nI_clamp (by omega), pk_un (by omega)]
          rcases hKN jx hx with zx | zx
          · refine plain (fun post hp => br_f l (br_f (nI_nlt (b := 3) (by omega) (by omega)) (br_f (nI_ge (b := 6) (by omega) (by omega)) (And.intro hinx (br_t (by rw [ekx]; exact zx) hp)))))
          · rcases hKN jy hy with zy | zy
            · refine plain (fun post hp => br_f l (br_f (nI_nlt (b := 3) (by omega) (by omega)) (br_f (nI_ge (b := 6) (by omega) (by omega)) (And.intro hinx (br_f (by rw [ekx, zx]; decide) (And.intro hiny (br_t (by rw [eky]; exact zy) hp)))))))
            · refine ⟨upd (upd KN n 0) n 1, upd KV n (if k = 3 then KV jx + KV jy else if k = 4 then KV jx - KV jy else KV jx * KV jy), fun j hj => ⟨by rw [pk_un hj, pk_un hj], pk_un hj⟩, Or.inr (Or.inr ⟨pk_us, by omega, zx, zy, pk_us⟩), base _ _ (fun post hp => br_f l (br_f (nI_nlt (b := 3) (by omega) (by omega)) (br_f (nI_ge (b := 6) (by omega) (by omega)) (And.intro hinx (br_f (by rw [ekx, zx]; decide) (And.intro hiny (br_f (by rw [eky, zy]; decide) (And.intro hin (nm_r (e' := upd (upd KN n 0) n 1) (by rw [nI_clamp (by omega)]; rfl) (And.intro hinx (And.intro hiny ?_)))))))))))⟩
              rw [nI_clamp (by omega), nI_clamp (by omega)]
              refine pk_eq k 3 (fun e => ?_) (fun e => pk_eq k 4 (fun e2 => ?_) (fun e2 => ?_))
              · rw [if_pos e] at hp
                exact And.intro hin (nm_r (e' := upd KV n (KV jx + KV jy)) (by rw [nI_clamp (by omega)]) hp)
              · rw [if_neg e, if_pos e2] at hp
                exact And.intro hin (nm_r (e' := upd KV n (KV jx - KV jy)) (by rw [nI_clamp (by omega)]) hp)
              · rw [if_neg e, if_neg e2] at hp
                exact And.intro hin (nm_r (e' := upd KV n (KV jx * KV jy)) (by rw [nI_clamp (by omega)]) hp)
end
/-! the tables with one node more -/
theorem tb_w_cg {k a b c a' b' c' : Nat} (h1 : tb_hx k = true → a' = a) (h2 : tb_hy k = true → b' = b) (h3 : k = 8 → c' = c) : tb_w k a' b' c' = tb_w k a b c := by
  unfold tb_w
  have e1 : (if tb_hx k = true then a' else 0) = (if tb_hx k = true then a else 0) := by split <;> simp_all
  have e2 : (if tb_hy k = true then b' else 0) = (if tb_hy k = true then b else 0) := by split <;> simp_all
  have e3 : (if k = 8 then c' else 0) = (if k = 8 then c else 0) := by split <;> simp_all
  rw [e1, e2, e3]
theorem tb_m_cg {k x x' a b c a' b' c' : Nat} (h0 : k = 1 → x' = x) (h1 : tb_hx k = true → a' = a) (h2 : tb_hy k = true → b' = b) (h3 : k = 8 → c' = c) : tb_m k x' a' b' c' = tb_m k x a b c := by
  unfold tb_m
  by_cases c1 : k = 1
  · rw [if_pos c1, if_pos c1, h0 c1]
  · rw [if_neg c1, if_neg c1]
    by_cases c14 : k = 14
    · rw [if_pos c14, if_pos c14, h1 (by rw [c14]; decide), h2 (by rw [c14]; decide)]
    · rw [if_neg c14, if_neg c14]
      by_cases c15 : k = 15
      · rw [if_pos c15, if_pos c15, h1 (by rw [c15]; decide)]
      · rw [if_neg c15, if_neg c15]
        have e1 : (if tb_hx k = true then a' else 0) = (if tb_hx k = true then a else 0) := by split <;> simp_all
        have e2 : (if tb_hy k = true then b' else 0) = (if tb_hy k = true then b else 0) := by split <;> simp_all
        have e3 : (if k = 8 then c' else 0) = (if k = 8 then c else 0) := by split <;> simp_all
        rw [e1, e2, e3]
section
variable {n : Nat} {K X Y Z W M PY PZ ND KN KV FO OP OD K' X' Y' Z' W' M' PY' PZ' ND' KN' KV' FO' OP' OD' : Nat → Int32}
theorem tb_c_eq {a b : Nat → Int32} {i : Nat} (h : a i = b i) : tb_c a i = tb_c b i := by unfold tb_c; rw [h]
theorem tb_N_cg (hA : ∀ e, e < n → K' e = K e ∧ X' e = X e ∧ Y' e = Y e ∧ Z' e = Z e ∧ W' e = W e ∧ M' e = M e) {e : Nat} (he : e < n) (h : tb_N K X Y Z W M e) : tb_N K' X' Y' Z' W' M' e := by
  obtain ⟨a1, a2, a3, a4, a5, a6⟩ := hA e he
  have c1 := tb_c_eq a1
  have c2 := tb_c_eq a2
  have c3 := tb_c_eq a3
  have c4 := tb_c_eq a4
  have c5 := tb_c_eq a5
  have c6 := tb_c_eq a6
  unfold tb_N at h ⊢
  rw [c1, c2, c3, c4, c5, c6, a1, a2, a3, a4, a5, a6]
  obtain ⟨h1, h2, h3, h4, h5, h6, ⟨h7, h8, h9⟩, ⟨h10, h11, h12⟩⟩ := h
  refine ⟨h1, h2, h3, h4, h5, h6, ⟨h7, h8, h9.trans ?_⟩, ⟨h10, h11, h12.trans ?_⟩⟩
  · exact tb_w_cg (fun q => (tb_c_eq (hA _ (by have := (h2 q).2; omega)).2.2.2.2.1).symm) (fun q => (tb_c_eq (hA _ (by have := (h3 q).2; omega)).2.2.2.2.1).symm) (fun q => (tb_c_eq (hA _ (by have := (h4 q).2; omega)).2.2.2.2.1).symm)
  · exact tb_m_cg (fun _ => rfl) (fun q => (tb_c_eq (hA _ (by have := (h2 q).2; omega)).2.2.2.2.2).symm) (fun q => (tb_c_eq (hA _ (by have := (h3 q).2; omega)).2.2.2.2.2).symm) (fun q => (tb_c_eq (hA _ (by have := (h4 q).2; omega)).2.2.2.2.2).symm)
theorem tb_Kn_cg (hA : ∀ e, e < n → K' e = K e ∧ X' e = X e ∧ Y' e = Y e ∧ KN' e = KN e ∧ KV' e = KV e) (hN : ∀ e, e < n → tb_N K X Y Z W M e) {e : Nat} (he : e < n) (h : tb_Kn K X Y KN KV e) : tb_Kn K' X' Y' KN' KV' e := by
  obtain ⟨a1, a2, a3, a4, a5⟩ := hA e he
  have c2 := tb_c_eq a2
  have c3 := tb_c_eq a3
  unfold tb_Kn at h ⊢
  rw [c2, c3, a1, a2, a4, a5]
  rcases h with h | h | ⟨h1, h2, h3, h4, h5⟩
  · exact Or.inl h
  · exact Or.inr (Or.inl h)
  · have hk : tb_hx (tb_c K e) = true ∧ tb_hy (tb_c K e) = true := by
      rcases h2 with q | q | q <;> (rw [tb_lit q]; decide)
    have hx := ((hN e he).2.1 hk.1).2
    have hy := ((hN e he).2.2.1 hk.2).2
    obtain ⟨_, _, _, b4, b5⟩ := hA (tb_c X e) (by omega)
    obtain ⟨_, _, _, d4, d5⟩ := hA (tb_c Y e) (by omega)
    rw [b4, b5, d4, d5]
    exact Or.inr (Or.inr ⟨h1, h2, h3, h4, h5⟩)
end
theorem hp_H_ft {FT FT' : Nat → Nat → Nat → Nat → Prop} {P : Nat → Nat → Nat → Prop} {fa hA : Nat → Int32} {cs : Nat → Int64} {bd hs hv : Nat → Int32} (hf : ∀ e f mk x, FT e f mk x → FT' e f mk x) (h : hp_H FT P fa hA cs bd hs hv) : hp_H FT' P fa hA cs bd hs hv := by
  refine ⟨h.1, h.2.1, fun o w t p => ?_⟩
  obtain ⟨ho, hw, hN⟩ := h.2.2 o w t p
  refine ⟨ho, hw, hN.imp id ?_⟩
  rintro ⟨e', f, mk, x, et, hft, r⟩
  exact ⟨e', f, mk, x, et, hf _ _ _ _ hft, r⟩
section
variable {n k jx jy jz w m : Nat} {x y z : Int32} {K X Y Z W M : Nat → Int32}
/-- the new node is well made -/
theorem ex_newN (hk : k ≤ 19) (hP : ex_P n k x y z jx jy jz) (hn : n < 60) (hw : w = tb_w k (tb_c W jx) (tb_c W jy) (tb_c W jz)) (hw30 : w ≤ 30) (hm : m = tb_m k jx (tb_c M jx) (tb_c M jy) (tb_c M jz)) (hm256 : m < 256) :
    tb_N (upd K n (nI k)) (upd X n x) (upd Y n y) (upd Z n z) (upd W n (nI w)) (upd M n (nI m)) n := by
  obtain ⟨p1, p2, p3, p4, p5, p6⟩ := hP
  have cl : ∀ (a : Nat → Int32) (v : Nat), v < 2 ^ 31 → tb_c (upd a n (nI v)) n = v := fun a v hv => by unfold tb_c; rw [pk_us, nI_clamp hv]
  have ck := cl K k (by omega)
  have cw := cl W w (by omega)
  have cm := cl M m (by omega)
  have cx : (k = 1 ∨ k = 17 ∨ k = 18 ∨ tb_hx k = true) → tb_c (upd X n x) n = jx ∧ jx < 60 := fun q => by
    have hj : jx < 60 := by
      rcases q with q | q | q | q
      · have := p2 q; omega
      · have := p3 (Or.inl q); omega
      · have := p3 (Or.inr q); omega
      · have := p4 q; omega
    rw [p1 q]; exact ⟨cl X jx (by omega), hj⟩
  have cy : tb_hy k = true → tb_c (upd Y n y) n = jy := fun q => by rw [(p5 q).1]; exact cl Y jy (by have := (p5 q).2; omega)
  have cz : k = 8 → tb_c (upd Z n z) n = jz := fun q => by rw [(p6 q).1]; exact cl Z jz (by have := (p6 q).2; omega)
  have cX : tb_hx k = true → tb_c (upd X n x) n = jx := fun q => (cx (Or.inr (Or.inr (Or.inr q)))).1
  unfold tb_N
  rw [ck, cw, cm, pk_us, pk_us, pk_us, pk_us, pk_us, pk_us]
  refine ⟨⟨rfl, hk⟩, fun q => ?_, fun q => ?_, fun q => ?_, fun q => ?_, fun q => ?_, ⟨rfl, hw30, ?_⟩, ⟨rfl, hm256, ?_⟩⟩
  · rw [cX q]; exact ⟨p1 (Or.inr (Or.inr (Or.inr q))), p4 q⟩
  · rw [cy q]; exact p5 q
  · rw [cz q]; exact p6 q
  · rw [(cx (Or.inl q)).1]; exact ⟨p1 (Or.inl q), p2 q⟩
  · have q' : k = 1 ∨ k = 17 ∨ k = 18 ∨ tb_hx k = true := by
      rcases q with q | q
      · exact Or.inr (Or.inl q)
      · exact Or.inr (Or.inr (Or.inl q))
    rw [(cx q').1]; exact ⟨p1 q', p3 q⟩
  · rw [hw]
    refine (tb_w_cg (fun q => ?_) (fun q => ?_) (fun q => ?_)).symm
    · rw [cX q]; exact tb_c_eq (pk_un (by have := p4 q; omega))
    · rw [cy q]; exact tb_c_eq (pk_un (by have := (p5 q).2; omega))
    · rw [cz q]; exact tb_c_eq (pk_un (by have := (p6 q).2; omega))
  · rw [hm]
    refine (tb_m_cg (fun q => (cx (Or.inl q)).1) (fun q => ?_) (fun q => ?_) (fun q => ?_)).symm
    · rw [cX q]; exact tb_c_eq (pk_un (by have := p4 q; omega))
    · rw [cy q]; exact tb_c_eq (pk_un (by have := (p5 q).2; omega))
    · rw [cz q]; exact tb_c_eq (pk_un (by have := (p6 q).2; omega))
end
end
section
/-! express: both walks, and the relation kept -/
section
variable {n k jx jy jz w : Nat} {x y z : Int32} {W : Nat → Int32}
theorem ex_XN (hn : n < 60) (hk : k ≤ 19) (hf : ¬ ex_fit n k x y z) : ∀ {f_functionCount f_codeEnd f_depth f_letCount f_height f_heldNames f_usedCount f_marking f_waitCount f_top f_frame f_at f_openCount f_stepCount f_resultSort f_resultNumber f_levelNow : Int32} {f_marks : Int64} {a_kindOf a_partX a_partY a_partZ a_weightOf a_needOf a_names a_known a_knownNumber a_functionOf a_op a_operand a_workNode a_workPhase a_workLast a_workPatch a_letPlace a_isUsed a_functionAt a_heldCount a_waiting a_openFrame a_openAt : Nat → Int32} {a_cells a_globals a_stack : Nat → Int64} (post : Int32 → SX → Prop), post (-1) (nI n, f_functionCount, f_codeEnd, f_depth, f_letCount, f_height, f_heldNames, f_usedCount, f_marks, f_marking, f_waitCount, f_top, f_frame, f_at, f_openCount, f_stepCount, f_resultSort, f_resultNumber, f_levelNow, a_kindOf, a_partX, a_partY, a_partZ, a_weightOf, a_needOf, a_names, a_known, a_knownNumber, a_functionOf, a_op, a_operand, a_workNode, a_workPhase, a_workLast, a_workPatch, a_letPlace, a_isUsed, a_functionAt, a_heldCount, a_cells, a_waiting, a_globals, a_stack, a_openFrame, a_openAt) → wpX_express post (nI n, f_functionCount, f_codeEnd, f_depth, f_letCount, f_height, f_heldNames, f_usedCount, f_marks, f_marking, f_waitCount, f_top, f_frame, f_at, f_openCount, f_stepCount, f_resultSort, f_resultNumber, f_levelNow, a_kindOf, a_partX, a_partY, a_partZ, a_weightOf, a_needOf, a_names, a_known, a_knownNumber, a_functionOf, a_op, a_operand, a_workNode, a_workPhase, a_workLast, a_workPatch, a_letPlace, a_isUsed, a_functionAt, a_heldCount, a_cells, a_waiting, a_globals, a_stack, a_openFrame, a_openAt) (nI k) x y z := by
  intros
  rename_i post hp
  exact br_t (nI_lt (b := 60) hn (by omega)) (br_f (nI_pos (by omega)) (br_f (nI_nlt (a := 19) hk (by omega)) (ex_fitX (by omega) hk _ (fun q => absurd q hf) (fun _ => br_t rfl hp))))
theorem ex_wl {a b : Nat} (W : Nat → Int32) (h : W b = nI (tb_c W b)) (hb : b < 60) : nI a + W (nI b).toNatClampNeg = nI (a + tb_c W b) := by
  rw [nI_clamp (by omega), h, nI_add]
theorem ex_XF (hn : n < 60) (hk : k ≤ 19) (hf : ex_fit n k x y z) (hP : ex_P n k x y z jx jy jz) (hW : ∀ e, e < n → W e = nI (tb_c W e) ∧ tb_c W e ≤ 30) (hw : w = tb_w k (tb_c W jx) (tb_c W jy) (tb_c W jz)) :
    ∀ {f_functionCount f_codeEnd f_depth f_letCount f_height f_heldNames f_usedCount f_marking f_waitCount f_top f_frame f_at f_openCount f_stepCount f_resultSort f_resultNumber f_levelNow : Int32} {f_marks : Int64} {a_kindOf a_partX a_partY a_partZ a_needOf a_names a_known a_knownNumber a_functionOf a_op a_operand a_workNode a_workPhase a_workLast a_workPatch a_letPlace a_isUsed a_functionAt a_heldCount a_waiting a_openFrame a_openAt : Nat → Int32} {a_cells a_globals a_stack : Nat → Int64} (post : Int32 → SX → Prop), wX_express_95 post (nI k) x y z (nI w) (nI n) f_functionCount f_codeEnd f_depth f_letCount f_height f_heldNames f_usedCount f_marks f_marking f_waitCount f_top f_frame f_at f_openCount f_stepCount f_resultSort f_resultNumber f_levelNow a_kindOf a_partX a_partY a_partZ W a_needOf a_names a_known a_knownNumber a_functionOf a_op a_operand a_workNode a_workPhase a_workLast a_workPatch a_letPlace a_isUsed a_functionAt a_heldCount a_cells a_waiting a_globals a_stack a_openFrame a_openAt → wpX_express post (nI n, f_functionCount, f_codeEnd, f_depth, f_letCount, f_height, f_heldNames, f_usedCount, f_marks, f_marking, f_waitCount, f_top, f_frame, f_at, f_openCount, f_stepCount, f_resultSort, f_resultNumber, f_levelNow, a_kindOf, a_partX, a_partY, a_partZ, W, a_needOf, a_names, a_known, a_knownNumber, a_functionOf, a_op, a_operand, a_workNode, a_workPhase, a_workLast, a_workPatch, a_letPlace, a_isUsed, a_functionAt, a_heldCount, a_cells, a_waiting, a_globals, a_stack, a_openFrame, a_openAt) (nI k) x y z := by
  obtain ⟨p1, p2, p3, p4, p5, p6⟩ := hP
  have ne : ∀ a b : Nat, a < 100 → b < 100 → ¬ a = b → ¬ nI a = nI b := fun a b ha hb h q => h ((nI_eq (by omega) (by omega)).mp q)
  have f77 : ∀ a, ∀ {f_functionCount f_codeEnd f_depth f_letCount f_height f_heldNames f_usedCount f_marking f_waitCount f_top f_frame f_at f_openCount f_stepCount f_resultSort f_resultNumber f_levelNow : Int32} {f_marks : Int64} {a_kindOf a_partX a_partY a_partZ a_needOf a_names a_known a_knownNumber a_functionOf a_op a_operand a_workNode a_workPhase a_workLast a_workPatch a_letPlace a_isUsed a_functionAt a_heldCount a_waiting a_openFrame a_openAt : Nat → Int32} {a_cells a_globals a_stack : Nat → Int64} (post : Int32 → SX → Prop), wX_express_95 post (nI k) x y z (nI (a + (if k = 8 then tb_c W jz else 0))) (nI n) f_functionCount f_codeEnd f_depth f_letCount f_height f_heldNames f_usedCount f_marks f_marking f_waitCount f_top f_frame f_at f_openCount f_stepCount f_resultSort f_resultNumber f_levelNow a_kindOf a_partX a_partY a_partZ W a_needOf a_names a_known a_knownNumber a_functionOf a_op a_operand a_workNode a_workPhase a_workLast a_workPatch a_letPlace a_isUsed a_functionAt a_heldCount a_cells a_waiting a_globals a_stack a_openFrame a_openAt → wX_express_77 post (nI k) x y z (nI a) (nI n) f_functionCount f_codeEnd f_depth f_letCount f_height f_heldNames f_usedCount f_marks f_marking f_waitCount f_top f_frame f_at f_openCount f_stepCount f_resultSort f_resultNumber f_levelNow a_kindOf a_partX a_partY a_partZ W a_needOf a_names a_known a_knownNumber a_functionOf a_op a_operand a_workNode a_workPhase a_workLast a_workPatch a_letPlace a_isUsed a_functionAt a_heldCount a_cells a_waiting a_globals a_stack a_openFrame a_openAt := by
    intro a
    intros
    rename_i post hp
    by_cases c8 : k = 8
    · rw [if_pos c8] at hp
      obtain ⟨ez, hjz⟩ := p6 c8
      subst ez
      exact br_t (by rw [c8]; rfl) (And.intro (vp_in_nI (by omega) (by omega)) (nm_r (ex_wl W (hW jz hjz).1 (by omega)) hp))
    · rw [if_neg c8] at hp
      exact br_f (ne k 8 (by omega) (by omega) c8) hp
  have f58 : ∀ a, ∀ {f_functionCount f_codeEnd f_depth f_letCount f_height f_heldNames f_usedCount f_marking f_waitCount f_top f_frame f_at f_openCount f_stepCount f_resultSort f_resultNumber f_levelNow : Int32} {f_marks : Int64} {a_kindOf a_partX a_partY a_partZ a_needOf a_names a_known a_knownNumber a_functionOf a_op a_operand a_workNode a_workPhase a_workLast a_workPatch a_letPlace a_isUsed a_functionAt a_heldCount a_waiting a_openFrame a_openAt : Nat → Int32} {a_cells a_globals a_stack : Nat → Int64} (post : Int32 → SX → Prop), wX_express_95 post (nI k) x y z (nI (a + (if tb_hy k = true then tb_c W jy else 0) + (if k = 8 then tb_c W jz else 0))) (nI n) f_functionCount f_codeEnd f_depth f_letCount f_height f_heldNames f_usedCount f_marks f_marking f_waitCount f_top f_frame f_at f_openCount f_stepCount f_resultSort f_resultNumber f_levelNow a_kindOf a_partX a_partY a_partZ W a_needOf a_names a_known a_knownNumber a_functionOf a_op a_operand a_workNode a_workPhase a_workLast a_workPatch a_letPlace a_isUsed a_functionAt a_heldCount a_cells a_waiting a_globals a_stack a_openFrame a_openAt → wX_express_58 post (nI k) x y z (nI a) (nI n) f_functionCount f_codeEnd f_depth f_letCount f_height f_heldNames f_usedCount f_marks f_marking f_waitCount f_top f_frame f_at f_openCount f_stepCount f_resultSort f_resultNumber f_levelNow a_kindOf a_partX a_partY a_partZ W a_needOf a_names a_known a_knownNumber a_functionOf a_op a_operand a_workNode a_workPhase a_workLast a_workPatch a_letPlace a_isUsed a_functionAt a_heldCount a_cells a_waiting a_globals a_stack a_openFrame a_openAt := by
    intro a
    intros
    rename_i post hp
    refine ex_hyX hk _ ?_
    by_cases c : tb_hy k = true
    · rw [if_pos c] at hp ⊢
      obtain ⟨ey, hjy⟩ := p5 c
      subst ey
      exact br_f (by decide) (And.intro (vp_in_nI (by omega) (by omega)) (nm_r (ex_wl W (hW jy hjy).1 (by omega)) (f77 _ _ hp)))
    · rw [if_neg c] at hp ⊢
      exact br_t rfl (f77 _ _ hp)
  intros
  rename_i post hp
  rw [hw] at hp
  refine br_t (nI_lt (b := 60) hn (by omega)) (br_f (nI_pos (by omega)) (br_f (nI_nlt (a := 19) hk (by omega)) (ex_fitX (by omega) hk _ (fun _ => br_f (by decide) (ex_hxX hk _ ?_)) (fun q => absurd hf q))))
  unfold tb_w at hp
  by_cases c : tb_hx k = true
  · rw [if_pos c] at hp ⊢
    have hj := p4 c
    have ex := p1 (Or.inr (Or.inr (Or.inr c)))
    subst ex
    exact br_f (by decide) (And.intro (vp_in_nI (by omega) (by omega)) (nm_r (e' := nI (1 + tb_c W jx)) (ex_wl (a := 1) W (hW jx hj).1 (by omega)) (f58 _ _ hp)))
  · rw [if_neg c] at hp ⊢
    exact br_t rfl (f58 1 _ hp)
theorem ex_inY {a : Int32} {lo hi : Int32} : ∀ {g_made g_functions g_bodies g_high g_top g_steps g_over g_how g_givenSort g_given : Int32} {b_ek b_ex b_ey b_ez b_ew b_outside b_globalSort b_global b_body b_heldSort b_held b_needed b_envSort b_env b_length b_base b_floor b_begun b_stage b_last b_valueSort b_value : Nat → Int32} (post : Int32 → Prop), (lo ≤ a ∧ a ≤ hi → post 1) → (¬ (lo ≤ a ∧ a ≤ hi) → post 0) → wpY_in post (g_made, g_functions, g_bodies, g_high, g_top, g_steps, g_over, g_how, g_givenSort, g_given, b_ek, b_ex, b_ey, b_ez, b_ew, b_outside, b_globalSort, b_global, b_body, b_heldSort, b_held, b_needed, b_envSort, b_env, b_length, b_base, b_floor, b_begun, b_stage, b_last, b_valueSort, b_value) a lo hi := by
  intros
  rename_i post h1 h0
  by_cases c : a < lo
  · exact br_t c (h0 (fun q => absurd c (Int32.not_lt.mpr q.1)))
  · by_cases d : hi < a
    · exact br_f c (br_t d (h0 (fun q => absurd d (Int32.not_lt.mpr q.2))))
    · exact br_f c (br_f d (h1 ⟨Int32.not_lt.mp c, Int32.not_lt.mp d⟩))
theorem ex_YF (hn : n < 60) (hk : k ≤ 19) : ∀ {g_functions g_bodies g_high g_top g_steps g_over g_how g_givenSort g_given : Int32} {b_ek b_ex b_ey b_ez b_ew b_outside b_globalSort b_global b_body b_heldSort b_held b_needed b_envSort b_env b_length b_base b_floor b_begun b_stage b_last b_valueSort b_value : Nat → Int32} (post : Int32 → SY → Prop), (ex_fit n k x y z → wY_express_112 post (nI k) x y z (nI n) g_functions g_bodies g_high g_top g_steps g_over g_how g_givenSort g_given b_ek b_ex b_ey b_ez b_ew b_outside b_globalSort b_global b_body b_heldSort b_held b_needed b_envSort b_env b_length b_base b_floor b_begun b_stage b_last b_valueSort b_value) → (¬ ex_fit n k x y z → post (-1) (nI n, g_functions, g_bodies, g_high, g_top, g_steps, g_over, g_how, g_givenSort, g_given, b_ek, b_ex, b_ey, b_ez, b_ew, b_outside, b_globalSort, b_global, b_body, b_heldSort, b_held, b_needed, b_envSort, b_env, b_length, b_base, b_floor, b_begun, b_stage, b_last, b_valueSort, b_value)) → wpY_express post (nI n, g_functions, g_bodies, g_high, g_top, g_steps, g_over, g_how, g_givenSort, g_given, b_ek, b_ex, b_ey, b_ez, b_ew, b_outside, b_globalSort, b_global, b_body, b_heldSort, b_held, b_needed, b_envSort, b_env, b_length, b_base, b_floor, b_begun, b_stage, b_last, b_valueSort, b_value) (nI k) x y z := by
  intro g_functions g_bodies g_high g_top g_steps g_over g_how g_givenSort g_given b_ek b_ex b_ey b_ez b_ew b_outside b_globalSort b_global b_body b_heldSort b_held b_needed b_envSort b_env b_length b_base b_floor b_begun b_stage b_last b_valueSort b_value post h1 h0
  have ne : ∀ a b : Nat, a < 100 → b < 100 → ¬ a = b → ¬ nI a = nI b := fun a b ha hb h q => h ((nI_eq (by omega) (by omega)).mp q)
  have f95 : (k = 1 → 0 ≤ x ∧ x ≤ 7) → ((k = 17 ∨ k = 18) → 0 ≤ x ∧ x ≤ 3) → (tb_hx k = true → ex_E n x) → (tb_hy k = true → ex_E n y) → wY_express_95 post (nI k) x y z (nI n) g_functions g_bodies g_high g_top g_steps g_over g_how g_givenSort g_given b_ek b_ex b_ey b_ez b_ew b_outside b_globalSort b_global b_body b_heldSort b_held b_needed b_envSort b_env b_length b_base b_floor b_begun b_stage b_last b_valueSort b_value := fun q1 q2 q3 q4 => pk_eq k 8 (fun e => ex_EY (by omega) _ (fun q => br_f (by decide) (h1 ⟨q1, q2, q3, q4, fun _ => q⟩)) (fun q => br_t rfl (h0 (fun f => q (f.2.2.2.2 e))))) (fun e => h1 ⟨q1, q2, q3, q4, fun q => absurd q e⟩)
  have f79 : (k = 1 → 0 ≤ x ∧ x ≤ 7) → ((k = 17 ∨ k = 18) → 0 ≤ x ∧ x ≤ 3) → (tb_hx k = true → ex_E n x) → wY_express_79 post (nI k) x y z (nI n) g_functions g_bodies g_high g_top g_steps g_over g_how g_givenSort g_given b_ek b_ex b_ey b_ez b_ew b_outside b_globalSort b_global b_body b_heldSort b_held b_needed b_envSort b_env b_length b_base b_floor b_begun b_stage b_last b_valueSort b_value := fun q1 q2 q3 => by
    refine ex_hyY hk _ ?_
    by_cases c : tb_hy k = true
    · rw [if_pos c]
      exact br_f (by decide) (ex_EY (by omega) _ (fun q => br_f (by decide) (f95 q1 q2 q3 (fun _ => q))) (fun q => br_t rfl (h0 (fun f => q (f.2.2.2.1 c)))))
    · rw [if_neg c]
      exact br_t rfl (f95 q1 q2 q3 (fun q => absurd q c))
  have f63 : (k = 1 → 0 ≤ x ∧ x ≤ 7) → ((k = 17 ∨ k = 18) → 0 ≤ x ∧ x ≤ 3) → wY_express_63 post (nI k) x y z (nI n) g_functions g_bodies g_high g_top g_steps g_over g_how g_givenSort g_given b_ek b_ex b_ey b_ez b_ew b_outside b_globalSort b_global b_body b_heldSort b_held b_needed b_envSort b_env b_length b_base b_floor b_begun b_stage b_last b_valueSort b_value := fun q1 q2 => by
    refine ex_hxY hk _ ?_
    by_cases c : tb_hx k = true
    · rw [if_pos c]
      exact br_f (by decide) (ex_EY (by omega) _ (fun q => br_f (by decide) (f79 q1 q2 (fun _ => q))) (fun q => br_t rfl (h0 (fun f => q (f.2.2.1 c)))))
    · rw [if_neg c]
      exact br_t rfl (f79 q1 q2 (fun q => absurd q c))
  have f39 : (k = 1 → 0 ≤ x ∧ x ≤ 7) → wY_express_39 post (nI k) x y z (nI n) g_functions g_bodies g_high g_top g_steps g_over g_how g_givenSort g_given b_ek b_ex b_ey b_ez b_ew b_outside b_globalSort b_global b_body b_heldSort b_held b_needed b_envSort b_env b_length b_base b_floor b_begun b_stage b_last b_valueSort b_value := fun q1 =>
    pk_eq k 17 (fun e => ex_inY _ (fun q => br_f (by decide) (f63 q1 (fun _ => q))) (fun q => br_t rfl (h0 (fun f => q (f.2.1 (Or.inl e)))))) (fun e => pk_eq k 18 (fun e2 => ex_inY _ (fun q => br_f (by decide) (f63 q1 (fun _ => q))) (fun q => br_t rfl (h0 (fun f => q (f.2.1 (Or.inr e2)))))) (fun e2 => f63 q1 (fun q => by omega)))
  exact br_f (ne n 60 (by omega) (by omega) (by omega)) (ex_inY _ (fun _ => br_f (by decide) (pk_eq k 1 (fun e => ex_inY _ (fun q => br_f (by decide) (f39 (fun _ => q))) (fun q => br_t rfl (h0 (fun f => q (f.1 e))))) (fun e => f39 (fun q => absurd q e)))) (fun q => absurd ⟨nI_pos' (by omega), nI_le (b := 19) hk (by omega)⟩ q))
theorem ex_YW (hn : n < 60) (hk : k ≤ 19) (hP : ex_P n k x y z jx jy jz) (hW : ∀ e, e < n → W e = nI (tb_c W e) ∧ tb_c W e ≤ 30) (hw : w = tb_w k (tb_c W jx) (tb_c W jy) (tb_c W jz)) :
    ∀ {g_functions g_bodies g_high g_top g_steps g_over g_how g_givenSort g_given : Int32} {b_ek b_ex b_ey b_ez b_outside b_globalSort b_global b_body b_heldSort b_held b_needed b_envSort b_env b_length b_base b_floor b_begun b_stage b_last b_valueSort b_value : Nat → Int32} (post : Int32 → SY → Prop), (nI w = nI w → ((30 < nI w → (post (-2) (nI n, g_functions, g_bodies, g_high, g_top, g_steps, g_over, g_how, g_givenSort, g_given, b_ek, b_ex, b_ey, b_ez, W, b_outside, b_globalSort, b_global, b_body, b_heldSort, b_held, b_needed, b_envSort, b_env, b_length, b_base, b_floor, b_begun, b_stage, b_last, b_valueSort, b_value))) ∧ (¬ 30 < nI w → (((nI k = 15 → (((g_functions = 12 → (post (-2) (nI n, g_functions, g_bodies, g_high, g_top, g_steps, g_over, g_how, g_givenSort, g_given, b_ek, b_ex, b_ey, b_ez, W, b_outside, b_globalSort, b_global, b_body, b_heldSort, b_held, b_needed, b_envSort, b_env, b_length, b_base, b_floor, b_begun, b_stage, b_last, b_valueSort, b_value))) ∧ (¬ g_functions = 12 → (wY_express_196 post (nI k) x y z (nI w) (nI n) g_functions g_bodies g_high g_top g_steps g_over g_how g_givenSort g_given b_ek b_ex b_ey b_ez W b_outside b_globalSort b_global b_body b_heldSort b_held b_needed b_envSort b_env b_length b_base b_floor b_begun b_stage b_last b_valueSort b_value))))) ∧ (¬ nI k = 15 → (wY_express_196 post (nI k) x y z (nI w) (nI n) g_functions g_bodies g_high g_top g_steps g_over g_how g_givenSort g_given b_ek b_ex b_ey b_ez W b_outside b_globalSort b_global b_body b_heldSort b_held b_needed b_envSort b_env b_length b_base b_floor b_begun b_stage b_last b_valueSort b_value))))))) → wY_express_112 post (nI k) x y z (nI n) g_functions g_bodies g_high g_top g_steps g_over g_how g_givenSort g_given b_ek b_ex b_ey b_ez W b_outside b_globalSort b_global b_body b_heldSort b_held b_needed b_envSort b_env b_length b_base b_floor b_begun b_stage b_last b_valueSort b_value := by
  obtain ⟨p1, p2, p3, p4, p5, p6⟩ := hP
  have ne : ∀ a b : Nat, a < 100 → b < 100 → ¬ a = b → ¬ nI a = nI b := fun a b ha hb h q => h ((nI_eq (by omega) (by omega)).mp q)
  intro g_functions g_bodies g_high g_top g_steps g_over g_how g_givenSort g_given b_ek b_ex b_ey b_ez b_outside b_globalSort b_global b_body b_heldSort b_held b_needed b_envSort b_env b_length b_base b_floor b_begun b_stage b_last b_valueSort b_value post hp
  have hp := hp rfl
  unfold tb_w at hw
  have f150 : ∀ a b : Nat, a + b + (if k = 8 then tb_c W jz else 0) = w → wY_express_150 post (nI k) x y z (nI b) (nI a) (nI n) g_functions g_bodies g_high g_top g_steps g_over g_how g_givenSort g_given b_ek b_ex b_ey b_ez W b_outside b_globalSort b_global b_body b_heldSort b_held b_needed b_envSort b_env b_length b_base b_floor b_begun b_stage b_last b_valueSort b_value := fun a b h => by
    by_cases c8 : k = 8
    · rw [if_pos c8] at h
      obtain ⟨ez, hjz⟩ := p6 c8
      subst ez
      refine br_t (by rw [c8]; rfl) (And.intro (vp_in_nI (by omega) (by omega)) (nm_r (e' := nI w) ?_ hp))
      rw [nI_clamp (by omega), (hW jz hjz).1, nI_add, nI_add, h]
    · rw [if_neg c8] at h
      refine br_f (ne k 8 (by omega) (by omega) c8) (nm_r (e' := nI w) ?_ hp)
      rw [show (0 : Int32) = nI 0 from rfl, nI_add, nI_add, h]
  have f131 : ∀ a b : Nat, a + b + (if tb_hy k = true then tb_c W jy else 0) + (if k = 8 then tb_c W jz else 0) = w → wY_express_131 post (nI k) x y z (nI b) (nI a) (nI n) g_functions g_bodies g_high g_top g_steps g_over g_how g_givenSort g_given b_ek b_ex b_ey b_ez W b_outside b_globalSort b_global b_body b_heldSort b_held b_needed b_envSort b_env b_length b_base b_floor b_begun b_stage b_last b_valueSort b_value := fun a b h => by
    refine ex_hyY hk _ ?_
    by_cases c : tb_hy k = true
    · rw [if_pos c] at h ⊢
      obtain ⟨ey, hjy⟩ := p5 c
      subst ey
      refine br_f (by decide) (And.intro (vp_in_nI (by omega) (by omega)) ?_)
      rw [nI_clamp (by omega), (hW jy hjy).1, nI_add]
      exact f150 _ _ h
    · rw [if_neg c] at h ⊢
      rw [nI_add]
      exact br_t rfl (f150 (a + b) 0 (by omega))
  refine ex_hxY hk _ ?_
  by_cases c : tb_hx k = true
  · rw [if_pos c] at hw ⊢
    have hj := p4 c
    have ex := p1 (Or.inr (Or.inr (Or.inr c)))
    subst ex
    refine br_f (by decide) (And.intro (vp_in_nI (by omega) (by omega)) ?_)
    rw [nI_clamp (by omega), (hW jx hj).1]
    exact f131 1 _ (by omega)
  · rw [if_neg c] at hw ⊢
    exact br_t rfl (f131 1 0 (by omega))
end
end
section
/-! express: the store, and the relation kept -/
section
variable {n fc fc' k jx jy jz w m d : Nat} {x y z lv : Int32} {K X Y Z W M PY PZ ND KN KV FO OP OD KN' KV' FO' OP' OD' : Nat → Int32}
def ex_Kf (n k jx jy : Nat) (x : Int32) (KN KV KN' KV' : Nat → Int32) : Prop :=
  (∀ j, j ≠ n → KN' j = KN j ∧ KV' j = KV j) ∧
      ((KN' n = 0 ∧ ¬ k = 0) ∨ (KN' n = 1 ∧ k = 0 ∧ KV' n = x) ∨ (KN' n = 1 ∧ (k = 3 ∨ k = 4 ∨ k = 5) ∧ KN jx = 1 ∧ KN jy = 1 ∧ KV' n = (if k = 3 then KV jx + KV jy else if k = 4 then KV jx - KV jy else KV jx * KV jy)))
theorem ex_138 (hn : n < 60) (hk : k ≤ 19) (hP : ex_P n k x y z jx jy jz) (hKN : ∀ e, e < n → KN e = 0 ∨ KN e = 1) (hM : ∀ e, e < n → M e = nI (tb_c M e) ∧ tb_c M e < 256) (hm : m = tb_m k jx (tb_c M jx) (tb_c M jy) (tb_c M jz)) (hm256 : m < 256) (hw : w < 128) (hd : d < 128) :
    ∃ (KN' KV' : Nat → Int32), ex_Kf n k jx jy x KN KV KN' KV' ∧ ∀ {f_functionCount f_codeEnd f_depth f_letCount f_height f_heldNames f_usedCount f_marking f_waitCount f_top f_frame f_at f_openCount f_stepCount f_resultSort f_resultNumber : Int32} {f_marks : Int64} {a_functionOf a_op a_operand a_workNode a_workPhase a_workLast a_workPatch a_letPlace a_isUsed a_functionAt a_heldCount a_waiting a_openFrame a_openAt : Nat → Int32} {a_cells a_globals a_stack : Nat → Int64} (post : Int32 → SX → Prop),
      (¬ k = 15 → post (nI n) (nI (n + 1), f_functionCount, f_codeEnd, f_depth, f_letCount, f_height, f_heldNames, f_usedCount, f_marks, f_marking, f_waitCount, f_top, f_frame, f_at, f_openCount, f_stepCount, f_resultSort, f_resultNumber, lv, upd K n (nI k), upd X n x, upd PY n (vp_nar .byte y.toInt8.toInt32), upd PZ n (vp_nar .byte z.toInt8.toInt32), upd W n (nI w), upd ND n (nI d), upd M n (nI m), KN', KV', a_functionOf, a_op, a_operand, a_workNode, a_workPhase, a_workLast, a_workPatch, a_letPlace, a_isUsed, a_functionAt, a_heldCount, a_cells, a_waiting, a_globals, a_stack, a_openFrame, a_openAt)) → (k = 15 → wpX_compileFunction (fun u => post (nI n) u) (nI (n + 1), f_functionCount, f_codeEnd, f_depth, f_letCount, f_height, f_heldNames, f_usedCount, f_marks, f_marking, f_waitCount, f_top, f_frame, f_at, f_openCount, f_stepCount, f_resultSort, f_resultNumber, lv, upd K n (nI k), upd X n x, upd PY n (vp_nar .byte y.toInt8.toInt32), upd PZ n (vp_nar .byte z.toInt8.toInt32), upd W n (nI w), upd ND n (nI d), upd M n (nI m), KN', KV', a_functionOf, a_op, a_operand, a_workNode, a_workPhase, a_workLast, a_workPatch, a_letPlace, a_isUsed, a_functionAt, a_heldCount, a_cells, a_waiting, a_globals, a_stack, a_openFrame, a_openAt) (nI n)) →
      wX_express_138 post (nI k) x y z (nI w) (nI d) (nI n) f_functionCount f_codeEnd f_depth f_letCount f_height f_heldNames f_usedCount f_marks f_marking f_waitCount f_top f_frame f_at f_openCount f_stepCount f_resultSort f_resultNumber lv K X PY PZ W ND M KN KV a_functionOf a_op a_operand a_workNode a_workPhase a_workLast a_workPatch a_letPlace a_isUsed a_functionAt a_heldCount a_cells a_waiting a_globals a_stack a_openFrame a_openAt := by
  obtain ⟨KN', KV', h1, h2, hp⟩ := ex_know (KV := KV) (lv := lv) hn hk hP hKN
  have hin : vp_in (nI n) 60 := vp_in_nI hn (by omega)
  obtain ⟨_, hNX, _⟩ := ex_names (by omega) hk hP hM
  rw [← hm] at hNX
  refine ⟨KN', KV', ⟨h1, h2⟩, fun post g1 g2 => nm_r (nI_1 n) (And.intro hin (nm_r (e' := upd K n (nI k)) (by rw [nI_clamp (by omega), vl_nb (by omega)]) (And.intro hin (nm_r (e' := upd X n x) (by rw [nI_clamp (by omega)]) (And.intro hin (nm_r (e' := upd PY n (vp_nar .byte y.toInt8.toInt32)) (by rw [nI_clamp (by omega)]) (And.intro hin (nm_r (e' := upd PZ n (vp_nar .byte z.toInt8.toInt32)) (by rw [nI_clamp (by omega)]) (And.intro hin (nm_r (e' := upd W n (nI w)) (by rw [nI_clamp (by omega), vl_nb (by omega)]) (And.intro hin (nm_r (e' := upd ND n (nI d)) (by rw [nI_clamp (by omega), vl_nb (by omega)]) (hNX _ (And.intro hin (nm_r (e' := upd M n (nI m)) (by rw [nI_clamp (by omega), vl_ns (by omega)]) (hp _ ?_))))))))))))))))⟩
  exact pk_eq k 15 g2 g1
theorem ex_T (h1 : rl_St n fc K X Y Z W M PY PZ ND KN KV FO OP OD) (hn : n < 60) (hk : k ≤ 19) (hP : ex_P n k x y z jx jy jz) (hw : w = tb_w k (tb_c W jx) (tb_c W jy) (tb_c W jz)) (hw30 : w ≤ 30) (hm : m = tb_m k jx (tb_c M jx) (tb_c M jy) (tb_c M jz)) (hm256 : m < 256)
    (hKf : ex_Kf n k jx jy x KN KV KN' KV') (hfc : fc ≤ fc') (hFO : ∀ e, e < n → FO' e = FO e) (h15 : k = 15 → FO' n = nI fc' ∧ 1 ≤ fc') :
    tb_T (n + 1) fc' (upd K n (nI k)) (upd X n x) (upd Y n y) (upd Z n z) (upd W n (nI w)) (upd M n (nI m)) (upd PY n (vp_nar .byte y.toInt8.toInt32)) (upd PZ n (vp_nar .byte z.toInt8.toInt32)) KN' KV' FO' := by
  obtain ⟨_, _, hT, _, _⟩ := h1
  have A : ∀ (a : Nat → Int32) (v : Int32) (e : Nat), e < n → upd a n v e = a e := fun a v e he => pk_un (by omega)
  intro e he
  by_cases q : e = n
  · subst q
    have hN := ex_newN (K := K) (X := X) (Y := Y) (Z := Z) hk hP hn hw hw30 hm hm256
    have ck : tb_c (upd K e (nI k)) e = k := by unfold tb_c; rw [pk_us, nI_clamp (by omega)]
    refine ⟨hN, fun hy => ?_, fun h8 => ?_, ?_, fun h => ?_⟩
    · rw [ck] at hy
      obtain ⟨ey, hj⟩ := hP.2.2.2.2.1 hy
      rw [pk_us, pk_us, ey, vl_nb (by omega)]
    · rw [ck] at h8
      obtain ⟨ez, hj⟩ := hP.2.2.2.2.2 h8
      rw [pk_us, pk_us, ez, vl_nb (by omega)]
    · unfold tb_Kn
      rw [pk_us, pk_us]
      rcases hKf.2 with ⟨a, b⟩ | ⟨a, b, c⟩ | ⟨a, b, c1, c2, c⟩
      · exact Or.inl ⟨a, fun z => b ((nI_eq (b := 0) (by omega) (by omega)).mp z)⟩
      · exact Or.inr (Or.inl ⟨a, by rw [b]; rfl, c⟩)
      · have hx := hP.2.2.2.1 (by rw [tb_hx_t]; omega)
        have ex := hP.1 (Or.inr (Or.inr (Or.inr (by rw [tb_hx_t]; omega))))
        obtain ⟨ey, hy⟩ := hP.2.2.2.2.1 (by rw [tb_hy_t]; omega)
        have cx : tb_c (upd X e x) e = jx := by unfold tb_c; rw [pk_us, ex, nI_clamp (by omega)]
        have cy : tb_c (upd Y e y) e = jy := by unfold tb_c; rw [pk_us, ey, nI_clamp (by omega)]
        rw [cx, cy, (hKf.1 jx (by omega)).1, (hKf.1 jx (by omega)).2, (hKf.1 jy (by omega)).1, (hKf.1 jy (by omega)).2]
        refine Or.inr (Or.inr ⟨a, ?_, c1, c2, c.trans ?_⟩)
        · rcases b with b | b | b <;> rw [b]
          · exact Or.inl rfl
          · exact Or.inr (Or.inl rfl)
          · exact Or.inr (Or.inr rfl)
        · rcases b with b | b | b <;> rw [b] <;> rfl
    · rw [pk_us] at h
      obtain ⟨a, b⟩ := h15 ((nI_eq (b := 15) (by omega) (by omega)).mp h)
      exact ⟨fc', a, b, Nat.le_refl _⟩
  · have he' : e < n := by omega
    obtain ⟨hN, hy, hz, hKn, hF⟩ := hT e he'
    have ck : tb_c (upd K n (nI k)) e = tb_c K e := tb_c_eq (A _ _ e he')
    refine ⟨tb_N_cg (fun e he => ⟨A _ _ e he, A _ _ e he, A _ _ e he, A _ _ e he, A _ _ e he, A _ _ e he⟩) he' hN, fun h => ?_, fun h => ?_, tb_Kn_cg (fun e he => ⟨A _ _ e he, A _ _ e he, A _ _ e he, (hKf.1 e (by omega)).1, (hKf.1 e (by omega)).2⟩) (fun e he => (hT e he).1) he' hKn, fun h => ?_⟩
    · rw [ck] at h; rw [A _ _ e he', A _ _ e he']; exact hy h
    · rw [ck] at h; rw [A _ _ e he', A _ _ e he']; exact hz h
    · rw [A _ _ e he'] at h
      obtain ⟨f, a, b, c⟩ := hF h
      exact ⟨f, (hFO e he').trans a, b, by omega⟩
theorem ex_ND (h1 : rl_St n fc K X Y Z W M PY PZ ND KN KV FO OP OD) (hd8 : d ≤ 8) (hd : tb_nd m d) (hm256 : m < 256) : ∀ e, e < n + 1 → ∃ d', d' ≤ 8 ∧ upd ND n (nI d) e = nI d' ∧ tb_nd (tb_c (upd M n (nI m)) e) d' := by
  intro e he
  by_cases q : e = n
  · subst q
    exact ⟨d, hd8, pk_us, by unfold tb_c; rw [pk_us, nI_clamp (by omega)]; exact hd⟩
  · obtain ⟨d', a, b, c⟩ := h1.2.2.2.2 e (by omega)
    refine ⟨d', a, by rw [pk_un q]; exact b, ?_⟩
    rw [tb_c_eq (pk_un q)]; exact c
theorem ex_Cd (h1 : rl_St n fc K X Y Z W M PY PZ ND KN KV FO OP OD) (hKf : ex_Kf n k jx jy x KN KV KN' KV') (hFO : ∀ e, e < n → FO' e = FO e) (hOP : ∀ j, j < 120 * (fc + 1) → OP' j = OP j ∧ OD' j = OD j)
    (hnew : k = 15 → ∀ f, FO' n = nI f → f ≤ 12 → ∃ D q, q < 120 * f + 120 ∧ cp_C (upd K n (nI k)) (upd X n x) (upd Y n y) (upd Z n z) (upd M n (nI m)) KN' KV' FO' (some (tb_c (upd M n (nI m)) n)) OP' OD' D (tb_c (upd X n x) n) true [] 2 (120 * f) q ∧ OP' q = 25) (hk : k ≤ 19) :
    rl_Cd (n + 1) (upd K n (nI k)) (upd X n x) (upd Y n y) (upd Z n z) (upd M n (nI m)) KN' KV' FO' OP' OD' := by
  obtain ⟨_, hfc12, hT, hC, _⟩ := h1
  have A : ∀ (a : Nat → Int32) (v : Int32) (e : Nat), e < n → upd a n v e = a e := fun a v e he => pk_un (by omega)
  intro e f he hK hF hf
  by_cases q : e = n
  · subst q
    rw [pk_us] at hK
    exact hnew ((nI_eq (b := 15) (by omega) (by omega)).mp hK) f hF hf
  · have he' : e < n := by omega
    rw [A _ _ e he'] at hK
    rw [hFO e he'] at hF
    obtain ⟨hN, _, _, _, hFf⟩ := hT e he'
    obtain ⟨f', a, b, c⟩ := hFf hK
    have ef : f = f' := (nI_eq (by omega) (by omega)).mp (hF.symm.trans a)
    subst ef
    obtain ⟨D, q, hq, hcp, hr⟩ := hC e f he' hK hF hf
    have hx := (hN.2.1 (by rw [tb_lit hK]; decide)).2
    have hlt := cp_lt _ _ _ _ _ _ _ hcp
    refine ⟨D, q, hq, ?_, (hOP q (by omega)).1.trans hr⟩
    rw [tb_c_eq (A _ _ e he'), tb_c_eq (A _ _ e he')]
    exact cp_loc _ _ _ _ _ _ _ (fun j _ hj => hOP j (by omega)) (cp_tab (fun e he => (hT e he).1) (fun e he => ⟨A _ _ e he, A _ _ e he, A _ _ e he, A _ _ e he, A _ _ e he, (hKf.1 e (by omega)).1, (hKf.1 e (by omega)).2, hFO e he⟩) D (tb_c X e) (by omega) _ _ _ _ _ hcp)
theorem ex_FT (hFO : ∀ e, e < n → FO' e = FO e) : ∀ e f mk x', rl_FT n K X M FO e f mk x' → rl_FT (n + 1) (upd K n (nI k)) (upd X n x) (upd M n (nI m)) FO' e f mk x' := by
  intro e f mk x' ⟨he, h2, h3, h4, h5, h6⟩
  have A : ∀ (a : Nat → Int32) (v : Int32), upd a n v e = a e := fun a v => pk_un (by omega)
  exact ⟨by omega, (A _ _).trans h2, (hFO e he).trans h3, h4, h5.trans (tb_c_eq (A _ _)).symm, h6.trans (tb_c_eq (A _ _)).symm⟩
end
theorem i_vc_express {k : Nat} {u : SX} {v : SY} (I : i_Rel k u v) (hk : k + 5 ≤ 2560) (v1 : Int32) (v2 : Int32) (v3 : Int32) (v4 : Int32) : wpX_express (fun r u' => wpY_express (fun r' v' => r' = r ∧ i_Rel (k + 5) u' v') v v1 v2 v3 v4) u v1 v2 v3 v4 := by
  refine rl_el (k := k) (Q := fun u v => wpX_express (fun r u' => wpY_express (fun r' v' => r' = r ∧ i_Rel (k + 5) u' v') v v1 v2 v3 v4) u v1 v2 v3 v4) ?_ I
  intro f_codeEnd f_depth f_letCount f_height f_heldNames f_usedCount f_marking f_waitCount f_frame f_at f_openCount f_stepCount f_resultSort f_resultNumber f_levelNow f_marks a_kindOf a_partX a_partY a_partZ a_weightOf a_needOf a_names a_known a_knownNumber a_functionOf a_op a_operand a_workNode a_workPhase a_workLast a_workPatch a_letPlace a_isUsed a_functionAt a_heldCount a_waiting a_openFrame a_openAt a_cells a_globals a_stack g_high g_over g_how b_ey b_ez b_globalSort b_global b_body b_heldSort b_held b_needed b_envSort b_env b_length b_base b_floor b_begun b_stage b_last b_valueSort b_value n fc P h1 h2
  have hn := h1.1
  have hfc := h1.2.1
  have hT := h1.2.2.1
  by_cases n60 : n = 60
  · subst n60
    exact br_f (by decide) (br_t rfl ⟨rfl, rl_in h1 h2⟩)
  · have hn' : n < 60 := by omega
    have nn : ¬ nI n = 60 := fun q => n60 ((nI_eq (b := 60) (by omega) (by omega)).mp q)
    by_cases c0 : v1 < 0
    · exact br_t (nI_lt (b := 60) hn' (by omega)) (br_t c0 (br_f nn (br_t c0 (br_t rfl ⟨rfl, rl_in h1 h2⟩))))
    · by_cases c19 : 19 < v1
      · exact br_t (nI_lt (b := 60) hn' (by omega)) (br_f c0 (br_t c19 (br_f nn (br_f c0 (br_t c19 (br_t rfl ⟨rfl, rl_in h1 h2⟩))))))
      · obtain ⟨kk, hkk, rfl⟩ := nI_of2 (n := 19) (by decide) c0 (Int32.not_lt.mp c19)
        by_cases hf : ex_fit n kk v2 v3 v4
        · obtain ⟨jx, jy, jz, hP⟩ := ex_part hf
          have hW : ∀ e, e < n → a_weightOf e = nI (tb_c a_weightOf e) ∧ tb_c a_weightOf e ≤ 30 := fun e he => ⟨(hT e he).1.2.2.2.2.2.2.1.1, (hT e he).1.2.2.2.2.2.2.1.2.1⟩
          have hM : ∀ e, e < n → a_names e = nI (tb_c a_names e) ∧ tb_c a_names e < 256 := fun e he => ⟨(hT e he).1.2.2.2.2.2.2.2.1, (hT e he).1.2.2.2.2.2.2.2.2.1⟩
          have hKN : ∀ e, e < n → a_known e = 0 ∨ a_known e = 1 := fun e he => by
            rcases (hT e he).2.2.2.1 with q | q | q
            · exact Or.inl q.1
            · exact Or.inr q.1
            · exact Or.inr q.1
          obtain ⟨w, hw⟩ : ∃ w, w = tb_w kk (tb_c a_weightOf jx) (tb_c a_weightOf jy) (tb_c a_weightOf jz) := ⟨_, rfl⟩
          obtain ⟨m, hm⟩ : ∃ m, m = tb_m kk jx (tb_c a_names jx) (tb_c a_names jy) (tb_c a_names jz) := ⟨_, rfl⟩
          have hw91 : w ≤ 91 := by
            have b1 : (if tb_hx kk = true then tb_c a_weightOf jx else 0) ≤ 30 := by
              split
              · rename_i c; exact (hW jx (hP.2.2.2.1 c)).2
              · omega
            have b2 : (if tb_hy kk = true then tb_c a_weightOf jy else 0) ≤ 30 := by
              split
              · rename_i c; exact (hW jy (hP.2.2.2.2.1 c).2).2
              · omega
            have b3 : (if kk = 8 then tb_c a_weightOf jz else 0) ≤ 30 := by
              split
              · rename_i c; exact (hW jz (hP.2.2.2.2.2 c).2).2
              · omega
            rw [hw]; unfold tb_w; omega
          obtain ⟨d, hd100, hnd, hpN⟩ := ex_need (M := a_names) hn hkk hP h1.2.2.2.2
          obtain ⟨hm256, _, hSY⟩ := ex_names hn hkk hP hM
          rw [← hm] at hnd hm256 hSY
          have hd8 := nd_8 hnd hm256
          refine ex_XF hn' hkk hf hP hW hw _ (hpN _ ?_)
          by_cases w30 : 30 < nI w
          · refine br_t w30 ?_
            exact ex_YF hn' hkk _ (fun _ => ex_YW hn' hkk hP hW hw _ (fun _ => br_t w30 ⟨rfl, rl_in h1 h2⟩)) (fun q => absurd hf q)
          · have w30' : w ≤ 30 := by
              by_cases q : w ≤ 30
              · exact q
              · exact absurd (nI_lt (a := 30) (b := w) (by omega) (by omega)) w30
            refine br_f w30 (br_f (nI_nlt (a := 8) hd8 (by omega)) ?_)
            have hin : vp_in (nI n) 60 := vp_in_nI hn' (by omega)
            obtain ⟨KN', KV', hKf, hpX⟩ := ex_138 (K := a_kindOf) (X := a_partX) (W := a_weightOf) (PY := a_partY) (PZ := a_partZ) (ND := a_needOf) (KV := a_knownNumber) (w := w) (d := d) (lv := f_levelNow) hn' hkk hP hKN hM hm hm256 (by omega) (by omega)
            -- Y's store
            have hpY : ∀ (post : Int32 → SY → Prop), (kk = 15 → post (nI n) (nI (n + 1), nI (fc + 1), 0, g_high, 0, f_stepCount, g_over, g_how, f_resultSort, f_resultNumber, upd a_kindOf n (nI kk), upd a_partX n v2, upd b_ey n v3, upd b_ez n v4, upd a_weightOf n (nI w), upd a_names n (nI m), b_globalSort, b_global, b_body, b_heldSort, b_held, b_needed, b_envSort, b_env, b_length, b_base, b_floor, b_begun, b_stage, b_last, b_valueSort, b_value)) → (¬ kk = 15 → post (nI n) (nI (n + 1), nI fc, 0, g_high, 0, f_stepCount, g_over, g_how, f_resultSort, f_resultNumber, upd a_kindOf n (nI kk), upd a_partX n v2, upd b_ey n v3, upd b_ez n v4, upd a_weightOf n (nI w), upd a_names n (nI m), b_globalSort, b_global, b_body, b_heldSort, b_held, b_needed, b_envSort, b_env, b_length, b_base, b_floor, b_begun, b_stage, b_last, b_valueSort, b_value)) →
                wY_express_196 post (nI kk) v2 v3 v4 (nI w) (nI n) (nI fc) 0 g_high 0 f_stepCount g_over g_how f_resultSort f_resultNumber a_kindOf a_partX b_ey b_ez a_weightOf a_names b_globalSort b_global b_body b_heldSort b_held b_needed b_envSort b_env b_length b_base b_floor b_begun b_stage b_last b_valueSort b_value := fun post g1 g2 => by
              refine And.intro hin (nm_r (e' := upd a_kindOf n (nI kk)) (by rw [nI_clamp (by omega)]) (And.intro hin (nm_r (e' := upd a_partX n v2) (by rw [nI_clamp (by omega)]) (And.intro hin (nm_r (e' := upd b_ey n v3) (by rw [nI_clamp (by omega)]) (And.intro hin (nm_r (e' := upd b_ez n v4) (by rw [nI_clamp (by omega)]) (And.intro hin (nm_r (e' := upd a_weightOf n (nI w)) (by rw [nI_clamp (by omega)]) (hSY _ (And.intro hin (nm_r (e' := upd a_names n (nI m)) (by rw [nI_clamp (by omega)]) (pk_eq kk 15 (fun e => nm_r (nI_1 fc) (nm_r (nI_1 n) ?_)) (fun e => nm_r (nI_1 n) ?_))))))))))))))
              · rw [nI_pred]; exact g1 e
              · rw [nI_pred]; exact g2 e
            by_cases c15 : kk = 15
            · by_cases f12 : fc = 12
              · subst f12
                refine br_t (by rw [c15]; rfl) (br_f (by decide) ?_)
                exact ex_YF hn' hkk _ (fun _ => ex_YW hn' hkk hP hW hw _ (fun _ => br_f w30 (br_t (by rw [c15]; rfl) (br_t rfl ⟨rfl, rl_in h1 h2⟩)))) (fun q => absurd hf q)
              · have f12' : ¬ nI fc = 12 := fun q => f12 ((nI_eq (b := 12) (by omega) (by omega)).mp q)
                have hjx := hP.2.2.2.1 (by rw [c15]; decide)
                have exx := hP.1 (Or.inr (Or.inr (Or.inr (by rw [c15]; decide))))
                have cX : tb_c (upd a_partX n v2) n = jx := by unfold tb_c; rw [pk_us, exx, nI_clamp (by omega)]
                have cM : tb_c (upd a_names n (nI m)) n = m := by unfold tb_c; rw [pk_us, nI_clamp (by omega)]
                have FOo : ∀ e, e < n → upd a_functionOf n (nI (fc + 1)) e = a_functionOf e := fun e he => pk_un (by omega)
                have T' := ex_T (FO' := upd a_functionOf n (nI (fc + 1))) (fc' := fc + 1) h1 hn' hkk hP hw w30' hm hm256 hKf (by omega) FOo (fun _ => ⟨pk_us, by omega⟩)
                have wjx : tb_c (upd a_weightOf n (nI w)) jx ≤ 29 := by
                  rw [tb_c_eq (pk_un (by omega))]
                  rw [c15] at hw
                  have : w = 1 + tb_c a_weightOf jx := hw
                  omega
                have hmx : m = tb_c a_names jx / 4 := by rw [c15] at hm; exact hm
                obtain ⟨q, op', od', wN', wP', wL', wPt', lP', hq1, hcp, hret, hfr, hpB⟩ := cp_body (hm := some m) (hN := nI m) (e := jx) (p := 120 * (fc + 1)) (op := a_op) (od := a_operand) (wN := a_workNode) (wP := a_workPhase) (wL := a_workLast) (wPt := a_workPatch) (lP := a_letPlace) (by omega) (by omega) T' (fun mk e => by cases e; exact ⟨rfl, hm256⟩) (by omega) (fun i hi => by
                  refine Or.inr ⟨m, rfl, ?_⟩
                  by_cases z : i < 2
                  · exact Or.inl (by simpa using z)
                  · refine Or.inr ?_
                    rw [tb_c_eq (pk_un (by omega))] at hi
                    have e4 : tb_c a_names jx / 4 = tb_c a_names jx / 2 ^ 2 := rfl
                    rw [hmx, e4, Nat.testBit_div_two_pow]
                    rw [List.length_nil, show i - 0 - 2 + 2 = i by omega]
                    exact hi) (by omega)
                refine br_t (by rw [c15]; rfl) (br_t (nI_lt (b := 12) (by omega) (by omega)) (hpX _ (fun z => absurd c15 z) (fun _ => ?_)))
                refine nm_r (nI_1 fc) (And.intro hin (nm_r (e' := upd a_functionOf n (nI (fc + 1))) (by rw [nI_clamp (by omega), vl_nb (by omega)]) (nm_r (e' := nI (120 * (fc + 1))) (by rw [show (120 : Int32) = nI 120 from rfl, pk_mul]) (And.intro hin (nm_r (e' := nI m) (by rw [nI_clamp (by omega), pk_us]) (And.intro hin ?_))))))
                have eX : upd a_partX n v2 (nI n).toNatClampNeg = nI jx := by rw [nI_clamp (by omega), pk_us, exx]
                rw [eX]
                refine hpB _ ?_
                refine ex_YF hn' hkk _ (fun _ => ex_YW hn' hkk hP hW hw _ (fun _ => br_f w30 (br_t (by rw [c15]; rfl) (br_f f12' (hpY _ (fun _ => ⟨rfl, ?_⟩) (fun z => absurd c15 z)))))) (fun q => absurd hf q)
                refine rl_in (P := P) ⟨by omega, by omega, T', ex_Cd h1 hKf FOo (fun j hj => hfr j (by omega)) (fun _ f hF hf12 => ?_) hkk, ex_ND h1 hd8 hnd hm256⟩ ⟨hp_H_ft (ex_FT FOo) h2.1, h2.2⟩
                rw [pk_us] at hF
                have ef : fc + 1 = f := (nI_eq (by omega) (by omega)).mp hF
                subst ef
                obtain ⟨D, hcp⟩ := hcp
                rw [cX, cM]
                exact ⟨D, q, by omega, hcp, hret⟩
            · have n15 : ¬ nI kk = 15 := fun q => c15 ((nI_eq (b := 15) (by omega) (by omega)).mp q)
              refine br_f n15 (hpX _ (fun _ => ?_) (fun z => absurd z c15))
              refine ex_YF hn' hkk _ (fun _ => ex_YW hn' hkk hP hW hw _ (fun _ => br_f w30 (br_f n15 (hpY _ (fun z => absurd z c15) (fun _ => ⟨rfl, ?_⟩))))) (fun q => absurd hf q)
              exact rl_in (P := P) ⟨by omega, hfc, ex_T h1 hn' hkk hP hw w30' hm hm256 hKf (Nat.le_refl _) (fun _ _ => rfl) (fun z => absurd z c15), ex_Cd h1 hKf (fun _ _ => rfl) (fun _ _ => ⟨rfl, rfl⟩) (fun z => absurd z c15) hkk, ex_ND h1 hd8 hnd hm256⟩ ⟨hp_H_ft (ex_FT (fun _ _ => rfl)) h2.1, h2.2⟩
        · exact ex_XN hn' hkk hf _ (ex_YF hn' hkk _ (fun q => absurd q hf) (fun _ => ⟨rfl, rl_in h1 h2⟩))
end
section
/-! the reference's steps -/
section
variable {g_made g_functions g_bodies g_high g_top g_steps g_over g_how g_givenSort g_given : Int32} {b_ek b_ex b_ey b_ez b_ew b_outside b_globalSort b_global b_body b_heldSort b_held b_needed b_envSort b_env b_length b_base b_floor b_begun b_stage b_last b_valueSort b_value : Nat → Int32}
theorem ys_give {post : SY → Prop} {t : Nat} {s v : Int32} (ht : t < 420) (hp : post (g_made, g_functions, g_bodies, g_high, nI (t + 1), g_steps, g_over, g_how, g_givenSort, g_given, b_ek, b_ex, b_ey, b_ez, b_ew, b_outside, b_globalSort, b_global, b_body, b_heldSort, b_held, b_needed, b_envSort, b_env, b_length, b_base, b_floor, b_begun, b_stage, b_last, upd b_valueSort t s, upd b_value t v)) : wpY_give post (g_made, g_functions, g_bodies, g_high, nI t, g_steps, g_over, g_how, g_givenSort, g_given, b_ek, b_ex, b_ey, b_ez, b_ew, b_outside, b_globalSort, b_global, b_body, b_heldSort, b_held, b_needed, b_envSort, b_env, b_length, b_base, b_floor, b_begun, b_stage, b_last, b_valueSort, b_value) s v :=
  have hin : vp_in (nI t) 420 := vp_in_nI ht (by omega)
  And.intro hin (nm_r (e' := upd b_valueSort t s) (by rw [nI_clamp (by omega)]) (And.intro hin (nm_r (e' := upd b_value t v) (by rw [nI_clamp (by omega)]) (nm_r (nI_1 t) hp))))
theorem ys_start {post : SY → Prop} {h : Nat} {x l : Int32} (hh : h < 420) (hl : l = 0 ∨ l = 1) (hp : post (g_made, g_functions, g_bodies, nI (h + 1), g_top, g_steps, g_over, g_how, g_givenSort, g_given, b_ek, b_ex, b_ey, b_ez, b_ew, b_outside, b_globalSort, b_global, b_body, b_heldSort, b_held, b_needed, b_envSort, b_env, b_length, b_base, b_floor, upd b_begun h x, upd b_stage h 0, upd b_last h l, b_valueSort, b_value)) : wpY_start post (g_made, g_functions, g_bodies, nI h, g_top, g_steps, g_over, g_how, g_givenSort, g_given, b_ek, b_ex, b_ey, b_ez, b_ew, b_outside, b_globalSort, b_global, b_body, b_heldSort, b_held, b_needed, b_envSort, b_env, b_length, b_base, b_floor, b_begun, b_stage, b_last, b_valueSort, b_value) x l :=
  have hin : vp_in (nI h) 420 := vp_in_nI hh (by omega)
  And.intro hin (nm_r (e' := upd b_begun h x) (by rw [nI_clamp (by omega)]) (And.intro hin (nm_r (e' := upd b_stage h 0) (by rw [nI_clamp (by omega)]) (And.intro hin (nm_r (e' := upd b_last h l) (by rw [nI_clamp (by omega), cp_nb01 hl]) (nm_r (nI_1 h) hp))))))
theorem ys_bind {post : SY → Prop} {b L : Nat} {s v : Int32} (hb : b < 13) (hl : b_length b = nI L) (hL : L < 24) (hp : post (g_made, g_functions, nI (b + 1), g_high, g_top, g_steps, g_over, g_how, g_givenSort, g_given, b_ek, b_ex, b_ey, b_ez, b_ew, b_outside, b_globalSort, b_global, b_body, b_heldSort, b_held, b_needed, upd b_envSort (24 * b + L) s, upd b_env (24 * b + L) v, upd b_length b (nI (L + 1)), b_base, b_floor, b_begun, b_stage, b_last, b_valueSort, b_value)) : wpY_bind post (g_made, g_functions, nI (b + 1), g_high, g_top, g_steps, g_over, g_how, g_givenSort, g_given, b_ek, b_ex, b_ey, b_ez, b_ew, b_outside, b_globalSort, b_global, b_body, b_heldSort, b_held, b_needed, b_envSort, b_env, b_length, b_base, b_floor, b_begun, b_stage, b_last, b_valueSort, b_value) s v := by
  have hin : vp_in (nI b) 13 := vp_in_nI hb (by omega)
  have e : (24 * nI b) + b_length (nI b).toNatClampNeg = nI (24 * b + L) := by rw [nI_clamp (by omega), hl, show (24 : Int32) = nI 24 from rfl, pk_mul, nI_add]
  have hin2 : vp_in (nI (24 * b + L)) 312 := vp_in_nI (by omega) (by omega)
  unfold wpY_bind
  dsimp only
  rw [nI_pred]
  exact And.intro hin (nm_r e (And.intro hin2 (nm_r (e' := upd b_envSort (24 * b + L) s) (by rw [nI_clamp (by omega)]) (And.intro hin2 (nm_r (e' := upd b_env (24 * b + L) v) (by rw [nI_clamp (by omega)]) (And.intro hin (And.intro hin (nm_r (e' := upd b_length b (nI (L + 1))) (by rw [nI_clamp (by omega), hl, nI_1]) hp))))))))
variable {post : SY → Prop} {h e k s : Nat} {l z : Int32}
theorem ys_head (hh : h < 420) (h1 : b_begun h = nI e) (he : e < 60) (hk : b_ek e = nI k) (hk19 : k ≤ 19) (hs : b_stage h = nI s) (hp : wY_step_82 post (nI e) (nI k) (nI s) (b_last h) (if k = 8 ∨ k = 14 ∨ k = 19 then 1 else 0) g_made g_functions g_bodies (nI (h + 1)) g_top g_steps g_over g_how g_givenSort g_given b_ek b_ex b_ey b_ez b_ew b_outside b_globalSort b_global b_body b_heldSort b_held b_needed b_envSort b_env b_length b_base b_floor b_begun (upd b_stage h (nI (s + 1))) b_last b_valueSort b_value) : wpY_step post (g_made, g_functions, g_bodies, nI (h + 1), g_top, g_steps, g_over, g_how, g_givenSort, g_given, b_ek, b_ex, b_ey, b_ez, b_ew, b_outside, b_globalSort, b_global, b_body, b_heldSort, b_held, b_needed, b_envSort, b_env, b_length, b_base, b_floor, b_begun, b_stage, b_last, b_valueSort, b_value) := by
  have hin : vp_in (nI h) 420 := vp_in_nI hh (by omega)
  unfold wpY_step
  dsimp only
  rw [nI_pred]
  refine And.intro hin (nm_r ((congrArg b_begun (nI_clamp (n := h) (by omega))).trans h1) (And.intro (vp_in_nI he (by omega)) (nm_r ((congrArg b_ek (nI_clamp (n := e) (by omega))).trans hk) (And.intro hin (nm_r ((congrArg b_stage (nI_clamp (n := h) (by omega))).trans hs) (And.intro hin (nm_r (congrArg b_last (nI_clamp (n := h) (by omega))) (And.intro hin (And.intro hin (nm_r (e' := upd b_stage h (nI (s + 1))) (by rw [nI_clamp (by omega), hs, nI_1]) ?_))))))))))
  refine pk_eq k 8 (fun q => ?_) (fun q => pk_eq k 14 (fun q2 => ?_) (fun q2 => pk_eq k 19 (fun q3 => ?_) (fun q3 => ?_)))
  · rw [if_pos (Or.inl q)] at hp; exact hp
  · rw [if_pos (Or.inr (Or.inl q2))] at hp; exact hp
  · rw [if_pos (Or.inr (Or.inr q3))] at hp; exact hp
  · rw [if_neg (by omega)] at hp; exact hp
theorem ys_82 (he : e < 60) (hk19 : k ≤ 19) {x3 : Int32} (hp : wY_step_107 post (nI e) (nI k) x3 l z (if tb_hx k = true then b_ex e else b_ey e) g_made g_functions g_bodies g_high g_top g_steps g_over g_how g_givenSort g_given b_ek b_ex b_ey b_ez b_ew b_outside b_globalSort b_global b_body b_heldSort b_held b_needed b_envSort b_env b_length b_base b_floor b_begun b_stage b_last b_valueSort b_value) : wY_step_82 post (nI e) (nI k) x3 l z g_made g_functions g_bodies g_high g_top g_steps g_over g_how g_givenSort g_given b_ek b_ex b_ey b_ez b_ew b_outside b_globalSort b_global b_body b_heldSort b_held b_needed b_envSort b_env b_length b_base b_floor b_begun b_stage b_last b_valueSort b_value := by
  refine ex_hxY hk19 _ ?_
  by_cases c : tb_hx k = true
  · rw [if_pos c] at hp ⊢
    refine br_f (by decide) (And.intro (vp_in_nI he (by omega)) ?_)
    rw [nI_clamp (by omega)]; exact hp
  · rw [if_neg c] at hp ⊢
    refine br_t rfl (And.intro (vp_in_nI he (by omega)) ?_)
    rw [nI_clamp (by omega)]; exact hp
/-- nothing is worked out yet: the first part is begun -/
theorem ys_0 (he : e < 60) (hk19 : k ≤ 19) (h15 : ¬ k = 15) (hxy : tb_hx k = true ∨ tb_hy k = true) (hp : wpY_start (fun u => post u) (g_made, g_functions, g_bodies, g_high, g_top, g_steps, g_over, g_how, g_givenSort, g_given, b_ek, b_ex, b_ey, b_ez, b_ew, b_outside, b_globalSort, b_global, b_body, b_heldSort, b_held, b_needed, b_envSort, b_env, b_length, b_base, b_floor, b_begun, b_stage, b_last, b_valueSort, b_value) (if tb_hx k = true then b_ex e else b_ey e) 0) : wY_step_82 post (nI e) (nI k) (nI 0) l z g_made g_functions g_bodies g_high g_top g_steps g_over g_how g_givenSort g_given b_ek b_ex b_ey b_ez b_ew b_outside b_globalSort b_global b_body b_heldSort b_held b_needed b_envSort b_env b_length b_base b_floor b_begun b_stage b_last b_valueSort b_value := by
  refine ys_82 he hk19 (br_t rfl (br_f (fun q => h15 ((nI_eq (b := 15) (by omega) (by omega)).mp q)) (ex_hxY hk19 _ ?_)))
  by_cases c : tb_hx k = true
  · rw [if_pos c] at hp ⊢
    rw [if_pos c]
    exact br_f (by decide) hp
  · rw [if_neg c] at hp ⊢
    rw [if_neg c]
    refine br_t rfl (ex_hyY hk19 _ ?_)
    rw [if_pos (hxy.resolve_left c)]
    exact br_f (by decide) hp
/-- behind the first test -/
theorem ys_107 (hk19 : k ≤ 19) {x6 x3 : Int32} (h0 : ¬ x3 = 0 ∨ k = 15 ∨ (¬ tb_hx k = true ∧ ¬ tb_hy k = true)) (hp : wY_step_145 post (nI e) (nI k) x3 l z g_made g_functions g_bodies g_high g_top g_steps g_over g_how g_givenSort g_given b_ek b_ex b_ey b_ez b_ew b_outside b_globalSort b_global b_body b_heldSort b_held b_needed b_envSort b_env b_length b_base b_floor b_begun b_stage b_last b_valueSort b_value) : wY_step_107 post (nI e) (nI k) x3 l z x6 g_made g_functions g_bodies g_high g_top g_steps g_over g_how g_givenSort g_given b_ek b_ex b_ey b_ez b_ew b_outside b_globalSort b_global b_body b_heldSort b_held b_needed b_envSort b_env b_length b_base b_floor b_begun b_stage b_last b_valueSort b_value := by
  by_cases c : x3 = 0
  · refine br_t c ?_
    by_cases c15 : k = 15
    · exact br_t (by rw [c15]; rfl) hp
    · obtain ⟨a, b⟩ := (h0.resolve_left (fun f => f c)).resolve_left c15
      refine br_f (fun q => c15 ((nI_eq (b := 15) (by omega) (by omega)).mp q)) (ex_hxY hk19 _ ?_)
      rw [if_neg a]
      refine br_t rfl (ex_hyY hk19 _ ?_)
      rw [if_neg b]
      exact br_t rfl hp
  · exact br_f c hp
theorem ys_1 (he : e < 60) (hk19 : k ≤ 19) (hx : tb_hx k = true) (hy : tb_hy k = true) (hp : wpY_start (fun u => post u) (g_made, g_functions, g_bodies, g_high, g_top, g_steps, g_over, g_how, g_givenSort, g_given, b_ek, b_ex, b_ey, b_ez, b_ew, b_outside, b_globalSort, b_global, b_body, b_heldSort, b_held, b_needed, b_envSort, b_env, b_length, b_base, b_floor, b_begun, b_stage, b_last, b_valueSort, b_value) (b_ey e) 0) : wY_step_82 post (nI e) (nI k) (nI 1) l 0 g_made g_functions g_bodies g_high g_top g_steps g_over g_how g_givenSort g_given b_ek b_ex b_ey b_ez b_ew b_outside b_globalSort b_global b_body b_heldSort b_held b_needed b_envSort b_env b_length b_base b_floor b_begun b_stage b_last b_valueSort b_value := by
  refine ys_82 he hk19 (ys_107 hk19 (Or.inl (by decide)) (br_t rfl (br_t rfl (ex_hxY hk19 _ ?_))))
  rw [if_pos hx]
  refine br_f (by decide) (ex_hyY hk19 _ ?_)
  rw [if_pos hy]
  refine br_f (by decide) (And.intro (vp_in_nI he (by omega)) ?_)
  rw [nI_clamp (by omega)]
  exact hp
theorem ys_145 (hk19 : k ≤ 19) {x3 : Int32} (h1 : ¬ x3 = 1 ∨ ¬ (tb_hx k = true ∧ tb_hy k = true)) (hp : wY_step_196 post (nI e) (nI k) l g_made g_functions g_bodies g_high g_top g_steps g_over g_how g_givenSort g_given b_ek b_ex b_ey b_ez b_ew b_outside b_globalSort b_global b_body b_heldSort b_held b_needed b_envSort b_env b_length b_base b_floor b_begun b_stage b_last b_valueSort b_value) : wY_step_145 post (nI e) (nI k) x3 l 0 g_made g_functions g_bodies g_high g_top g_steps g_over g_how g_givenSort g_given b_ek b_ex b_ey b_ez b_ew b_outside b_globalSort b_global b_body b_heldSort b_held b_needed b_envSort b_env b_length b_base b_floor b_begun b_stage b_last b_valueSort b_value := by
  refine br_t rfl ?_
  by_cases c : x3 = 1
  · have hn := h1.resolve_left (fun f => f c)
    refine br_t c (ex_hxY hk19 _ ?_)
    by_cases a : tb_hx k = true
    · rw [if_pos a]
      refine br_f (by decide) (ex_hyY hk19 _ ?_)
      rw [if_neg (fun b => hn ⟨a, b⟩)]
      exact br_t rfl hp
    · rw [if_neg a]
      exact br_t rfl hp
  · exact br_f c hp
theorem ys_f (he : e < 60) (hk19 : k ≤ 19) (h15 : ¬ k = 15) (hs : ¬ s = 0) (hs3 : s < 100) (hxy : tb_hx k = true ∨ tb_hy k = true) (h1 : ¬ s = 1 ∨ ¬ (tb_hx k = true ∧ tb_hy k = true)) (hp : wpY_finish (fun u => post u) (g_made, g_functions, g_bodies, g_high, g_top, g_steps, g_over, g_how, g_givenSort, g_given, b_ek, b_ex, b_ey, b_ez, b_ew, b_outside, b_globalSort, b_global, b_body, b_heldSort, b_held, b_needed, b_envSort, b_env, b_length, b_base, b_floor, b_begun, b_stage, b_last, b_valueSort, b_value) (nI e) l) : wY_step_82 post (nI e) (nI k) (nI s) l 0 g_made g_functions g_bodies g_high g_top g_steps g_over g_how g_givenSort g_given b_ek b_ex b_ey b_ez b_ew b_outside b_globalSort b_global b_body b_heldSort b_held b_needed b_envSort b_env b_length b_base b_floor b_begun b_stage b_last b_valueSort b_value := by
  refine ys_82 he hk19 (ys_107 hk19 (Or.inl (fun q => hs ((nI_eq (b := 0) (by omega) (by omega)).mp q))) (ys_145 hk19 (h1.imp (fun f q => f ((nI_eq (b := 1) (by omega) (by omega)).mp q)) id) (br_f (fun q => h15 ((nI_eq (b := 15) (by omega) (by omega)).mp q)) (ex_hxY hk19 _ ?_))))
  by_cases a : tb_hx k = true
  · rw [if_pos a]
    exact br_f (by decide) hp
  · rw [if_neg a]
    refine br_t rfl (ex_hyY hk19 _ ?_)
    rw [if_pos (hxy.resolve_left a)]
    exact br_f (by decide) hp
theorem ys_l (he : e < 60) (hk19 : k ≤ 19) (hl : k = 15 ∨ (¬ tb_hx k = true ∧ ¬ tb_hy k = true)) (hp : wpY_leaf (fun u => post u) (g_made, g_functions, g_bodies, nI h, g_top, g_steps, g_over, g_how, g_givenSort, g_given, b_ek, b_ex, b_ey, b_ez, b_ew, b_outside, b_globalSort, b_global, b_body, b_heldSort, b_held, b_needed, b_envSort, b_env, b_length, b_base, b_floor, b_begun, b_stage, b_last, b_valueSort, b_value) (nI k) (b_ex e)) : wY_step_82 post (nI e) (nI k) (nI 0) l 0 g_made g_functions g_bodies (nI (h + 1)) g_top g_steps g_over g_how g_givenSort g_given b_ek b_ex b_ey b_ez b_ew b_outside b_globalSort b_global b_body b_heldSort b_held b_needed b_envSort b_env b_length b_base b_floor b_begun b_stage b_last b_valueSort b_value := by
  have h218 : wY_step_218 post (nI e) (nI k) g_made g_functions g_bodies (nI (h + 1)) g_top g_steps g_over g_how g_givenSort g_given b_ek b_ex b_ey b_ez b_ew b_outside b_globalSort b_global b_body b_heldSort b_held b_needed b_envSort b_env b_length b_base b_floor b_begun b_stage b_last b_valueSort b_value := by
    refine nm_r (nI_pred h) (And.intro (vp_in_nI he (by omega)) ?_)
    rw [nI_clamp (by omega)]
    exact hp
  refine ys_82 he hk19 (ys_107 hk19 (Or.inr hl) (ys_145 hk19 (Or.inl (by decide)) ?_))
  by_cases c15 : k = 15
  · exact br_t (by rw [c15]; rfl) h218
  · obtain ⟨a, b⟩ := hl.resolve_left c15
    refine br_f (fun q => c15 ((nI_eq (b := 15) (by omega) (by omega)).mp q)) (ex_hxY hk19 _ ?_)
    rw [if_neg a]
    refine br_t rfl (ex_hyY hk19 _ ?_)
    rw [if_neg b]
    exact br_t rfl h218
theorem ys_c (he : e < 60) (hk19 : k ≤ 19) (hs : ¬ s = 0) (hs3 : s < 100) (hp : wpY_choose (fun u => post u) (g_made, g_functions, g_bodies, g_high, g_top, g_steps, g_over, g_how, g_givenSort, g_given, b_ek, b_ex, b_ey, b_ez, b_ew, b_outside, b_globalSort, b_global, b_body, b_heldSort, b_held, b_needed, b_envSort, b_env, b_length, b_base, b_floor, b_begun, b_stage, b_last, b_valueSort, b_value) (nI e) (nI s) l) : wY_step_82 post (nI e) (nI k) (nI s) l 1 g_made g_functions g_bodies g_high g_top g_steps g_over g_how g_givenSort g_given b_ek b_ex b_ey b_ez b_ew b_outside b_globalSort b_global b_body b_heldSort b_held b_needed b_envSort b_env b_length b_base b_floor b_begun b_stage b_last b_valueSort b_value :=
  ys_82 he hk19 (ys_107 hk19 (Or.inl (fun q => hs ((nI_eq (b := 0) (by omega) (by omega)).mp q))) (br_f (by decide) hp))
/-! leaves -/
theorem yl_num {t : Nat} {x : Int32} (ht : t < 420) (hp : post (g_made, g_functions, g_bodies, g_high, nI (t + 1), g_steps, g_over, g_how, g_givenSort, g_given, b_ek, b_ex, b_ey, b_ez, b_ew, b_outside, b_globalSort, b_global, b_body, b_heldSort, b_held, b_needed, b_envSort, b_env, b_length, b_base, b_floor, b_begun, b_stage, b_last, upd b_valueSort t 1, upd b_value t x)) : wpY_leaf post (g_made, g_functions, g_bodies, g_high, nI t, g_steps, g_over, g_how, g_givenSort, g_given, b_ek, b_ex, b_ey, b_ez, b_ew, b_outside, b_globalSort, b_global, b_body, b_heldSort, b_held, b_needed, b_envSort, b_env, b_length, b_base, b_floor, b_begun, b_stage, b_last, b_valueSort, b_value) 0 x :=
  br_t rfl (ys_give ht (br_f (by decide) (br_f (by decide) (br_f (by decide) (br_f (by decide) hp)))))
theorem yl_emp {t : Nat} {x : Int32} (ht : t < 420) (hp : post (g_made, g_functions, g_bodies, g_high, nI (t + 1), g_steps, g_over, g_how, g_givenSort, g_given, b_ek, b_ex, b_ey, b_ez, b_ew, b_outside, b_globalSort, b_global, b_body, b_heldSort, b_held, b_needed, b_envSort, b_env, b_length, b_base, b_floor, b_begun, b_stage, b_last, upd b_valueSort t 0, upd b_value t 0)) : wpY_leaf post (g_made, g_functions, g_bodies, g_high, nI t, g_steps, g_over, g_how, g_givenSort, g_given, b_ek, b_ex, b_ey, b_ez, b_ew, b_outside, b_globalSort, b_global, b_body, b_heldSort, b_held, b_needed, b_envSort, b_env, b_length, b_base, b_floor, b_begun, b_stage, b_last, b_valueSort, b_value) 2 x :=
  br_f (by decide) (br_f (by decide) (br_t rfl (ys_give ht (br_f (by decide) (br_f (by decide) hp)))))
theorem yl_glob {t g : Nat} (ht : t < 420) (hg : g < 4) (hp : post (g_made, g_functions, g_bodies, g_high, nI (t + 1), g_steps, g_over, g_how, g_givenSort, g_given, b_ek, b_ex, b_ey, b_ez, b_ew, b_outside, b_globalSort, b_global, b_body, b_heldSort, b_held, b_needed, b_envSort, b_env, b_length, b_base, b_floor, b_begun, b_stage, b_last, upd b_valueSort t (b_globalSort g), upd b_value t (b_global g))) : wpY_leaf post (g_made, g_functions, g_bodies, g_high, nI t, g_steps, g_over, g_how, g_givenSort, g_given, b_ek, b_ex, b_ey, b_ez, b_ew, b_outside, b_globalSort, b_global, b_body, b_heldSort, b_held, b_needed, b_envSort, b_env, b_length, b_base, b_floor, b_begun, b_stage, b_last, b_valueSort, b_value) 17 (nI g) := by
  have hin : vp_in (nI g) 4 := vp_in_nI hg (by omega)
  refine br_f (by decide) (br_f (by decide) (br_f (by decide) (br_f (by decide) (br_t rfl (And.intro hin (And.intro hin ?_))))))
  rw [nI_clamp (by omega)]
  exact ys_give ht hp
theorem yl_var {t b L x : Nat} (ht : t < 420) (hb : b < 13) (hl : b_length b = nI L) (hL : L ≤ 24) (hx : x < L) (hp : post (g_made, g_functions, nI (b + 1), g_high, nI (t + 1), g_steps, g_over, g_how, g_givenSort, g_given, b_ek, b_ex, b_ey, b_ez, b_ew, b_outside, b_globalSort, b_global, b_body, b_heldSort, b_held, b_needed, b_envSort, b_env, b_length, b_base, b_floor, b_begun, b_stage, b_last, upd b_valueSort t (b_envSort (24 * b + L - 1 - x)), upd b_value t (b_env (24 * b + L - 1 - x)))) : wpY_leaf post (g_made, g_functions, nI (b + 1), g_high, nI t, g_steps, g_over, g_how, g_givenSort, g_given, b_ek, b_ex, b_ey, b_ez, b_ew, b_outside, b_globalSort, b_global, b_body, b_heldSort, b_held, b_needed, b_envSort, b_env, b_length, b_base, b_floor, b_begun, b_stage, b_last, b_valueSort, b_value) 1 (nI x) := by
  have hin : vp_in (nI (b + 1) - 1) 13 := by rw [nI_pred]; exact vp_in_nI hb (by omega)
  have e : (((24 * (nI (b + 1) - 1)) + (b_length (nI (b + 1) - 1).toNatClampNeg)) - 1) - nI x = nI (24 * b + L - 1 - x) := by
    rw [nI_pred, nI_clamp (by omega), hl, show (24 : Int32) = nI 24 from rfl, pk_mul, nI_add, show (1 : Int32) = nI 1 from rfl, pk_sub (by omega), pk_sub (by omega)]
  have hin2 : vp_in (nI (24 * b + L - 1 - x)) 312 := vp_in_nI (by omega) (by omega)
  refine br_f (by decide) (br_t rfl (And.intro hin (nm_r e (And.intro hin2 (And.intro hin2 ?_)))))
  rw [nI_clamp (by omega)]
  exact ys_give ht (br_f (by decide) (br_f (by decide) (br_f (by decide) hp)))
theorem yl_fun {x : Int32} {U : SY} (hs : ∀ post' : SY → Prop, post' U → wpY_makeFunction post' (g_made, g_functions, g_bodies, g_high, g_top, g_steps, g_over, g_how, g_givenSort, g_given, b_ek, b_ex, b_ey, b_ez, b_ew, b_outside, b_globalSort, b_global, b_body, b_heldSort, b_held, b_needed, b_envSort, b_env, b_length, b_base, b_floor, b_begun, b_stage, b_last, b_valueSort, b_value) x) (hp : post U) : wpY_leaf post (g_made, g_functions, g_bodies, g_high, g_top, g_steps, g_over, g_how, g_givenSort, g_given, b_ek, b_ex, b_ey, b_ez, b_ew, b_outside, b_globalSort, b_global, b_body, b_heldSort, b_held, b_needed, b_envSort, b_env, b_length, b_base, b_floor, b_begun, b_stage, b_last, b_valueSort, b_value) 15 x := by
  match U, hs, hp with
  | (g_made', g_functions', g_bodies', g_high', g_top', g_steps', g_over', g_how', g_givenSort', g_given', b_ek', b_ex', b_ey', b_ez', b_ew', b_outside', b_globalSort', b_global', b_body', b_heldSort', b_held', b_needed', b_envSort', b_env', b_length', b_base', b_floor', b_begun', b_stage', b_last', b_valueSort', b_value'), hs, hp =>
    exact br_f (by decide) (br_f (by decide) (br_f (by decide) (br_t rfl (hs _ (br_f (by decide) hp)))))
/-! choose -/
theorem yc_2 {k : Int32} (he : e < 60) (hk : b_ek e = k) (h14 : ¬ k = 14) (hp : post (g_made, g_functions, g_bodies, nI h, g_top, g_steps, g_over, g_how, g_givenSort, g_given, b_ek, b_ex, b_ey, b_ez, b_ew, b_outside, b_globalSort, b_global, b_body, b_heldSort, b_held, b_needed, b_envSort, b_env, b_length, b_base, b_floor, b_begun, b_stage, b_last, b_valueSort, b_value)) : wpY_choose post (g_made, g_functions, g_bodies, nI (h + 1), g_top, g_steps, g_over, g_how, g_givenSort, g_given, b_ek, b_ex, b_ey, b_ez, b_ew, b_outside, b_globalSort, b_global, b_body, b_heldSort, b_held, b_needed, b_envSort, b_env, b_length, b_base, b_floor, b_begun, b_stage, b_last, b_valueSort, b_value) (nI e) (nI 2) l :=
  And.intro (vp_in_nI he (by omega)) (nm_r ((congrArg b_ek (nI_clamp (n := e) (by omega))).trans hk) (br_f (by decide) (nm_r (nI_pred h) (br_f h14 hp))))
theorem yc_2l {b L : Nat} (he : e < 60) (hk : b_ek e = 14) (hb : b < 13) (hl : b_length b = nI (L + 1)) (hp : post (g_made, g_functions, nI (b + 1), nI h, g_top, g_steps, g_over, g_how, g_givenSort, g_given, b_ek, b_ex, b_ey, b_ez, b_ew, b_outside, b_globalSort, b_global, b_body, b_heldSort, b_held, b_needed, b_envSort, b_env, upd b_length b (nI L), b_base, b_floor, b_begun, b_stage, b_last, b_valueSort, b_value)) : wpY_choose post (g_made, g_functions, nI (b + 1), nI (h + 1), g_top, g_steps, g_over, g_how, g_givenSort, g_given, b_ek, b_ex, b_ey, b_ez, b_ew, b_outside, b_globalSort, b_global, b_body, b_heldSort, b_held, b_needed, b_envSort, b_env, b_length, b_base, b_floor, b_begun, b_stage, b_last, b_valueSort, b_value) (nI e) (nI 2) l := by
  have hin : vp_in (nI (b + 1) - 1) 13 := by rw [nI_pred]; exact vp_in_nI hb (by omega)
  exact And.intro (vp_in_nI he (by omega)) (nm_r ((congrArg b_ek (nI_clamp (n := e) (by omega))).trans hk) (br_f (by decide) (nm_r (nI_pred h) (br_t rfl (And.intro hin (And.intro hin (nm_r (e' := upd b_length b (nI L)) (by rw [nI_pred, nI_clamp (by omega), hl, nI_pred]) hp)))))))
/-- IF -/
theorem yc_1i {t : Nat} (he : e < 60) (hk : b_ek e = 8) (ht : t < 420) (hh : h < 420) (hl : l = 0 ∨ l = 1) (hp : post (g_made, g_functions, g_bodies, nI (h + 1), nI t, g_steps, g_over, g_how, g_givenSort, g_given, b_ek, b_ex, b_ey, b_ez, b_ew, b_outside, b_globalSort, b_global, b_body, b_heldSort, b_held, b_needed, b_envSort, b_env, b_length, b_base, b_floor, upd b_begun h (if b_valueSort t = 0 then b_ez e else b_ey e), upd b_stage h 0, upd b_last h l, b_valueSort, b_value)) : wpY_choose post (g_made, g_functions, g_bodies, nI h, nI (t + 1), g_steps, g_over, g_how, g_givenSort, g_given, b_ek, b_ex, b_ey, b_ez, b_ew, b_outside, b_globalSort, b_global, b_body, b_heldSort, b_held, b_needed, b_envSort, b_env, b_length, b_base, b_floor, b_begun, b_stage, b_last, b_valueSort, b_value) (nI e) (nI 1) l := by
  refine And.intro (vp_in_nI he (by omega)) (nm_r ((congrArg b_ek (nI_clamp (n := e) (by omega))).trans hk) (br_t rfl (nm_r (nI_pred t) (br_f (by decide) (br_t rfl (And.intro (vp_in_nI ht (by omega)) ?_))))))
  rw [nI_clamp (by omega)]
  by_cases c : b_valueSort t = 0
  · rw [if_pos c] at hp
    refine br_t c (And.intro (vp_in_nI he (by omega)) ?_)
    rw [nI_clamp (by omega)]
    exact ys_start hh hl hp
  · rw [if_neg c] at hp
    refine br_f c (And.intro (vp_in_nI he (by omega)) ?_)
    rw [nI_clamp (by omega)]
    exact ys_start hh hl hp
/-- THEN -/
theorem yc_1t {t : Nat} (he : e < 60) (hk : b_ek e = 19) (hh : h < 420) (hl : l = 0 ∨ l = 1) (hp : post (g_made, g_functions, g_bodies, nI (h + 1), nI t, g_steps, g_over, g_how, g_givenSort, g_given, b_ek, b_ex, b_ey, b_ez, b_ew, b_outside, b_globalSort, b_global, b_body, b_heldSort, b_held, b_needed, b_envSort, b_env, b_length, b_base, b_floor, upd b_begun h (b_ey e), upd b_stage h 0, upd b_last h l, b_valueSort, b_value)) : wpY_choose post (g_made, g_functions, g_bodies, nI h, nI (t + 1), g_steps, g_over, g_how, g_givenSort, g_given, b_ek, b_ex, b_ey, b_ez, b_ew, b_outside, b_globalSort, b_global, b_body, b_heldSort, b_held, b_needed, b_envSort, b_env, b_length, b_base, b_floor, b_begun, b_stage, b_last, b_valueSort, b_value) (nI e) (nI 1) l := by
  refine And.intro (vp_in_nI he (by omega)) (nm_r ((congrArg b_ek (nI_clamp (n := e) (by omega))).trans hk) (br_t rfl (nm_r (nI_pred t) (br_f (by decide) (br_f (by decide) (And.intro (vp_in_nI he (by omega)) ?_))))))
  rw [nI_clamp (by omega)]
  exact ys_start hh hl hp
/-- LET -/
theorem yc_1l {t b L : Nat} (he : e < 60) (hk : b_ek e = 14) (hh : h < 420) (ht : t < 420) (hl : l = 0 ∨ l = 1) (hb : b < 13) (hln : b_length b = nI L) (hL : L < 24) (hp : post (g_made, g_functions, nI (b + 1), nI (h + 1), nI t, g_steps, g_over, g_how, g_givenSort, g_given, b_ek, b_ex, b_ey, b_ez, b_ew, b_outside, b_globalSort, b_global, b_body, b_heldSort, b_held, b_needed, upd b_envSort (24 * b + L) (b_valueSort t), upd b_env (24 * b + L) (b_value t), upd b_length b (nI (L + 1)), b_base, b_floor, upd b_begun h (b_ey e), upd b_stage h 0, upd b_last h l, b_valueSort, b_value)) : wpY_choose post (g_made, g_functions, nI (b + 1), nI h, nI (t + 1), g_steps, g_over, g_how, g_givenSort, g_given, b_ek, b_ex, b_ey, b_ez, b_ew, b_outside, b_globalSort, b_global, b_body, b_heldSort, b_held, b_needed, b_envSort, b_env, b_length, b_base, b_floor, b_begun, b_stage, b_last, b_valueSort, b_value) (nI e) (nI 1) l := by
  have hin : vp_in (nI t) 420 := vp_in_nI ht (by omega)
  refine And.intro (vp_in_nI he (by omega)) (nm_r ((congrArg b_ek (nI_clamp (n := e) (by omega))).trans hk) (br_t rfl (nm_r (nI_pred t) (br_t rfl (And.intro hin (And.intro hin ?_))))))
  rw [nI_clamp (by omega)]
  refine ys_bind hb hln hL (br_f (by decide) (And.intro (vp_in_nI he (by omega)) ?_))
  rw [nI_clamp (by omega)]
  exact ys_start hh hl hp
end
end
section
/-! the machine's steps -/
section
variable {f_expressionCount f_functionCount f_codeEnd f_depth f_letCount f_height f_heldNames f_usedCount f_marking f_waitCount f_top f_frame f_at f_openCount f_stepCount f_resultSort f_resultNumber f_levelNow : Int32} {f_marks : Int64} {a_kindOf a_partX a_partY a_partZ a_weightOf a_needOf a_names a_known a_knownNumber a_functionOf a_op a_operand a_workNode a_workPhase a_workLast a_workPatch a_letPlace a_isUsed a_functionAt a_heldCount a_waiting a_openFrame a_openAt : Nat → Int32} {a_cells a_globals a_stack : Nat → Int64}
variable {post : Int32 → SX → Prop} {p t : Nat}
theorem xs_pv {v : Int64} (ht : t < 500) (hp : post (-1) (f_expressionCount, f_functionCount, f_codeEnd, f_depth, f_letCount, f_height, f_heldNames, f_usedCount, f_marks, f_marking, f_waitCount, nI (t + 1), f_frame, f_at, f_openCount, f_stepCount, f_resultSort, f_resultNumber, f_levelNow, a_kindOf, a_partX, a_partY, a_partZ, a_weightOf, a_needOf, a_names, a_known, a_knownNumber, a_functionOf, a_op, a_operand, a_workNode, a_workPhase, a_workLast, a_workPatch, a_letPlace, a_isUsed, a_functionAt, a_heldCount, a_cells, a_waiting, a_globals, vp_updL a_stack t v, a_openFrame, a_openAt)) : wpX_pushValue post (f_expressionCount, f_functionCount, f_codeEnd, f_depth, f_letCount, f_height, f_heldNames, f_usedCount, f_marks, f_marking, f_waitCount, nI t, f_frame, f_at, f_openCount, f_stepCount, f_resultSort, f_resultNumber, f_levelNow, a_kindOf, a_partX, a_partY, a_partZ, a_weightOf, a_needOf, a_names, a_known, a_knownNumber, a_functionOf, a_op, a_operand, a_workNode, a_workPhase, a_workLast, a_workPatch, a_letPlace, a_isUsed, a_functionAt, a_heldCount, a_cells, a_waiting, a_globals, a_stack, a_openFrame, a_openAt) v :=
  And.intro (vp_in_nI ht (by omega)) (nm_r (e' := vp_updL a_stack t v) (by rw [nI_clamp (by omega)]) (nm_r (nI_1 t) hp))
theorem xs_push (hp1 : p < 1560) (ho : a_op p = 0) (ht : t < 500) (hp : post (-1) (f_expressionCount, f_functionCount, f_codeEnd, f_depth, f_letCount, f_height, f_heldNames, f_usedCount, f_marks, f_marking, f_waitCount, nI (t + 1), f_frame, nI (p + 1), f_openCount, f_stepCount, f_resultSort, f_resultNumber, f_levelNow, a_kindOf, a_partX, a_partY, a_partZ, a_weightOf, a_needOf, a_names, a_known, a_knownNumber, a_functionOf, a_op, a_operand, a_workNode, a_workPhase, a_workLast, a_workPatch, a_letPlace, a_isUsed, a_functionAt, a_heldCount, a_cells, a_waiting, a_globals, vp_updL a_stack t (vl_iv (a_operand p)), a_openFrame, a_openAt)) : wpX_step post (f_expressionCount, f_functionCount, f_codeEnd, f_depth, f_letCount, f_height, f_heldNames, f_usedCount, f_marks, f_marking, f_waitCount, nI t, f_frame, nI p, f_openCount, f_stepCount, f_resultSort, f_resultNumber, f_levelNow, a_kindOf, a_partX, a_partY, a_partZ, a_weightOf, a_needOf, a_names, a_known, a_knownNumber, a_functionOf, a_op, a_operand, a_workNode, a_workPhase, a_workLast, a_workPatch, a_letPlace, a_isUsed, a_functionAt, a_heldCount, a_cells, a_waiting, a_globals, a_stack, a_openFrame, a_openAt) :=
  And.intro (vp_in_nI hp1 (by omega)) (nm_r ((congrArg a_op (nI_clamp (n := p) (by omega))).trans ho) (And.intro (vp_in_nI hp1 (by omega)) (nm_r (congrArg a_operand (nI_clamp (n := p) (by omega))) (nm_r (nI_1 p) (br_t rfl (by
    unfold wpX_pushInt
    exact xs_pv ht hp))))))
theorem xs_fs {fr j : Nat} (hp1 : p < 1560) (ho : a_op p = 1) (hd : a_operand p = nI j) (hj : fr + j < 500) (ht : t < 500) (hp : post (-1) (f_expressionCount, f_functionCount, f_codeEnd, f_depth, f_letCount, f_height, f_heldNames, f_usedCount, f_marks, f_marking, f_waitCount, nI (t + 1), nI fr, nI (p + 1), f_openCount, f_stepCount, f_resultSort, f_resultNumber, f_levelNow, a_kindOf, a_partX, a_partY, a_partZ, a_weightOf, a_needOf, a_names, a_known, a_knownNumber, a_functionOf, a_op, a_operand, a_workNode, a_workPhase, a_workLast, a_workPatch, a_letPlace, a_isUsed, a_functionAt, a_heldCount, a_cells, a_waiting, a_globals, vp_updL a_stack t (a_stack (fr + j)), a_openFrame, a_openAt)) : wpX_step post (f_expressionCount, f_functionCount, f_codeEnd, f_depth, f_letCount, f_height, f_heldNames, f_usedCount, f_marks, f_marking, f_waitCount, nI t, nI fr, nI p, f_openCount, f_stepCount, f_resultSort, f_resultNumber, f_levelNow, a_kindOf, a_partX, a_partY, a_partZ, a_weightOf, a_needOf, a_names, a_known, a_knownNumber, a_functionOf, a_op, a_operand, a_workNode, a_workPhase, a_workLast, a_workPatch, a_letPlace, a_isUsed, a_functionAt, a_heldCount, a_cells, a_waiting, a_globals, a_stack, a_openFrame, a_openAt) :=
  And.intro (vp_in_nI hp1 (by omega)) (nm_r ((congrArg a_op (nI_clamp (n := p) (by omega))).trans ho) (And.intro (vp_in_nI hp1 (by omega)) (nm_r (congrArg a_operand (nI_clamp (n := p) (by omega))) (nm_r (nI_1 p) (br_f (by decide) (br_t rfl (by
    rw [hd, nI_add, nI_clamp (by omega)]
    exact And.intro (vp_in_nI hj (by omega)) (xs_pv ht hp))))))))
theorem xs_ff {fr j c : Nat} (hp1 : p < 1560) (ho : a_op p = 8) (hd : a_operand p = nI j) (hj : j < 8) (hc : c < 40) (hfr : fr < 500) (hs : a_stack fr = vl_ob c) (ht : t < 500) (hp : post (-1) (f_expressionCount, f_functionCount, f_codeEnd, f_depth, f_letCount, f_height, f_heldNames, f_usedCount, f_marks, f_marking, f_waitCount, nI (t + 1), nI fr, nI (p + 1), f_openCount, f_stepCount, f_resultSort, f_resultNumber, f_levelNow, a_kindOf, a_partX, a_partY, a_partZ, a_weightOf, a_needOf, a_names, a_known, a_knownNumber, a_functionOf, a_op, a_operand, a_workNode, a_workPhase, a_workLast, a_workPatch, a_letPlace, a_isUsed, a_functionAt, a_heldCount, a_cells, a_waiting, a_globals, vp_updL a_stack t (a_cells (8 * c + j)), a_openFrame, a_openAt)) : wpX_step post (f_expressionCount, f_functionCount, f_codeEnd, f_depth, f_letCount, f_height, f_heldNames, f_usedCount, f_marks, f_marking, f_waitCount, nI t, nI fr, nI p, f_openCount, f_stepCount, f_resultSort, f_resultNumber, f_levelNow, a_kindOf, a_partX, a_partY, a_partZ, a_weightOf, a_needOf, a_names, a_known, a_knownNumber, a_functionOf, a_op, a_operand, a_workNode, a_workPhase, a_workLast, a_workPatch, a_letPlace, a_isUsed, a_functionAt, a_heldCount, a_cells, a_waiting, a_globals, a_stack, a_openFrame, a_openAt) :=
  And.intro (vp_in_nI hp1 (by omega)) (nm_r ((congrArg a_op (nI_clamp (n := p) (by omega))).trans ho) (And.intro (vp_in_nI hp1 (by omega)) (nm_r (congrArg a_operand (nI_clamp (n := p) (by omega))) (nm_r (nI_1 p) (br_f (by decide) (br_f (by decide) (br_t rfl (by
    rw [hd]
    refine And.intro (vp_in_nI hfr (by omega)) ?_
    rw [nI_clamp (by omega), hs]
    refine gc_place (by omega) ?_
    have e : 8 * nI c + nI j = nI (8 * c + j) := by rw [show (8 : Int32) = nI 8 from rfl, pk_mul, nI_add]
    rw [e, nI_clamp (by omega)]
    exact And.intro (vp_in_nI (by omega) (by omega)) (xs_pv ht hp)))))))))
theorem xs_emp (hp1 : p < 1560) (ho : a_op p = 2) (ht : t < 500) (hp : post (-1) (f_expressionCount, f_functionCount, f_codeEnd, f_depth, f_letCount, f_height, f_heldNames, f_usedCount, f_marks, f_marking, f_waitCount, nI (t + 1), f_frame, nI (p + 1), f_openCount, f_stepCount, f_resultSort, f_resultNumber, f_levelNow, a_kindOf, a_partX, a_partY, a_partZ, a_weightOf, a_needOf, a_names, a_known, a_knownNumber, a_functionOf, a_op, a_operand, a_workNode, a_workPhase, a_workLast, a_workPatch, a_letPlace, a_isUsed, a_functionAt, a_heldCount, a_cells, a_waiting, a_globals, vp_updL a_stack t 0, a_openFrame, a_openAt)) : wpX_step post (f_expressionCount, f_functionCount, f_codeEnd, f_depth, f_letCount, f_height, f_heldNames, f_usedCount, f_marks, f_marking, f_waitCount, nI t, f_frame, nI p, f_openCount, f_stepCount, f_resultSort, f_resultNumber, f_levelNow, a_kindOf, a_partX, a_partY, a_partZ, a_weightOf, a_needOf, a_names, a_known, a_knownNumber, a_functionOf, a_op, a_operand, a_workNode, a_workPhase, a_workLast, a_workPatch, a_letPlace, a_isUsed, a_functionAt, a_heldCount, a_cells, a_waiting, a_globals, a_stack, a_openFrame, a_openAt) :=
  And.intro (vp_in_nI hp1 (by omega)) (nm_r ((congrArg a_op (nI_clamp (n := p) (by omega))).trans ho) (And.intro (vp_in_nI hp1 (by omega)) (nm_r (congrArg a_operand (nI_clamp (n := p) (by omega))) (nm_r (nI_1 p) (br_f (by decide) (br_f (by decide) (br_f (by decide) (br_t rfl (xs_pv ht hp)))))))))
theorem xs_gl {g : Nat} (hp1 : p < 1560) (ho : a_op p = 17) (hd : a_operand p = nI g) (hg : g < 4) (ht : t < 500) (hp : post (-1) (f_expressionCount, f_functionCount, f_codeEnd, f_depth, f_letCount, f_height, f_heldNames, f_usedCount, f_marks, f_marking, f_waitCount, nI (t + 1), f_frame, nI (p + 1), f_openCount, f_stepCount, f_resultSort, f_resultNumber, f_levelNow, a_kindOf, a_partX, a_partY, a_partZ, a_weightOf, a_needOf, a_names, a_known, a_knownNumber, a_functionOf, a_op, a_operand, a_workNode, a_workPhase, a_workLast, a_workPatch, a_letPlace, a_isUsed, a_functionAt, a_heldCount, a_cells, a_waiting, a_globals, vp_updL a_stack t (a_globals g), a_openFrame, a_openAt)) : wpX_step post (f_expressionCount, f_functionCount, f_codeEnd, f_depth, f_letCount, f_height, f_heldNames, f_usedCount, f_marks, f_marking, f_waitCount, nI t, f_frame, nI p, f_openCount, f_stepCount, f_resultSort, f_resultNumber, f_levelNow, a_kindOf, a_partX, a_partY, a_partZ, a_weightOf, a_needOf, a_names, a_known, a_knownNumber, a_functionOf, a_op, a_operand, a_workNode, a_workPhase, a_workLast, a_workPatch, a_letPlace, a_isUsed, a_functionAt, a_heldCount, a_cells, a_waiting, a_globals, a_stack, a_openFrame, a_openAt) :=
  And.intro (vp_in_nI hp1 (by omega)) (nm_r ((congrArg a_op (nI_clamp (n := p) (by omega))).trans ho) (And.intro (vp_in_nI hp1 (by omega)) (nm_r (congrArg a_operand (nI_clamp (n := p) (by omega))) (nm_r (nI_1 p) (br_f (by decide) (br_f (by decide) (br_f (by decide) (br_f (by decide) (br_t rfl (by
    rw [hd, nI_clamp (by omega)]
    exact And.intro (vp_in_nI hg (by omega)) (xs_pv ht hp)))))))))))
theorem xs_s1 (t : Nat) : nI (t + 1) - 1 = nI t := nI_pred t
theorem xs_s2 (t : Nat) : nI (t + 2) - 2 = nI t := by
  rw [show (2 : Int32) = nI 2 from rfl, pk_sub (by omega)]; rfl
/-- the calculations: the two values on the top are x and y -/
theorem xs_cb {o : Int32} {x y : Int64} (hp1 : p < 1560) (ho : a_op p = o) (hoo : o = 3 ∨ o = 4 ∨ o = 5 ∨ o = 6) (ht : t + 2 ≤ 500) (hx : a_stack t = x) (hy : a_stack (t + 1) = y) (hb : ¬ (x &&& 3 = 1 ∧ y &&& 3 = 1)) (hp : post 1 (f_expressionCount, f_functionCount, f_codeEnd, f_depth, f_letCount, f_height, f_heldNames, f_usedCount, f_marks, f_marking, f_waitCount, nI (t + 2), f_frame, nI (p + 1), f_openCount, f_stepCount, f_resultSort, f_resultNumber, f_levelNow, a_kindOf, a_partX, a_partY, a_partZ, a_weightOf, a_needOf, a_names, a_known, a_knownNumber, a_functionOf, a_op, a_operand, a_workNode, a_workPhase, a_workLast, a_workPatch, a_letPlace, a_isUsed, a_functionAt, a_heldCount, a_cells, a_waiting, a_globals, a_stack, a_openFrame, a_openAt)) : wpX_step post (f_expressionCount, f_functionCount, f_codeEnd, f_depth, f_letCount, f_height, f_heldNames, f_usedCount, f_marks, f_marking, f_waitCount, nI (t + 2), f_frame, nI p, f_openCount, f_stepCount, f_resultSort, f_resultNumber, f_levelNow, a_kindOf, a_partX, a_partY, a_partZ, a_weightOf, a_needOf, a_names, a_known, a_knownNumber, a_functionOf, a_op, a_operand, a_workNode, a_workPhase, a_workLast, a_workPatch, a_letPlace, a_isUsed, a_functionAt, a_heldCount, a_cells, a_waiting, a_globals, a_stack, a_openFrame, a_openAt) := by
  have h : wpX_calculate (fun r u => post r u) (f_expressionCount, f_functionCount, f_codeEnd, f_depth, f_letCount, f_height, f_heldNames, f_usedCount, f_marks, f_marking, f_waitCount, nI (t + 2), f_frame, nI (p + 1), f_openCount, f_stepCount, f_resultSort, f_resultNumber, f_levelNow, a_kindOf, a_partX, a_partY, a_partZ, a_weightOf, a_needOf, a_names, a_known, a_knownNumber, a_functionOf, a_op, a_operand, a_workNode, a_workPhase, a_workLast, a_workPatch, a_letPlace, a_isUsed, a_functionAt, a_heldCount, a_cells, a_waiting, a_globals, a_stack, a_openFrame, a_openAt) o := by
    refine And.intro (by rw [xs_s2]; exact vp_in_nI (by omega) (by omega)) (nm_r (e' := x) (by rw [xs_s2, nI_clamp (by omega)]; exact hx) (And.intro (by rw [xs_s1 (t + 1)]; exact vp_in_nI (by omega) (by omega)) (nm_r (e' := y) (by rw [xs_s1 (t + 1), nI_clamp (by omega)]; exact hy) ?_)))
    by_cases c : x &&& 3 = 1
    · exact br_t c (br_f (fun d => hb ⟨c, d⟩) hp)
    · exact br_f c hp
  rcases hoo with rfl | rfl | rfl | rfl <;> exact And.intro (vp_in_nI hp1 (by omega)) (nm_r ((congrArg a_op (nI_clamp (n := p) (by omega))).trans ho) (And.intro (vp_in_nI hp1 (by omega)) (nm_r (congrArg a_operand (nI_clamp (n := p) (by omega))) (nm_r (nI_1 p) (br_f (by decide) (br_f (by decide) (br_f (by decide) (br_f (by decide) (br_f (by decide) (br_f (by decide) h))))))))))
theorem xs_ca {o : Int32} {x y : Int32} (hp1 : p < 1560) (ho : a_op p = o) (hoo : o = 3 ∨ o = 4 ∨ o = 5) (ht : t + 2 ≤ 500) (hx : a_stack t = vl_iv x) (hy : a_stack (t + 1) = vl_iv y) (hp : post (-1) (f_expressionCount, f_functionCount, f_codeEnd, f_depth, f_letCount, f_height, f_heldNames, f_usedCount, f_marks, f_marking, f_waitCount, nI (t + 1), f_frame, nI (p + 1), f_openCount, f_stepCount, f_resultSort, f_resultNumber, f_levelNow, a_kindOf, a_partX, a_partY, a_partZ, a_weightOf, a_needOf, a_names, a_known, a_knownNumber, a_functionOf, a_op, a_operand, a_workNode, a_workPhase, a_workLast, a_workPatch, a_letPlace, a_isUsed, a_functionAt, a_heldCount, a_cells, a_waiting, a_globals, vp_updL a_stack t (vl_iv (if o = 3 then x + y else if o = 4 then x - y else x * y)), a_openFrame, a_openAt)) : wpX_step post (f_expressionCount, f_functionCount, f_codeEnd, f_depth, f_letCount, f_height, f_heldNames, f_usedCount, f_marks, f_marking, f_waitCount, nI (t + 2), f_frame, nI p, f_openCount, f_stepCount, f_resultSort, f_resultNumber, f_levelNow, a_kindOf, a_partX, a_partY, a_partZ, a_weightOf, a_needOf, a_names, a_known, a_knownNumber, a_functionOf, a_op, a_operand, a_workNode, a_workPhase, a_workLast, a_workPatch, a_letPlace, a_isUsed, a_functionAt, a_heldCount, a_cells, a_waiting, a_globals, a_stack, a_openFrame, a_openAt) := by
  have h : wpX_calculate (fun r u => post r u) (f_expressionCount, f_functionCount, f_codeEnd, f_depth, f_letCount, f_height, f_heldNames, f_usedCount, f_marks, f_marking, f_waitCount, nI (t + 2), f_frame, nI (p + 1), f_openCount, f_stepCount, f_resultSort, f_resultNumber, f_levelNow, a_kindOf, a_partX, a_partY, a_partZ, a_weightOf, a_needOf, a_names, a_known, a_knownNumber, a_functionOf, a_op, a_operand, a_workNode, a_workPhase, a_workLast, a_workPatch, a_letPlace, a_isUsed, a_functionAt, a_heldCount, a_cells, a_waiting, a_globals, a_stack, a_openFrame, a_openAt) o := by
    refine And.intro (by rw [xs_s2]; exact vp_in_nI (by omega) (by omega)) (nm_r (e' := vl_iv x) (by rw [xs_s2, nI_clamp (by omega)]; exact hx) (And.intro (by rw [xs_s1 (t + 1)]; exact vp_in_nI (by omega) (by omega)) (nm_r (e' := vl_iv y) (by rw [xs_s1 (t + 1), nI_clamp (by omega)]; exact hy) (br_t (vl_iv_and x) (br_t (vl_iv_and y) (nm_r (vl_iv_pl x) (nm_r (vl_iv_pl y) (nm_r (xs_s1 (t + 1)) (br_f (by rcases hoo with rfl | rfl | rfl <;> decide) ?_)))))))))
    have fin : ∀ v : Int32, post (-1) (f_expressionCount, f_functionCount, f_codeEnd, f_depth, f_letCount, f_height, f_heldNames, f_usedCount, f_marks, f_marking, f_waitCount, nI (t + 1), f_frame, nI (p + 1), f_openCount, f_stepCount, f_resultSort, f_resultNumber, f_levelNow, a_kindOf, a_partX, a_partY, a_partZ, a_weightOf, a_needOf, a_names, a_known, a_knownNumber, a_functionOf, a_op, a_operand, a_workNode, a_workPhase, a_workLast, a_workPatch, a_letPlace, a_isUsed, a_functionAt, a_heldCount, a_cells, a_waiting, a_globals, vp_updL a_stack t (vl_iv v), a_openFrame, a_openAt) → (vp_in (nI (t + 1) - 1) 500 ∧ ∀ y : Nat → Int64, y = vp_updL a_stack (nI (t + 1) - 1).toNatClampNeg (vl_iv v) → post (-1) (f_expressionCount, f_functionCount, f_codeEnd, f_depth, f_letCount, f_height, f_heldNames, f_usedCount, f_marks, f_marking, f_waitCount, nI (t + 1), f_frame, nI (p + 1), f_openCount, f_stepCount, f_resultSort, f_resultNumber, f_levelNow, a_kindOf, a_partX, a_partY, a_partZ, a_weightOf, a_needOf, a_names, a_known, a_knownNumber, a_functionOf, a_op, a_operand, a_workNode, a_workPhase, a_workLast, a_workPatch, a_letPlace, a_isUsed, a_functionAt, a_heldCount, a_cells, a_waiting, a_globals, y, a_openFrame, a_openAt)) := fun v hv =>
      And.intro (by rw [xs_s1]; exact vp_in_nI (by omega) (by omega)) (nm_r (e' := vp_updL a_stack t (vl_iv v)) (by rw [xs_s1, nI_clamp (by omega)]) hv)
    unfold wpX_replaceTop
    by_cases c : o = 3
    · rw [if_pos c] at hp; exact br_t c (fin _ hp)
    · rw [if_neg c] at hp
      by_cases d : o = 4
      · rw [if_pos d] at hp; exact br_f c (br_t d (fin _ hp))
      · rw [if_neg d] at hp; exact br_f c (br_f d (fin _ hp))
  rcases hoo with rfl | rfl | rfl <;> exact And.intro (vp_in_nI hp1 (by omega)) (nm_r ((congrArg a_op (nI_clamp (n := p) (by omega))).trans ho) (And.intro (vp_in_nI hp1 (by omega)) (nm_r (congrArg a_operand (nI_clamp (n := p) (by omega))) (nm_r (nI_1 p) (br_f (by decide) (br_f (by decide) (br_f (by decide) (br_f (by decide) (br_f (by decide) (br_f (by decide) h))))))))))
theorem xs_cl {x y : Int32} (hp1 : p < 1560) (ho : a_op p = 6) (ht : t + 2 ≤ 500) (hx : a_stack t = vl_iv x) (hy : a_stack (t + 1) = vl_iv y) (hp : post (-1) (f_expressionCount, f_functionCount, f_codeEnd, f_depth, f_letCount, f_height, f_heldNames, f_usedCount, f_marks, f_marking, f_waitCount, nI (t + 1), f_frame, nI (p + 1), f_openCount, f_stepCount, f_resultSort, f_resultNumber, f_levelNow, a_kindOf, a_partX, a_partY, a_partZ, a_weightOf, a_needOf, a_names, a_known, a_knownNumber, a_functionOf, a_op, a_operand, a_workNode, a_workPhase, a_workLast, a_workPatch, a_letPlace, a_isUsed, a_functionAt, a_heldCount, a_cells, a_waiting, a_globals, vp_updL a_stack t (if y ≤ x then 0 else vl_iv 1), a_openFrame, a_openAt)) : wpX_step post (f_expressionCount, f_functionCount, f_codeEnd, f_depth, f_letCount, f_height, f_heldNames, f_usedCount, f_marks, f_marking, f_waitCount, nI (t + 2), f_frame, nI p, f_openCount, f_stepCount, f_resultSort, f_resultNumber, f_levelNow, a_kindOf, a_partX, a_partY, a_partZ, a_weightOf, a_needOf, a_names, a_known, a_knownNumber, a_functionOf, a_op, a_operand, a_workNode, a_workPhase, a_workLast, a_workPatch, a_letPlace, a_isUsed, a_functionAt, a_heldCount, a_cells, a_waiting, a_globals, a_stack, a_openFrame, a_openAt) := by
  have h : wpX_calculate (fun r u => post r u) (f_expressionCount, f_functionCount, f_codeEnd, f_depth, f_letCount, f_height, f_heldNames, f_usedCount, f_marks, f_marking, f_waitCount, nI (t + 2), f_frame, nI (p + 1), f_openCount, f_stepCount, f_resultSort, f_resultNumber, f_levelNow, a_kindOf, a_partX, a_partY, a_partZ, a_weightOf, a_needOf, a_names, a_known, a_knownNumber, a_functionOf, a_op, a_operand, a_workNode, a_workPhase, a_workLast, a_workPatch, a_letPlace, a_isUsed, a_functionAt, a_heldCount, a_cells, a_waiting, a_globals, a_stack, a_openFrame, a_openAt) 6 := by
    refine And.intro (by rw [xs_s2]; exact vp_in_nI (by omega) (by omega)) (nm_r (e' := vl_iv x) (by rw [xs_s2, nI_clamp (by omega)]; exact hx) (And.intro (by rw [xs_s1 (t + 1)]; exact vp_in_nI (by omega) (by omega)) (nm_r (e' := vl_iv y) (by rw [xs_s1 (t + 1), nI_clamp (by omega)]; exact hy) (br_t (vl_iv_and x) (br_t (vl_iv_and y) (nm_r (vl_iv_pl x) (nm_r (vl_iv_pl y) (nm_r (xs_s1 (t + 1)) (br_t rfl ?_)))))))))
    have fin : ∀ v : Int64, post (-1) (f_expressionCount, f_functionCount, f_codeEnd, f_depth, f_letCount, f_height, f_heldNames, f_usedCount, f_marks, f_marking, f_waitCount, nI (t + 1), f_frame, nI (p + 1), f_openCount, f_stepCount, f_resultSort, f_resultNumber, f_levelNow, a_kindOf, a_partX, a_partY, a_partZ, a_weightOf, a_needOf, a_names, a_known, a_knownNumber, a_functionOf, a_op, a_operand, a_workNode, a_workPhase, a_workLast, a_workPatch, a_letPlace, a_isUsed, a_functionAt, a_heldCount, a_cells, a_waiting, a_globals, vp_updL a_stack t v, a_openFrame, a_openAt) → (vp_in (nI (t + 1) - 1) 500 ∧ ∀ y : Nat → Int64, y = vp_updL a_stack (nI (t + 1) - 1).toNatClampNeg v → post (-1) (f_expressionCount, f_functionCount, f_codeEnd, f_depth, f_letCount, f_height, f_heldNames, f_usedCount, f_marks, f_marking, f_waitCount, nI (t + 1), f_frame, nI (p + 1), f_openCount, f_stepCount, f_resultSort, f_resultNumber, f_levelNow, a_kindOf, a_partX, a_partY, a_partZ, a_weightOf, a_needOf, a_names, a_known, a_knownNumber, a_functionOf, a_op, a_operand, a_workNode, a_workPhase, a_workLast, a_workPatch, a_letPlace, a_isUsed, a_functionAt, a_heldCount, a_cells, a_waiting, a_globals, y, a_openFrame, a_openAt)) := fun v hv =>
      And.intro (by rw [xs_s1]; exact vp_in_nI (by omega) (by omega)) (nm_r (e' := vp_updL a_stack t v) (by rw [xs_s1, nI_clamp (by omega)]) hv)
    by_cases c : y ≤ x
    · rw [if_pos c] at hp; exact br_t c (fin _ hp)
    · rw [if_neg c] at hp; exact br_f c (fin _ hp)
  exact And.intro (vp_in_nI hp1 (by omega)) (nm_r ((congrArg a_op (nI_clamp (n := p) (by omega))).trans ho) (And.intro (vp_in_nI hp1 (by omega)) (nm_r (congrArg a_operand (nI_clamp (n := p) (by omega))) (nm_r (nI_1 p) (br_f (by decide) (br_f (by decide) (br_f (by decide) (br_f (by decide) (br_f (by decide) (br_f (by decide) h))))))))))
theorem xs_cmp {x y : Int64} (hp1 : p < 1560) (ho : a_op p = 7) (ht : t + 2 ≤ 500) (hx : a_stack t = x) (hy : a_stack (t + 1) = y) (hp : post (-1) (f_expressionCount, f_functionCount, f_codeEnd, f_depth, f_letCount, f_height, f_heldNames, f_usedCount, f_marks, f_marking, f_waitCount, nI (t + 1), f_frame, nI (p + 1), f_openCount, f_stepCount, f_resultSort, f_resultNumber, f_levelNow, a_kindOf, a_partX, a_partY, a_partZ, a_weightOf, a_needOf, a_names, a_known, a_knownNumber, a_functionOf, a_op, a_operand, a_workNode, a_workPhase, a_workLast, a_workPatch, a_letPlace, a_isUsed, a_functionAt, a_heldCount, a_cells, a_waiting, a_globals, vp_updL a_stack t (if x = y then vl_iv 1 else 0), a_openFrame, a_openAt)) : wpX_step post (f_expressionCount, f_functionCount, f_codeEnd, f_depth, f_letCount, f_height, f_heldNames, f_usedCount, f_marks, f_marking, f_waitCount, nI (t + 2), f_frame, nI p, f_openCount, f_stepCount, f_resultSort, f_resultNumber, f_levelNow, a_kindOf, a_partX, a_partY, a_partZ, a_weightOf, a_needOf, a_names, a_known, a_knownNumber, a_functionOf, a_op, a_operand, a_workNode, a_workPhase, a_workLast, a_workPatch, a_letPlace, a_isUsed, a_functionAt, a_heldCount, a_cells, a_waiting, a_globals, a_stack, a_openFrame, a_openAt) := by
  have h : wpX_compare (fun u => post (-1) u) (f_expressionCount, f_functionCount, f_codeEnd, f_depth, f_letCount, f_height, f_heldNames, f_usedCount, f_marks, f_marking, f_waitCount, nI (t + 2), f_frame, nI (p + 1), f_openCount, f_stepCount, f_resultSort, f_resultNumber, f_levelNow, a_kindOf, a_partX, a_partY, a_partZ, a_weightOf, a_needOf, a_names, a_known, a_knownNumber, a_functionOf, a_op, a_operand, a_workNode, a_workPhase, a_workLast, a_workPatch, a_letPlace, a_isUsed, a_functionAt, a_heldCount, a_cells, a_waiting, a_globals, a_stack, a_openFrame, a_openAt) := by
    refine nm_r (xs_s1 (t + 1)) (And.intro (by rw [xs_s1]; exact vp_in_nI (by omega) (by omega)) (And.intro (vp_in_nI (by omega) (by omega)) ?_))
    have fin : ∀ v : Int64, post (-1) (f_expressionCount, f_functionCount, f_codeEnd, f_depth, f_letCount, f_height, f_heldNames, f_usedCount, f_marks, f_marking, f_waitCount, nI (t + 1), f_frame, nI (p + 1), f_openCount, f_stepCount, f_resultSort, f_resultNumber, f_levelNow, a_kindOf, a_partX, a_partY, a_partZ, a_weightOf, a_needOf, a_names, a_known, a_knownNumber, a_functionOf, a_op, a_operand, a_workNode, a_workPhase, a_workLast, a_workPatch, a_letPlace, a_isUsed, a_functionAt, a_heldCount, a_cells, a_waiting, a_globals, vp_updL a_stack t v, a_openFrame, a_openAt) → (vp_in (nI (t + 1) - 1) 500 ∧ ∀ y : Nat → Int64, y = vp_updL a_stack (nI (t + 1) - 1).toNatClampNeg v → post (-1) (f_expressionCount, f_functionCount, f_codeEnd, f_depth, f_letCount, f_height, f_heldNames, f_usedCount, f_marks, f_marking, f_waitCount, nI (t + 1), f_frame, nI (p + 1), f_openCount, f_stepCount, f_resultSort, f_resultNumber, f_levelNow, a_kindOf, a_partX, a_partY, a_partZ, a_weightOf, a_needOf, a_names, a_known, a_knownNumber, a_functionOf, a_op, a_operand, a_workNode, a_workPhase, a_workLast, a_workPatch, a_letPlace, a_isUsed, a_functionAt, a_heldCount, a_cells, a_waiting, a_globals, y, a_openFrame, a_openAt)) := fun v hv =>
      And.intro (by rw [xs_s1]; exact vp_in_nI (by omega) (by omega)) (nm_r (e' := vp_updL a_stack t v) (by rw [xs_s1, nI_clamp (by omega)]) hv)
    have e1 : a_stack (nI (t + 1) - 1).toNatClampNeg = x := by rw [xs_s1, nI_clamp (by omega)]; exact hx
    have e2 : a_stack (nI (t + 1)).toNatClampNeg = y := by rw [nI_clamp (by omega)]; exact hy
    by_cases c : x = y
    · rw [if_pos c] at hp; exact br_t (by rw [e1, e2]; exact c) (fin _ hp)
    · rw [if_neg c] at hp; exact br_f (by rw [e1, e2]; exact c) (fin _ hp)
  exact And.intro (vp_in_nI hp1 (by omega)) (nm_r ((congrArg a_op (nI_clamp (n := p) (by omega))).trans ho) (And.intro (vp_in_nI hp1 (by omega)) (nm_r (congrArg a_operand (nI_clamp (n := p) (by omega))) (nm_r (nI_1 p) (br_f (by decide) (br_f (by decide) (br_f (by decide) (br_f (by decide) (br_f (by decide) (br_t (by decide) (br_f (by decide) (br_f (by decide) (br_t (by decide) (br_f (by decide) (br_f (by decide) (br_f (by decide) (br_f (by decide) (br_t rfl h))))))))))))))))))
theorem xs_jump {q : Nat} (hp1 : p < 1560) (ho : a_op p = 14) (hd : a_operand p = nI q) (hp : post (-1) (f_expressionCount, f_functionCount, f_codeEnd, f_depth, f_letCount, f_height, f_heldNames, f_usedCount, f_marks, f_marking, f_waitCount, f_top, f_frame, nI q, f_openCount, f_stepCount, f_resultSort, f_resultNumber, f_levelNow, a_kindOf, a_partX, a_partY, a_partZ, a_weightOf, a_needOf, a_names, a_known, a_knownNumber, a_functionOf, a_op, a_operand, a_workNode, a_workPhase, a_workLast, a_workPatch, a_letPlace, a_isUsed, a_functionAt, a_heldCount, a_cells, a_waiting, a_globals, a_stack, a_openFrame, a_openAt)) : wpX_step post (f_expressionCount, f_functionCount, f_codeEnd, f_depth, f_letCount, f_height, f_heldNames, f_usedCount, f_marks, f_marking, f_waitCount, f_top, f_frame, nI p, f_openCount, f_stepCount, f_resultSort, f_resultNumber, f_levelNow, a_kindOf, a_partX, a_partY, a_partZ, a_weightOf, a_needOf, a_names, a_known, a_knownNumber, a_functionOf, a_op, a_operand, a_workNode, a_workPhase, a_workLast, a_workPatch, a_letPlace, a_isUsed, a_functionAt, a_heldCount, a_cells, a_waiting, a_globals, a_stack, a_openFrame, a_openAt) := by
  refine And.intro (vp_in_nI hp1 (by omega)) (nm_r ((congrArg a_op (nI_clamp (n := p) (by omega))).trans ho) (And.intro (vp_in_nI hp1 (by omega)) (nm_r (congrArg a_operand (nI_clamp (n := p) (by omega))) (nm_r (nI_1 p) (br_f (by decide) (br_f (by decide) (br_f (by decide) (br_f (by decide) (br_f (by decide) (br_t (by decide) (br_f (by decide) (br_f (by decide) (br_f (by decide) (br_t (by decide) (br_f (by decide) (br_f (by decide) (br_f (by decide) (br_t rfl ?_))))))))))))))))))
  rw [hd]; exact hp
/-- the operations that move the top -/
theorem xs_mt {o : Int32} (hp1 : p < 1560) (ho : a_op p = o) (hoo : o = 18 ∨ o = 19 ∨ o = 20 ∨ o = 21) (h : wpX_moveTop (fun u => post (-1) u) (f_expressionCount, f_functionCount, f_codeEnd, f_depth, f_letCount, f_height, f_heldNames, f_usedCount, f_marks, f_marking, f_waitCount, f_top, f_frame, nI (p + 1), f_openCount, f_stepCount, f_resultSort, f_resultNumber, f_levelNow, a_kindOf, a_partX, a_partY, a_partZ, a_weightOf, a_needOf, a_names, a_known, a_knownNumber, a_functionOf, a_op, a_operand, a_workNode, a_workPhase, a_workLast, a_workPatch, a_letPlace, a_isUsed, a_functionAt, a_heldCount, a_cells, a_waiting, a_globals, a_stack, a_openFrame, a_openAt) o (a_operand p)) : wpX_step post (f_expressionCount, f_functionCount, f_codeEnd, f_depth, f_letCount, f_height, f_heldNames, f_usedCount, f_marks, f_marking, f_waitCount, f_top, f_frame, nI p, f_openCount, f_stepCount, f_resultSort, f_resultNumber, f_levelNow, a_kindOf, a_partX, a_partY, a_partZ, a_weightOf, a_needOf, a_names, a_known, a_knownNumber, a_functionOf, a_op, a_operand, a_workNode, a_workPhase, a_workLast, a_workPatch, a_letPlace, a_isUsed, a_functionAt, a_heldCount, a_cells, a_waiting, a_globals, a_stack, a_openFrame, a_openAt) := by
  rcases hoo with rfl | rfl | rfl | rfl <;> exact And.intro (vp_in_nI hp1 (by omega)) (nm_r ((congrArg a_op (nI_clamp (n := p) (by omega))).trans ho) (And.intro (vp_in_nI hp1 (by omega)) (nm_r (congrArg a_operand (nI_clamp (n := p) (by omega))) (nm_r (nI_1 p) (br_f (by decide) (br_f (by decide) (br_f (by decide) (br_f (by decide) (br_f (by decide) (br_t (by decide) (br_f (by decide) (br_f (by decide) (br_f (by decide) (br_t (by decide) (br_f (by decide) (br_f (by decide) (br_f (by decide) (br_f (by decide) (br_f (by decide) h)))))))))))))))))))
theorem xs_drop (hp1 : p < 1560) (ho : a_op p = 20) (ht : t < 500) (hp : post (-1) (f_expressionCount, f_functionCount, f_codeEnd, f_depth, f_letCount, f_height, f_heldNames, f_usedCount, f_marks, f_marking, f_waitCount, nI t, f_frame, nI (p + 1), f_openCount, f_stepCount, f_resultSort, f_resultNumber, f_levelNow, a_kindOf, a_partX, a_partY, a_partZ, a_weightOf, a_needOf, a_names, a_known, a_knownNumber, a_functionOf, a_op, a_operand, a_workNode, a_workPhase, a_workLast, a_workPatch, a_letPlace, a_isUsed, a_functionAt, a_heldCount, a_cells, a_waiting, a_globals, a_stack, a_openFrame, a_openAt)) : wpX_step post (f_expressionCount, f_functionCount, f_codeEnd, f_depth, f_letCount, f_height, f_heldNames, f_usedCount, f_marks, f_marking, f_waitCount, nI (t + 1), f_frame, nI p, f_openCount, f_stepCount, f_resultSort, f_resultNumber, f_levelNow, a_kindOf, a_partX, a_partY, a_partZ, a_weightOf, a_needOf, a_names, a_known, a_knownNumber, a_functionOf, a_op, a_operand, a_workNode, a_workPhase, a_workLast, a_workPatch, a_letPlace, a_isUsed, a_functionAt, a_heldCount, a_cells, a_waiting, a_globals, a_stack, a_openFrame, a_openAt) :=
  xs_mt hp1 ho (Or.inr (Or.inr (Or.inl rfl))) (And.intro (by rw [xs_s1]; exact vp_in_nI ht (by omega)) (nm_e (br_f (by decide) (nm_r (xs_s1 t) (br_f (by decide) (br_f (by decide) hp))))))
theorem xs_keep (hp1 : p < 1560) (ho : a_op p = 21) (ht : t + 2 ≤ 500) (hp : post (-1) (f_expressionCount, f_functionCount, f_codeEnd, f_depth, f_letCount, f_height, f_heldNames, f_usedCount, f_marks, f_marking, f_waitCount, nI (t + 1), f_frame, nI (p + 1), f_openCount, f_stepCount, f_resultSort, f_resultNumber, f_levelNow, a_kindOf, a_partX, a_partY, a_partZ, a_weightOf, a_needOf, a_names, a_known, a_knownNumber, a_functionOf, a_op, a_operand, a_workNode, a_workPhase, a_workLast, a_workPatch, a_letPlace, a_isUsed, a_functionAt, a_heldCount, a_cells, a_waiting, a_globals, vp_updL a_stack t (a_stack (t + 1)), a_openFrame, a_openAt)) : wpX_step post (f_expressionCount, f_functionCount, f_codeEnd, f_depth, f_letCount, f_height, f_heldNames, f_usedCount, f_marks, f_marking, f_waitCount, nI (t + 2), f_frame, nI p, f_openCount, f_stepCount, f_resultSort, f_resultNumber, f_levelNow, a_kindOf, a_partX, a_partY, a_partZ, a_weightOf, a_needOf, a_names, a_known, a_knownNumber, a_functionOf, a_op, a_operand, a_workNode, a_workPhase, a_workLast, a_workPatch, a_letPlace, a_isUsed, a_functionAt, a_heldCount, a_cells, a_waiting, a_globals, a_stack, a_openFrame, a_openAt) :=
  xs_mt hp1 ho (Or.inr (Or.inr (Or.inr rfl))) (And.intro (by rw [xs_s1 (t + 1)]; exact vp_in_nI (by omega) (by omega)) (nm_r (e' := a_stack (t + 1)) (by rw [xs_s1 (t + 1), nI_clamp (by omega)]) (br_f (by decide) (nm_r (xs_s1 (t + 1)) (br_t rfl (And.intro (by rw [xs_s1]; exact vp_in_nI (by omega) (by omega)) (nm_r (e' := vp_updL a_stack t (a_stack (t + 1))) (by rw [xs_s1, nI_clamp (by omega)]) hp)))))))
theorem xs_jie {q : Nat} (hp1 : p < 1560) (ho : a_op p = 19) (hd : a_operand p = nI q) (ht : t < 500) (hp : post (-1) (f_expressionCount, f_functionCount, f_codeEnd, f_depth, f_letCount, f_height, f_heldNames, f_usedCount, f_marks, f_marking, f_waitCount, nI t, f_frame, nI (if a_stack t = 0 then q else p + 1), f_openCount, f_stepCount, f_resultSort, f_resultNumber, f_levelNow, a_kindOf, a_partX, a_partY, a_partZ, a_weightOf, a_needOf, a_names, a_known, a_knownNumber, a_functionOf, a_op, a_operand, a_workNode, a_workPhase, a_workLast, a_workPatch, a_letPlace, a_isUsed, a_functionAt, a_heldCount, a_cells, a_waiting, a_globals, a_stack, a_openFrame, a_openAt)) : wpX_step post (f_expressionCount, f_functionCount, f_codeEnd, f_depth, f_letCount, f_height, f_heldNames, f_usedCount, f_marks, f_marking, f_waitCount, nI (t + 1), f_frame, nI p, f_openCount, f_stepCount, f_resultSort, f_resultNumber, f_levelNow, a_kindOf, a_partX, a_partY, a_partZ, a_weightOf, a_needOf, a_names, a_known, a_knownNumber, a_functionOf, a_op, a_operand, a_workNode, a_workPhase, a_workLast, a_workPatch, a_letPlace, a_isUsed, a_functionAt, a_heldCount, a_cells, a_waiting, a_globals, a_stack, a_openFrame, a_openAt) := by
  refine xs_mt hp1 ho (Or.inr (Or.inl rfl)) (And.intro (by rw [xs_s1]; exact vp_in_nI ht (by omega)) (nm_r (e' := a_stack t) (by rw [xs_s1, nI_clamp (by omega)]) (br_f (by decide) (nm_r (xs_s1 t) (br_f (by decide) (br_t rfl ?_))))))
  by_cases c : a_stack t = 0
  · rw [if_pos c] at hp
    refine br_t c ?_
    rw [hd]; exact hp
  · rw [if_neg c] at hp
    exact br_f c hp
/-- a global is set: v on the top -/
theorem xs_sg {g : Nat} {D : Nat → Prop} (hp1 : p < 1560) (ho : a_op p = 18) (hd : a_operand p = nI g) (hg : g < 4) (ht : t < 500)
    (ht2 : ∃ (m' : Int64) (wc' : Int32) (wt' : Nat → Int32), (∀ post' : SX → Prop, post' (f_expressionCount, f_functionCount, f_codeEnd, f_depth, f_letCount, f_height, f_heldNames, f_usedCount, m', f_marking, wc', nI (t + 1), f_frame, nI (p + 1), f_openCount, f_stepCount, f_resultSort, f_resultNumber, f_levelNow, a_kindOf, a_partX, a_partY, a_partZ, a_weightOf, a_needOf, a_names, a_known, a_knownNumber, a_functionOf, a_op, a_operand, a_workNode, a_workPhase, a_workLast, a_workPatch, a_letPlace, a_isUsed, a_functionAt, a_heldCount, a_cells, wt', a_globals, a_stack, a_openFrame, a_openAt) → wpX_tellOld post' (f_expressionCount, f_functionCount, f_codeEnd, f_depth, f_letCount, f_height, f_heldNames, f_usedCount, f_marks, f_marking, f_waitCount, nI (t + 1), f_frame, nI (p + 1), f_openCount, f_stepCount, f_resultSort, f_resultNumber, f_levelNow, a_kindOf, a_partX, a_partY, a_partZ, a_weightOf, a_needOf, a_names, a_known, a_knownNumber, a_functionOf, a_op, a_operand, a_workNode, a_workPhase, a_workLast, a_workPatch, a_letPlace, a_isUsed, a_functionAt, a_heldCount, a_cells, a_waiting, a_globals, a_stack, a_openFrame, a_openAt) (a_globals g)) ∧ post (-1) (f_expressionCount, f_functionCount, f_codeEnd, f_depth, f_letCount, f_height, f_heldNames, f_usedCount, m', f_marking, wc', nI (t + 1), f_frame, nI (p + 1), f_openCount, f_stepCount, f_resultSort, f_resultNumber, f_levelNow, a_kindOf, a_partX, a_partY, a_partZ, a_weightOf, a_needOf, a_names, a_known, a_knownNumber, a_functionOf, a_op, a_operand, a_workNode, a_workPhase, a_workLast, a_workPatch, a_letPlace, a_isUsed, a_functionAt, a_heldCount, a_cells, wt', vp_updL a_globals g (a_stack t), a_stack, a_openFrame, a_openAt)) : wpX_step post (f_expressionCount, f_functionCount, f_codeEnd, f_depth, f_letCount, f_height, f_heldNames, f_usedCount, f_marks, f_marking, f_waitCount, nI (t + 1), f_frame, nI p, f_openCount, f_stepCount, f_resultSort, f_resultNumber, f_levelNow, a_kindOf, a_partX, a_partY, a_partZ, a_weightOf, a_needOf, a_names, a_known, a_knownNumber, a_functionOf, a_op, a_operand, a_workNode, a_workPhase, a_workLast, a_workPatch, a_letPlace, a_isUsed, a_functionAt, a_heldCount, a_cells, a_waiting, a_globals, a_stack, a_openFrame, a_openAt) := by
  obtain ⟨m', wc', wt', h1, h2⟩ := ht2
  refine xs_mt hp1 ho (Or.inl rfl) (And.intro (by rw [xs_s1]; exact vp_in_nI ht (by omega)) (nm_r (e' := a_stack t) (by rw [xs_s1, nI_clamp (by omega)]) (br_t rfl ?_)))
  rw [hd]
  refine And.intro (vp_in_nI hg (by omega)) ?_
  rw [nI_clamp (by omega)]
  exact h1 _ (And.intro (vp_in_nI hg (by omega)) (nm_e h2))
end
end
section
/-! the machine's steps: pairs, making, calls -/
section
variable {f_expressionCount f_functionCount f_codeEnd f_depth f_letCount f_height f_heldNames f_usedCount f_marking f_waitCount f_top f_frame f_at f_openCount f_stepCount f_resultSort f_resultNumber f_levelNow : Int32} {f_marks : Int64} {a_kindOf a_partX a_partY a_partZ a_weightOf a_needOf a_names a_known a_knownNumber a_functionOf a_op a_operand a_workNode a_workPhase a_workLast a_workPatch a_letPlace a_isUsed a_functionAt a_heldCount a_waiting a_openFrame a_openAt : Nat → Int32} {a_cells a_globals a_stack : Nat → Int64}
variable {post : Int32 → SX → Prop} {p t : Nat}
theorem xs_tp {o : Int32} (hp1 : p < 1560) (ho : a_op p = o) (hoo : o = 10 ∨ o = 11 ∨ o = 12 ∨ o = 13) (h : wpX_touchPair (fun r u => post r u) (f_expressionCount, f_functionCount, f_codeEnd, f_depth, f_letCount, f_height, f_heldNames, f_usedCount, f_marks, f_marking, f_waitCount, f_top, f_frame, nI (p + 1), f_openCount, f_stepCount, f_resultSort, f_resultNumber, f_levelNow, a_kindOf, a_partX, a_partY, a_partZ, a_weightOf, a_needOf, a_names, a_known, a_knownNumber, a_functionOf, a_op, a_operand, a_workNode, a_workPhase, a_workLast, a_workPatch, a_letPlace, a_isUsed, a_functionAt, a_heldCount, a_cells, a_waiting, a_globals, a_stack, a_openFrame, a_openAt) o) : wpX_step post (f_expressionCount, f_functionCount, f_codeEnd, f_depth, f_letCount, f_height, f_heldNames, f_usedCount, f_marks, f_marking, f_waitCount, f_top, f_frame, nI p, f_openCount, f_stepCount, f_resultSort, f_resultNumber, f_levelNow, a_kindOf, a_partX, a_partY, a_partZ, a_weightOf, a_needOf, a_names, a_known, a_knownNumber, a_functionOf, a_op, a_operand, a_workNode, a_workPhase, a_workLast, a_workPatch, a_letPlace, a_isUsed, a_functionAt, a_heldCount, a_cells, a_waiting, a_globals, a_stack, a_openFrame, a_openAt) := by
  rcases hoo with rfl | rfl | rfl | rfl <;> exact And.intro (vp_in_nI hp1 (by omega)) (nm_r ((congrArg a_op (nI_clamp (n := p) (by omega))).trans ho) (And.intro (vp_in_nI hp1 (by omega)) (nm_r (congrArg a_operand (nI_clamp (n := p) (by omega))) (nm_r (nI_1 p) (br_f (by decide) (br_f (by decide) (br_f (by decide) (br_f (by decide) (br_f (by decide) (br_t (by decide) (br_f (by decide) (br_f (by decide) (br_f (by decide) (br_f (by decide) h)))))))))) ))))
theorem xs_get0 {o s : Int32} (hp1 : p < 1560) (ho : a_op p = o) (hoo : o = 10 ∨ o = 11) (ht : t < 500) (hs : ∀ post' : Int32 → Prop, post' s → wpX_sortOf post' (f_expressionCount, f_functionCount, f_codeEnd, f_depth, f_letCount, f_height, f_heldNames, f_usedCount, f_marks, f_marking, f_waitCount, nI (t + 1), f_frame, nI (p + 1), f_openCount, f_stepCount, f_resultSort, f_resultNumber, f_levelNow, a_kindOf, a_partX, a_partY, a_partZ, a_weightOf, a_needOf, a_names, a_known, a_knownNumber, a_functionOf, a_op, a_operand, a_workNode, a_workPhase, a_workLast, a_workPatch, a_letPlace, a_isUsed, a_functionAt, a_heldCount, a_cells, a_waiting, a_globals, a_stack, a_openFrame, a_openAt) (a_stack t)) (hs2 : ¬ s = 2) (hp : post 1 (f_expressionCount, f_functionCount, f_codeEnd, f_depth, f_letCount, f_height, f_heldNames, f_usedCount, f_marks, f_marking, f_waitCount, nI (t + 1), f_frame, nI (p + 1), f_openCount, f_stepCount, f_resultSort, f_resultNumber, f_levelNow, a_kindOf, a_partX, a_partY, a_partZ, a_weightOf, a_needOf, a_names, a_known, a_knownNumber, a_functionOf, a_op, a_operand, a_workNode, a_workPhase, a_workLast, a_workPatch, a_letPlace, a_isUsed, a_functionAt, a_heldCount, a_cells, a_waiting, a_globals, a_stack, a_openFrame, a_openAt)) : wpX_step post (f_expressionCount, f_functionCount, f_codeEnd, f_depth, f_letCount, f_height, f_heldNames, f_usedCount, f_marks, f_marking, f_waitCount, nI (t + 1), f_frame, nI p, f_openCount, f_stepCount, f_resultSort, f_resultNumber, f_levelNow, a_kindOf, a_partX, a_partY, a_partZ, a_weightOf, a_needOf, a_names, a_known, a_knownNumber, a_functionOf, a_op, a_operand, a_workNode, a_workPhase, a_workLast, a_workPatch, a_letPlace, a_isUsed, a_functionAt, a_heldCount, a_cells, a_waiting, a_globals, a_stack, a_openFrame, a_openAt) := by
  have h41 : wX_touchPair_41 (fun r u => post r u) o 0 (nI (t + 1) - 1) f_expressionCount f_functionCount f_codeEnd f_depth f_letCount f_height f_heldNames f_usedCount f_marks f_marking f_waitCount (nI (t + 1)) f_frame (nI (p + 1)) f_openCount f_stepCount f_resultSort f_resultNumber f_levelNow a_kindOf a_partX a_partY a_partZ a_weightOf a_needOf a_names a_known a_knownNumber a_functionOf a_op a_operand a_workNode a_workPhase a_workLast a_workPatch a_letPlace a_isUsed a_functionAt a_heldCount a_cells a_waiting a_globals a_stack a_openFrame a_openAt := by
    rw [xs_s1]
    exact And.intro (vp_in_nI ht (by omega)) (nm_r (congrArg a_stack (nI_clamp (n := t) (by omega))) (hs _ (br_f hs2 hp)))
  refine xs_tp hp1 ho (by rcases hoo with q | q <;> simp [q]) ?_
  rcases hoo with rfl | rfl
  · exact br_f (by decide) (br_f (by decide) (br_t rfl h41))
  · exact br_f (by decide) (br_f (by decide) (br_t rfl h41))
theorem xs_get {o : Int32} {c j : Nat} (hp1 : p < 1560) (ho : a_op p = o) (hoo : (o = 10 ∧ j = 0) ∨ (o = 11 ∧ j = 1)) (ht : t < 500) (hc : c < 40) (hx : a_stack t = vl_ob c) (hs : ∀ post' : Int32 → Prop, post' 2 → wpX_sortOf post' (f_expressionCount, f_functionCount, f_codeEnd, f_depth, f_letCount, f_height, f_heldNames, f_usedCount, f_marks, f_marking, f_waitCount, nI (t + 1), f_frame, nI (p + 1), f_openCount, f_stepCount, f_resultSort, f_resultNumber, f_levelNow, a_kindOf, a_partX, a_partY, a_partZ, a_weightOf, a_needOf, a_names, a_known, a_knownNumber, a_functionOf, a_op, a_operand, a_workNode, a_workPhase, a_workLast, a_workPatch, a_letPlace, a_isUsed, a_functionAt, a_heldCount, a_cells, a_waiting, a_globals, a_stack, a_openFrame, a_openAt) (a_stack t)) (hp : post (-1) (f_expressionCount, f_functionCount, f_codeEnd, f_depth, f_letCount, f_height, f_heldNames, f_usedCount, f_marks, f_marking, f_waitCount, nI (t + 1), f_frame, nI (p + 1), f_openCount, f_stepCount, f_resultSort, f_resultNumber, f_levelNow, a_kindOf, a_partX, a_partY, a_partZ, a_weightOf, a_needOf, a_names, a_known, a_knownNumber, a_functionOf, a_op, a_operand, a_workNode, a_workPhase, a_workLast, a_workPatch, a_letPlace, a_isUsed, a_functionAt, a_heldCount, a_cells, a_waiting, a_globals, vp_updL a_stack t (a_cells (8 * c + j)), a_openFrame, a_openAt)) : wpX_step post (f_expressionCount, f_functionCount, f_codeEnd, f_depth, f_letCount, f_height, f_heldNames, f_usedCount, f_marks, f_marking, f_waitCount, nI (t + 1), f_frame, nI p, f_openCount, f_stepCount, f_resultSort, f_resultNumber, f_levelNow, a_kindOf, a_partX, a_partY, a_partZ, a_weightOf, a_needOf, a_names, a_known, a_knownNumber, a_functionOf, a_op, a_operand, a_workNode, a_workPhase, a_workLast, a_workPatch, a_letPlace, a_isUsed, a_functionAt, a_heldCount, a_cells, a_waiting, a_globals, a_stack, a_openFrame, a_openAt) := by
  have h125 : wX_touchPair_125 (fun r u => post r u) (nI (8 * c + j)) f_expressionCount f_functionCount f_codeEnd f_depth f_letCount f_height f_heldNames f_usedCount f_marks f_marking f_waitCount (nI (t + 1)) f_frame (nI (p + 1)) f_openCount f_stepCount f_resultSort f_resultNumber f_levelNow a_kindOf a_partX a_partY a_partZ a_weightOf a_needOf a_names a_known a_knownNumber a_functionOf a_op a_operand a_workNode a_workPhase a_workLast a_workPatch a_letPlace a_isUsed a_functionAt a_heldCount a_cells a_waiting a_globals a_stack a_openFrame a_openAt := by
    refine And.intro (vp_in_nI (by omega) (by omega)) (And.intro (by rw [xs_s1]; exact vp_in_nI ht (by omega)) (nm_r (e' := vp_updL a_stack t (a_cells (8 * c + j))) (by rw [xs_s1, nI_clamp (by omega), nI_clamp (by omega)]) hp))
  have h41 : wX_touchPair_41 (fun r u => post r u) o 0 (nI (t + 1) - 1) f_expressionCount f_functionCount f_codeEnd f_depth f_letCount f_height f_heldNames f_usedCount f_marks f_marking f_waitCount (nI (t + 1)) f_frame (nI (p + 1)) f_openCount f_stepCount f_resultSort f_resultNumber f_levelNow a_kindOf a_partX a_partY a_partZ a_weightOf a_needOf a_names a_known a_knownNumber a_functionOf a_op a_operand a_workNode a_workPhase a_workLast a_workPatch a_letPlace a_isUsed a_functionAt a_heldCount a_cells a_waiting a_globals a_stack a_openFrame a_openAt := by
    rw [xs_s1]
    refine And.intro (vp_in_nI ht (by omega)) (nm_r (congrArg a_stack (nI_clamp (n := t) (by omega))) (hs _ (br_t rfl ?_)))
    rw [hx]
    refine gc_place (by omega) ?_
    rcases hoo with ⟨rfl, rfl⟩ | ⟨rfl, rfl⟩
    · exact br_t rfl (nm_r (e' := nI (8 * c + 0)) (by rw [show (8 : Int32) = nI 8 from rfl, pk_mul, show (0 : Int32) = nI 0 from rfl, nI_add]) (br_t rfl h125))
    · exact br_f (by decide) (br_f (by decide) (nm_r (e' := nI (8 * c + 1)) (by rw [show (8 : Int32) = nI 8 from rfl, pk_mul, nI_1]) (br_t rfl h125)))
  refine xs_tp hp1 ho (by rcases hoo with q | q <;> simp [q]) ?_
  rcases hoo with ⟨rfl, rfl⟩ | ⟨rfl, rfl⟩
  · exact br_f (by decide) (br_f (by decide) (br_t rfl h41))
  · exact br_f (by decide) (br_f (by decide) (br_t rfl h41))
theorem xs_set0 {o s : Int32} (hp1 : p < 1560) (ho : a_op p = o) (hoo : o = 12 ∨ o = 13) (ht : t + 2 ≤ 500) (hs : ∀ post' : Int32 → Prop, post' s → wpX_sortOf post' (f_expressionCount, f_functionCount, f_codeEnd, f_depth, f_letCount, f_height, f_heldNames, f_usedCount, f_marks, f_marking, f_waitCount, nI (t + 2), f_frame, nI (p + 1), f_openCount, f_stepCount, f_resultSort, f_resultNumber, f_levelNow, a_kindOf, a_partX, a_partY, a_partZ, a_weightOf, a_needOf, a_names, a_known, a_knownNumber, a_functionOf, a_op, a_operand, a_workNode, a_workPhase, a_workLast, a_workPatch, a_letPlace, a_isUsed, a_functionAt, a_heldCount, a_cells, a_waiting, a_globals, a_stack, a_openFrame, a_openAt) (a_stack t)) (hs2 : ¬ s = 2) (hp : post 1 (f_expressionCount, f_functionCount, f_codeEnd, f_depth, f_letCount, f_height, f_heldNames, f_usedCount, f_marks, f_marking, f_waitCount, nI (t + 2), f_frame, nI (p + 1), f_openCount, f_stepCount, f_resultSort, f_resultNumber, f_levelNow, a_kindOf, a_partX, a_partY, a_partZ, a_weightOf, a_needOf, a_names, a_known, a_knownNumber, a_functionOf, a_op, a_operand, a_workNode, a_workPhase, a_workLast, a_workPatch, a_letPlace, a_isUsed, a_functionAt, a_heldCount, a_cells, a_waiting, a_globals, a_stack, a_openFrame, a_openAt)) : wpX_step post (f_expressionCount, f_functionCount, f_codeEnd, f_depth, f_letCount, f_height, f_heldNames, f_usedCount, f_marks, f_marking, f_waitCount, nI (t + 2), f_frame, nI p, f_openCount, f_stepCount, f_resultSort, f_resultNumber, f_levelNow, a_kindOf, a_partX, a_partY, a_partZ, a_weightOf, a_needOf, a_names, a_known, a_knownNumber, a_functionOf, a_op, a_operand, a_workNode, a_workPhase, a_workLast, a_workPatch, a_letPlace, a_isUsed, a_functionAt, a_heldCount, a_cells, a_waiting, a_globals, a_stack, a_openFrame, a_openAt) := by
  have h41 : wX_touchPair_41 (fun r u => post r u) o 1 (nI (t + 2) - 2) f_expressionCount f_functionCount f_codeEnd f_depth f_letCount f_height f_heldNames f_usedCount f_marks f_marking f_waitCount (nI (t + 2)) f_frame (nI (p + 1)) f_openCount f_stepCount f_resultSort f_resultNumber f_levelNow a_kindOf a_partX a_partY a_partZ a_weightOf a_needOf a_names a_known a_knownNumber a_functionOf a_op a_operand a_workNode a_workPhase a_workLast a_workPatch a_letPlace a_isUsed a_functionAt a_heldCount a_cells a_waiting a_globals a_stack a_openFrame a_openAt := by
    rw [xs_s2]
    exact And.intro (vp_in_nI (by omega) (by omega)) (nm_r (congrArg a_stack (nI_clamp (n := t) (by omega))) (hs _ (br_f hs2 hp)))
  refine xs_tp hp1 ho (by rcases hoo with q | q <;> simp [q]) ?_
  rcases hoo with rfl | rfl
  · exact br_t rfl (br_f (by decide) h41)
  · exact br_f (by decide) (br_t rfl (br_f (by decide) h41))
theorem xs_set {o : Int32} {c j : Nat} {m' : Int64} {wc' : Int32} {wt' : Nat → Int32} (hp1 : p < 1560) (ho : a_op p = o) (hoo : (o = 12 ∧ j = 0) ∨ (o = 13 ∧ j = 1)) (ht : t + 2 ≤ 500) (hc : c < 40) (hx : a_stack t = vl_ob c) (hs : ∀ post' : Int32 → Prop, post' 2 → wpX_sortOf post' (f_expressionCount, f_functionCount, f_codeEnd, f_depth, f_letCount, f_height, f_heldNames, f_usedCount, f_marks, f_marking, f_waitCount, nI (t + 2), f_frame, nI (p + 1), f_openCount, f_stepCount, f_resultSort, f_resultNumber, f_levelNow, a_kindOf, a_partX, a_partY, a_partZ, a_weightOf, a_needOf, a_names, a_known, a_knownNumber, a_functionOf, a_op, a_operand, a_workNode, a_workPhase, a_workLast, a_workPatch, a_letPlace, a_isUsed, a_functionAt, a_heldCount, a_cells, a_waiting, a_globals, a_stack, a_openFrame, a_openAt) (a_stack t))
    (htell : ∀ post' : SX → Prop, post' (f_expressionCount, f_functionCount, f_codeEnd, f_depth, f_letCount, f_height, f_heldNames, f_usedCount, m', f_marking, wc', nI (t + 2), f_frame, nI (p + 1), f_openCount, f_stepCount, f_resultSort, f_resultNumber, f_levelNow, a_kindOf, a_partX, a_partY, a_partZ, a_weightOf, a_needOf, a_names, a_known, a_knownNumber, a_functionOf, a_op, a_operand, a_workNode, a_workPhase, a_workLast, a_workPatch, a_letPlace, a_isUsed, a_functionAt, a_heldCount, a_cells, wt', a_globals, a_stack, a_openFrame, a_openAt) → wpX_tellOld post' (f_expressionCount, f_functionCount, f_codeEnd, f_depth, f_letCount, f_height, f_heldNames, f_usedCount, f_marks, f_marking, f_waitCount, nI (t + 2), f_frame, nI (p + 1), f_openCount, f_stepCount, f_resultSort, f_resultNumber, f_levelNow, a_kindOf, a_partX, a_partY, a_partZ, a_weightOf, a_needOf, a_names, a_known, a_knownNumber, a_functionOf, a_op, a_operand, a_workNode, a_workPhase, a_workLast, a_workPatch, a_letPlace, a_isUsed, a_functionAt, a_heldCount, a_cells, a_waiting, a_globals, a_stack, a_openFrame, a_openAt) (a_cells (8 * c + j)))
    (hp : post (-1) (f_expressionCount, f_functionCount, f_codeEnd, f_depth, f_letCount, f_height, f_heldNames, f_usedCount, m', f_marking, wc', nI (t + 1), f_frame, nI (p + 1), f_openCount, f_stepCount, f_resultSort, f_resultNumber, f_levelNow, a_kindOf, a_partX, a_partY, a_partZ, a_weightOf, a_needOf, a_names, a_known, a_knownNumber, a_functionOf, a_op, a_operand, a_workNode, a_workPhase, a_workLast, a_workPatch, a_letPlace, a_isUsed, a_functionAt, a_heldCount, vp_updL a_cells (8 * c + j) (a_stack (t + 1)), wt', a_globals, vp_updL a_stack t (a_stack (t + 1)), a_openFrame, a_openAt)) : wpX_step post (f_expressionCount, f_functionCount, f_codeEnd, f_depth, f_letCount, f_height, f_heldNames, f_usedCount, f_marks, f_marking, f_waitCount, nI (t + 2), f_frame, nI p, f_openCount, f_stepCount, f_resultSort, f_resultNumber, f_levelNow, a_kindOf, a_partX, a_partY, a_partZ, a_weightOf, a_needOf, a_names, a_known, a_knownNumber, a_functionOf, a_op, a_operand, a_workNode, a_workPhase, a_workLast, a_workPatch, a_letPlace, a_isUsed, a_functionAt, a_heldCount, a_cells, a_waiting, a_globals, a_stack, a_openFrame, a_openAt) := by
  have hin : vp_in (nI (8 * c + j)) 384 := vp_in_nI (by omega) (by omega)
  have h79 : ∀ z : Int32, 8 * nI c + z = nI (8 * c + j) → wX_touchPair_79 (fun r u => post r u) 1 z (8 * nI c) f_expressionCount f_functionCount f_codeEnd f_depth f_letCount f_height f_heldNames f_usedCount f_marks f_marking f_waitCount (nI (t + 2)) f_frame (nI (p + 1)) f_openCount f_stepCount f_resultSort f_resultNumber f_levelNow a_kindOf a_partX a_partY a_partZ a_weightOf a_needOf a_names a_known a_knownNumber a_functionOf a_op a_operand a_workNode a_workPhase a_workLast a_workPatch a_letPlace a_isUsed a_functionAt a_heldCount a_cells a_waiting a_globals a_stack a_openFrame a_openAt := fun z hz => by
    refine nm_r hz (br_f (by decide) (And.intro hin ?_))
    rw [nI_clamp (by omega)]
    refine htell _ (And.intro (by rw [xs_s1 (t + 1)]; exact vp_in_nI (by omega) (by omega)) (And.intro hin (nm_r (e' := vp_updL a_cells (8 * c + j) (a_stack (t + 1))) (by rw [xs_s1 (t + 1), nI_clamp (by omega)]) (nm_r (xs_s1 (t + 1)) (And.intro hin (And.intro (by rw [xs_s1]; exact vp_in_nI (by omega) (by omega)) (nm_r (e' := vp_updL a_stack t (a_stack (t + 1))) (by rw [xs_s1, nI_clamp (by omega), nI_clamp (by omega), pk_uLs]) hp)))))))
  have h41 : wX_touchPair_41 (fun r u => post r u) o 1 (nI (t + 2) - 2) f_expressionCount f_functionCount f_codeEnd f_depth f_letCount f_height f_heldNames f_usedCount f_marks f_marking f_waitCount (nI (t + 2)) f_frame (nI (p + 1)) f_openCount f_stepCount f_resultSort f_resultNumber f_levelNow a_kindOf a_partX a_partY a_partZ a_weightOf a_needOf a_names a_known a_knownNumber a_functionOf a_op a_operand a_workNode a_workPhase a_workLast a_workPatch a_letPlace a_isUsed a_functionAt a_heldCount a_cells a_waiting a_globals a_stack a_openFrame a_openAt := by
    rw [xs_s2]
    refine And.intro (vp_in_nI (by omega) (by omega)) (nm_r (congrArg a_stack (nI_clamp (n := t) (by omega))) (hs _ (br_t rfl ?_)))
    rw [hx]
    refine gc_place (by omega) ?_
    rcases hoo with ⟨rfl, rfl⟩ | ⟨rfl, rfl⟩
    · exact br_f (by decide) (br_t rfl (h79 0 (by rw [show (8 : Int32) = nI 8 from rfl, pk_mul, show (0 : Int32) = nI 0 from rfl, nI_add])))
    · exact br_f (by decide) (br_f (by decide) (h79 1 (by rw [show (8 : Int32) = nI 8 from rfl, pk_mul, nI_1])))
  refine xs_tp hp1 ho (by rcases hoo with q | q <;> simp [q]) ?_
  rcases hoo with ⟨rfl, rfl⟩ | ⟨rfl, rfl⟩
  · exact br_t rfl (br_f (by decide) h41)
  · exact br_f (by decide) (br_t rfl (br_f (by decide) h41))
end
theorem xs_mk81 {o cnt t : Nat} {st : Nat → Int64} (ho : o < 40) (hcn : cnt ≤ 8) (ht : t + cnt < 500) :
    ∀ d k (cs : Nat → Int64), k + d = cnt → ∃ cs' : Nat → Int64, (∀ i, k ≤ i → i < cnt → cs' (8 * o + i) = st (t + i)) ∧ (∀ j, (j < 8 * o + k ∨ 8 * o + cnt ≤ j) → cs' j = cs j) ∧
      ∀ {f_expressionCount f_functionCount f_codeEnd f_depth f_letCount f_height f_heldNames f_usedCount f_marking f_waitCount f_frame f_at f_openCount f_stepCount f_resultSort f_resultNumber f_levelNow : Int32} {f_marks : Int64} {a_kindOf a_partX a_partY a_partZ a_weightOf a_needOf a_names a_known a_knownNumber a_functionOf a_op a_operand a_workNode a_workPhase a_workLast a_workPatch a_letPlace a_isUsed a_functionAt a_heldCount a_waiting a_openFrame a_openAt : Nat → Int32} {a_globals : Nat → Int64} (post : Int32 → SX → Prop), post (-1) (f_expressionCount, f_functionCount, f_codeEnd, f_depth, f_letCount, f_height, f_heldNames, f_usedCount, f_marks, f_marking, f_waitCount, nI (t + 1), f_frame, f_at, f_openCount, f_stepCount, f_resultSort, f_resultNumber, f_levelNow, a_kindOf, a_partX, a_partY, a_partZ, a_weightOf, a_needOf, a_names, a_known, a_knownNumber, a_functionOf, a_op, a_operand, a_workNode, a_workPhase, a_workLast, a_workPatch, a_letPlace, a_isUsed, a_functionAt, a_heldCount, cs', a_waiting, a_globals, vp_updL st t (vl_ob o), a_openFrame, a_openAt) → wX_make_81 post (nI cnt) (nI o) f_expressionCount f_functionCount f_codeEnd f_depth f_letCount f_height f_heldNames f_usedCount f_marks f_marking f_waitCount (nI t) f_frame f_at f_openCount f_stepCount f_resultSort f_resultNumber f_levelNow (d + 1) (nI k) a_kindOf a_partX a_partY a_partZ a_weightOf a_needOf a_names a_known a_knownNumber a_functionOf a_op a_operand a_workNode a_workPhase a_workLast a_workPatch a_letPlace a_isUsed a_functionAt a_heldCount cs a_waiting a_globals st a_openFrame a_openAt := by
  intro d
  induction d with
  | zero =>
    intro k cs hk
    refine ⟨cs, fun i a b => by omega, fun j _ => rfl, fun post hp => br_t (nI_le (by omega) (by omega)) ?_⟩
    rw [vl_ob_mk (by omega)]
    exact xs_pv (by omega) hp
  | succ d ih =>
    intro k cs hk
    obtain ⟨cs', a, b, hp⟩ := ih (k + 1) (vp_updL cs (8 * o + k) (st (t + k))) (by omega)
    have e8 : 8 * nI o + nI k = nI (8 * o + k) := by rw [show (8 : Int32) = nI 8 from rfl, pk_mul, nI_add]
    refine ⟨cs', fun i x y => ?_, fun j x => ?_, fun post hq => br_f (nI_ge (by omega) (by omega)) (And.intro (by rw [nI_add]; exact vp_in_nI (by omega) (by omega)) (And.intro (by rw [e8]; exact vp_in_nI (by omega) (by omega)) (nm_r (e' := vp_updL cs (8 * o + k) (st (t + k))) (by rw [e8, nI_add, nI_clamp (by omega), nI_clamp (by omega)]) (nm_r (nI_1 k) (hp post hq)))))⟩
    · by_cases q : i = k
      · subst q; rw [b _ (by omega), pk_uLs]
      · exact a i (by omega) y
    · rw [b j (by omega), pk_uLn (by omega)]
section
variable {f_expressionCount f_functionCount f_codeEnd f_depth f_letCount f_height f_heldNames f_usedCount f_marking f_waitCount f_top f_frame f_at f_openCount f_stepCount f_resultSort f_resultNumber f_levelNow : Int32} {f_marks : Int64} {a_kindOf a_partX a_partY a_partZ a_weightOf a_needOf a_names a_known a_knownNumber a_functionOf a_op a_operand a_workNode a_workPhase a_workLast a_workPatch a_letPlace a_isUsed a_functionAt a_heldCount a_waiting a_openFrame a_openAt : Nat → Int32} {a_cells a_globals a_stack : Nat → Int64}
variable {post : Int32 → SX → Prop} {p t : Nat}
theorem xs_mk {o : Int32} (hp1 : p < 1560) (ho : a_op p = o) (hoo : o = 9 ∨ o = 22) (h : wpX_make (fun r u => post r u) (f_expressionCount, f_functionCount, f_codeEnd, f_depth, f_letCount, f_height, f_heldNames, f_usedCount, f_marks, f_marking, f_waitCount, f_top, f_frame, nI (p + 1), f_openCount, f_stepCount, f_resultSort, f_resultNumber, f_levelNow, a_kindOf, a_partX, a_partY, a_partZ, a_weightOf, a_needOf, a_names, a_known, a_knownNumber, a_functionOf, a_op, a_operand, a_workNode, a_workPhase, a_workLast, a_workPatch, a_letPlace, a_isUsed, a_functionAt, a_heldCount, a_cells, a_waiting, a_globals, a_stack, a_openFrame, a_openAt) o (a_operand p)) : wpX_step post (f_expressionCount, f_functionCount, f_codeEnd, f_depth, f_letCount, f_height, f_heldNames, f_usedCount, f_marks, f_marking, f_waitCount, f_top, f_frame, nI p, f_openCount, f_stepCount, f_resultSort, f_resultNumber, f_levelNow, a_kindOf, a_partX, a_partY, a_partZ, a_weightOf, a_needOf, a_names, a_known, a_knownNumber, a_functionOf, a_op, a_operand, a_workNode, a_workPhase, a_workLast, a_workPatch, a_letPlace, a_isUsed, a_functionAt, a_heldCount, a_cells, a_waiting, a_globals, a_stack, a_openFrame, a_openAt) := by
  rcases hoo with rfl | rfl
  · exact And.intro (vp_in_nI hp1 (by omega)) (nm_r ((congrArg a_op (nI_clamp (n := p) (by omega))).trans ho) (And.intro (vp_in_nI hp1 (by omega)) (nm_r (congrArg a_operand (nI_clamp (n := p) (by omega))) (nm_r (nI_1 p) (br_f (by decide) (br_f (by decide) (br_f (by decide) (br_f (by decide) (br_f (by decide) (br_t (by decide) (br_t rfl h))))))) ))))
  · exact And.intro (vp_in_nI hp1 (by omega)) (nm_r ((congrArg a_op (nI_clamp (n := p) (by omega))).trans ho) (And.intro (vp_in_nI hp1 (by omega)) (nm_r (congrArg a_operand (nI_clamp (n := p) (by omega))) (nm_r (nI_1 p) (br_f (by decide) (br_f (by decide) (br_f (by decide) (br_f (by decide) (br_f (by decide) (br_t (by decide) (br_f (by decide) (br_t rfl h)))))))) ))))
/-- the two kinds of making: a pair, or a function f that holds cnt values -/
def xs_kd (o od : Int32) (cnt : Nat) (fn : Int32) : Prop := (o = 9 ∧ cnt = 2 ∧ fn = -1) ∨ (o = 22 ∧ ∃ f, od = nI (16 * f + cnt) ∧ cnt < 16 ∧ f ≤ 12 ∧ fn = nI f)
theorem xs_28 {o fn : Int32} {cnt : Nat} (hk : xs_kd o (a_operand p) cnt fn) (h : wX_make_28 post (nI cnt) fn f_expressionCount f_functionCount f_codeEnd f_depth f_letCount f_height f_heldNames f_usedCount f_marks f_marking f_waitCount f_top f_frame f_at f_openCount f_stepCount f_resultSort f_resultNumber f_levelNow a_kindOf a_partX a_partY a_partZ a_weightOf a_needOf a_names a_known a_knownNumber a_functionOf a_op a_operand a_workNode a_workPhase a_workLast a_workPatch a_letPlace a_isUsed a_functionAt a_heldCount a_cells a_waiting a_globals a_stack a_openFrame a_openAt) : wpX_make post (f_expressionCount, f_functionCount, f_codeEnd, f_depth, f_letCount, f_height, f_heldNames, f_usedCount, f_marks, f_marking, f_waitCount, f_top, f_frame, f_at, f_openCount, f_stepCount, f_resultSort, f_resultNumber, f_levelNow, a_kindOf, a_partX, a_partY, a_partZ, a_weightOf, a_needOf, a_names, a_known, a_knownNumber, a_functionOf, a_op, a_operand, a_workNode, a_workPhase, a_workLast, a_workPatch, a_letPlace, a_isUsed, a_functionAt, a_heldCount, a_cells, a_waiting, a_globals, a_stack, a_openFrame, a_openAt) o (a_operand p) := by
  rcases hk with ⟨rfl, rfl, rfl⟩ | ⟨rfl, f, e, hc, hf, rfl⟩
  · exact br_t rfl (br_t rfl h)
  · refine br_f (by decide) (br_f (by decide) ?_)
    have e1 : a_operand p &&& 15 = nI cnt := by
      rw [e, pk_andN (by omega) 4 (by decide)]
      congr 1
      omega
    have e2 : a_operand p >>> ((4 : Int32) &&& 31) = nI f := by
      rw [e, pk_shrN (by omega) _ 4 (by decide)]
      congr 1
      omega
    rw [e1, e2]
    exact h
theorem xs_mk200 {o fn : Int32} {cnt : Nat} (hp1 : p < 1560) (ho : a_op p = o) (hk : xs_kd o (a_operand p) cnt fn) (hp : post 2 (f_expressionCount, f_functionCount, f_codeEnd, f_depth, f_letCount, f_height, f_heldNames, f_usedCount, f_marks, f_marking, f_waitCount, f_top, f_frame, nI (p + 1), f_openCount, 200, f_resultSort, f_resultNumber, f_levelNow, a_kindOf, a_partX, a_partY, a_partZ, a_weightOf, a_needOf, a_names, a_known, a_knownNumber, a_functionOf, a_op, a_operand, a_workNode, a_workPhase, a_workLast, a_workPatch, a_letPlace, a_isUsed, a_functionAt, a_heldCount, a_cells, a_waiting, a_globals, a_stack, a_openFrame, a_openAt)) : wpX_step post (f_expressionCount, f_functionCount, f_codeEnd, f_depth, f_letCount, f_height, f_heldNames, f_usedCount, f_marks, f_marking, f_waitCount, f_top, f_frame, nI p, f_openCount, 200, f_resultSort, f_resultNumber, f_levelNow, a_kindOf, a_partX, a_partY, a_partZ, a_weightOf, a_needOf, a_names, a_known, a_knownNumber, a_functionOf, a_op, a_operand, a_workNode, a_workPhase, a_workLast, a_workPatch, a_letPlace, a_isUsed, a_functionAt, a_heldCount, a_cells, a_waiting, a_globals, a_stack, a_openFrame, a_openAt) :=
  xs_mk hp1 ho (by rcases hk with q | q <;> simp [q.1]) (xs_28 hk (br_t rfl hp))
theorem xs_mkfull {o fn : Int32} {cnt sc : Nat} {U : SX} (hp1 : p < 1560) (ho : a_op p = o) (hk : xs_kd o (a_operand p) cnt fn) (hsc : sc < 200) (hN : ∀ post' : Int32 → SX → Prop, post' (-1) U → wpX_newObject post' (f_expressionCount, f_functionCount, f_codeEnd, f_depth, f_letCount, f_height, f_heldNames, f_usedCount, f_marks, f_marking, f_waitCount, f_top, f_frame, nI (p + 1), f_openCount, nI sc, f_resultSort, f_resultNumber, f_levelNow, a_kindOf, a_partX, a_partY, a_partZ, a_weightOf, a_needOf, a_names, a_known, a_knownNumber, a_functionOf, a_op, a_operand, a_workNode, a_workPhase, a_workLast, a_workPatch, a_letPlace, a_isUsed, a_functionAt, a_heldCount, a_cells, a_waiting, a_globals, a_stack, a_openFrame, a_openAt) fn (nI cnt)) (hp : post 3 U) : wpX_step post (f_expressionCount, f_functionCount, f_codeEnd, f_depth, f_letCount, f_height, f_heldNames, f_usedCount, f_marks, f_marking, f_waitCount, f_top, f_frame, nI p, f_openCount, nI sc, f_resultSort, f_resultNumber, f_levelNow, a_kindOf, a_partX, a_partY, a_partZ, a_weightOf, a_needOf, a_names, a_known, a_knownNumber, a_functionOf, a_op, a_operand, a_workNode, a_workPhase, a_workLast, a_workPatch, a_letPlace, a_isUsed, a_functionAt, a_heldCount, a_cells, a_waiting, a_globals, a_stack, a_openFrame, a_openAt) := by
  match U, hN, hp with
  | (f_expressionCount', f_functionCount', f_codeEnd', f_depth', f_letCount', f_height', f_heldNames', f_usedCount', f_marks', f_marking', f_waitCount', f_top', f_frame', f_at', f_openCount', f_stepCount', f_resultSort', f_resultNumber', f_levelNow', a_kindOf', a_partX', a_partY', a_partZ', a_weightOf', a_needOf', a_names', a_known', a_knownNumber', a_functionOf', a_op', a_operand', a_workNode', a_workPhase', a_workLast', a_workPatch', a_letPlace', a_isUsed', a_functionAt', a_heldCount', a_cells', a_waiting', a_globals', a_stack', a_openFrame', a_openAt'), hN, hp =>
    exact xs_mk hp1 ho (by rcases hk with q | q <;> simp [q.1]) (xs_28 hk (br_f (fun q => absurd ((nI_eq (b := 200) (by omega) (by omega)).mp q) (by omega)) (hN _ (br_f (by decide) hp))))
theorem xs_mknew {o fn : Int32} {cnt sc c : Nat} {uc' : Int32} {m' : Int64} {mk' wc' : Int32} {us' fa' hA' wt' : Nat → Int32} {cs' : Nat → Int64} (hp1 : p < 1560) (ho : a_op p = o) (hk : xs_kd o (a_operand p) cnt fn) (hsc : sc < 200) (hc : c < 40) (ht : t + cnt < 500) (hcn : cnt ≤ 8)
    (hN : ∀ post' : Int32 → SX → Prop, post' (nI c) (f_expressionCount, f_functionCount, f_codeEnd, f_depth, f_letCount, f_height, f_heldNames, uc', m', mk', wc', nI (t + cnt), f_frame, nI (p + 1), f_openCount, nI sc, f_resultSort, f_resultNumber, f_levelNow, a_kindOf, a_partX, a_partY, a_partZ, a_weightOf, a_needOf, a_names, a_known, a_knownNumber, a_functionOf, a_op, a_operand, a_workNode, a_workPhase, a_workLast, a_workPatch, a_letPlace, us', fa', hA', a_cells, wt', a_globals, a_stack, a_openFrame, a_openAt) → wpX_newObject post' (f_expressionCount, f_functionCount, f_codeEnd, f_depth, f_letCount, f_height, f_heldNames, f_usedCount, f_marks, f_marking, f_waitCount, nI (t + cnt), f_frame, nI (p + 1), f_openCount, nI sc, f_resultSort, f_resultNumber, f_levelNow, a_kindOf, a_partX, a_partY, a_partZ, a_weightOf, a_needOf, a_names, a_known, a_knownNumber, a_functionOf, a_op, a_operand, a_workNode, a_workPhase, a_workLast, a_workPatch, a_letPlace, a_isUsed, a_functionAt, a_heldCount, a_cells, a_waiting, a_globals, a_stack, a_openFrame, a_openAt) fn (nI cnt))
    (h81 : ∀ post' : Int32 → SX → Prop, post' (-1) (f_expressionCount, f_functionCount, f_codeEnd, f_depth, f_letCount, f_height, f_heldNames, uc', m', mk', wc', nI (t + 1), f_frame, nI (p + 1), f_openCount, nI (sc + 1), f_resultSort, f_resultNumber, f_levelNow, a_kindOf, a_partX, a_partY, a_partZ, a_weightOf, a_needOf, a_names, a_known, a_knownNumber, a_functionOf, a_op, a_operand, a_workNode, a_workPhase, a_workLast, a_workPatch, a_letPlace, us', fa', hA', cs', wt', a_globals, vp_updL a_stack t (vl_ob c), a_openFrame, a_openAt) → wX_make_81 post' (nI cnt) (nI c) f_expressionCount f_functionCount f_codeEnd f_depth f_letCount f_height f_heldNames uc' m' mk' wc' (nI t) f_frame (nI (p + 1)) f_openCount (nI (sc + 1)) f_resultSort f_resultNumber f_levelNow (cnt + 1) 0 a_kindOf a_partX a_partY a_partZ a_weightOf a_needOf a_names a_known a_knownNumber a_functionOf a_op a_operand a_workNode a_workPhase a_workLast a_workPatch a_letPlace us' fa' hA' a_cells wt' a_globals a_stack a_openFrame a_openAt)
    (hp : post (-1) (f_expressionCount, f_functionCount, f_codeEnd, f_depth, f_letCount, f_height, f_heldNames, uc', m', mk', wc', nI (t + 1), f_frame, nI (p + 1), f_openCount, nI (sc + 1), f_resultSort, f_resultNumber, f_levelNow, a_kindOf, a_partX, a_partY, a_partZ, a_weightOf, a_needOf, a_names, a_known, a_knownNumber, a_functionOf, a_op, a_operand, a_workNode, a_workPhase, a_workLast, a_workPatch, a_letPlace, us', fa', hA', cs', wt', a_globals, vp_updL a_stack t (vl_ob c), a_openFrame, a_openAt)) : wpX_step post (f_expressionCount, f_functionCount, f_codeEnd, f_depth, f_letCount, f_height, f_heldNames, f_usedCount, f_marks, f_marking, f_waitCount, nI (t + cnt), f_frame, nI p, f_openCount, nI sc, f_resultSort, f_resultNumber, f_levelNow, a_kindOf, a_partX, a_partY, a_partZ, a_weightOf, a_needOf, a_names, a_known, a_knownNumber, a_functionOf, a_op, a_operand, a_workNode, a_workPhase, a_workLast, a_workPatch, a_letPlace, a_isUsed, a_functionAt, a_heldCount, a_cells, a_waiting, a_globals, a_stack, a_openFrame, a_openAt) := by
  refine xs_mk hp1 ho (by rcases hk with q | q <;> simp [q.1]) (xs_28 hk (br_f (fun q => absurd ((nI_eq (b := 200) (by omega) (by omega)).mp q) (by omega)) (hN _ (br_t (nI_pos' (by omega)) (nm_r (nI_1 sc) (nm_r (e' := nI t) ?_ ⟨cnt + 1, h81 _ hp⟩))))))
  rw [pk_sub (by omega)]
  congr 1
  omega
theorem xs_cl0 {o : Int32} (hp1 : p < 1560) (ho : a_op p = o) {z : Int32} (hoo : (o = 23 ∧ z = 0) ∨ (o = 24 ∧ z = 1)) (h : wpX_call (fun r u => post r u) (f_expressionCount, f_functionCount, f_codeEnd, f_depth, f_letCount, f_height, f_heldNames, f_usedCount, f_marks, f_marking, f_waitCount, f_top, f_frame, nI (p + 1), f_openCount, f_stepCount, f_resultSort, f_resultNumber, f_levelNow, a_kindOf, a_partX, a_partY, a_partZ, a_weightOf, a_needOf, a_names, a_known, a_knownNumber, a_functionOf, a_op, a_operand, a_workNode, a_workPhase, a_workLast, a_workPatch, a_letPlace, a_isUsed, a_functionAt, a_heldCount, a_cells, a_waiting, a_globals, a_stack, a_openFrame, a_openAt) z) : wpX_step post (f_expressionCount, f_functionCount, f_codeEnd, f_depth, f_letCount, f_height, f_heldNames, f_usedCount, f_marks, f_marking, f_waitCount, f_top, f_frame, nI p, f_openCount, f_stepCount, f_resultSort, f_resultNumber, f_levelNow, a_kindOf, a_partX, a_partY, a_partZ, a_weightOf, a_needOf, a_names, a_known, a_knownNumber, a_functionOf, a_op, a_operand, a_workNode, a_workPhase, a_workLast, a_workPatch, a_letPlace, a_isUsed, a_functionAt, a_heldCount, a_cells, a_waiting, a_globals, a_stack, a_openFrame, a_openAt) := by
  rcases hoo with ⟨rfl, rfl⟩ | ⟨rfl, rfl⟩
  · exact And.intro (vp_in_nI hp1 (by omega)) (nm_r ((congrArg a_op (nI_clamp (n := p) (by omega))).trans ho) (And.intro (vp_in_nI hp1 (by omega)) (nm_r (congrArg a_operand (nI_clamp (n := p) (by omega))) (nm_r (nI_1 p) (br_f (by decide) (br_f (by decide) (br_f (by decide) (br_f (by decide) (br_f (by decide) (br_t (by decide) (br_f (by decide) (br_f (by decide) (br_f (by decide) (br_t (by decide) (br_t rfl (br_f (by decide) h)))))))))))) ))))
  · exact And.intro (vp_in_nI hp1 (by omega)) (nm_r ((congrArg a_op (nI_clamp (n := p) (by omega))).trans ho) (And.intro (vp_in_nI hp1 (by omega)) (nm_r (congrArg a_operand (nI_clamp (n := p) (by omega))) (nm_r (nI_1 p) (br_f (by decide) (br_f (by decide) (br_f (by decide) (br_f (by decide) (br_f (by decide) (br_t (by decide) (br_f (by decide) (br_f (by decide) (br_f (by decide) (br_t (by decide) (br_f (by decide) (br_t rfl (br_t rfl h))))))))))))) ))))
/-- no function is called -/
theorem xs_clb {o z s : Int32} (hp1 : p < 1560) (ho : a_op p = o) (hoo : (o = 23 ∧ z = 0) ∨ (o = 24 ∧ z = 1)) (ht : t + 2 ≤ 500) (hs : ∀ post' : Int32 → Prop, post' s → wpX_sortOf post' (f_expressionCount, f_functionCount, f_codeEnd, f_depth, f_letCount, f_height, f_heldNames, f_usedCount, f_marks, f_marking, f_waitCount, nI (t + 2), f_frame, nI (p + 1), f_openCount, f_stepCount, f_resultSort, f_resultNumber, f_levelNow, a_kindOf, a_partX, a_partY, a_partZ, a_weightOf, a_needOf, a_names, a_known, a_knownNumber, a_functionOf, a_op, a_operand, a_workNode, a_workPhase, a_workLast, a_workPatch, a_letPlace, a_isUsed, a_functionAt, a_heldCount, a_cells, a_waiting, a_globals, a_stack, a_openFrame, a_openAt) (a_stack t)) (hs3 : ¬ s = 3) (hp : post 1 (f_expressionCount, f_functionCount, f_codeEnd, f_depth, f_letCount, f_height, f_heldNames, f_usedCount, f_marks, f_marking, f_waitCount, nI (t + 2), f_frame, nI (p + 1), f_openCount, f_stepCount, f_resultSort, f_resultNumber, f_levelNow, a_kindOf, a_partX, a_partY, a_partZ, a_weightOf, a_needOf, a_names, a_known, a_knownNumber, a_functionOf, a_op, a_operand, a_workNode, a_workPhase, a_workLast, a_workPatch, a_letPlace, a_isUsed, a_functionAt, a_heldCount, a_cells, a_waiting, a_globals, a_stack, a_openFrame, a_openAt)) : wpX_step post (f_expressionCount, f_functionCount, f_codeEnd, f_depth, f_letCount, f_height, f_heldNames, f_usedCount, f_marks, f_marking, f_waitCount, nI (t + 2), f_frame, nI p, f_openCount, f_stepCount, f_resultSort, f_resultNumber, f_levelNow, a_kindOf, a_partX, a_partY, a_partZ, a_weightOf, a_needOf, a_names, a_known, a_knownNumber, a_functionOf, a_op, a_operand, a_workNode, a_workPhase, a_workLast, a_workPatch, a_letPlace, a_isUsed, a_functionAt, a_heldCount, a_cells, a_waiting, a_globals, a_stack, a_openFrame, a_openAt) :=
  xs_cl0 hp1 ho hoo (And.intro (by rw [xs_s2]; exact vp_in_nI (by omega) (by omega)) (nm_r (e' := a_stack t) (by rw [xs_s2, nI_clamp (by omega)]) (hs _ (br_f hs3 hp))))
theorem xs_cld (hp1 : p < 1560) (ho : a_op p = 23) (ht : t + 2 ≤ 500) (hs : ∀ post' : Int32 → Prop, post' 3 → wpX_sortOf post' (f_expressionCount, f_functionCount, f_codeEnd, f_depth, f_letCount, f_height, f_heldNames, f_usedCount, f_marks, f_marking, f_waitCount, nI (t + 2), f_frame, nI (p + 1), 12, f_stepCount, f_resultSort, f_resultNumber, f_levelNow, a_kindOf, a_partX, a_partY, a_partZ, a_weightOf, a_needOf, a_names, a_known, a_knownNumber, a_functionOf, a_op, a_operand, a_workNode, a_workPhase, a_workLast, a_workPatch, a_letPlace, a_isUsed, a_functionAt, a_heldCount, a_cells, a_waiting, a_globals, a_stack, a_openFrame, a_openAt) (a_stack t)) (hp : post 4 (f_expressionCount, f_functionCount, f_codeEnd, f_depth, f_letCount, f_height, f_heldNames, f_usedCount, f_marks, f_marking, f_waitCount, nI (t + 2), f_frame, nI (p + 1), 12, f_stepCount, f_resultSort, f_resultNumber, f_levelNow, a_kindOf, a_partX, a_partY, a_partZ, a_weightOf, a_needOf, a_names, a_known, a_knownNumber, a_functionOf, a_op, a_operand, a_workNode, a_workPhase, a_workLast, a_workPatch, a_letPlace, a_isUsed, a_functionAt, a_heldCount, a_cells, a_waiting, a_globals, a_stack, a_openFrame, a_openAt)) : wpX_step post (f_expressionCount, f_functionCount, f_codeEnd, f_depth, f_letCount, f_height, f_heldNames, f_usedCount, f_marks, f_marking, f_waitCount, nI (t + 2), f_frame, nI p, 12, f_stepCount, f_resultSort, f_resultNumber, f_levelNow, a_kindOf, a_partX, a_partY, a_partZ, a_weightOf, a_needOf, a_names, a_known, a_knownNumber, a_functionOf, a_op, a_operand, a_workNode, a_workPhase, a_workLast, a_workPatch, a_letPlace, a_isUsed, a_functionAt, a_heldCount, a_cells, a_waiting, a_globals, a_stack, a_openFrame, a_openAt) :=
  xs_cl0 hp1 ho (Or.inl ⟨rfl, rfl⟩) (And.intro (by rw [xs_s2]; exact vp_in_nI (by omega) (by omega)) (nm_r (e' := a_stack t) (by rw [xs_s2, nI_clamp (by omega)]) (hs _ (br_t rfl (br_t rfl (br_t rfl hp))))))
/-- a function is called: behind the tests of sort and depth -/
theorem xs_cl38 {o z : Int32} {oc : Nat} (hp1 : p < 1560) (ho : a_op p = o) (hoo : (o = 23 ∧ z = 0 ∧ oc < 12) ∨ (o = 24 ∧ z = 1)) (hoc : oc ≤ 12) (ht : t + 2 ≤ 500) (hs : ∀ post' : Int32 → Prop, post' 3 → wpX_sortOf post' (f_expressionCount, f_functionCount, f_codeEnd, f_depth, f_letCount, f_height, f_heldNames, f_usedCount, f_marks, f_marking, f_waitCount, nI (t + 2), f_frame, nI (p + 1), nI oc, f_stepCount, f_resultSort, f_resultNumber, f_levelNow, a_kindOf, a_partX, a_partY, a_partZ, a_weightOf, a_needOf, a_names, a_known, a_knownNumber, a_functionOf, a_op, a_operand, a_workNode, a_workPhase, a_workLast, a_workPatch, a_letPlace, a_isUsed, a_functionAt, a_heldCount, a_cells, a_waiting, a_globals, a_stack, a_openFrame, a_openAt) (a_stack t)) (hp : wX_call_38 post z (a_stack t) f_expressionCount f_functionCount f_codeEnd f_depth f_letCount f_height f_heldNames f_usedCount f_marks f_marking f_waitCount (nI (t + 2)) f_frame (nI (p + 1)) (nI oc) f_stepCount f_resultSort f_resultNumber f_levelNow a_kindOf a_partX a_partY a_partZ a_weightOf a_needOf a_names a_known a_knownNumber a_functionOf a_op a_operand a_workNode a_workPhase a_workLast a_workPatch a_letPlace a_isUsed a_functionAt a_heldCount a_cells a_waiting a_globals a_stack a_openFrame a_openAt) : wpX_step post (f_expressionCount, f_functionCount, f_codeEnd, f_depth, f_letCount, f_height, f_heldNames, f_usedCount, f_marks, f_marking, f_waitCount, nI (t + 2), f_frame, nI p, nI oc, f_stepCount, f_resultSort, f_resultNumber, f_levelNow, a_kindOf, a_partX, a_partY, a_partZ, a_weightOf, a_needOf, a_names, a_known, a_knownNumber, a_functionOf, a_op, a_operand, a_workNode, a_workPhase, a_workLast, a_workPatch, a_letPlace, a_isUsed, a_functionAt, a_heldCount, a_cells, a_waiting, a_globals, a_stack, a_openFrame, a_openAt) := by
  refine xs_cl0 hp1 ho (hoo.imp (fun q => ⟨q.1, q.2.1⟩) id) (And.intro (by rw [xs_s2]; exact vp_in_nI (by omega) (by omega)) (nm_r (e' := a_stack t) (by rw [xs_s2, nI_clamp (by omega)]) (hs _ (br_t rfl ?_))))
  rcases hoo with ⟨_, rfl, h12⟩ | ⟨_, rfl⟩
  · exact br_t rfl (br_f (fun q => absurd ((nI_eq (b := 12) (by omega) (by omega)).mp q) (by omega)) hp)
  · exact br_f (by decide) hp
theorem xs_cl200 {o z : Int32} {oc : Nat} (hp1 : p < 1560) (ho : a_op p = o) (hoo : (o = 23 ∧ z = 0 ∧ oc < 12) ∨ (o = 24 ∧ z = 1)) (hoc : oc ≤ 12) (ht : t + 2 ≤ 500) (hs : ∀ post' : Int32 → Prop, post' 3 → wpX_sortOf post' (f_expressionCount, f_functionCount, f_codeEnd, f_depth, f_letCount, f_height, f_heldNames, f_usedCount, f_marks, f_marking, f_waitCount, nI (t + 2), f_frame, nI (p + 1), nI oc, 200, f_resultSort, f_resultNumber, f_levelNow, a_kindOf, a_partX, a_partY, a_partZ, a_weightOf, a_needOf, a_names, a_known, a_knownNumber, a_functionOf, a_op, a_operand, a_workNode, a_workPhase, a_workLast, a_workPatch, a_letPlace, a_isUsed, a_functionAt, a_heldCount, a_cells, a_waiting, a_globals, a_stack, a_openFrame, a_openAt) (a_stack t)) (hp : post 2 (f_expressionCount, f_functionCount, f_codeEnd, f_depth, f_letCount, f_height, f_heldNames, f_usedCount, f_marks, f_marking, f_waitCount, nI (t + 2), f_frame, nI (p + 1), nI oc, 200, f_resultSort, f_resultNumber, f_levelNow, a_kindOf, a_partX, a_partY, a_partZ, a_weightOf, a_needOf, a_names, a_known, a_knownNumber, a_functionOf, a_op, a_operand, a_workNode, a_workPhase, a_workLast, a_workPatch, a_letPlace, a_isUsed, a_functionAt, a_heldCount, a_cells, a_waiting, a_globals, a_stack, a_openFrame, a_openAt)) : wpX_step post (f_expressionCount, f_functionCount, f_codeEnd, f_depth, f_letCount, f_height, f_heldNames, f_usedCount, f_marks, f_marking, f_waitCount, nI (t + 2), f_frame, nI p, nI oc, 200, f_resultSort, f_resultNumber, f_levelNow, a_kindOf, a_partX, a_partY, a_partZ, a_weightOf, a_needOf, a_names, a_known, a_knownNumber, a_functionOf, a_op, a_operand, a_workNode, a_workPhase, a_workLast, a_workPatch, a_letPlace, a_isUsed, a_functionAt, a_heldCount, a_cells, a_waiting, a_globals, a_stack, a_openFrame, a_openAt) :=
  xs_cl38 hp1 ho hoo hoc ht hs (br_t rfl hp)
theorem xs_clo {oc c f fr sc : Nat} (hp1 : p < 1560) (ho : a_op p = 23) (hoc : oc < 12) (ht : t + 2 ≤ 500) (hsc : sc < 200) (hc : c < 40) (hx : a_stack t = vl_ob c) (hf : a_functionAt c = nI f) (hfr : fr < 2000) (hs : ∀ post' : Int32 → Prop, post' 3 → wpX_sortOf post' (f_expressionCount, f_functionCount, f_codeEnd, f_depth, f_letCount, f_height, f_heldNames, f_usedCount, f_marks, f_marking, f_waitCount, nI (t + 2), nI fr, nI (p + 1), nI oc, nI sc, f_resultSort, f_resultNumber, f_levelNow, a_kindOf, a_partX, a_partY, a_partZ, a_weightOf, a_needOf, a_names, a_known, a_knownNumber, a_functionOf, a_op, a_operand, a_workNode, a_workPhase, a_workLast, a_workPatch, a_letPlace, a_isUsed, a_functionAt, a_heldCount, a_cells, a_waiting, a_globals, a_stack, a_openFrame, a_openAt) (a_stack t))
    (hp : post (-1) (f_expressionCount, f_functionCount, f_codeEnd, f_depth, f_letCount, f_height, f_heldNames, f_usedCount, f_marks, f_marking, f_waitCount, nI (t + 2), nI t, nI (120 * f), nI (oc + 1), nI (sc + 1), f_resultSort, f_resultNumber, f_levelNow, a_kindOf, a_partX, a_partY, a_partZ, a_weightOf, a_needOf, a_names, a_known, a_knownNumber, a_functionOf, a_op, a_operand, a_workNode, a_workPhase, a_workLast, a_workPatch, a_letPlace, a_isUsed, a_functionAt, a_heldCount, a_cells, a_waiting, a_globals, a_stack, upd a_openFrame oc (nI fr), upd a_openAt oc (nI (p + 1)))) : wpX_step post (f_expressionCount, f_functionCount, f_codeEnd, f_depth, f_letCount, f_height, f_heldNames, f_usedCount, f_marks, f_marking, f_waitCount, nI (t + 2), nI fr, nI p, nI oc, nI sc, f_resultSort, f_resultNumber, f_levelNow, a_kindOf, a_partX, a_partY, a_partZ, a_weightOf, a_needOf, a_names, a_known, a_knownNumber, a_functionOf, a_op, a_operand, a_workNode, a_workPhase, a_workLast, a_workPatch, a_letPlace, a_isUsed, a_functionAt, a_heldCount, a_cells, a_waiting, a_globals, a_stack, a_openFrame, a_openAt) := by
  have hin : vp_in (nI oc) 12 := vp_in_nI hoc (by omega)
  refine xs_cl38 hp1 ho (Or.inl ⟨rfl, rfl, hoc⟩) (by omega) ht hs (br_f (fun q => absurd ((nI_eq (b := 200) (by omega) (by omega)).mp q) (by omega)) (nm_r (nI_1 sc) (br_t rfl (And.intro hin (nm_r (e' := upd a_openFrame oc (nI fr)) (by rw [nI_clamp (by omega), vl_ns (by omega)]) (And.intro hin (nm_r (e' := upd a_openAt oc (nI (p + 1))) (by rw [nI_clamp (by omega), vl_ns (by omega)]) (nm_r (nI_1 oc) (nm_r (xs_s2 t) ?_)))))))))
  rw [hx]
  refine gc_place (by omega) (And.intro (vp_in_nI (by omega) (by omega)) (nm_r (e' := nI (120 * f)) ?_ hp))
  rw [nI_clamp (by omega), hf, show (120 : Int32) = nI 120 from rfl, pk_mul]
theorem xs_cll {oc c f fr sc : Nat} (hp1 : p < 1560) (ho : a_op p = 24) (hoc : oc ≤ 12) (ht : t + 2 ≤ 500) (hsc : sc < 200) (hc : c < 40) (hx : a_stack t = vl_ob c) (hf : a_functionAt c = nI f) (hfr : fr + 2 ≤ t) (hs : ∀ post' : Int32 → Prop, post' 3 → wpX_sortOf post' (f_expressionCount, f_functionCount, f_codeEnd, f_depth, f_letCount, f_height, f_heldNames, f_usedCount, f_marks, f_marking, f_waitCount, nI (t + 2), nI fr, nI (p + 1), nI oc, nI sc, f_resultSort, f_resultNumber, f_levelNow, a_kindOf, a_partX, a_partY, a_partZ, a_weightOf, a_needOf, a_names, a_known, a_knownNumber, a_functionOf, a_op, a_operand, a_workNode, a_workPhase, a_workLast, a_workPatch, a_letPlace, a_isUsed, a_functionAt, a_heldCount, a_cells, a_waiting, a_globals, a_stack, a_openFrame, a_openAt) (a_stack t))
    (hp : post (-1) (f_expressionCount, f_functionCount, f_codeEnd, f_depth, f_letCount, f_height, f_heldNames, f_usedCount, f_marks, f_marking, f_waitCount, nI (fr + 2), nI fr, nI (120 * f), nI oc, nI (sc + 1), f_resultSort, f_resultNumber, f_levelNow, a_kindOf, a_partX, a_partY, a_partZ, a_weightOf, a_needOf, a_names, a_known, a_knownNumber, a_functionOf, a_op, a_operand, a_workNode, a_workPhase, a_workLast, a_workPatch, a_letPlace, a_isUsed, a_functionAt, a_heldCount, a_cells, a_waiting, a_globals, vp_updL (vp_updL a_stack fr (vl_ob c)) (fr + 1) (a_stack (t + 1)), a_openFrame, a_openAt)) : wpX_step post (f_expressionCount, f_functionCount, f_codeEnd, f_depth, f_letCount, f_height, f_heldNames, f_usedCount, f_marks, f_marking, f_waitCount, nI (t + 2), nI fr, nI p, nI oc, nI sc, f_resultSort, f_resultNumber, f_levelNow, a_kindOf, a_partX, a_partY, a_partZ, a_weightOf, a_needOf, a_names, a_known, a_knownNumber, a_functionOf, a_op, a_operand, a_workNode, a_workPhase, a_workLast, a_workPatch, a_letPlace, a_isUsed, a_functionAt, a_heldCount, a_cells, a_waiting, a_globals, a_stack, a_openFrame, a_openAt) := by
  refine xs_cl38 hp1 ho (Or.inr ⟨rfl, rfl⟩) (by omega) ht hs (br_f (fun q => absurd ((nI_eq (b := 200) (by omega) (by omega)).mp q) (by omega)) (nm_r (nI_1 sc) (br_f (by decide) (And.intro (vp_in_nI (by omega) (by omega)) (nm_r (e' := vp_updL a_stack fr (vl_ob c)) (by rw [nI_clamp (by omega), hx]) (And.intro (by rw [xs_s1 (t + 1)]; exact vp_in_nI (by omega) (by omega)) (And.intro (by rw [nI_1]; exact vp_in_nI (by omega) (by omega)) (nm_r (e' := vp_updL (vp_updL a_stack fr (vl_ob c)) (fr + 1) (a_stack (t + 1))) ?_ (nm_r (e' := nI (fr + 2)) (nI_add fr 2) ?_)))))))))
  · rw [xs_s1 (t + 1), nI_1, nI_clamp (by omega), nI_clamp (by omega), pk_uLn (j := t + 1) (by omega)]
  · rw [hx]
    refine gc_place (by omega) (And.intro (vp_in_nI (by omega) (by omega)) (nm_r (e' := nI (120 * f)) ?_ hp))
    rw [nI_clamp (by omega), hf, show (120 : Int32) = nI 120 from rfl, pk_mul]
theorem xs_gb {o : Int32} (hp1 : p < 1560) (ho : a_op p = 25) (h : wpX_giveBack (fun r u => post r u) (f_expressionCount, f_functionCount, f_codeEnd, f_depth, f_letCount, f_height, f_heldNames, f_usedCount, f_marks, f_marking, f_waitCount, f_top, f_frame, nI (p + 1), f_openCount, f_stepCount, f_resultSort, f_resultNumber, f_levelNow, a_kindOf, a_partX, a_partY, a_partZ, a_weightOf, a_needOf, a_names, a_known, a_knownNumber, a_functionOf, a_op, a_operand, a_workNode, a_workPhase, a_workLast, a_workPatch, a_letPlace, a_isUsed, a_functionAt, a_heldCount, a_cells, a_waiting, a_globals, a_stack, a_openFrame, a_openAt)) : wpX_step post (f_expressionCount, f_functionCount, f_codeEnd, f_depth, f_letCount, f_height, f_heldNames, f_usedCount, f_marks, f_marking, f_waitCount, f_top, f_frame, nI p, f_openCount, f_stepCount, f_resultSort, f_resultNumber, f_levelNow, a_kindOf, a_partX, a_partY, a_partZ, a_weightOf, a_needOf, a_names, a_known, a_knownNumber, a_functionOf, a_op, a_operand, a_workNode, a_workPhase, a_workLast, a_workPatch, a_letPlace, a_isUsed, a_functionAt, a_heldCount, a_cells, a_waiting, a_globals, a_stack, a_openFrame, a_openAt) :=
  And.intro (vp_in_nI hp1 (by omega)) (nm_r ((congrArg a_op (nI_clamp (n := p) (by omega))).trans ho) (And.intro (vp_in_nI hp1 (by omega)) (nm_r (congrArg a_operand (nI_clamp (n := p) (by omega))) (nm_r (nI_1 p) (br_f (by decide) (br_f (by decide) (br_f (by decide) (br_f (by decide) (br_f (by decide) (br_t (by decide) (br_f (by decide) (br_f (by decide) (br_f (by decide) (br_t (by decide) (br_f (by decide) (br_f (by decide) (br_t rfl h))))))))))))) ))))
theorem xs_ret0 {s n : Int32} (hp1 : p < 1560) (ho : a_op p = 25) (ht : t < 500) (hs : ∀ post' : Int32 → Prop, post' s → wpX_sortOf post' (f_expressionCount, f_functionCount, f_codeEnd, f_depth, f_letCount, f_height, f_heldNames, f_usedCount, f_marks, f_marking, f_waitCount, nI (t + 1), f_frame, nI (p + 1), 0, f_stepCount, f_resultSort, f_resultNumber, f_levelNow, a_kindOf, a_partX, a_partY, a_partZ, a_weightOf, a_needOf, a_names, a_known, a_knownNumber, a_functionOf, a_op, a_operand, a_workNode, a_workPhase, a_workLast, a_workPatch, a_letPlace, a_isUsed, a_functionAt, a_heldCount, a_cells, a_waiting, a_globals, a_stack, a_openFrame, a_openAt) (a_stack t)) (h1 : s = 1 → n = (a_stack t >>> ((2 : Int32).toInt64 &&& 63)).toInt32) (h0 : ¬ s = 1 → n = 0) (hp : post 0 (f_expressionCount, f_functionCount, f_codeEnd, f_depth, f_letCount, f_height, f_heldNames, f_usedCount, f_marks, f_marking, f_waitCount, nI (t + 1), f_frame, nI (p + 1), 0, f_stepCount, s, n, f_levelNow, a_kindOf, a_partX, a_partY, a_partZ, a_weightOf, a_needOf, a_names, a_known, a_knownNumber, a_functionOf, a_op, a_operand, a_workNode, a_workPhase, a_workLast, a_workPatch, a_letPlace, a_isUsed, a_functionAt, a_heldCount, a_cells, a_waiting, a_globals, a_stack, a_openFrame, a_openAt)) : wpX_step post (f_expressionCount, f_functionCount, f_codeEnd, f_depth, f_letCount, f_height, f_heldNames, f_usedCount, f_marks, f_marking, f_waitCount, nI (t + 1), f_frame, nI p, 0, f_stepCount, f_resultSort, f_resultNumber, f_levelNow, a_kindOf, a_partX, a_partY, a_partZ, a_weightOf, a_needOf, a_names, a_known, a_knownNumber, a_functionOf, a_op, a_operand, a_workNode, a_workPhase, a_workLast, a_workPatch, a_letPlace, a_isUsed, a_functionAt, a_heldCount, a_cells, a_waiting, a_globals, a_stack, a_openFrame, a_openAt) := by
  refine xs_gb (o := 0) hp1 ho (And.intro (by rw [xs_s1]; exact vp_in_nI ht (by omega)) (nm_r (e' := a_stack t) (by rw [xs_s1, nI_clamp (by omega)]) (br_t rfl (hs _ ?_))))
  by_cases c : s = 1
  · exact br_t c (nm_r (h1 c).symm hp)
  · rw [h0 c] at hp; exact br_f c hp
theorem xs_ret {oc fr fr' p' : Nat} (hp1 : p < 1560) (ho : a_op p = 25) (ht : t < 500) (hoc : oc < 12) (hfr : fr < 500) (hf : a_openFrame oc = nI fr') (ha : a_openAt oc = nI p') (hp : post (-1) (f_expressionCount, f_functionCount, f_codeEnd, f_depth, f_letCount, f_height, f_heldNames, f_usedCount, f_marks, f_marking, f_waitCount, nI (fr + 1), nI fr', nI p', nI oc, f_stepCount, f_resultSort, f_resultNumber, f_levelNow, a_kindOf, a_partX, a_partY, a_partZ, a_weightOf, a_needOf, a_names, a_known, a_knownNumber, a_functionOf, a_op, a_operand, a_workNode, a_workPhase, a_workLast, a_workPatch, a_letPlace, a_isUsed, a_functionAt, a_heldCount, a_cells, a_waiting, a_globals, vp_updL a_stack fr (a_stack t), a_openFrame, a_openAt)) : wpX_step post (f_expressionCount, f_functionCount, f_codeEnd, f_depth, f_letCount, f_height, f_heldNames, f_usedCount, f_marks, f_marking, f_waitCount, nI (t + 1), nI fr, nI p, nI (oc + 1), f_stepCount, f_resultSort, f_resultNumber, f_levelNow, a_kindOf, a_partX, a_partY, a_partZ, a_weightOf, a_needOf, a_names, a_known, a_knownNumber, a_functionOf, a_op, a_operand, a_workNode, a_workPhase, a_workLast, a_workPatch, a_letPlace, a_isUsed, a_functionAt, a_heldCount, a_cells, a_waiting, a_globals, a_stack, a_openFrame, a_openAt) := by
  have hin : vp_in (nI oc) 12 := vp_in_nI hoc (by omega)
  exact xs_gb (o := 0) hp1 ho (And.intro (by rw [xs_s1]; exact vp_in_nI ht (by omega)) (nm_r (e' := a_stack t) (by rw [xs_s1, nI_clamp (by omega)]) (br_f (nI_ne0 (by omega) (by omega)) (nm_r (nI_1 fr) (And.intro (vp_in_nI hfr (by omega)) (nm_r (e' := vp_updL a_stack fr (a_stack t)) (by rw [nI_clamp (by omega)]) (nm_r (nI_pred oc) (And.intro hin (nm_r ((congrArg a_openFrame (nI_clamp (n := oc) (by omega))).trans hf) (And.intro hin (nm_r ((congrArg a_openAt (nI_clamp (n := oc) (by omega))).trans ha) hp)))))))))))
end
end
section
/-! the reference's steps: what is finished -/
section
variable {g_made g_functions g_bodies g_high g_top g_steps g_over g_how g_givenSort g_given : Int32} {b_ek b_ex b_ey b_ez b_ew b_outside b_globalSort b_global b_body b_heldSort b_held b_needed b_envSort b_env b_length b_base b_floor b_begun b_stage b_last b_valueSort b_value : Nat → Int32}
variable {post : SY → Prop} {h e t : Nat} {l : Int32}
theorem yf_two {k : Int32} (he : e < 60) (hk : b_ek e = k) (h3 : ¬ k < 3) (h7 : ¬ 7 < k) (hp : wpY_two (fun u => post u) (g_made, g_functions, g_bodies, nI h, g_top, g_steps, g_over, g_how, g_givenSort, g_given, b_ek, b_ex, b_ey, b_ez, b_ew, b_outside, b_globalSort, b_global, b_body, b_heldSort, b_held, b_needed, b_envSort, b_env, b_length, b_base, b_floor, b_begun, b_stage, b_last, b_valueSort, b_value) k) : wpY_finish post (g_made, g_functions, g_bodies, nI (h + 1), g_top, g_steps, g_over, g_how, g_givenSort, g_given, b_ek, b_ex, b_ey, b_ez, b_ew, b_outside, b_globalSort, b_global, b_body, b_heldSort, b_held, b_needed, b_envSort, b_env, b_length, b_base, b_floor, b_begun, b_stage, b_last, b_valueSort, b_value) (nI e) l :=
  And.intro (vp_in_nI he (by omega)) (nm_r ((congrArg b_ek (nI_clamp (n := e) (by omega))).trans hk) (nm_r (nI_pred h) (br_f h3 (br_f h7 hp))))
theorem yt_head {k : Int32} (ht : t + 2 ≤ 420) (hp : ((k = 7 → (((b_valueSort t = b_valueSort (t + 1) → (((b_valueSort t = 0 → (wY_two_82 post g_made g_functions g_bodies g_high (nI t) g_steps g_over g_how g_givenSort g_given b_ek b_ex b_ey b_ez b_ew b_outside b_globalSort b_global b_body b_heldSort b_held b_needed b_envSort b_env b_length b_base b_floor b_begun b_stage b_last b_valueSort b_value)) ∧ (¬ b_valueSort t = 0 → (((b_value t = b_value (t + 1) → (wY_two_82 post g_made g_functions g_bodies g_high (nI t) g_steps g_over g_how g_givenSort g_given b_ek b_ex b_ey b_ez b_ew b_outside b_globalSort b_global b_body b_heldSort b_held b_needed b_envSort b_env b_length b_base b_floor b_begun b_stage b_last b_valueSort b_value)) ∧ (¬ b_value t = b_value (t + 1) → (wY_two_86 post g_made g_functions g_bodies g_high (nI t) g_steps g_over g_how g_givenSort g_given b_ek b_ex b_ey b_ez b_ew b_outside b_globalSort b_global b_body b_heldSort b_held b_needed b_envSort b_env b_length b_base b_floor b_begun b_stage b_last b_valueSort b_value)))))))) ∧ (¬ b_valueSort t = b_valueSort (t + 1) → (wY_two_86 post g_made g_functions g_bodies g_high (nI t) g_steps g_over g_how g_givenSort g_given b_ek b_ex b_ey b_ez b_ew b_outside b_globalSort b_global b_body b_heldSort b_held b_needed b_envSort b_env b_length b_base b_floor b_begun b_stage b_last b_valueSort b_value))))) ∧ (¬ k = 7 → (((b_valueSort t = 1 → (((b_valueSort (t + 1) = 1 → (((k = 6 → (((b_value (t + 1) ≤ b_value t → (wY_two_153 post (b_value t) (b_value (t + 1)) 0 g_made g_functions g_bodies g_high (nI t) g_steps g_over g_how g_givenSort g_given b_ek b_ex b_ey b_ez b_ew b_outside b_globalSort b_global b_body b_heldSort b_held b_needed b_envSort b_env b_length b_base b_floor b_begun b_stage b_last b_valueSort b_value)) ∧ (¬ b_value (t + 1) ≤ b_value t → (wY_two_153 post (b_value t) (b_value (t + 1)) 1 g_made g_functions g_bodies g_high (nI t) g_steps g_over g_how g_givenSort g_given b_ek b_ex b_ey b_ez b_ew b_outside b_globalSort b_global b_body b_heldSort b_held b_needed b_envSort b_env b_length b_base b_floor b_begun b_stage b_last b_valueSort b_value))))) ∧ (¬ k = 6 → (wpY_arithmetic (fun r_47 => (wpY_give (fun u => post u) (g_made, g_functions, g_bodies, g_high, nI t, g_steps, g_over, g_how, g_givenSort, g_given, b_ek, b_ex, b_ey, b_ez, b_ew, b_outside, b_globalSort, b_global, b_body, b_heldSort, b_held, b_needed, b_envSort, b_env, b_length, b_base, b_floor, b_begun, b_stage, b_last, b_valueSort, b_value) 1 r_47)) (g_made, g_functions, g_bodies, g_high, nI t, g_steps, g_over, g_how, g_givenSort, g_given, b_ek, b_ex, b_ey, b_ez, b_ew, b_outside, b_globalSort, b_global, b_body, b_heldSort, b_held, b_needed, b_envSort, b_env, b_length, b_base, b_floor, b_begun, b_stage, b_last, b_valueSort, b_value) k (b_value t) (b_value (t + 1))))))) ∧ (¬ b_valueSort (t + 1) = 1 → (wY_two_126 post g_made g_functions g_bodies g_high (nI t) g_steps g_over g_how g_givenSort g_given b_ek b_ex b_ey b_ez b_ew b_outside b_globalSort b_global b_body b_heldSort b_held b_needed b_envSort b_env b_length b_base b_floor b_begun b_stage b_last b_valueSort b_value))))) ∧ (¬ b_valueSort t = 1 → (wY_two_126 post g_made g_functions g_bodies g_high (nI t) g_steps g_over g_how g_givenSort g_given b_ek b_ex b_ey b_ez b_ew b_outside b_globalSort b_global b_body b_heldSort b_held b_needed b_envSort b_env b_length b_base b_floor b_begun b_stage b_last b_valueSort b_value))))))) : wpY_two post (g_made, g_functions, g_bodies, g_high, nI (t + 2), g_steps, g_over, g_how, g_givenSort, g_given, b_ek, b_ex, b_ey, b_ez, b_ew, b_outside, b_globalSort, b_global, b_body, b_heldSort, b_held, b_needed, b_envSort, b_env, b_length, b_base, b_floor, b_begun, b_stage, b_last, b_valueSort, b_value) k := by
  have e2 : nI (t + 2) - 2 = nI t := xs_s2 t
  have e1 : nI (t + 2) - 1 = nI (t + 1) := xs_s1 (t + 1)
  have i2 : vp_in (nI (t + 2) - 2) 420 := by rw [e2]; exact vp_in_nI (by omega) (by omega)
  have i1 : vp_in (nI (t + 2) - 1) 420 := by rw [e1]; exact vp_in_nI (by omega) (by omega)
  exact And.intro i2 (nm_r (e' := b_valueSort t) (by rw [e2, nI_clamp (by omega)]) (And.intro i1 (nm_r (e' := b_valueSort (t + 1)) (by rw [e1, nI_clamp (by omega)]) (And.intro i2 (nm_r (e' := b_value t) (by rw [e2, nI_clamp (by omega)]) (And.intro i1 (nm_r (e' := b_value (t + 1)) (by rw [e1, nI_clamp (by omega)]) (nm_r e2 hp))))))))
theorem yt_same (ht : t + 2 ≤ 420) {c : Prop} [Decidable c] (hc : c ↔ (b_valueSort t = b_valueSort (t + 1) ∧ (b_valueSort t = 0 ∨ b_value t = b_value (t + 1)))) (hp : post (g_made, g_functions, g_bodies, g_high, nI (t + 1), g_steps, g_over, g_how, g_givenSort, g_given, b_ek, b_ex, b_ey, b_ez, b_ew, b_outside, b_globalSort, b_global, b_body, b_heldSort, b_held, b_needed, b_envSort, b_env, b_length, b_base, b_floor, b_begun, b_stage, b_last, upd b_valueSort t (if c then 1 else 0), upd b_value t (if c then 1 else 0))) : wpY_two post (g_made, g_functions, g_bodies, g_high, nI (t + 2), g_steps, g_over, g_how, g_givenSort, g_given, b_ek, b_ex, b_ey, b_ez, b_ew, b_outside, b_globalSort, b_global, b_body, b_heldSort, b_held, b_needed, b_envSort, b_env, b_length, b_base, b_floor, b_begun, b_stage, b_last, b_valueSort, b_value) 7 := by
  refine yt_head ht (br_t rfl ?_)
  by_cases a : b_valueSort t = b_valueSort (t + 1)
  · refine br_t a ?_
    by_cases b : b_valueSort t = 0
    · rw [if_pos (hc.mpr ⟨a, Or.inl b⟩)] at hp
      exact br_t b (br_f (by decide) (br_f (by decide) (ys_give (by omega) hp)))
    · refine br_f b ?_
      by_cases d : b_value t = b_value (t + 1)
      · rw [if_pos (hc.mpr ⟨a, Or.inr d⟩)] at hp
        exact br_t d (br_f (by decide) (br_f (by decide) (ys_give (by omega) hp)))
      · rw [if_neg (fun q => (hc.mp q).2.elim b d)] at hp
        exact br_f d (br_t rfl (br_t rfl (ys_give (by omega) hp)))
  · rw [if_neg (fun q => a (hc.mp q).1)] at hp
    exact br_f a (br_t rfl (br_t rfl (ys_give (by omega) hp)))
theorem yt_bad {k : Int32} (ht : t + 2 ≤ 420) (h7 : ¬ k = 7) (hb : ¬ (b_valueSort t = 1 ∧ b_valueSort (t + 1) = 1)) (hp : post (g_made, g_functions, g_bodies, g_high, nI t, g_steps, 1, 1, g_givenSort, g_given, b_ek, b_ex, b_ey, b_ez, b_ew, b_outside, b_globalSort, b_global, b_body, b_heldSort, b_held, b_needed, b_envSort, b_env, b_length, b_base, b_floor, b_begun, b_stage, b_last, b_valueSort, b_value)) : wpY_two post (g_made, g_functions, g_bodies, g_high, nI (t + 2), g_steps, g_over, g_how, g_givenSort, g_given, b_ek, b_ex, b_ey, b_ez, b_ew, b_outside, b_globalSort, b_global, b_body, b_heldSort, b_held, b_needed, b_envSort, b_env, b_length, b_base, b_floor, b_begun, b_stage, b_last, b_valueSort, b_value) k := by
  refine yt_head ht (br_f h7 ?_)
  by_cases a : b_valueSort t = 1
  · exact br_t a (br_f (fun d => hb ⟨a, d⟩) hp)
  · exact br_f a hp
theorem yt_less (ht : t + 2 ≤ 420) (h1 : b_valueSort t = 1) (h2 : b_valueSort (t + 1) = 1) (hp : post (g_made, g_functions, g_bodies, g_high, nI (t + 1), g_steps, g_over, g_how, g_givenSort, g_given, b_ek, b_ex, b_ey, b_ez, b_ew, b_outside, b_globalSort, b_global, b_body, b_heldSort, b_held, b_needed, b_envSort, b_env, b_length, b_base, b_floor, b_begun, b_stage, b_last, upd b_valueSort t (if b_value (t + 1) ≤ b_value t then 0 else 1), upd b_value t (if b_value (t + 1) ≤ b_value t then 0 else 1))) : wpY_two post (g_made, g_functions, g_bodies, g_high, nI (t + 2), g_steps, g_over, g_how, g_givenSort, g_given, b_ek, b_ex, b_ey, b_ez, b_ew, b_outside, b_globalSort, b_global, b_body, b_heldSort, b_held, b_needed, b_envSort, b_env, b_length, b_base, b_floor, b_begun, b_stage, b_last, b_valueSort, b_value) 6 := by
  refine yt_head ht (br_f (by decide) (br_t h1 (br_t h2 (br_t rfl ?_))))
  by_cases a : b_value (t + 1) ≤ b_value t
  · rw [if_pos a] at hp
    exact br_t a (br_t a (ys_give (by omega) hp))
  · rw [if_neg a] at hp
    exact br_f a (br_f a (ys_give (by omega) hp))
theorem yt_ar {k : Int32} (ht : t + 2 ≤ 420) (h7 : ¬ k = 7) (h6 : ¬ k = 6) (h1 : b_valueSort t = 1) (h2 : b_valueSort (t + 1) = 1) (hp : post (g_made, g_functions, g_bodies, g_high, nI (t + 1), g_steps, g_over, g_how, g_givenSort, g_given, b_ek, b_ex, b_ey, b_ez, b_ew, b_outside, b_globalSort, b_global, b_body, b_heldSort, b_held, b_needed, b_envSort, b_env, b_length, b_base, b_floor, b_begun, b_stage, b_last, upd b_valueSort t 1, upd b_value t (if k = 3 then b_value t + b_value (t + 1) else if k = 4 then b_value t - b_value (t + 1) else b_value t * b_value (t + 1)))) : wpY_two post (g_made, g_functions, g_bodies, g_high, nI (t + 2), g_steps, g_over, g_how, g_givenSort, g_given, b_ek, b_ex, b_ey, b_ez, b_ew, b_outside, b_globalSort, b_global, b_body, b_heldSort, b_held, b_needed, b_envSort, b_env, b_length, b_base, b_floor, b_begun, b_stage, b_last, b_valueSort, b_value) k := by
  refine yt_head ht (br_f h7 (br_t h1 (br_t h2 (br_f h6 ?_))))
  by_cases c : k = 3
  · rw [if_pos c] at hp; exact br_t c (ys_give (by omega) hp)
  · rw [if_neg c] at hp
    by_cases d : k = 4
    · rw [if_pos d] at hp; exact br_f c (br_t d (ys_give (by omega) hp))
    · rw [if_neg d] at hp; exact br_f c (br_f d (ys_give (by omega) hp))
/-! pairs -/
theorem yf_pair {k : Int32} (he : e < 60) (hk : b_ek e = k) (hkk : k = 10 ∨ k = 11 ∨ k = 12 ∨ k = 13) (hp : wpY_pair (fun u => post u) (g_made, g_functions, g_bodies, nI h, g_top, g_steps, g_over, g_how, g_givenSort, g_given, b_ek, b_ex, b_ey, b_ez, b_ew, b_outside, b_globalSort, b_global, b_body, b_heldSort, b_held, b_needed, b_envSort, b_env, b_length, b_base, b_floor, b_begun, b_stage, b_last, b_valueSort, b_value) k) : wpY_finish post (g_made, g_functions, g_bodies, nI (h + 1), g_top, g_steps, g_over, g_how, g_givenSort, g_given, b_ek, b_ex, b_ey, b_ez, b_ew, b_outside, b_globalSort, b_global, b_body, b_heldSort, b_held, b_needed, b_envSort, b_env, b_length, b_base, b_floor, b_begun, b_stage, b_last, b_valueSort, b_value) (nI e) l := by
  refine And.intro (vp_in_nI he (by omega)) (nm_r ((congrArg b_ek (nI_clamp (n := e) (by omega))).trans hk) (nm_r (nI_pred h) ?_))
  rcases hkk with rfl | rfl | rfl | rfl <;> exact br_f (by decide) (br_t (by decide) (br_f (by decide) (br_f (by decide) (br_f (by decide) hp))))
theorem yp_get {k : Int32} {w j : Nat} (ht : t < 420) (hkk : (k = 10 ∧ j = 0) ∨ (k = 11 ∧ j = 1)) (hw : w < 40) (hs : b_valueSort t = 2) (hv : b_value t = nI w) (hp : post (g_made, g_functions, g_bodies, g_high, nI (t + 1), g_steps, g_over, g_how, g_givenSort, g_given, b_ek, b_ex, b_ey, b_ez, b_ew, b_outside, b_globalSort, b_global, b_body, b_heldSort, b_held, b_needed, b_envSort, b_env, b_length, b_base, b_floor, b_begun, b_stage, b_last, upd b_valueSort t (b_heldSort (6 * w + j)), upd b_value t (b_held (6 * w + j)))) : wpY_pair post (g_made, g_functions, g_bodies, g_high, nI (t + 1), g_steps, g_over, g_how, g_givenSort, g_given, b_ek, b_ex, b_ey, b_ez, b_ew, b_outside, b_globalSort, b_global, b_body, b_heldSort, b_held, b_needed, b_envSort, b_env, b_length, b_base, b_floor, b_begun, b_stage, b_last, b_valueSort, b_value) k := by
  have i1 : vp_in (nI t) 420 := vp_in_nI ht (by omega)
  have i2 : vp_in (nI (6 * w + j)) 240 := vp_in_nI (by omega) (by omega)
  have h25 : wY_pair_25 post k 0 1 (nI (t + 1)) g_made g_functions g_bodies g_high (nI (t + 1)) g_steps g_over g_how g_givenSort g_given b_ek b_ex b_ey b_ez b_ew b_outside b_globalSort b_global b_body b_heldSort b_held b_needed b_envSort b_env b_length b_base b_floor b_begun b_stage b_last b_valueSort b_value := by
    refine nm_r (nI_pred t) (And.intro i1 (br_t (by rw [nI_clamp (by omega)]; exact hs) (And.intro i1 (nm_r (e' := nI (6 * w + j)) ?_ (br_t rfl (And.intro i2 (And.intro i2 ?_)))))))
    · rw [nI_clamp (by omega), hv]
      rcases hkk with ⟨rfl, rfl⟩ | ⟨rfl, rfl⟩
      · rw [show (10 : Int32) &&& 1 = nI 0 from by decide, show (6 : Int32) = nI 6 from rfl, pk_mul, nI_add]
      · rw [show (11 : Int32) &&& 1 = nI 1 from by decide, show (6 : Int32) = nI 6 from rfl, pk_mul, nI_add]
    · rw [nI_clamp (by omega)]
      exact ys_give ht hp
  rcases hkk with ⟨rfl, rfl⟩ | ⟨rfl, rfl⟩ <;> exact br_t (by decide) (br_t rfl h25)
theorem yp_get0 {k : Int32} (ht : t < 420) (hkk : k = 10 ∨ k = 11) (hs : ¬ b_valueSort t = 2) (hp : post (g_made, g_functions, g_bodies, g_high, nI (t + 1), g_steps, 1, 1, g_givenSort, g_given, b_ek, b_ex, b_ey, b_ez, b_ew, b_outside, b_globalSort, b_global, b_body, b_heldSort, b_held, b_needed, b_envSort, b_env, b_length, b_base, b_floor, b_begun, b_stage, b_last, b_valueSort, b_value)) : wpY_pair post (g_made, g_functions, g_bodies, g_high, nI (t + 1), g_steps, g_over, g_how, g_givenSort, g_given, b_ek, b_ex, b_ey, b_ez, b_ew, b_outside, b_globalSort, b_global, b_body, b_heldSort, b_held, b_needed, b_envSort, b_env, b_length, b_base, b_floor, b_begun, b_stage, b_last, b_valueSort, b_value) k := by
  have i1 : vp_in (nI t) 420 := vp_in_nI ht (by omega)
  have h25 : wY_pair_25 post k 0 1 (nI (t + 1)) g_made g_functions g_bodies g_high (nI (t + 1)) g_steps g_over g_how g_givenSort g_given b_ek b_ex b_ey b_ez b_ew b_outside b_globalSort b_global b_body b_heldSort b_held b_needed b_envSort b_env b_length b_base b_floor b_begun b_stage b_last b_valueSort b_value :=
    nm_r (nI_pred t) (And.intro i1 (br_f (by rw [nI_clamp (by omega)]; exact hs) hp))
  rcases hkk with rfl | rfl <;> exact br_t (by decide) (br_t rfl h25)
theorem yp_set {k : Int32} {w j : Nat} (ht : t + 2 ≤ 420) (hkk : (k = 12 ∧ j = 0) ∨ (k = 13 ∧ j = 1)) (hw : w < 40) (hs : b_valueSort t = 2) (hv : b_value t = nI w) (hp : post (g_made, g_functions, g_bodies, g_high, nI (t + 1), g_steps, g_over, g_how, g_givenSort, g_given, b_ek, b_ex, b_ey, b_ez, b_ew, b_outside, b_globalSort, b_global, b_body, upd b_heldSort (6 * w + j) (b_valueSort (t + 1)), upd b_held (6 * w + j) (b_value (t + 1)), b_needed, b_envSort, b_env, b_length, b_base, b_floor, b_begun, b_stage, b_last, upd b_valueSort t (b_valueSort (t + 1)), upd b_value t (b_value (t + 1)))) : wpY_pair post (g_made, g_functions, g_bodies, g_high, nI (t + 2), g_steps, g_over, g_how, g_givenSort, g_given, b_ek, b_ex, b_ey, b_ez, b_ew, b_outside, b_globalSort, b_global, b_body, b_heldSort, b_held, b_needed, b_envSort, b_env, b_length, b_base, b_floor, b_begun, b_stage, b_last, b_valueSort, b_value) k := by
  have i1 : vp_in (nI t) 420 := vp_in_nI (by omega) (by omega)
  have i2 : vp_in (nI (6 * w + j)) 240 := vp_in_nI (by omega) (by omega)
  have e1 : nI (t + 2) - 1 = nI (t + 1) := xs_s1 (t + 1)
  have i3 : vp_in (nI (t + 2) - 1) 420 := by rw [e1]; exact vp_in_nI (by omega) (by omega)
  have h25 : wY_pair_25 post k 1 2 (nI (t + 2)) g_made g_functions g_bodies g_high (nI (t + 2)) g_steps g_over g_how g_givenSort g_given b_ek b_ex b_ey b_ez b_ew b_outside b_globalSort b_global b_body b_heldSort b_held b_needed b_envSort b_env b_length b_base b_floor b_begun b_stage b_last b_valueSort b_value := by
    refine nm_r (xs_s2 t) (And.intro i1 (br_t (by rw [nI_clamp (by omega)]; exact hs) (And.intro i1 (nm_r (e' := nI (6 * w + j)) ?_ (br_f (by decide) (And.intro i3 (And.intro i2 (nm_r (e' := upd b_heldSort (6 * w + j) (b_valueSort (t + 1))) (by rw [e1, nI_clamp (by omega), nI_clamp (by omega)]) (And.intro i3 (And.intro i2 (nm_r (e' := upd b_held (6 * w + j) (b_value (t + 1))) (by rw [e1, nI_clamp (by omega), nI_clamp (by omega)]) (And.intro i2 (And.intro i2 ?_)))))))))))))
    · rw [nI_clamp (by omega), hv]
      rcases hkk with ⟨rfl, rfl⟩ | ⟨rfl, rfl⟩
      · rw [show (12 : Int32) &&& 1 = nI 0 from by decide, show (6 : Int32) = nI 6 from rfl, pk_mul, nI_add]
      · rw [show (13 : Int32) &&& 1 = nI 1 from by decide, show (6 : Int32) = nI 6 from rfl, pk_mul, nI_add]
    · rw [nI_clamp (by omega), pk_us, pk_us]
      exact ys_give (by omega) hp
  rcases hkk with ⟨rfl, rfl⟩ | ⟨rfl, rfl⟩ <;> exact br_f (by decide) (br_f (by decide) h25)
theorem yp_set0 {k : Int32} (ht : t + 2 ≤ 420) (hkk : k = 12 ∨ k = 13) (hs : ¬ b_valueSort t = 2) (hp : post (g_made, g_functions, g_bodies, g_high, nI (t + 2), g_steps, 1, 1, g_givenSort, g_given, b_ek, b_ex, b_ey, b_ez, b_ew, b_outside, b_globalSort, b_global, b_body, b_heldSort, b_held, b_needed, b_envSort, b_env, b_length, b_base, b_floor, b_begun, b_stage, b_last, b_valueSort, b_value)) : wpY_pair post (g_made, g_functions, g_bodies, g_high, nI (t + 2), g_steps, g_over, g_how, g_givenSort, g_given, b_ek, b_ex, b_ey, b_ez, b_ew, b_outside, b_globalSort, b_global, b_body, b_heldSort, b_held, b_needed, b_envSort, b_env, b_length, b_base, b_floor, b_begun, b_stage, b_last, b_valueSort, b_value) k := by
  have i1 : vp_in (nI t) 420 := vp_in_nI (by omega) (by omega)
  have h25 : wY_pair_25 post k 1 2 (nI (t + 2)) g_made g_functions g_bodies g_high (nI (t + 2)) g_steps g_over g_how g_givenSort g_given b_ek b_ex b_ey b_ez b_ew b_outside b_globalSort b_global b_body b_heldSort b_held b_needed b_envSort b_env b_length b_base b_floor b_begun b_stage b_last b_valueSort b_value :=
    nm_r (xs_s2 t) (And.intro i1 (br_f (by rw [nI_clamp (by omega)]; exact hs) hp))
  rcases hkk with rfl | rfl <;> exact br_f (by decide) (br_f (by decide) h25)
/-! SET_GLOBAL -/
theorem yf_sg {g : Nat} (he : e < 60) (hk : b_ek e = 18) (hx : b_ex e = nI g) (hg : g < 4) (ht : t < 420) (hp : post (g_made, g_functions, g_bodies, nI h, nI (t + 1), g_steps, g_over, g_how, g_givenSort, g_given, b_ek, b_ex, b_ey, b_ez, b_ew, b_outside, upd b_globalSort g (b_valueSort t), upd b_global g (b_value t), b_body, b_heldSort, b_held, b_needed, b_envSort, b_env, b_length, b_base, b_floor, b_begun, b_stage, b_last, b_valueSort, b_value)) : wpY_finish post (g_made, g_functions, g_bodies, nI (h + 1), nI (t + 1), g_steps, g_over, g_how, g_givenSort, g_given, b_ek, b_ex, b_ey, b_ez, b_ew, b_outside, b_globalSort, b_global, b_body, b_heldSort, b_held, b_needed, b_envSort, b_env, b_length, b_base, b_floor, b_begun, b_stage, b_last, b_valueSort, b_value) (nI e) l := by
  have i0 : vp_in (nI e) 60 := vp_in_nI he (by omega)
  have i1 : vp_in (nI (t + 1) - 1) 420 := by rw [nI_pred]; exact vp_in_nI ht (by omega)
  have ex : b_ex (nI e).toNatClampNeg = nI g := by rw [nI_clamp (by omega)]; exact hx
  have i2 : vp_in (b_ex (nI e).toNatClampNeg) 4 := by rw [ex]; exact vp_in_nI hg (by omega)
  exact And.intro i0 (nm_r ((congrArg b_ek (nI_clamp (n := e) (by omega))).trans hk) (nm_r (nI_pred h) (br_f (by decide) (br_t (by decide) (br_f (by decide) (br_f (by decide) (br_t (by decide) (br_f (by decide) (br_t rfl (And.intro i0 (And.intro i1 (And.intro i2 (nm_r (e' := upd b_globalSort g (b_valueSort t)) (by rw [ex, nI_pred, nI_clamp (by omega), nI_clamp (by omega)]) (And.intro i0 (And.intro i1 (And.intro i2 (nm_r (e' := upd b_global g (b_value t)) (by rw [ex, nI_pred, nI_clamp (by omega), nI_clamp (by omega)]) hp)))))))))))))))))
/-! the end of a body -/
theorem ye_back {b : Nat} (hb : b < 13) (hb1 : 1 ≤ b) (hp : post (g_made, g_functions, nI b, g_high, g_top, g_steps, g_over, g_how, g_givenSort, g_given, b_ek, b_ex, b_ey, b_ez, b_ew, b_outside, b_globalSort, b_global, b_body, b_heldSort, b_held, b_needed, b_envSort, b_env, b_length, b_base, b_floor, b_begun, b_stage, b_last, b_valueSort, b_value)) : wpY_end post (g_made, g_functions, nI (b + 1), g_high, g_top, g_steps, g_over, g_how, g_givenSort, g_given, b_ek, b_ex, b_ey, b_ez, b_ew, b_outside, b_globalSort, b_global, b_body, b_heldSort, b_held, b_needed, b_envSort, b_env, b_length, b_base, b_floor, b_begun, b_stage, b_last, b_valueSort, b_value) :=
  br_f (nI_ge (b := b + 1) (a := 1) (by omega) (by omega)) (nm_r (nI_pred b) hp)
theorem ye_end {s n : Int32} (ht : t < 420) (hs : b_valueSort t = s) (h1 : s = 1 → n = b_value t) (h0 : ¬ s = 1 → n = 0) (hp : post (g_made, g_functions, 1, g_high, nI (t + 1), g_steps, 1, 0, s, n, b_ek, b_ex, b_ey, b_ez, b_ew, b_outside, b_globalSort, b_global, b_body, b_heldSort, b_held, b_needed, b_envSort, b_env, b_length, b_base, b_floor, b_begun, b_stage, b_last, b_valueSort, b_value)) : wpY_end post (g_made, g_functions, 1, g_high, nI (t + 1), g_steps, g_over, g_how, g_givenSort, g_given, b_ek, b_ex, b_ey, b_ez, b_ew, b_outside, b_globalSort, b_global, b_body, b_heldSort, b_held, b_needed, b_envSort, b_env, b_length, b_base, b_floor, b_begun, b_stage, b_last, b_valueSort, b_value) := by
  have i1 : vp_in (nI (t + 1) - 1) 420 := by rw [nI_pred]; exact vp_in_nI ht (by omega)
  refine br_t (by decide) (And.intro i1 (nm_r (e' := s) (by rw [nI_pred, nI_clamp (by omega)]; exact hs) ?_))
  by_cases c : s = 1
  · refine br_t c (And.intro i1 ?_)
    rw [nI_pred, nI_clamp (by omega), ← h1 c]; exact hp
  · rw [h0 c] at hp; exact br_f c hp
end
end
section
/-! the reference's steps: making and calling -/
section
variable {g_made g_functions g_bodies g_high g_top g_steps g_over g_how g_givenSort g_given : Int32} {b_ek b_ex b_ey b_ez b_ew b_outside b_globalSort b_global b_body b_heldSort b_held b_needed b_envSort b_env b_length b_base b_floor b_begun b_stage b_last b_valueSort b_value : Nat → Int32}
variable {post : SY → Prop} {h e t : Nat} {l : Int32}
theorem yf_mp (he : e < 60) (hk : b_ek e = 9) (hp : wpY_makePair (fun u => post u) (g_made, g_functions, g_bodies, nI h, g_top, g_steps, g_over, g_how, g_givenSort, g_given, b_ek, b_ex, b_ey, b_ez, b_ew, b_outside, b_globalSort, b_global, b_body, b_heldSort, b_held, b_needed, b_envSort, b_env, b_length, b_base, b_floor, b_begun, b_stage, b_last, b_valueSort, b_value)) : wpY_finish post (g_made, g_functions, g_bodies, nI (h + 1), g_top, g_steps, g_over, g_how, g_givenSort, g_given, b_ek, b_ex, b_ey, b_ez, b_ew, b_outside, b_globalSort, b_global, b_body, b_heldSort, b_held, b_needed, b_envSort, b_env, b_length, b_base, b_floor, b_begun, b_stage, b_last, b_valueSort, b_value) (nI e) l :=
  And.intro (vp_in_nI he (by omega)) (nm_r ((congrArg b_ek (nI_clamp (n := e) (by omega))).trans hk) (nm_r (nI_pred h) (br_f (by decide) (br_t (by decide) (br_t rfl hp)))))
theorem yf_cl (he : e < 60) (hk : b_ek e = 16) (hp : wpY_call (fun u => post u) (g_made, g_functions, g_bodies, nI h, g_top, g_steps, g_over, g_how, g_givenSort, g_given, b_ek, b_ex, b_ey, b_ez, b_ew, b_outside, b_globalSort, b_global, b_body, b_heldSort, b_held, b_needed, b_envSort, b_env, b_length, b_base, b_floor, b_begun, b_stage, b_last, b_valueSort, b_value) l) : wpY_finish post (g_made, g_functions, g_bodies, nI (h + 1), g_top, g_steps, g_over, g_how, g_givenSort, g_given, b_ek, b_ex, b_ey, b_ez, b_ew, b_outside, b_globalSort, b_global, b_body, b_heldSort, b_held, b_needed, b_envSort, b_env, b_length, b_base, b_floor, b_begun, b_stage, b_last, b_valueSort, b_value) (nI e) l :=
  And.intro (vp_in_nI he (by omega)) (nm_r ((congrArg b_ek (nI_clamp (n := e) (by omega))).trans hk) (nm_r (nI_pred h) (br_f (by decide) (br_t (by decide) (br_f (by decide) (br_f (by decide) (br_t (by decide) (br_t rfl hp))))))))
theorem ymp_no {U : SY} (hN : ∀ post' : Int32 → SY → Prop, post' (-1) U → wpY_make post' (g_made, g_functions, g_bodies, g_high, g_top, g_steps, g_over, g_how, g_givenSort, g_given, b_ek, b_ex, b_ey, b_ez, b_ew, b_outside, b_globalSort, b_global, b_body, b_heldSort, b_held, b_needed, b_envSort, b_env, b_length, b_base, b_floor, b_begun, b_stage, b_last, b_valueSort, b_value)) (hp : post U) : wpY_makePair post (g_made, g_functions, g_bodies, g_high, g_top, g_steps, g_over, g_how, g_givenSort, g_given, b_ek, b_ex, b_ey, b_ez, b_ew, b_outside, b_globalSort, b_global, b_body, b_heldSort, b_held, b_needed, b_envSort, b_env, b_length, b_base, b_floor, b_begun, b_stage, b_last, b_valueSort, b_value) := by
  match U, hN, hp with
  | (g_made', g_functions', g_bodies', g_high', g_top', g_steps', g_over', g_how', g_givenSort', g_given', b_ek', b_ex', b_ey', b_ez', b_ew', b_outside', b_globalSort', b_global', b_body', b_heldSort', b_held', b_needed', b_envSort', b_env', b_length', b_base', b_floor', b_begun', b_stage', b_last', b_valueSort', b_value'), hN, hp =>
    unfold wpY_makePair
    exact hN _ (br_f (by decide) hp)
theorem ymp_new {w : Nat} {st' : Int32} {nd' hs' : Nat → Int32} (hw : w < 40) (ht : t + 2 ≤ 420) (hN : ∀ post' : Int32 → SY → Prop, post' (nI w) (g_made, g_functions, g_bodies, g_high, nI (t + 2), st', g_over, g_how, g_givenSort, g_given, b_ek, b_ex, b_ey, b_ez, b_ew, b_outside, b_globalSort, b_global, b_body, hs', b_held, nd', b_envSort, b_env, b_length, b_base, b_floor, b_begun, b_stage, b_last, b_valueSort, b_value) → wpY_make post' (g_made, g_functions, g_bodies, g_high, nI (t + 2), g_steps, g_over, g_how, g_givenSort, g_given, b_ek, b_ex, b_ey, b_ez, b_ew, b_outside, b_globalSort, b_global, b_body, b_heldSort, b_held, b_needed, b_envSort, b_env, b_length, b_base, b_floor, b_begun, b_stage, b_last, b_valueSort, b_value))
    (hp : post (g_made, g_functions, g_bodies, g_high, nI (t + 1), st', g_over, g_how, g_givenSort, g_given, b_ek, b_ex, b_ey, b_ez, b_ew, b_outside, b_globalSort, b_global, b_body, upd (upd hs' (6 * w + 0) (b_valueSort t)) (6 * w + 1) (b_valueSort (t + 1)), upd (upd b_held (6 * w + 0) (b_value t)) (6 * w + 1) (b_value (t + 1)), nd', b_envSort, b_env, b_length, b_base, b_floor, b_begun, b_stage, b_last, upd b_valueSort t 2, upd b_value t (nI w))) : wpY_makePair post (g_made, g_functions, g_bodies, g_high, nI (t + 2), g_steps, g_over, g_how, g_givenSort, g_given, b_ek, b_ex, b_ey, b_ez, b_ew, b_outside, b_globalSort, b_global, b_body, b_heldSort, b_held, b_needed, b_envSort, b_env, b_length, b_base, b_floor, b_begun, b_stage, b_last, b_valueSort, b_value) := by
  have e0 : nI t + 0 = nI t := by rw [show (0 : Int32) = nI 0 from rfl, nI_add]; rfl
  have c0 : 6 * nI w + 0 = nI (6 * w + 0) := by rw [show (6 : Int32) = nI 6 from rfl, pk_mul, show (0 : Int32) = nI 0 from rfl, nI_add]
  have c1 : 6 * nI w + 1 = nI (6 * w + 1) := by rw [show (6 : Int32) = nI 6 from rfl, pk_mul, nI_1]
  have i0 : vp_in (nI t + 0) 420 := by rw [e0]; exact vp_in_nI (by omega) (by omega)
  have i1 : vp_in (nI t + 1) 420 := by rw [nI_1]; exact vp_in_nI (by omega) (by omega)
  have j0 : vp_in (6 * nI w + 0) 240 := by rw [c0]; exact vp_in_nI (by omega) (by omega)
  have j1 : vp_in (6 * nI w + 1) 240 := by rw [c1]; exact vp_in_nI (by omega) (by omega)
  unfold wpY_makePair
  refine hN _ (br_t (nI_pos' (by omega)) (nm_r (xs_s2 t) ⟨3, ?_⟩))
  refine br_f (by decide) (And.intro i0 (And.intro j0 (nm_r (e' := upd hs' (6 * w + 0) (b_valueSort t)) (by rw [e0, c0, nI_clamp (by omega), nI_clamp (by omega)]) (And.intro i0 (And.intro j0 (nm_r (e' := upd b_held (6 * w + 0) (b_value t)) (by rw [e0, c0, nI_clamp (by omega), nI_clamp (by omega)]) (nm_r (e' := 1) (by decide) ?_)))))))
  refine br_f (by decide) (And.intro i1 (And.intro j1 (nm_r (e' := upd (upd hs' (6 * w + 0) (b_valueSort t)) (6 * w + 1) (b_valueSort (t + 1))) (by rw [nI_1, c1, nI_clamp (by omega), nI_clamp (by omega)]) (And.intro i1 (And.intro j1 (nm_r (e' := upd (upd b_held (6 * w + 0) (b_value t)) (6 * w + 1) (b_value (t + 1))) (by rw [nI_1, c1, nI_clamp (by omega), nI_clamp (by omega)]) (nm_r (e' := 2) (by decide) ?_)))))))
  exact br_t (by decide) (ys_give (by omega) hp)
theorem ymf_no {U : SY} {x : Int32} (hN : ∀ post' : Int32 → SY → Prop, post' (-1) U → wpY_make post' (g_made, g_functions, g_bodies, g_high, g_top, g_steps, g_over, g_how, g_givenSort, g_given, b_ek, b_ex, b_ey, b_ez, b_ew, b_outside, b_globalSort, b_global, b_body, b_heldSort, b_held, b_needed, b_envSort, b_env, b_length, b_base, b_floor, b_begun, b_stage, b_last, b_valueSort, b_value)) (hp : post U) : wpY_makeFunction post (g_made, g_functions, g_bodies, g_high, g_top, g_steps, g_over, g_how, g_givenSort, g_given, b_ek, b_ex, b_ey, b_ez, b_ew, b_outside, b_globalSort, b_global, b_body, b_heldSort, b_held, b_needed, b_envSort, b_env, b_length, b_base, b_floor, b_begun, b_stage, b_last, b_valueSort, b_value) x := by
  match U, hN, hp with
  | (g_made', g_functions', g_bodies', g_high', g_top', g_steps', g_over', g_how', g_givenSort', g_given', b_ek', b_ex', b_ey', b_ez', b_ew', b_outside', b_globalSort', b_global', b_body', b_heldSort', b_held', b_needed', b_envSort', b_env', b_length', b_base', b_floor', b_begun', b_stage', b_last', b_valueSort', b_value'), hN, hp =>
    unfold wpY_makeFunction
    exact hN _ (br_f (by decide) hp)
end
theorem ymf_27 {w b L jx mx t : Nat} {es ev ou ln : Nat → Int32} (hw : w < 40) (hb : b < 13) (hL : L ≤ 24) (hl : ln b = nI L) (hj : jx < 60) (hou : ou jx = nI mx) (hmx : mx < 256) (ht : t < 420) (hsc : ∀ i, i < 6 → mx.testBit (i + 2) = true → i < L) :
    ∀ d k (hs hv : Nat → Int32), k + d = 6 → ∃ hs' hv' : Nat → Int32, (∀ i, k ≤ i → i < 6 → (mx.testBit (i + 2) = true → hs' (6 * w + i) = es (24 * b + L - 1 - i) ∧ hv' (6 * w + i) = ev (24 * b + L - 1 - i)) ∧ (mx.testBit (i + 2) = false → hs' (6 * w + i) = hs (6 * w + i))) ∧ (∀ j, (j < 6 * w + k ∨ 6 * w + 6 ≤ j) → hs' j = hs j ∧ hv' j = hv j) ∧
      ∀ {g_made g_functions g_bodies g_high g_steps g_over g_how g_givenSort g_given : Int32} {b_ek b_ex b_ey b_ez b_ew b_globalSort b_global b_body b_needed b_base b_floor b_begun b_stage b_last : Nat → Int32} (vs vv : Nat → Int32) (post : SY → Prop), post (g_made, g_functions, g_bodies, g_high, nI (t + 1), g_steps, g_over, g_how, g_givenSort, g_given, b_ek, b_ex, b_ey, b_ez, b_ew, ou, b_globalSort, b_global, b_body, hs', hv', b_needed, es, ev, ln, b_base, b_floor, b_begun, b_stage, b_last, upd vs t 3, upd vv t (nI w)) →
      wY_makeFunction_27 post (nI jx) (nI w) (nI b) g_made g_functions g_bodies g_high (nI t) g_steps g_over g_how g_givenSort g_given (d + 1) (nI k) b_ek b_ex b_ey b_ez b_ew ou b_globalSort b_global b_body hs hv b_needed es ev ln b_base b_floor b_begun b_stage b_last vs vv := by
  intro d
  induction d with
  | zero =>
    intro k hs hv hk
    exact ⟨hs, hv, fun i a b => by omega, fun j _ => ⟨rfl, rfl⟩, fun vs vv post hp => br_t (nI_le (a := 6) (by omega) (by omega)) (ys_give ht hp)⟩
  | succ d ih =>
    intro k hs hv hk
    have e2 : nI k + 2 = nI (k + 2) := nI_add k 2
    have hbit : ((ou (nI jx).toNatClampNeg >>> ((nI k + 2) &&& 31)) &&& 1) = nI (if mx.testBit (k + 2) = true then 1 else 0) := by
      rw [nI_clamp (by omega), hou, e2, cp_bit (by omega) (by omega)]
    cases z : mx.testBit (k + 2) with
    | true =>
      have hkL := hsc k (by omega) z
      have ex : (((24 * nI b) + (ln (nI b).toNatClampNeg)) - 1) - nI k = nI (24 * b + L - 1 - k) := by
        rw [nI_clamp (by omega), hl, show (24 : Int32) = nI 24 from rfl, pk_mul, nI_add, show (1 : Int32) = nI 1 from rfl, pk_sub (by omega), pk_sub (by omega)]
      have e6 : 6 * nI w + nI k = nI (6 * w + k) := by rw [show (6 : Int32) = nI 6 from rfl, pk_mul, nI_add]
      have i1 : vp_in (nI (24 * b + L - 1 - k)) 312 := vp_in_nI (by omega) (by omega)
      have i2 : vp_in (6 * nI w + nI k) 240 := by rw [e6]; exact vp_in_nI (by omega) (by omega)
      obtain ⟨hs', hv', a, c, hp⟩ := ih (k + 1) (upd hs (6 * w + k) (es (24 * b + L - 1 - k))) (upd hv (6 * w + k) (ev (24 * b + L - 1 - k))) (by omega)
      refine ⟨hs', hv', fun i x y => ?_, fun j x => ?_, fun vs vv post hq => br_f (nI_ge (b := 6) (by omega) (by omega)) (And.intro (vp_in_nI hj (by omega)) (br_t (by rw [hbit, z]; rfl) (And.intro (vp_in_nI hb (by omega)) (nm_r ex (And.intro i1 (And.intro i2 (nm_r (e' := upd hs (6 * w + k) (es (24 * b + L - 1 - k))) (by rw [e6, nI_clamp (by omega), nI_clamp (by omega)]) (And.intro i1 (And.intro i2 (nm_r (e' := upd hv (6 * w + k) (ev (24 * b + L - 1 - k))) (by rw [e6, nI_clamp (by omega), nI_clamp (by omega)]) (nm_r (nI_1 k) (hp vs vv post hq))))))))))))⟩
      · by_cases q : i = k
        · subst q
          have := c (6 * w + i) (by omega)
          rw [pk_us, pk_us] at this
          exact ⟨fun _ => this, fun f => by rw [z] at f; exact absurd f (by decide)⟩
        · have := a i (by omega) y
          refine ⟨this.1, fun f => ?_⟩
          rw [this.2 f, pk_un (by omega)]
      · have := c j (by omega)
        rw [pk_un (by omega), pk_un (by omega)] at this
        exact this
    | false =>
      obtain ⟨hs', hv', a, c, hp⟩ := ih (k + 1) hs hv (by omega)
      refine ⟨hs', hv', fun i x y => ?_, fun j x => c j (by omega), fun vs vv post hq => br_f (nI_ge (b := 6) (by omega) (by omega)) (And.intro (vp_in_nI hj (by omega)) (br_f (by rw [hbit, z]; decide) (nm_r (nI_1 k) (hp vs vv post hq))))⟩
      by_cases q : i = k
      · subst q
        exact ⟨fun f => by rw [z] at f; exact absurd f (by decide), fun _ => (c _ (by omega)).1⟩
      · exact a i (by omega) y
section
variable {g_made g_functions g_bodies g_high g_top g_steps g_over g_how g_givenSort g_given : Int32} {b_ek b_ex b_ey b_ez b_ew b_outside b_globalSort b_global b_body b_heldSort b_held b_needed b_envSort b_env b_length b_base b_floor b_begun b_stage b_last b_valueSort b_value : Nat → Int32}
variable {post : SY → Prop} {h e t : Nat} {l : Int32}
theorem ymf_new {w b jx : Nat} {st' : Int32} {nd' hs' hs2 hv2 : Nat → Int32} (hw : w < 40) (hN : ∀ post' : Int32 → SY → Prop, post' (nI w) (g_made, g_functions, nI (b + 1), g_high, nI t, st', g_over, g_how, g_givenSort, g_given, b_ek, b_ex, b_ey, b_ez, b_ew, b_outside, b_globalSort, b_global, b_body, hs', b_held, nd', b_envSort, b_env, b_length, b_base, b_floor, b_begun, b_stage, b_last, b_valueSort, b_value) → wpY_make post' (g_made, g_functions, nI (b + 1), g_high, nI t, g_steps, g_over, g_how, g_givenSort, g_given, b_ek, b_ex, b_ey, b_ez, b_ew, b_outside, b_globalSort, b_global, b_body, b_heldSort, b_held, b_needed, b_envSort, b_env, b_length, b_base, b_floor, b_begun, b_stage, b_last, b_valueSort, b_value))
    (h27 : ∀ post' : SY → Prop, post' (g_made, g_functions, nI (b + 1), g_high, nI (t + 1), st', g_over, g_how, g_givenSort, g_given, b_ek, b_ex, b_ey, b_ez, b_ew, b_outside, b_globalSort, b_global, upd b_body w (nI jx), hs2, hv2, nd', b_envSort, b_env, b_length, b_base, b_floor, b_begun, b_stage, b_last, upd b_valueSort t 3, upd b_value t (nI w)) → wY_makeFunction_27 post' (nI jx) (nI w) (nI b) g_made g_functions (nI (b + 1)) g_high (nI t) st' g_over g_how g_givenSort g_given 7 0 b_ek b_ex b_ey b_ez b_ew b_outside b_globalSort b_global (upd b_body w (nI jx)) hs' b_held nd' b_envSort b_env b_length b_base b_floor b_begun b_stage b_last b_valueSort b_value)
    (hp : post (g_made, g_functions, nI (b + 1), g_high, nI (t + 1), st', g_over, g_how, g_givenSort, g_given, b_ek, b_ex, b_ey, b_ez, b_ew, b_outside, b_globalSort, b_global, upd b_body w (nI jx), hs2, hv2, nd', b_envSort, b_env, b_length, b_base, b_floor, b_begun, b_stage, b_last, upd b_valueSort t 3, upd b_value t (nI w))) : wpY_makeFunction post (g_made, g_functions, nI (b + 1), g_high, nI t, g_steps, g_over, g_how, g_givenSort, g_given, b_ek, b_ex, b_ey, b_ez, b_ew, b_outside, b_globalSort, b_global, b_body, b_heldSort, b_held, b_needed, b_envSort, b_env, b_length, b_base, b_floor, b_begun, b_stage, b_last, b_valueSort, b_value) (nI jx) := by
  unfold wpY_makeFunction
  exact hN _ (br_t (nI_pos' (by omega)) (And.intro (vp_in_nI hw (by omega)) (nm_r (e' := upd b_body w (nI jx)) (by rw [nI_clamp (by omega)]) (nm_r (nI_pred b) ⟨7, h27 _ hp⟩))))
end
/-- a function's environment is laid out -/
theorem ycl_212 {w b : Nat} {hs hv bd : Nat → Int32} {s v : Int32} (hw : w < 40) (hb : b < 13) {hh : Nat} (hhh : hh < 420) :
    ∀ k (es ev ln : Nat → Int32), k ≤ 6 → ln b = nI (6 - k) → ∃ es' ev' ln' : Nat → Int32,
      (∀ j, 6 - k ≤ j → j < 6 → es' (24 * b + j) = hs (6 * w + (5 - j)) ∧ ev' (24 * b + j) = hv (6 * w + (5 - j))) ∧ (es' (24 * b + 6) = 3 ∧ ev' (24 * b + 6) = nI w) ∧ (es' (24 * b + 7) = s ∧ ev' (24 * b + 7) = v) ∧
      (∀ j, (j < 24 * b + (6 - k) ∨ 24 * b + 8 ≤ j) → es' j = es j ∧ ev' j = ev j) ∧ ln' b = nI 8 ∧ (∀ j, j ≠ b → ln' j = ln j) ∧
      ∀ {g_made g_functions g_top g_steps g_over g_how g_givenSort g_given : Int32} {b_ek b_ex b_ey b_ez b_ew b_outside b_globalSort b_global b_needed b_base b_floor b_valueSort b_value : Nat → Int32} (bg sg la : Nat → Int32) (post : SY → Prop), post (g_made, g_functions, nI (b + 1), nI (hh + 1), g_top, g_steps, g_over, g_how, g_givenSort, g_given, b_ek, b_ex, b_ey, b_ez, b_ew, b_outside, b_globalSort, b_global, bd, hs, hv, b_needed, es', ev', ln', b_base, b_floor, upd bg hh (bd w), upd sg hh 0, upd la hh 1, b_valueSort, b_value) →
      wY_call_212 post (nI w) s v (k + 1) (nI k + (-1)) g_made g_functions (nI (b + 1)) (nI hh) g_top g_steps g_over g_how g_givenSort g_given b_ek b_ex b_ey b_ez b_ew b_outside b_globalSort b_global bd hs hv b_needed es ev ln b_base b_floor bg sg la b_valueSort b_value := by
  intro k
  induction k with
  | zero =>
    intro es ev ln hk hl
    refine ⟨upd (upd es (24 * b + 6) 3) (24 * b + 7) s, upd (upd ev (24 * b + 6) (nI w)) (24 * b + 7) v, upd (upd ln b (nI 7)) b (nI 8), fun j x y => by omega, ⟨by rw [pk_un (by omega), pk_us], by rw [pk_un (by omega), pk_us]⟩, ⟨pk_us, pk_us⟩, fun j x => ⟨by rw [pk_un (by omega), pk_un (by omega)], by rw [pk_un (by omega), pk_un (by omega)]⟩, pk_us, fun j x => by rw [pk_un x, pk_un x], fun bg sg la post hp => br_t (by decide) (ys_bind hb hl (by omega) (ys_bind hb pk_us (by omega) (And.intro (vp_in_nI hw (by omega)) ?_)))⟩
    rw [nI_clamp (by omega)]
    exact ys_start hhh (Or.inr rfl) hp
  | succ k ih =>
    intro es ev ln hk hl
    have e6 : 6 * nI w + nI k = nI (6 * w + k) := by rw [show (6 : Int32) = nI 6 from rfl, pk_mul, nI_add]
    have hin : vp_in (6 * nI w + (nI (k + 1) + (-1))) 240 := by rw [pk_m1, e6]; exact vp_in_nI (by omega) (by omega)
    obtain ⟨es', ev', ln', a1, a2, a3, a4, a5, a6, hp⟩ := ih (upd es (24 * b + (6 - (k + 1))) (hs (6 * w + k))) (upd ev (24 * b + (6 - (k + 1))) (hv (6 * w + k))) (upd ln b (nI (6 - (k + 1) + 1))) (by omega) (by rw [pk_us]; congr 1; omega)
    refine ⟨es', ev', ln', fun j x y => ?_, a2, a3, fun j x => ?_, a5, fun j x => ?_, fun bg sg la post hq => br_f (by rw [pk_m1]; exact nI_pos (by omega)) (And.intro hin (And.intro hin ?_))⟩
    · by_cases q : j = 6 - (k + 1)
      · have := a4 (24 * b + j) (by omega)
        rw [q, pk_us, pk_us] at this
        rw [q, this.1, this.2, show 5 - (6 - (k + 1)) = k by omega]
        exact ⟨rfl, rfl⟩
      · exact a1 j (by omega) y
    · have := a4 j (by omega)
      rw [pk_un (by omega), pk_un (by omega)] at this
      exact this
    · rw [a6 j x, pk_un x]
    · rw [pk_m1, e6, nI_clamp (by omega)]
      exact ys_bind hb hl (by omega) (nm_e (hp bg sg la post hq))
section
variable {g_made g_functions g_bodies g_high g_top g_steps g_over g_how g_givenSort g_given : Int32} {b_ek b_ex b_ey b_ez b_ew b_outside b_globalSort b_global b_body b_heldSort b_held b_needed b_envSort b_env b_length b_base b_floor b_begun b_stage b_last b_valueSort b_value : Nat → Int32}
variable {post : SY → Prop} {h t : Nat} {l : Int32}
theorem yc_head (ht : t + 2 ≤ 420) (hp : ((b_valueSort t = 3 → (((l = 0 → (((g_bodies = 13 → (wY_call_96 post l (b_value t) (b_valueSort (t + 1)) (b_value (t + 1)) g_made g_functions g_bodies g_high (nI (t + 2)) g_steps 1 4 g_givenSort g_given b_ek b_ex b_ey b_ez b_ew b_outside b_globalSort b_global b_body b_heldSort b_held b_needed b_envSort b_env b_length b_base b_floor b_begun b_stage b_last b_valueSort b_value)) ∧ (¬ g_bodies = 13 → (wY_call_81 post l (b_value t) (b_valueSort (t + 1)) (b_value (t + 1)) g_made g_functions g_bodies g_high (nI (t + 2)) g_steps g_over g_how g_givenSort g_given b_ek b_ex b_ey b_ez b_ew b_outside b_globalSort b_global b_body b_heldSort b_held b_needed b_envSort b_env b_length b_base b_floor b_begun b_stage b_last b_valueSort b_value))))) ∧ (¬ l = 0 → (wY_call_81 post l (b_value t) (b_valueSort (t + 1)) (b_value (t + 1)) g_made g_functions g_bodies g_high (nI (t + 2)) g_steps g_over g_how g_givenSort g_given b_ek b_ex b_ey b_ez b_ew b_outside b_globalSort b_global b_body b_heldSort b_held b_needed b_envSort b_env b_length b_base b_floor b_begun b_stage b_last b_valueSort b_value))))) ∧ (¬ b_valueSort t = 3 → (wY_call_96 post l (b_value t) (b_valueSort (t + 1)) (b_value (t + 1)) g_made g_functions g_bodies g_high (nI (t + 2)) g_steps 1 1 g_givenSort g_given b_ek b_ex b_ey b_ez b_ew b_outside b_globalSort b_global b_body b_heldSort b_held b_needed b_envSort b_env b_length b_base b_floor b_begun b_stage b_last b_valueSort b_value)))) : wpY_call post (g_made, g_functions, g_bodies, g_high, nI (t + 2), g_steps, g_over, g_how, g_givenSort, g_given, b_ek, b_ex, b_ey, b_ez, b_ew, b_outside, b_globalSort, b_global, b_body, b_heldSort, b_held, b_needed, b_envSort, b_env, b_length, b_base, b_floor, b_begun, b_stage, b_last, b_valueSort, b_value) l := by
  have e2 : nI (t + 2) - 2 = nI t := xs_s2 t
  have e1 : nI (t + 2) - 1 = nI (t + 1) := xs_s1 (t + 1)
  have i2 : vp_in (nI (t + 2) - 2) 420 := by rw [e2]; exact vp_in_nI (by omega) (by omega)
  have i1 : vp_in (nI (t + 2) - 1) 420 := by rw [e1]; exact vp_in_nI (by omega) (by omega)
  refine And.intro i2 (nm_r (e' := b_value t) (by rw [e2, nI_clamp (by omega)]) (And.intro i1 (nm_r (e' := b_valueSort (t + 1)) (by rw [e1, nI_clamp (by omega)]) (And.intro i1 (nm_r (e' := b_value (t + 1)) (by rw [e1, nI_clamp (by omega)]) (And.intro i2 ?_))))))
  rw [e2, nI_clamp (by omega)]
  exact hp
theorem yc_bad (ht : t + 2 ≤ 420) (hs : ¬ b_valueSort t = 3) (hp : post (g_made, g_functions, g_bodies, g_high, nI (t + 2), g_steps, 1, 1, g_givenSort, g_given, b_ek, b_ex, b_ey, b_ez, b_ew, b_outside, b_globalSort, b_global, b_body, b_heldSort, b_held, b_needed, b_envSort, b_env, b_length, b_base, b_floor, b_begun, b_stage, b_last, b_valueSort, b_value)) : wpY_call post (g_made, g_functions, g_bodies, g_high, nI (t + 2), g_steps, g_over, g_how, g_givenSort, g_given, b_ek, b_ex, b_ey, b_ez, b_ew, b_outside, b_globalSort, b_global, b_body, b_heldSort, b_held, b_needed, b_envSort, b_env, b_length, b_base, b_floor, b_begun, b_stage, b_last, b_valueSort, b_value) l :=
  yc_head ht (br_f hs (br_f (by decide) hp))
theorem yc_deep (ht : t + 2 ≤ 420) (hs : b_valueSort t = 3) (hp : post (g_made, g_functions, 13, g_high, nI (t + 2), g_steps, 1, 4, g_givenSort, g_given, b_ek, b_ex, b_ey, b_ez, b_ew, b_outside, b_globalSort, b_global, b_body, b_heldSort, b_held, b_needed, b_envSort, b_env, b_length, b_base, b_floor, b_begun, b_stage, b_last, b_valueSort, b_value)) : wpY_call post (g_made, g_functions, 13, g_high, nI (t + 2), g_steps, g_over, g_how, g_givenSort, g_given, b_ek, b_ex, b_ey, b_ez, b_ew, b_outside, b_globalSort, b_global, b_body, b_heldSort, b_held, b_needed, b_envSort, b_env, b_length, b_base, b_floor, b_begun, b_stage, b_last, b_valueSort, b_value) 0 :=
  yc_head ht (br_t hs (br_t rfl (br_t rfl (br_f (by decide) hp))))
theorem yc_81 {b : Nat} (ht : t + 2 ≤ 420) (hs : b_valueSort t = 3) (hb : b ≤ 13) (hl : (l = 0 ∧ b < 13) ∨ ¬ l = 0) (hp : wY_call_81 post l (b_value t) (b_valueSort (t + 1)) (b_value (t + 1)) g_made g_functions (nI b) g_high (nI (t + 2)) g_steps g_over g_how g_givenSort g_given b_ek b_ex b_ey b_ez b_ew b_outside b_globalSort b_global b_body b_heldSort b_held b_needed b_envSort b_env b_length b_base b_floor b_begun b_stage b_last b_valueSort b_value) : wpY_call post (g_made, g_functions, nI b, g_high, nI (t + 2), g_steps, g_over, g_how, g_givenSort, g_given, b_ek, b_ex, b_ey, b_ez, b_ew, b_outside, b_globalSort, b_global, b_body, b_heldSort, b_held, b_needed, b_envSort, b_env, b_length, b_base, b_floor, b_begun, b_stage, b_last, b_valueSort, b_value) l := by
  refine yc_head ht (br_t hs ?_)
  rcases hl with ⟨rfl, h13⟩ | hl
  · exact br_t rfl (br_f (fun q => absurd ((nI_eq (b := 13) (by omega) (by omega)).mp q) (by omega)) hp)
  · exact br_f hl hp
theorem yc_200 {b : Nat} (ht : t + 2 ≤ 420) (hs : b_valueSort t = 3) (hb : b ≤ 13) (hl : (l = 0 ∧ b < 13) ∨ ¬ l = 0) (hp : post (g_made, g_functions, nI b, g_high, nI (t + 2), 200, 1, 2, g_givenSort, g_given, b_ek, b_ex, b_ey, b_ez, b_ew, b_outside, b_globalSort, b_global, b_body, b_heldSort, b_held, b_needed, b_envSort, b_env, b_length, b_base, b_floor, b_begun, b_stage, b_last, b_valueSort, b_value)) : wpY_call post (g_made, g_functions, nI b, g_high, nI (t + 2), 200, g_over, g_how, g_givenSort, g_given, b_ek, b_ex, b_ey, b_ez, b_ew, b_outside, b_globalSort, b_global, b_body, b_heldSort, b_held, b_needed, b_envSort, b_env, b_length, b_base, b_floor, b_begun, b_stage, b_last, b_valueSort, b_value) l :=
  yc_81 ht hs hb hl (br_t rfl (br_f (by decide) hp))
theorem yc_open {b w sc : Nat} {es' ev' ln' : Nat → Int32} (ht : t + 2 ≤ 420) (hs : b_valueSort t = 3) (hv : b_value t = nI w) (hb : b < 13) (hsc : sc < 200)
    (h212 : ∀ post' : SY → Prop, post' (g_made, g_functions, nI (b + 1), nI (h + 1), nI t, nI (sc + 1), 0, g_how, g_givenSort, g_given, b_ek, b_ex, b_ey, b_ez, b_ew, b_outside, b_globalSort, b_global, b_body, b_heldSort, b_held, b_needed, es', ev', ln', upd b_base b (nI h), upd b_floor b (nI t), upd b_begun h (b_body w), upd b_stage h 0, upd b_last h 1, b_valueSort, b_value) → wY_call_212 post' (nI w) (b_valueSort (t + 1)) (b_value (t + 1)) 7 (nI 6 + (-1)) g_made g_functions (nI (b + 1)) (nI h) (nI t) (nI (sc + 1)) 0 g_how g_givenSort g_given b_ek b_ex b_ey b_ez b_ew b_outside b_globalSort b_global b_body b_heldSort b_held b_needed b_envSort b_env (upd b_length b 0) (upd b_base b (nI h)) (upd b_floor b (nI t)) b_begun b_stage b_last b_valueSort b_value)
    (hp : post (g_made, g_functions, nI (b + 1), nI (h + 1), nI t, nI (sc + 1), 0, g_how, g_givenSort, g_given, b_ek, b_ex, b_ey, b_ez, b_ew, b_outside, b_globalSort, b_global, b_body, b_heldSort, b_held, b_needed, es', ev', ln', upd b_base b (nI h), upd b_floor b (nI t), upd b_begun h (b_body w), upd b_stage h 0, upd b_last h 1, b_valueSort, b_value)) : wpY_call post (g_made, g_functions, nI b, nI h, nI (t + 2), nI sc, 0, g_how, g_givenSort, g_given, b_ek, b_ex, b_ey, b_ez, b_ew, b_outside, b_globalSort, b_global, b_body, b_heldSort, b_held, b_needed, b_envSort, b_env, b_length, b_base, b_floor, b_begun, b_stage, b_last, b_valueSort, b_value) 0 := by
  have hin : vp_in (nI b) 13 := vp_in_nI hb (by omega)
  refine yc_81 ht hs (by omega) (Or.inl ⟨rfl, hb⟩) (br_f (fun q => absurd ((nI_eq (b := 200) (by omega) (by omega)).mp q) (by omega)) (br_t rfl (nm_r (nI_1 sc) (nm_r (xs_s2 t) (br_t rfl (And.intro hin (nm_r (e' := upd b_base b (nI h)) (by rw [nI_clamp (by omega)]) (And.intro hin (nm_r (e' := upd b_floor b (nI t)) (by rw [nI_clamp (by omega)]) (nm_r (nI_1 b) (And.intro (by rw [nI_pred]; exact hin) (nm_r (e' := upd b_length b 0) (by rw [nI_pred, nI_clamp (by omega)]) ⟨7, ?_⟩))))))))))))
  rw [hv]
  exact h212 _ hp
theorem yc_last {b w sc h0 t0 : Nat} {es' ev' ln' : Nat → Int32} (ht : t + 2 ≤ 420) (hs : b_valueSort t = 3) (hv : b_value t = nI w) (hb : b < 13) (hsc : sc < 200) (hba : b_base b = nI h0) (hfl : b_floor b = nI t0)
    (h212 : ∀ post' : SY → Prop, post' (g_made, g_functions, nI (b + 1), nI (h0 + 1), nI t0, nI (sc + 1), 0, g_how, g_givenSort, g_given, b_ek, b_ex, b_ey, b_ez, b_ew, b_outside, b_globalSort, b_global, b_body, b_heldSort, b_held, b_needed, es', ev', ln', b_base, b_floor, upd b_begun h0 (b_body w), upd b_stage h0 0, upd b_last h0 1, b_valueSort, b_value) → wY_call_212 post' (nI w) (b_valueSort (t + 1)) (b_value (t + 1)) 7 (nI 6 + (-1)) g_made g_functions (nI (b + 1)) (nI h0) (nI t0) (nI (sc + 1)) 0 g_how g_givenSort g_given b_ek b_ex b_ey b_ez b_ew b_outside b_globalSort b_global b_body b_heldSort b_held b_needed b_envSort b_env (upd b_length b 0) b_base b_floor b_begun b_stage b_last b_valueSort b_value)
    (hp : post (g_made, g_functions, nI (b + 1), nI (h0 + 1), nI t0, nI (sc + 1), 0, g_how, g_givenSort, g_given, b_ek, b_ex, b_ey, b_ez, b_ew, b_outside, b_globalSort, b_global, b_body, b_heldSort, b_held, b_needed, es', ev', ln', b_base, b_floor, upd b_begun h0 (b_body w), upd b_stage h0 0, upd b_last h0 1, b_valueSort, b_value)) : wpY_call post (g_made, g_functions, nI (b + 1), nI h, nI (t + 2), nI sc, 0, g_how, g_givenSort, g_given, b_ek, b_ex, b_ey, b_ez, b_ew, b_outside, b_globalSort, b_global, b_body, b_heldSort, b_held, b_needed, b_envSort, b_env, b_length, b_base, b_floor, b_begun, b_stage, b_last, b_valueSort, b_value) 1 := by
  have hin : vp_in (nI (b + 1) - 1) 13 := by rw [nI_pred]; exact vp_in_nI hb (by omega)
  refine yc_81 ht hs (by omega) (Or.inr (by decide)) (br_f (fun q => absurd ((nI_eq (b := 200) (by omega) (by omega)).mp q) (by omega)) (br_t rfl (nm_r (nI_1 sc) (nm_r (xs_s2 t) (br_f (by decide) (And.intro hin (nm_r (e' := nI h0) (by rw [nI_pred, nI_clamp (by omega)]; exact hba) (And.intro hin (nm_r (e' := nI t0) (by rw [nI_pred, nI_clamp (by omega)]; exact hfl) (And.intro hin (nm_r (e' := upd b_length b 0) (by rw [nI_pred, nI_clamp (by omega)]) ⟨7, ?_⟩)))))))))))
  rw [hv]
  exact h212 _ hp
end
end
section
/-! the run as seen by both: bodies at work, each with its values and LETs (E, the top first), its begun expressions (Ks), its function -/
abbrev mc_E := Bool × Int64 × Int32 × Int32
abbrev mc_F := Nat × Nat × Bool
abbrev mc_Fn := Option (Nat × Nat × Nat × Int64 × Int32 × Int32)
abbrev mc_Bd := List mc_E × List mc_F × mc_Fn × Nat
def mc_nv : List mc_E → Nat
  | [] => 0
  | (true, _) :: E => mc_nv E
  | (false, _) :: E => mc_nv E + 1
def mc_L : List mc_E → List Nat
  | [] => []
  | (true, _) :: E => (2 + E.length) :: mc_L E
  | (false, _) :: E => mc_L E
def mc_XS (st : Nat → Int64) (b : Nat) : List mc_E → Prop
  | [] => True
  | (_, x, _, _) :: E => st (b + E.length) = x ∧ mc_XS st b E
def mc_VS (vs vv : Nat → Int32) (b : Nat) : List mc_E → Prop
  | [] => True
  | (true, _) :: E => mc_VS vs vv b E
  | (false, _, s, v) :: E => (vs (b + mc_nv E) = s ∧ vv (b + mc_nv E) = v) ∧ mc_VS vs vv b E
def mc_ES (es ev : Nat → Int32) (b : Nat) : List mc_E → Prop
  | [] => True
  | (true, _, s, v) :: E => (es (b + (mc_L E).length) = s ∧ ev (b + (mc_L E).length) = v) ∧ mc_ES es ev b E
  | (false, _) :: E => mc_ES es ev b E
def mc_KS (bg sg la : Nat → Int32) (b : Nat) : List mc_F → Prop
  | [] => True
  | (e, s, l) :: Ks => (bg (b + Ks.length) = nI e ∧ sg (b + Ks.length) = nI s ∧ la (b + Ks.length) = (if l = true then 1 else 0)) ∧ mc_KS bg sg la b Ks
def mc_xt : List mc_Bd → Nat
  | [] => 0
  | (E, _, _, _) :: r => mc_xt r + 2 + E.length
def mc_vt : List mc_Bd → Nat
  | [] => 0
  | (E, _, _, _) :: r => mc_vt r + mc_nv E
def mc_hi : List mc_Bd → Nat
  | [] => 0
  | (_, Ks, _, _) :: r => mc_hi r + Ks.length
def mc_m8 : mc_Fn → Nat
  | none => 0
  | some _ => 8
def mc_hm (M : Nat → Int32) : mc_Fn → Option Nat
  | none => none
  | some (_, _, e, _) => some (tb_c M e)
def mc_FM (st : Nat → Int64) (es ev : Nat → Int32) (fr b : Nat) : mc_Fn → Prop
  | none => st fr = 0 ∧ st (fr + 1) = 0
  | some (o, w, _, ax, as, av) => (st fr = vl_ob o ∧ st (fr + 1) = ax) ∧ (es (24 * b + 6) = 3 ∧ ev (24 * b + 6) = nI w) ∧ (es (24 * b + 7) = as ∧ ev (24 * b + 7) = av)
def mc_M1 (st : Nat → Int64) (vs vv es ev ln bs fl bg sg la : Nat → Int32) (fr vt hi b : Nat) (E : List mc_E) (Ks : List mc_F) (fn : mc_Fn) : Prop :=
  mc_XS st (fr + 2) E ∧ mc_VS vs vv vt E ∧ mc_ES es ev (24 * b + mc_m8 fn) E ∧ (ln b = nI (mc_m8 fn + (mc_L E).length) ∧ (mc_L E).length ≤ 16) ∧ mc_KS bg sg la hi Ks ∧ (bs b = nI hi ∧ fl b = nI vt) ∧ mc_FM st es ev fr b fn
def mc_M (st : Nat → Int64) (vs vv es ev ln bs fl bg sg la : Nat → Int32) : List mc_Bd → Prop
  | [] => True
  | (E, Ks, fn, _) :: r => mc_M1 st vs vv es ev ln bs fl bg sg la (mc_xt r) (mc_vt r) (mc_hi r) r.length E Ks fn ∧ mc_M st vs vv es ev ln bs fl bg sg la r
def mc_VF (P : Nat → Nat → Nat → Prop) (M : Nat → Int32) (cs : Nat → Int64) (es ev : Nat → Int32) (b : Nat) : mc_Fn → Prop
  | none => True
  | some (o, w, e, ax, as, av) => P o w (e + 1) ∧ hp_V P ax as av ∧ hp_F P (tb_c M e) cs o (fun i => es (24 * b + 5 - i)) (fun i => ev (24 * b + 5 - i))
def mc_V1 (P : Nat → Nat → Nat → Prop) (M : Nat → Int32) (cs : Nat → Int64) (es ev : Nat → Int32) (b : Nat) (E : List mc_E) (fn : mc_Fn) : Prop :=
  (∀ x, x ∈ E → hp_V P x.2.1 x.2.2.1 x.2.2.2) ∧ mc_VF P M cs es ev b fn
def mc_Vl (P : Nat → Nat → Nat → Prop) (M : Nat → Int32) (cs : Nat → Int64) (es ev : Nat → Int32) : List mc_Bd → Prop
  | [] => True
  | (E, _, fn, _) :: r => mc_V1 P M cs es ev r.length E fn ∧ mc_Vl P M cs es ev r
theorem mc_nvL : ∀ E : List mc_E, mc_nv E + (mc_L E).length = E.length
  | [] => rfl
  | (true, _) :: E => by have := mc_nvL E; simp only [mc_nv, mc_L, List.length_cons]; omega
  | (false, _) :: E => by have := mc_nvL E; simp only [mc_nv, mc_L, List.length_cons]; omega
theorem mc_L_lt : ∀ (E : List mc_E) (a : Nat), a ∈ mc_L E → a < 2 + E.length
  | [], a, h => by simp [mc_L] at h
  | (true, _) :: E, a, h => by
    simp only [mc_L, List.mem_cons] at h
    rw [List.length_cons]
    rcases h with h | h
    · omega
    · have := mc_L_lt E a h; omega
  | (false, _) :: E, a, h => by
    have := mc_L_lt E a h
    rw [List.length_cons]; omega
theorem mc_XS_cg {st st' : Nat → Int64} {b : Nat} : ∀ E : List mc_E, (∀ j, j < b + E.length → st' j = st j) → mc_XS st b E → mc_XS st' b E
  | [], _, _ => trivial
  | (_, x, _, _) :: E, h, g => ⟨(h _ (by rw [List.length_cons]; omega)).trans g.1, mc_XS_cg E (fun j hj => h j (by rw [List.length_cons]; omega)) g.2⟩
theorem mc_VS_cg {vs vv vs' vv' : Nat → Int32} {b : Nat} : ∀ E : List mc_E, (∀ j, j < b + mc_nv E → vs' j = vs j ∧ vv' j = vv j) → mc_VS vs vv b E → mc_VS vs' vv' b E
  | [], _, _ => trivial
  | (true, _) :: E, h, g => mc_VS_cg E h g
  | (false, _, s, v) :: E, h, g => by
    simp only [mc_nv] at h
    exact ⟨⟨(h _ (by omega)).1.trans g.1.1, (h _ (by omega)).2.trans g.1.2⟩, mc_VS_cg E (fun j hj => h j (by omega)) g.2⟩
theorem mc_ES_cg {es ev es' ev' : Nat → Int32} {b : Nat} : ∀ E : List mc_E, (∀ j, j < b + (mc_L E).length → es' j = es j ∧ ev' j = ev j) → mc_ES es ev b E → mc_ES es' ev' b E
  | [], _, _ => trivial
  | (false, _) :: E, h, g => mc_ES_cg E h g
  | (true, _, s, v) :: E, h, g => by
    simp only [mc_L, List.length_cons] at h
    exact ⟨⟨(h _ (by omega)).1.trans g.1.1, (h _ (by omega)).2.trans g.1.2⟩, mc_ES_cg E (fun j hj => h j (by omega)) g.2⟩
theorem mc_KS_cg {bg sg la bg' sg' la' : Nat → Int32} {b : Nat} : ∀ Ks : List mc_F, (∀ j, j < b + Ks.length → bg' j = bg j ∧ sg' j = sg j ∧ la' j = la j) → mc_KS bg sg la b Ks → mc_KS bg' sg' la' b Ks
  | [], _, _ => trivial
  | (e, s, l) :: Ks, h, g => by
    simp only [List.length_cons] at h
    have := h (b + Ks.length) (by omega)
    exact ⟨⟨this.1.trans g.1.1, this.2.1.trans g.1.2.1, this.2.2.trans g.1.2.2⟩, mc_KS_cg Ks (fun j hj => h j (by omega)) g.2⟩
section
variable {st st' : Nat → Int64} {vs vv es ev ln bs fl bg sg la vs' vv' es' ev' ln' bs' fl' bg' sg' la' : Nat → Int32}
theorem mc_FM_cg {fr b : Nat} : ∀ fn : mc_Fn, (st' fr = st fr ∧ st' (fr + 1) = st (fr + 1)) → (∀ j, 24 * b ≤ j → j < 24 * b + mc_m8 fn → es' j = es j ∧ ev' j = ev j) → mc_FM st es ev fr b fn → mc_FM st' es' ev' fr b fn
  | none, h1, _, g => ⟨h1.1.trans g.1, h1.2.trans g.2⟩
  | some (o, w, e, ax, as, av), h1, h2, g => by
    simp only [mc_m8] at h2
    obtain ⟨⟨g1, g2⟩, ⟨g3, g4⟩, g5, g6⟩ := g
    exact ⟨⟨h1.1.trans g1, h1.2.trans g2⟩, ⟨(h2 _ (by omega) (by omega)).1.trans g3, (h2 _ (by omega) (by omega)).2.trans g4⟩, (h2 _ (by omega) (by omega)).1.trans g5, (h2 _ (by omega) (by omega)).2.trans g6⟩
theorem mc_m8_le (fn : mc_Fn) : mc_m8 fn ≤ 8 := by cases fn <;> simp [mc_m8]
theorem mc_M_cg : ∀ r : List mc_Bd, (∀ j, j < mc_xt r → st' j = st j) → (∀ j, j < mc_vt r → vs' j = vs j ∧ vv' j = vv j) → (∀ j, j < 24 * r.length → es' j = es j ∧ ev' j = ev j) → (∀ j, j < r.length → ln' j = ln j ∧ bs' j = bs j ∧ fl' j = fl j) → (∀ j, j < mc_hi r → bg' j = bg j ∧ sg' j = sg j ∧ la' j = la j) →
    mc_M st vs vv es ev ln bs fl bg sg la r → mc_M st' vs' vv' es' ev' ln' bs' fl' bg' sg' la' r
  | [], _, _, _, _, _, _ => trivial
  | (E, Ks, fn, p) :: r, h1, h2, h3, h4, h5, ⟨⟨g1, g2, g3, ⟨g4, g4'⟩, g5, ⟨g6, g6'⟩, g7⟩, g8⟩ => by
    simp only [mc_xt] at h1
    simp only [mc_vt] at h2
    simp only [mc_hi] at h5
    simp only [List.length_cons] at h3 h4
    have m8 := mc_m8_le fn
    refine ⟨⟨mc_XS_cg E (fun j hj => h1 j (by omega)) g1, mc_VS_cg E (fun j hj => h2 j (by omega)) g2, mc_ES_cg E (fun j hj => h3 j (by omega)) g3, ⟨(h4 _ (by omega)).1.trans g4, g4'⟩, mc_KS_cg Ks (fun j hj => h5 j (by omega)) g5, ⟨(h4 _ (by omega)).2.1.trans g6, (h4 _ (by omega)).2.2.trans g6'⟩, mc_FM_cg fn ⟨h1 _ (by omega), h1 _ (by omega)⟩ (fun j a b => h3 j (by omega)) g7⟩, mc_M_cg r (fun j hj => h1 j (by omega)) (fun j hj => h2 j (by omega)) (fun j hj => h3 j (by omega)) (fun j hj => h4 j (by omega)) (fun j hj => h5 j (by omega)) g8⟩
variable {P P' : Nat → Nat → Nat → Prop} {M : Nat → Int32} {cs cs' : Nat → Int64}
theorem mc_VF_cg {b : Nat} : ∀ fn : mc_Fn, (∀ j, 24 * b ≤ j → j < 24 * b + mc_m8 fn → es' j = es j ∧ ev' j = ev j) → mc_VF P M cs es ev b fn → mc_VF P M cs es' ev' b fn
  | none, _, _ => trivial
  | some (o, w, e, ax, as, av), h, ⟨g1, g2, g3⟩ => by
    simp only [mc_m8] at h
    refine ⟨g1, g2, fun i hi => ⟨fun q => ?_, fun q => ?_⟩⟩
    · show hp_V P _ (es' (24 * b + 5 - i)) (ev' (24 * b + 5 - i))
      rw [(h _ (by omega) (by omega)).1, (h _ (by omega) (by omega)).2]
      exact (g3 i hi).1 q
    · show es' (24 * b + 5 - i) = 0
      rw [(h _ (by omega) (by omega)).1]
      exact (g3 i hi).2 q
theorem mc_Vl_cg : ∀ r : List mc_Bd, (∀ j, j < 24 * r.length → es' j = es j ∧ ev' j = ev j) → mc_Vl P M cs es ev r → mc_Vl P M cs es' ev' r
  | [], _, _ => trivial
  | (E, Ks, fn, p) :: r, h, ⟨⟨g1, g2⟩, g3⟩ => by
    simp only [List.length_cons] at h
    have m8 := mc_m8_le fn
    exact ⟨⟨g1, mc_VF_cg fn (fun j a b => h j (by omega)) g2⟩, mc_Vl_cg r (fun j hj => h j (by omega)) g3⟩
/-- the memory changes: values that are kept stay related, functions keep what they hold -/
theorem mc_VF_mem {b : Nat} (hV : ∀ x s v, hp_V P x s v → hp_V P' x s v) (hP : ∀ o w t, P o w t → P' o w t) (hcs : ∀ o w e, P o w (e + 1) → ∀ k, k < 8 → cs' (8 * o + k) = cs (8 * o + k)) : ∀ fn : mc_Fn, mc_VF P M cs es ev b fn → mc_VF P' M cs' es ev b fn
  | none, _ => trivial
  | some (o, w, e, ax, as, av), ⟨g1, g2, g3⟩ => ⟨hP _ _ _ g1, hV _ _ _ g2, fun i hi => ⟨fun q => by
      have := hp_rk_le (tb_c M e) i
      rw [hcs o w e g1 _ (by omega)]
      exact hV _ _ _ ((g3 i hi).1 q), (g3 i hi).2⟩⟩
theorem mc_Vl_mem (hV : ∀ x s v, hp_V P x s v → hp_V P' x s v) (hP : ∀ o w t, P o w t → P' o w t) (hcs : ∀ o w e, P o w (e + 1) → ∀ k, k < 8 → cs' (8 * o + k) = cs (8 * o + k)) : ∀ r : List mc_Bd, mc_Vl P M cs es ev r → mc_Vl P' M cs' es ev r
  | [], _ => trivial
  | (E, Ks, fn, p) :: r, ⟨⟨g1, g2⟩, g3⟩ => ⟨⟨fun x hx => hV _ _ _ (g1 x hx), mc_VF_mem hV hP hcs fn g2⟩, mc_Vl_mem hV hP hcs r g3⟩
end
/-! what is still to be done: Ks begun expressions, a value just worked out on the top of h places, the code goes on at q -/
def mc_Bu (W : Nat → Int32) (e : Nat) (L : List Nat) (h k : Nat) : Prop := h + tb_c W e ≤ 32 ∧ k + tb_c W e ≤ 30 ∧ 2 * L.length + tb_c W e ≤ 30
def mc_K (n : Nat) (K X Y Z W M KN KV FO OP OD : Nat → Int32) (hm : Option Nat) : List mc_F → List Nat → Nat → Nat → Prop
  | [] => fun L h q => q < 1560 ∧ OP q = 25 ∧ L = [] ∧ h = 3
  | (e, s, l) :: Ks => fun L h q => q < 1560 ∧ e < n ∧ KN e = 0 ∧ (
    (cp_two (K e) ∧ s = 1 ∧ mc_Bu W (tb_c Y e) L h (Ks.length + 1) ∧ ∃ p2, (∃ D, cp_C K X Y Z M KN KV FO hm OP OD D (tb_c Y e) false L h q p2) ∧ cp_I K X OP OD e l p2 ∧ mc_K n K X Y Z W M KN KV FO OP OD hm Ks L h (p2 + 1)) ∨
    (cp_two (K e) ∧ s = 2 ∧ cp_I K X OP OD e l q ∧ (∀ a, a ∈ L → a < h - 2) ∧ mc_K n K X Y Z W M KN KV FO OP OD hm Ks L (h - 1) (q + 1)) ∨
    ((K e = 10 ∨ K e = 11 ∨ K e = 18) ∧ s = 1 ∧ cp_I K X OP OD e l q ∧ mc_K n K X Y Z W M KN KV FO OP OD hm Ks L h (q + 1)) ∨
    (K e = 8 ∧ s = 1 ∧ mc_Bu W (tb_c Y e) L (h - 1) (Ks.length + 1) ∧ mc_Bu W (tb_c Z e) L (h - 1) (Ks.length + 1) ∧ ∃ p2 q2, OP q = 19 ∧ OD q = nI (p2 + 1) ∧ (∃ D, cp_C K X Y Z M KN KV FO hm OP OD D (tb_c Y e) l L (h - 1) (q + 1) p2) ∧ OP p2 = 14 ∧ OD p2 = nI q2 ∧ (∃ D, cp_C K X Y Z M KN KV FO hm OP OD D (tb_c Z e) l L (h - 1) (p2 + 1) q2) ∧ mc_K n K X Y Z W M KN KV FO OP OD hm Ks L h q2) ∨
    (K e = 8 ∧ s = 2 ∧ ∃ q2, (q = q2 ∨ (OP q = 14 ∧ OD q = nI q2)) ∧ mc_K n K X Y Z W M KN KV FO OP OD hm Ks L h q2) ∨
    (K e = 14 ∧ s = 1 ∧ mc_Bu W (tb_c Y e) ((h - 1) :: L) h (Ks.length + 1) ∧ ∃ p2, (∃ D, cp_C K X Y Z M KN KV FO hm OP OD D (tb_c Y e) l ((h - 1) :: L) h q p2) ∧ OP p2 = 21 ∧ mc_K n K X Y Z W M KN KV FO OP OD hm Ks L h (p2 + 1)) ∨
    (K e = 14 ∧ s = 2 ∧ ∃ L', L = (h - 2) :: L' ∧ OP q = 21 ∧ mc_K n K X Y Z W M KN KV FO OP OD hm Ks L' (h - 1) (q + 1)) ∨
    (K e = 19 ∧ s = 1 ∧ mc_Bu W (tb_c Y e) L (h - 1) (Ks.length + 1) ∧ OP q = 20 ∧ ∃ p2, (∃ D, cp_C K X Y Z M KN KV FO hm OP OD D (tb_c Y e) l L (h - 1) (q + 1) p2) ∧ mc_K n K X Y Z W M KN KV FO OP OD hm Ks L h p2) ∨
    (K e = 19 ∧ s = 2 ∧ mc_K n K X Y Z W M KN KV FO OP OD hm Ks L h q))
theorem mc_K_q {n : Nat} {K X Y Z W M KN KV FO OP OD : Nat → Int32} {hm : Option Nat} : ∀ (Ks : List mc_F) (L : List Nat) (h q : Nat), mc_K n K X Y Z W M KN KV FO OP OD hm Ks L h q → q < 1560
  | [], _, _, _, g => g.1
  | (_, _, _) :: _, _, _, _, g => g.1
/-- what the reference may still need: turns -/
def mc_pk (K X Y W : Nat → Int32) : mc_F → Nat
  | (e, 0, _) => 3 * tb_c W e
  | (e, 1, _) => 3 * tb_c W e - 3 * tb_c W (if tb_hx (tb_c K e) = true then tb_c X e else tb_c Y e) - 1
  | (_, _ + 2, _) => 1
def mc_pp (K X Y W : Nat → Int32) : List mc_F → Nat
  | [] => 0
  | f :: Ks => mc_pk K X Y W f + mc_pp K X Y W Ks
def mc_pb (K X Y W : Nat → Int32) : List mc_Bd → Nat
  | [] => 0
  | (_, Ks, _, _) :: r => mc_pp K X Y W Ks + 1 + mc_pb K X Y W r
/-- bodies that wait for a call's value -/
def mc_C (n : Nat) (K X Y Z W M KN KV FO OP OD oF oA : Nat → Int32) : List mc_Bd → Prop
  | [] => True
  | (E, Ks, fn, p) :: r => (oF r.length = nI (mc_xt r) ∧ oA r.length = nI p) ∧ mc_K n K X Y Z W M KN KV FO OP OD (mc_hm M fn) Ks (mc_L E) (3 + E.length) p ∧ (E.length ≤ 29 ∧ Ks.length ≤ 30) ∧ mc_C n K X Y Z W M KN KV FO OP OD oF oA r
theorem mc_C_cg {n : Nat} {K X Y Z W M KN KV FO OP OD oF oA oF' oA' : Nat → Int32} : ∀ r : List mc_Bd, (∀ j, j < r.length → oF' j = oF j ∧ oA' j = oA j) → mc_C n K X Y Z W M KN KV FO OP OD oF oA r → mc_C n K X Y Z W M KN KV FO OP OD oF' oA' r
  | [], _, _ => trivial
  | (E, Ks, fn, p) :: r, h, ⟨⟨g1, g2⟩, g3, g4, g5⟩ => by
    simp only [List.length_cons] at h
    exact ⟨⟨(h _ (by omega)).1.trans g1, (h _ (by omega)).2.trans g2⟩, g3, g4, mc_C_cg r (fun j hj => h j (by omega)) g5⟩
theorem mc_C_b {n : Nat} {K X Y Z W M KN KV FO OP OD oF oA : Nat → Int32} : ∀ r : List mc_Bd, mc_C n K X Y Z W M KN KV FO OP OD oF oA r → mc_xt r ≤ 31 * r.length ∧ mc_vt r ≤ 29 * r.length ∧ mc_hi r ≤ 30 * r.length
  | [], _ => by simp [mc_xt, mc_vt, mc_hi]
  | (E, Ks, fn, p) :: r, ⟨_, _, ⟨g4, g4'⟩, g5⟩ => by
    have := mc_C_b r g5
    have := mc_nvL E
    simp only [mc_xt, mc_vt, mc_hi, List.length_cons]
    omega
end
section
/-! runs of both, and the relation during a run -/
def mc_WX (post : Int32 → SX → Prop) (N : Nat) (x : Int32) (u : SX) : Prop := match u with
  | (f_expressionCount, f_functionCount, f_codeEnd, f_depth, f_letCount, f_height, f_heldNames, f_usedCount, f_marks, f_marking, f_waitCount, f_top, f_frame, f_at, f_openCount, f_stepCount, f_resultSort, f_resultNumber, f_levelNow, a_kindOf, a_partX, a_partY, a_partZ, a_weightOf, a_needOf, a_names, a_known, a_knownNumber, a_functionOf, a_op, a_operand, a_workNode, a_workPhase, a_workLast, a_workPatch, a_letPlace, a_isUsed, a_functionAt, a_heldCount, a_cells, a_waiting, a_globals, a_stack, a_openFrame, a_openAt) => wX_run_85 post N x f_expressionCount f_functionCount f_codeEnd f_depth f_letCount f_height f_heldNames f_usedCount f_marks f_marking f_waitCount f_top f_frame f_at f_openCount f_stepCount f_resultSort f_resultNumber f_levelNow a_kindOf a_partX a_partY a_partZ a_weightOf a_needOf a_names a_known a_knownNumber a_functionOf a_op a_operand a_workNode a_workPhase a_workLast a_workPatch a_letPlace a_isUsed a_functionAt a_heldCount a_cells a_waiting a_globals a_stack a_openFrame a_openAt
def mc_RX (u : SX) (r : Int32) (u' : SX) : Prop := ∀ post : Int32 → SX → Prop, post r u' → ∃ N, mc_WX post N (-1) u
def mc_t0 (u : SX) : SX := match u with
  | (f_expressionCount, f_functionCount, f_codeEnd, f_depth, f_letCount, f_height, f_heldNames, f_usedCount, f_marks, f_marking, f_waitCount, f_top, f_frame, f_at, f_openCount, f_stepCount, f_resultSort, f_resultNumber, f_levelNow, a_kindOf, a_partX, a_partY, a_partZ, a_weightOf, a_needOf, a_names, a_known, a_knownNumber, a_functionOf, a_op, a_operand, a_workNode, a_workPhase, a_workLast, a_workPatch, a_letPlace, a_isUsed, a_functionAt, a_heldCount, a_cells, a_waiting, a_globals, a_stack, a_openFrame, a_openAt) => (f_expressionCount, f_functionCount, f_codeEnd, f_depth, f_letCount, f_height, f_heldNames, f_usedCount, f_marks, f_marking, f_waitCount, 0, f_frame, f_at, f_openCount, f_stepCount, f_resultSort, f_resultNumber, f_levelNow, a_kindOf, a_partX, a_partY, a_partZ, a_weightOf, a_needOf, a_names, a_known, a_knownNumber, a_functionOf, a_op, a_operand, a_workNode, a_workPhase, a_workLast, a_workPatch, a_letPlace, a_isUsed, a_functionAt, a_heldCount, a_cells, a_waiting, a_globals, a_stack, a_openFrame, a_openAt)
theorem mc_X1 {u u1 : SX} (hs : ∀ post : Int32 → SX → Prop, post (-1) u1 → wpX_step post u) : ∀ r u', mc_RX u1 r u' → mc_RX u r u' := by
  intro r u' h post hp
  obtain ⟨N, hN⟩ := h post hp
  match u, u1, hs, hN with
  | (f_expressionCount, f_functionCount, f_codeEnd, f_depth, f_letCount, f_height, f_heldNames, f_usedCount, f_marks, f_marking, f_waitCount, f_top, f_frame, f_at, f_openCount, f_stepCount, f_resultSort, f_resultNumber, f_levelNow, a_kindOf, a_partX, a_partY, a_partZ, a_weightOf, a_needOf, a_names, a_known, a_knownNumber, a_functionOf, a_op, a_operand, a_workNode, a_workPhase, a_workLast, a_workPatch, a_letPlace, a_isUsed, a_functionAt, a_heldCount, a_cells, a_waiting, a_globals, a_stack, a_openFrame, a_openAt), (f_expressionCount', f_functionCount', f_codeEnd', f_depth', f_letCount', f_height', f_heldNames', f_usedCount', f_marks', f_marking', f_waitCount', f_top', f_frame', f_at', f_openCount', f_stepCount', f_resultSort', f_resultNumber', f_levelNow', a_kindOf', a_partX', a_partY', a_partZ', a_weightOf', a_needOf', a_names', a_known', a_knownNumber', a_functionOf', a_op', a_operand', a_workNode', a_workPhase', a_workLast', a_workPatch', a_letPlace', a_isUsed', a_functionAt', a_heldCount', a_cells', a_waiting', a_globals', a_stack', a_openFrame', a_openAt'), hs, hN => exact ⟨N + 1, br_t rfl (hs _ hN)⟩
theorem mc_XE {u u1 : SX} {r : Int32} (hr : ¬ r = -1) (hs : ∀ post : Int32 → SX → Prop, post r u1 → wpX_step post u) : mc_RX u r (mc_t0 u1) := by
  intro post hp
  match u, u1, hs, hp with
  | (f_expressionCount, f_functionCount, f_codeEnd, f_depth, f_letCount, f_height, f_heldNames, f_usedCount, f_marks, f_marking, f_waitCount, f_top, f_frame, f_at, f_openCount, f_stepCount, f_resultSort, f_resultNumber, f_levelNow, a_kindOf, a_partX, a_partY, a_partZ, a_weightOf, a_needOf, a_names, a_known, a_knownNumber, a_functionOf, a_op, a_operand, a_workNode, a_workPhase, a_workLast, a_workPatch, a_letPlace, a_isUsed, a_functionAt, a_heldCount, a_cells, a_waiting, a_globals, a_stack, a_openFrame, a_openAt), (f_expressionCount', f_functionCount', f_codeEnd', f_depth', f_letCount', f_height', f_heldNames', f_usedCount', f_marks', f_marking', f_waitCount', f_top', f_frame', f_at', f_openCount', f_stepCount', f_resultSort', f_resultNumber', f_levelNow', a_kindOf', a_partX', a_partY', a_partZ', a_weightOf', a_needOf', a_names', a_known', a_knownNumber', a_functionOf', a_op', a_operand', a_workNode', a_workPhase', a_workLast', a_workPatch', a_letPlace', a_isUsed', a_functionAt', a_heldCount', a_cells', a_waiting', a_globals', a_stack', a_openFrame', a_openAt'), hs, hp => exact ⟨2, br_t rfl (hs _ (br_f hr hp))⟩
def mc_WY (post : Int32 → SY → Prop) (N : Nat) (x : Int32) (v : SY) : Prop := match v with
  | (g_made, g_functions, g_bodies, g_high, g_top, g_steps, g_over, g_how, g_givenSort, g_given, b_ek, b_ex, b_ey, b_ez, b_ew, b_outside, b_globalSort, b_global, b_body, b_heldSort, b_held, b_needed, b_envSort, b_env, b_length, b_base, b_floor, b_begun, b_stage, b_last, b_valueSort, b_value) => wY_run_83 post N x g_made g_functions g_bodies g_high g_top g_steps g_over g_how g_givenSort g_given b_ek b_ex b_ey b_ez b_ew b_outside b_globalSort b_global b_body b_heldSort b_held b_needed b_envSort b_env b_length b_base b_floor b_begun b_stage b_last b_valueSort b_value
def mc_RY (k : Nat) (v : SY) (r : Int32) (v' : SY) : Prop := ∀ post : Int32 → SY → Prop, post r v' → ∃ N, mc_WY post N (nI k) v
section
variable {g_made g_functions g_bodies g_high g_top g_steps g_over g_how g_givenSort g_given : Int32} {b_ek b_ex b_ey b_ez b_ew b_outside b_globalSort b_global b_body b_heldSort b_held b_needed b_envSort b_env b_length b_base b_floor b_begun b_stage b_last b_valueSort b_value : Nat → Int32}
theorem mc_Y1 {b h0 m : Nat} {v1 : SY} (hb : b < 13) (hba : b_base b = nI h0) (hm : h0 + m < 10000) (hs : ∀ post : SY → Prop, post v1 → wpY_step post (g_made, g_functions, nI (b + 1), nI (h0 + (m + 1)), g_top, g_steps, 0, g_how, g_givenSort, g_given, b_ek, b_ex, b_ey, b_ez, b_ew, b_outside, b_globalSort, b_global, b_body, b_heldSort, b_held, b_needed, b_envSort, b_env, b_length, b_base, b_floor, b_begun, b_stage, b_last, b_valueSort, b_value)) :
    ∀ k, k + 1 ≤ 30000 → ∀ r v', mc_RY (k + 1) v1 r v' → mc_RY k (g_made, g_functions, nI (b + 1), nI (h0 + (m + 1)), g_top, g_steps, 0, g_how, g_givenSort, g_given, b_ek, b_ex, b_ey, b_ez, b_ew, b_outside, b_globalSort, b_global, b_body, b_heldSort, b_held, b_needed, b_envSort, b_env, b_length, b_base, b_floor, b_begun, b_stage, b_last, b_valueSort, b_value) r v' := by
  intro k hk r v' h post hp
  obtain ⟨N, hN⟩ := h post hp
  match v1, hs, hN with
  | (g_made', g_functions', g_bodies', g_high', g_top', g_steps', g_over', g_how', g_givenSort', g_given', b_ek', b_ex', b_ey', b_ez', b_ew', b_outside', b_globalSort', b_global', b_body', b_heldSort', b_held', b_needed', b_envSort', b_env', b_length', b_base', b_floor', b_begun', b_stage', b_last', b_valueSort', b_value'), hs, hN =>
    refine ⟨N + 1, br_f (nI_ge (b := 30000) (by omega) (by omega)) (br_t rfl (And.intro (by rw [nI_pred]; exact vp_in_nI hb (by omega)) (br_f ?_ (hs _ (nm_r (nI_1 k) hN)))))⟩
    rw [nI_pred, nI_clamp (by omega), hba]
    exact fun q => absurd ((nI_eq (by omega) (by omega)).mp q) (by omega)
theorem mc_Y0 {b h0 : Nat} {v1 : SY} (hb : b < 13) (hba : b_base b = nI h0) (hs : ∀ post : SY → Prop, post v1 → wpY_end post (g_made, g_functions, nI (b + 1), nI h0, g_top, g_steps, 0, g_how, g_givenSort, g_given, b_ek, b_ex, b_ey, b_ez, b_ew, b_outside, b_globalSort, b_global, b_body, b_heldSort, b_held, b_needed, b_envSort, b_env, b_length, b_base, b_floor, b_begun, b_stage, b_last, b_valueSort, b_value)) :
    ∀ k, k + 1 ≤ 30000 → ∀ r v', mc_RY (k + 1) v1 r v' → mc_RY k (g_made, g_functions, nI (b + 1), nI h0, g_top, g_steps, 0, g_how, g_givenSort, g_given, b_ek, b_ex, b_ey, b_ez, b_ew, b_outside, b_globalSort, b_global, b_body, b_heldSort, b_held, b_needed, b_envSort, b_env, b_length, b_base, b_floor, b_begun, b_stage, b_last, b_valueSort, b_value) r v' := by
  intro k hk r v' h post hp
  obtain ⟨N, hN⟩ := h post hp
  match v1, hs, hN with
  | (g_made', g_functions', g_bodies', g_high', g_top', g_steps', g_over', g_how', g_givenSort', g_given', b_ek', b_ex', b_ey', b_ez', b_ew', b_outside', b_globalSort', b_global', b_body', b_heldSort', b_held', b_needed', b_envSort', b_env', b_length', b_base', b_floor', b_begun', b_stage', b_last', b_valueSort', b_value'), hs, hN =>
    refine ⟨N + 1, br_f (nI_ge (b := 30000) (by omega) (by omega)) (br_t rfl (And.intro (by rw [nI_pred]; exact vp_in_nI hb (by omega)) (br_t ?_ (hs _ (nm_r (nI_1 k) hN)))))⟩
    rw [nI_pred, nI_clamp (by omega), hba]
theorem mc_YE : ∀ k, k ≤ 30000 → mc_RY k (g_made, g_functions, g_bodies, g_high, g_top, g_steps, 1, g_how, g_givenSort, g_given, b_ek, b_ex, b_ey, b_ez, b_ew, b_outside, b_globalSort, b_global, b_body, b_heldSort, b_held, b_needed, b_envSort, b_env, b_length, b_base, b_floor, b_begun, b_stage, b_last, b_valueSort, b_value) g_how (g_made, g_functions, 0, g_high, 0, g_steps, 1, g_how, g_givenSort, g_given, b_ek, b_ex, b_ey, b_ez, b_ew, b_outside, b_globalSort, b_global, b_body, b_heldSort, b_held, b_needed, b_envSort, b_env, b_length, b_base, b_floor, b_begun, b_stage, b_last, b_valueSort, b_value) := by
  intro k hk post hp
  by_cases c : 30000 ≤ k
  · exact ⟨1, br_t (nI_le (a := 30000) c (by omega)) hp⟩
  · exact ⟨1, br_f (nI_ge (b := 30000) (by omega) (by omega)) (br_f (by decide) hp)⟩
end
def mc_now (n : Nat) (K X Y Z W M KN KV FO OP OD : Nat → Int32) (hm : Option Nat) (E : List mc_E) (Ks : List mc_F) (p : Nat) : Prop :=
  (∃ e l K' q, Ks = (e, 0, l) :: K' ∧ e < n ∧ (∃ D, cp_C K X Y Z M KN KV FO hm OP OD D e l (mc_L E) (2 + E.length) p q) ∧ mc_K n K X Y Z W M KN KV FO OP OD hm K' (mc_L E) (3 + E.length) q ∧ mc_Bu W e (mc_L E) (2 + E.length) K'.length) ∨
  (∃ x s v E', E = (false, x, s, v) :: E' ∧ mc_K n K X Y Z W M KN KV FO OP OD hm Ks (mc_L E) (2 + E.length) p)
def mc_G (n : Nat) (K X Y Z W M KN KV FO OP OD : Nat → Int32) (P : Nat → Nat → Nat → Prop) (cs st : Nat → Int64) (oF oA es ev ln bs fl bg sg la vs vv : Nat → Int32) (E : List mc_E) (Ks : List mc_F) (fn : mc_Fn) (p : Nat) (r : List mc_Bd) (sc Φ : Nat) : Prop :=
  mc_M st vs vv es ev ln bs fl bg sg la ((E, Ks, fn, p) :: r) ∧ mc_Vl P M cs es ev ((E, Ks, fn, p) :: r) ∧ mc_C n K X Y Z W M KN KV FO OP OD oF oA r ∧ mc_now n K X Y Z W M KN KV FO OP OD (mc_hm M fn) E Ks p ∧
  (sc ≤ 200 ∧ r.length ≤ 12 ∧ E.length ≤ 30 ∧ Ks.length ≤ 30) ∧ (200 - sc) * 91 + (mc_pp K X Y W Ks + 1) + mc_pb K X Y W r = Φ
def mc_S (Φ : Nat) (u : SX) (v : SY) : Prop := match u, v with
  | (f_expressionCount, f_functionCount, f_codeEnd, f_depth, f_letCount, f_height, f_heldNames, f_usedCount, f_marks, f_marking, f_waitCount, f_top, f_frame, f_at, f_openCount, f_stepCount, f_resultSort, f_resultNumber, f_levelNow, a_kindOf, a_partX, a_partY, a_partZ, a_weightOf, a_needOf, a_names, a_known, a_knownNumber, a_functionOf, a_op, a_operand, a_workNode, a_workPhase, a_workLast, a_workPatch, a_letPlace, a_isUsed, a_functionAt, a_heldCount, a_cells, a_waiting, a_globals, a_stack, a_openFrame, a_openAt), (g_made, g_functions, g_bodies, g_high, g_top, g_steps, g_over, g_how, g_givenSort, g_given, b_ek, b_ex, b_ey, b_ez, b_ew, b_outside, b_globalSort, b_global, b_body, b_heldSort, b_held, b_needed, b_envSort, b_env, b_length, b_base, b_floor, b_begun, b_stage, b_last, b_valueSort, b_value) => b_ek = a_kindOf ∧ b_ex = a_partX ∧ b_ew = a_weightOf ∧ b_outside = a_names ∧ f_resultSort = 0 ∧ f_resultNumber = 0 ∧ g_over = 0 ∧ g_givenSort = 0 ∧ g_given = 0 ∧
    ∃ (n fc : Nat) (P : Nat → Nat → Nat → Prop) (E : List mc_E) (Ks : List mc_F) (fn : mc_Fn) (p : Nat) (r : List mc_Bd) (sc : Nat), f_expressionCount = nI n ∧ g_made = nI n ∧ f_functionCount = nI fc ∧ g_functions = nI fc ∧ f_stepCount = nI sc ∧ g_steps = nI sc ∧
      f_top = nI (mc_xt r + 2 + E.length) ∧ f_frame = nI (mc_xt r) ∧ f_at = nI p ∧ f_openCount = nI r.length ∧ g_bodies = nI (r.length + 1) ∧ g_high = nI (mc_hi r + Ks.length) ∧ g_top = nI (mc_vt r + mc_nv E) ∧ rl_St n fc a_kindOf a_partX b_ey b_ez a_weightOf a_names a_partY a_partZ a_needOf a_known a_knownNumber a_functionOf a_op a_operand ∧ rl_Hp n a_kindOf a_partX a_names a_functionOf P f_usedCount f_marks f_marking f_waitCount a_isUsed a_functionAt a_heldCount a_cells a_waiting a_globals b_body b_heldSort b_held b_globalSort b_global ∧ mc_G n a_kindOf a_partX b_ey b_ez a_weightOf a_names a_known a_knownNumber a_functionOf a_op a_operand P a_cells a_stack a_openFrame a_openAt b_envSort b_env b_length b_base b_floor b_begun b_stage b_last b_valueSort b_value E Ks fn p r sc Φ
theorem mc_in {Φ : Nat} : ∀ {f_codeEnd f_depth f_letCount f_height f_heldNames f_usedCount f_marking f_waitCount f_levelNow : Int32} {f_marks : Int64} {a_kindOf a_partX a_partY a_partZ a_weightOf a_needOf a_names a_known a_knownNumber a_functionOf a_op a_operand a_workNode a_workPhase a_workLast a_workPatch a_letPlace a_isUsed a_functionAt a_heldCount a_waiting a_openFrame a_openAt : Nat → Int32} {a_cells a_globals a_stack : Nat → Int64}, ∀ {g_how : Int32} {b_ey b_ez b_globalSort b_global b_body b_heldSort b_held b_needed b_envSort b_env b_length b_base b_floor b_begun b_stage b_last b_valueSort b_value : Nat → Int32} {n fc : Nat} {P : Nat → Nat → Nat → Prop} {E : List mc_E} {Ks : List mc_F} {fn : mc_Fn} {p : Nat} {r : List mc_Bd} {sc : Nat} (_ : rl_St n fc a_kindOf a_partX b_ey b_ez a_weightOf a_names a_partY a_partZ a_needOf a_known a_knownNumber a_functionOf a_op a_operand) (_ : rl_Hp n a_kindOf a_partX a_names a_functionOf P f_usedCount f_marks f_marking f_waitCount a_isUsed a_functionAt a_heldCount a_cells a_waiting a_globals b_body b_heldSort b_held b_globalSort b_global) (_ : mc_G n a_kindOf a_partX b_ey b_ez a_weightOf a_names a_known a_knownNumber a_functionOf a_op a_operand P a_cells a_stack a_openFrame a_openAt b_envSort b_env b_length b_base b_floor b_begun b_stage b_last b_valueSort b_value E Ks fn p r sc Φ), mc_S Φ (nI n, nI fc, f_codeEnd, f_depth, f_letCount, f_height, f_heldNames, f_usedCount, f_marks, f_marking, f_waitCount, nI (mc_xt r + 2 + E.length), nI (mc_xt r), nI p, nI r.length, nI sc, 0, 0, f_levelNow, a_kindOf, a_partX, a_partY, a_partZ, a_weightOf, a_needOf, a_names, a_known, a_knownNumber, a_functionOf, a_op, a_operand, a_workNode, a_workPhase, a_workLast, a_workPatch, a_letPlace, a_isUsed, a_functionAt, a_heldCount, a_cells, a_waiting, a_globals, a_stack, a_openFrame, a_openAt) (nI n, nI fc, nI (r.length + 1), nI (mc_hi r + Ks.length), nI (mc_vt r + mc_nv E), nI sc, 0, g_how, 0, 0, a_kindOf, a_partX, b_ey, b_ez, a_weightOf, a_names, b_globalSort, b_global, b_body, b_heldSort, b_held, b_needed, b_envSort, b_env, b_length, b_base, b_floor, b_begun, b_stage, b_last, b_valueSort, b_value) := by
  intros
  rename_i h1 h2 h3
  exact ⟨rfl, rfl, rfl, rfl, rfl, rfl, rfl, rfl, rfl, _, _, _, _, _, _, _, _, _, rfl, rfl, rfl, rfl, rfl, rfl, rfl, rfl, rfl, rfl, rfl, rfl, rfl, h1, h2, h3⟩
theorem mc_el {Φ : Nat} {Q : SX → SY → Prop} (H : ∀ {f_codeEnd f_depth f_letCount f_height f_heldNames f_usedCount f_marking f_waitCount f_levelNow : Int32} {f_marks : Int64} {a_kindOf a_partX a_partY a_partZ a_weightOf a_needOf a_names a_known a_knownNumber a_functionOf a_op a_operand a_workNode a_workPhase a_workLast a_workPatch a_letPlace a_isUsed a_functionAt a_heldCount a_waiting a_openFrame a_openAt : Nat → Int32} {a_cells a_globals a_stack : Nat → Int64}, ∀ {g_how : Int32} {b_ey b_ez b_globalSort b_global b_body b_heldSort b_held b_needed b_envSort b_env b_length b_base b_floor b_begun b_stage b_last b_valueSort b_value : Nat → Int32} {n fc : Nat} {P : Nat → Nat → Nat → Prop} {E : List mc_E} {Ks : List mc_F} {fn : mc_Fn} {p : Nat} {r : List mc_Bd} {sc : Nat} (_ : rl_St n fc a_kindOf a_partX b_ey b_ez a_weightOf a_names a_partY a_partZ a_needOf a_known a_knownNumber a_functionOf a_op a_operand) (_ : rl_Hp n a_kindOf a_partX a_names a_functionOf P f_usedCount f_marks f_marking f_waitCount a_isUsed a_functionAt a_heldCount a_cells a_waiting a_globals b_body b_heldSort b_held b_globalSort b_global) (_ : mc_G n a_kindOf a_partX b_ey b_ez a_weightOf a_names a_known a_knownNumber a_functionOf a_op a_operand P a_cells a_stack a_openFrame a_openAt b_envSort b_env b_length b_base b_floor b_begun b_stage b_last b_valueSort b_value E Ks fn p r sc Φ), Q (nI n, nI fc, f_codeEnd, f_depth, f_letCount, f_height, f_heldNames, f_usedCount, f_marks, f_marking, f_waitCount, nI (mc_xt r + 2 + E.length), nI (mc_xt r), nI p, nI r.length, nI sc, 0, 0, f_levelNow, a_kindOf, a_partX, a_partY, a_partZ, a_weightOf, a_needOf, a_names, a_known, a_knownNumber, a_functionOf, a_op, a_operand, a_workNode, a_workPhase, a_workLast, a_workPatch, a_letPlace, a_isUsed, a_functionAt, a_heldCount, a_cells, a_waiting, a_globals, a_stack, a_openFrame, a_openAt) (nI n, nI fc, nI (r.length + 1), nI (mc_hi r + Ks.length), nI (mc_vt r + mc_nv E), nI sc, 0, g_how, 0, 0, a_kindOf, a_partX, b_ey, b_ez, a_weightOf, a_names, b_globalSort, b_global, b_body, b_heldSort, b_held, b_needed, b_envSort, b_env, b_length, b_base, b_floor, b_begun, b_stage, b_last, b_valueSort, b_value)) : ∀ {u : SX} {v : SY}, mc_S Φ u v → Q u v := by
  intro u v I
  match u, v, I with
  | (f_expressionCount, f_functionCount, f_codeEnd, f_depth, f_letCount, f_height, f_heldNames, f_usedCount, f_marks, f_marking, f_waitCount, f_top, f_frame, f_at, f_openCount, f_stepCount, f_resultSort, f_resultNumber, f_levelNow, a_kindOf, a_partX, a_partY, a_partZ, a_weightOf, a_needOf, a_names, a_known, a_knownNumber, a_functionOf, a_op, a_operand, a_workNode, a_workPhase, a_workLast, a_workPatch, a_letPlace, a_isUsed, a_functionAt, a_heldCount, a_cells, a_waiting, a_globals, a_stack, a_openFrame, a_openAt), (g_made, g_functions, g_bodies, g_high, g_top, g_steps, g_over, g_how, g_givenSort, g_given, b_ek, b_ex, b_ey, b_ez, b_ew, b_outside, b_globalSort, b_global, b_body, b_heldSort, b_held, b_needed, b_envSort, b_env, b_length, b_base, b_floor, b_begun, b_stage, b_last, b_valueSort, b_value), I =>
    obtain ⟨e1, e2, e3, e4, e5, e6, e7, e8, e9, n, fc, P, E, Ks, fn, p, r, sc, e11, e12, e13, e14, e15, e16, e17, e18, e19, e20, e21, e22, e23, h1, h2, h3⟩ := I
    subst e1 e2 e3 e4 e5 e6 e7 e8 e9 e11 e12 e13 e14 e15 e16 e17 e18 e19 e20 e21 e22 e23
    exact H h1 h2 h3
def mc_Res (Φ : Nat) (u : SX) (v : SY) : Prop :=
  (∃ u1 v1 Φ1 j, mc_S Φ1 u1 v1 ∧ 1 ≤ j ∧ Φ1 + j ≤ Φ ∧ (∀ r u', mc_RX u1 r u' → mc_RX u r u') ∧ (∀ k, k + j ≤ 30000 → ∀ r v', mc_RY (k + j) v1 r v' → mc_RY k v r v')) ∨
  (∃ r u1 v1, i_Rel 0 u1 v1 ∧ mc_RX u r u1 ∧ ∀ k, k + 1 ≤ 30000 → mc_RY k v r v1)
/-- if each related pair goes on or ends alike, all runs end alike -/
theorem mc_main (H : ∀ Φ u v, mc_S Φ u v → mc_Res Φ u v) : ∀ Φ u v, mc_S Φ u v → ∀ k, k + Φ ≤ 30000 → 1 ≤ Φ → ∃ r u' v', mc_RX u r u' ∧ mc_RY k v r v' ∧ i_Rel 0 u' v' := by
  intro Φ
  induction Φ using Nat.strongRecOn with
  | ind Φ ih =>
    intro u v hS k hk h1
    rcases H Φ u v hS with ⟨u1, v1, Φ1, j, hS1, hj, hΦ, hX, hY⟩ | ⟨r, u1, v1, hR, hX, hY⟩
    · by_cases z : 1 ≤ Φ1
      · obtain ⟨r, u', v', a, b, c⟩ := ih Φ1 (by omega) u1 v1 hS1 (k + j) (by omega) z
        exact ⟨r, u', v', hX _ _ a, hY k (by omega) _ _ b, c⟩
      · exfalso
        apply z
        refine mc_el (Φ := Φ1) (Q := fun _ _ => 1 ≤ Φ1) ?_ hS1
        intros
        rename_i h1 h2 h3
        have := h3.2.2.2.2.2
        omega
    · exact ⟨r, u1, v1, hX, hY k (by omega), hR⟩
end
section
/-! the simulation: parts that are begun -/

theorem mc_pk1 {K X Y W : Nat → Int32} {e c : Nat} {l l' : Bool} (hc : (if tb_hx (tb_c K e) = true then tb_c X e else tb_c Y e) = c) (hw : tb_c W c < tb_c W e) (Ks : List mc_F) : mc_pp K X Y W ((c, 0, l') :: (e, 1, l) :: Ks) + 1 = mc_pp K X Y W ((e, 0, l) :: Ks) := by
  simp only [mc_pp, mc_pk, hc]
  omega
/-- a node's first part is begun -/
theorem sm_start : ∀ {f_codeEnd f_depth f_letCount f_height f_heldNames f_usedCount f_marking f_waitCount f_levelNow : Int32} {f_marks : Int64} {a_kindOf a_partX a_partY a_partZ a_weightOf a_needOf a_names a_known a_knownNumber a_functionOf a_op a_operand a_workNode a_workPhase a_workLast a_workPatch a_letPlace a_isUsed a_functionAt a_heldCount a_waiting a_openFrame a_openAt : Nat → Int32} {a_cells a_globals a_stack : Nat → Int64}, ∀ {g_how : Int32} {b_ey b_ez b_globalSort b_global b_body b_heldSort b_held b_needed b_envSort b_env b_length b_base b_floor b_begun b_stage b_last b_valueSort b_value : Nat → Int32} {n fc : Nat} {P : Nat → Nat → Nat → Prop} {E : List mc_E} {Ks : List mc_F} {fn : mc_Fn} {p : Nat} {r : List mc_Bd} {sc Φ : Nat} {e c k p1 : Nat} {l : Bool} {K' : List mc_F} (_ : rl_St n fc a_kindOf a_partX b_ey b_ez a_weightOf a_names a_partY a_partZ a_needOf a_known a_knownNumber a_functionOf a_op a_operand) (_ : rl_Hp n a_kindOf a_partX a_names a_functionOf P f_usedCount f_marks f_marking f_waitCount a_isUsed a_functionAt a_heldCount a_cells a_waiting a_globals b_body b_heldSort b_held b_globalSort b_global) (_ : mc_G n a_kindOf a_partX b_ey b_ez a_weightOf a_names a_known a_knownNumber a_functionOf a_op a_operand P a_cells a_stack a_openFrame a_openAt b_envSort b_env b_length b_base b_floor b_begun b_stage b_last b_valueSort b_value E Ks fn p r sc Φ) (_ : Ks = (e, 0, l) :: K') (_ : e < n) (_ : a_kindOf e = nI k) (_ : k ≤ 19) (_ : ¬ k = 15) (_ : tb_hx k = true ∨ tb_hy k = true) (_ : (if tb_hx k = true then a_partX e else b_ey e) = nI c) (_ : (if tb_hx (tb_c a_kindOf e) = true then tb_c a_partX e else tb_c b_ey e) = c)
    (_ : c < n) (_ : tb_c a_weightOf c < tb_c a_weightOf e) (_ : ∃ D, cp_C a_kindOf a_partX b_ey b_ez a_names a_known a_knownNumber a_functionOf (mc_hm a_names fn) a_op a_operand D c false (mc_L E) (2 + E.length) p p1) (_ : mc_K n a_kindOf a_partX b_ey b_ez a_weightOf a_names a_known a_knownNumber a_functionOf a_op a_operand (mc_hm a_names fn) ((e, 1, l) :: K') (mc_L E) (3 + E.length) p1) (_ : mc_Bu a_weightOf c (mc_L E) (2 + E.length) (K'.length + 1)), mc_Res Φ (nI n, nI fc, f_codeEnd, f_depth, f_letCount, f_height, f_heldNames, f_usedCount, f_marks, f_marking, f_waitCount, nI (mc_xt r + 2 + E.length), nI (mc_xt r), nI p, nI r.length, nI sc, 0, 0, f_levelNow, a_kindOf, a_partX, a_partY, a_partZ, a_weightOf, a_needOf, a_names, a_known, a_knownNumber, a_functionOf, a_op, a_operand, a_workNode, a_workPhase, a_workLast, a_workPatch, a_letPlace, a_isUsed, a_functionAt, a_heldCount, a_cells, a_waiting, a_globals, a_stack, a_openFrame, a_openAt) (nI n, nI fc, nI (r.length + 1), nI (mc_hi r + Ks.length), nI (mc_vt r + mc_nv E), nI sc, 0, g_how, 0, 0, a_kindOf, a_partX, b_ey, b_ez, a_weightOf, a_names, b_globalSort, b_global, b_body, b_heldSort, b_held, b_needed, b_envSort, b_env, b_length, b_base, b_floor, b_begun, b_stage, b_last, b_valueSort, b_value) := by
  intro f_codeEnd f_depth f_letCount f_height f_heldNames f_usedCount f_marking f_waitCount f_levelNow f_marks a_kindOf a_partX a_partY a_partZ a_weightOf a_needOf a_names a_known a_knownNumber a_functionOf a_op a_operand a_workNode a_workPhase a_workLast a_workPatch a_letPlace a_isUsed a_functionAt a_heldCount a_waiting a_openFrame a_openAt a_cells a_globals a_stack g_how b_ey b_ez b_globalSort b_global b_body b_heldSort b_held b_needed b_envSort b_env b_length b_base b_floor b_begun b_stage b_last b_valueSort b_value n fc P E Ks fn p r sc Φ e c k p1 l K' h1 h2 h3 hKs hen hk hk19 h15 hxy hch hci hcn hwlt hcode hcont hbu
  subst hKs
  obtain ⟨⟨⟨g1, g2, g3, ⟨g4, g4'⟩, g5, ⟨g6, g6'⟩, g7⟩, g8⟩, ⟨⟨v1, v2⟩, v3⟩, hC, hnow, ⟨b1, b2, b3, b4⟩, hΦ⟩ := h3
  have hn := h1.1
  have bnd := mc_C_b r hC
  simp only [List.length_cons] at b4
  refine Or.inl ⟨(nI n, nI fc, f_codeEnd, f_depth, f_letCount, f_height, f_heldNames, f_usedCount, f_marks, f_marking, f_waitCount, nI (mc_xt r + 2 + E.length), nI (mc_xt r), nI p, nI r.length, nI sc, 0, 0, f_levelNow, a_kindOf, a_partX, a_partY, a_partZ, a_weightOf, a_needOf, a_names, a_known, a_knownNumber, a_functionOf, a_op, a_operand, a_workNode, a_workPhase, a_workLast, a_workPatch, a_letPlace, a_isUsed, a_functionAt, a_heldCount, a_cells, a_waiting, a_globals, a_stack, a_openFrame, a_openAt), (nI n, nI fc, nI (r.length + 1), nI (mc_hi r + ((c, 0, false) :: (e, 1, l) :: K').length), nI (mc_vt r + mc_nv E), nI sc, 0, g_how, 0, 0, a_kindOf, a_partX, b_ey, b_ez, a_weightOf, a_names, b_globalSort, b_global, b_body, b_heldSort, b_held, b_needed, b_envSort, b_env, b_length, b_base, b_floor, upd b_begun (mc_hi r + K'.length + 1) (nI c), upd (upd b_stage (mc_hi r + K'.length) (nI 1)) (mc_hi r + K'.length + 1) 0, upd b_last (mc_hi r + K'.length + 1) 0, b_valueSort, b_value), Φ - 1, 1, mc_in (Ks := (c, 0, false) :: (e, 1, l) :: K') (fn := fn) (r := r) (p := p) h1 h2 ?_, Nat.le_refl _, by omega, fun _ _ h => h, mc_Y1 (by omega) g6 (by omega) (fun post hp => ?_)⟩
  · refine ⟨⟨⟨g1, g2, g3, ⟨g4, g4'⟩, ⟨⟨pk_us, pk_us, pk_us⟩, ⟨?_, ?_, ?_⟩, mc_KS_cg K' (fun j hj => ⟨pk_un (by omega), by rw [pk_un (by omega), pk_un (by omega)], pk_un (by omega)⟩) g5.2⟩, ⟨g6, g6'⟩, g7⟩, mc_M_cg r (fun j hj => rfl) (fun j hj => ⟨rfl, rfl⟩) (fun j hj => ⟨rfl, rfl⟩) (fun j hj => ⟨rfl, rfl, rfl⟩) (fun j hj => ⟨pk_un (by omega), by rw [pk_un (by omega), pk_un (by omega)], pk_un (by omega)⟩) g8⟩, ⟨⟨v1, v2⟩, v3⟩, hC, Or.inl ⟨c, false, (e, 1, l) :: K', p1, rfl, hcn, hcode, hcont, hbu⟩, ⟨b1, b2, b3, ?_⟩, ?_⟩
    · rw [pk_un (by omega)]; exact g5.1.1
    · rw [pk_un (by omega), pk_us]
    · rw [pk_un (by omega)]; exact g5.1.2.2
    · have := hbu.2.1
      have := tb_N_w (h1.2.2.1 c hcn).1
      simp only [List.length_cons]
      omega
    · have := mc_pk1 (l := l) (l' := false) hci hwlt K'
      omega
  · refine ys_head (h := mc_hi r + K'.length) (by omega) g5.1.1 (by omega) hk hk19 g5.1.2.1 (ys_0 (by omega) hk19 h15 hxy ?_)
    rw [hch]
    exact ys_start (h := mc_hi r + K'.length + 1) (by omega) (Or.inl rfl) hp
end
section
/-! the simulation: control -/

theorem tb_two_f {n fc : Nat} {K X Y Z W M PY PZ KN KV FO : Nat → Int32} {e : Nat} (hT : tb_T n fc K X Y Z W M PY PZ KN KV FO) (he : e < n) (hx : tb_hx (tb_c K e) = true) (hy : tb_hy (tb_c K e) = true) :
    X e = nI (tb_c X e) ∧ tb_c X e < e ∧ Y e = nI (tb_c Y e) ∧ tb_c Y e < e ∧ tb_c W e = 1 + tb_c W (tb_c X e) + tb_c W (tb_c Y e) + (if tb_c K e = 8 then tb_c W (tb_c Z e) else 0) ∧ 1 ≤ tb_c W (tb_c X e) ∧ 1 ≤ tb_c W (tb_c Y e) ∧ tb_c W e ≤ 30 ∧ (∃ k, K e = nI k ∧ k ≤ 19 ∧ tb_c K e = k) := by
  obtain ⟨hN, _⟩ := hT e he
  obtain ⟨⟨hk, hk19⟩, h2, h3, _, _, _, ⟨hW, hW30, hWe⟩, _⟩ := hN
  obtain ⟨x1, x2⟩ := h2 hx
  obtain ⟨y1, y2⟩ := h3 hy
  unfold tb_w at hWe
  rw [if_pos hx, if_pos hy] at hWe
  exact ⟨x1, x2, y1, y2, hWe, tb_N_w (hT _ (by omega)).1, tb_N_w (hT _ (by omega)).1, hW30, _, hk, hk19, rfl⟩
theorem mc_pk2 {K X Y W : Nat → Int32} {e y : Nat} {l l' : Bool} (hx : tb_hx (tb_c K e) = true) (hw : 1 + tb_c W (tb_c X e) + tb_c W y ≤ tb_c W e) (Ks : List mc_F) : mc_pp K X Y W ((y, 0, l') :: (e, 2, l) :: Ks) + 1 ≤ mc_pp K X Y W ((e, 1, l) :: Ks) := by
  simp only [mc_pp, mc_pk, hx, if_true]
  omega
/-- the second part of a node is begun -/
theorem sm_two1 : ∀ {f_codeEnd f_depth f_letCount f_height f_heldNames f_usedCount f_marking f_waitCount f_levelNow : Int32} {f_marks : Int64} {a_kindOf a_partX a_partY a_partZ a_weightOf a_needOf a_names a_known a_knownNumber a_functionOf a_op a_operand a_workNode a_workPhase a_workLast a_workPatch a_letPlace a_isUsed a_functionAt a_heldCount a_waiting a_openFrame a_openAt : Nat → Int32} {a_cells a_globals a_stack : Nat → Int64}, ∀ {g_how : Int32} {b_ey b_ez b_globalSort b_global b_body b_heldSort b_held b_needed b_envSort b_env b_length b_base b_floor b_begun b_stage b_last b_valueSort b_value : Nat → Int32} {n fc : Nat} {P : Nat → Nat → Nat → Prop} {E : List mc_E} {Ks : List mc_F} {fn : mc_Fn} {p : Nat} {r : List mc_Bd} {sc Φ : Nat} {e p2 : Nat} {l : Bool} {K' : List mc_F} {x : Int64} {s v : Int32} {E' : List mc_E} (_ : rl_St n fc a_kindOf a_partX b_ey b_ez a_weightOf a_names a_partY a_partZ a_needOf a_known a_knownNumber a_functionOf a_op a_operand) (_ : rl_Hp n a_kindOf a_partX a_names a_functionOf P f_usedCount f_marks f_marking f_waitCount a_isUsed a_functionAt a_heldCount a_cells a_waiting a_globals b_body b_heldSort b_held b_globalSort b_global) (_ : mc_G n a_kindOf a_partX b_ey b_ez a_weightOf a_names a_known a_knownNumber a_functionOf a_op a_operand P a_cells a_stack a_openFrame a_openAt b_envSort b_env b_length b_base b_floor b_begun b_stage b_last b_valueSort b_value E Ks fn p r sc Φ) (_ : Ks = (e, 1, l) :: K') (_ : E = (false, x, s, v) :: E') (_ : e < n) (_ : a_known e = 0) (_ : cp_two (a_kindOf e)) (_ : mc_Bu a_weightOf (tb_c b_ey e) (mc_L E) (2 + E.length) (K'.length + 1))
    (_ : ∃ D, cp_C a_kindOf a_partX b_ey b_ez a_names a_known a_knownNumber a_functionOf (mc_hm a_names fn) a_op a_operand D (tb_c b_ey e) false (mc_L E) (2 + E.length) p p2) (_ : cp_I a_kindOf a_partX a_op a_operand e l p2) (_ : mc_K n a_kindOf a_partX b_ey b_ez a_weightOf a_names a_known a_knownNumber a_functionOf a_op a_operand (mc_hm a_names fn) K' (mc_L E) (2 + E.length) (p2 + 1)), mc_Res Φ (nI n, nI fc, f_codeEnd, f_depth, f_letCount, f_height, f_heldNames, f_usedCount, f_marks, f_marking, f_waitCount, nI (mc_xt r + 2 + E.length), nI (mc_xt r), nI p, nI r.length, nI sc, 0, 0, f_levelNow, a_kindOf, a_partX, a_partY, a_partZ, a_weightOf, a_needOf, a_names, a_known, a_knownNumber, a_functionOf, a_op, a_operand, a_workNode, a_workPhase, a_workLast, a_workPatch, a_letPlace, a_isUsed, a_functionAt, a_heldCount, a_cells, a_waiting, a_globals, a_stack, a_openFrame, a_openAt) (nI n, nI fc, nI (r.length + 1), nI (mc_hi r + Ks.length), nI (mc_vt r + mc_nv E), nI sc, 0, g_how, 0, 0, a_kindOf, a_partX, b_ey, b_ez, a_weightOf, a_names, b_globalSort, b_global, b_body, b_heldSort, b_held, b_needed, b_envSort, b_env, b_length, b_base, b_floor, b_begun, b_stage, b_last, b_valueSort, b_value) := by
  intro f_codeEnd f_depth f_letCount f_height f_heldNames f_usedCount f_marking f_waitCount f_levelNow f_marks a_kindOf a_partX a_partY a_partZ a_weightOf a_needOf a_names a_known a_knownNumber a_functionOf a_op a_operand a_workNode a_workPhase a_workLast a_workPatch a_letPlace a_isUsed a_functionAt a_heldCount a_waiting a_openFrame a_openAt a_cells a_globals a_stack g_how b_ey b_ez b_globalSort b_global b_body b_heldSort b_held b_needed b_envSort b_env b_length b_base b_floor b_begun b_stage b_last b_valueSort b_value n fc P E Ks fn p r sc Φ e p2 l K' x s v E' h1 h2 h3 hKs hE hen hkn hk2 hbu hcode hI hcont
  subst hKs
  obtain ⟨⟨⟨g1, g2, g3, ⟨g4, g4'⟩, g5, ⟨g6, g6'⟩, g7⟩, g8⟩, ⟨⟨v1, v2⟩, v3⟩, hC, hnow, ⟨b1, b2, b3, b4⟩, hΦ⟩ := h3
  have hn := h1.1
  have bnd := mc_C_b r hC
  simp only [List.length_cons] at b4
  obtain ⟨a1, a2, a3, a4, a5, a6⟩ := tb_two_k hk2
  obtain ⟨x1, x2, y1, y2, hW, wx, wy, w30, k, hk, hk19, hck⟩ := tb_two_f h1.2.2.1 hen a1 a2
  rw [hck] at a1 a2 a3 a4 a5
  have hq := mc_K_q _ _ _ _ hcont
  have b19 : ¬ k = 19 := fun q => by
    subst q
    rcases hk2 with q | q | q | q | q | q | q | q | q <;> (rw [hk] at q; exact absurd q (by decide))
  refine Or.inl ⟨(nI n, nI fc, f_codeEnd, f_depth, f_letCount, f_height, f_heldNames, f_usedCount, f_marks, f_marking, f_waitCount, nI (mc_xt r + 2 + E.length), nI (mc_xt r), nI p, nI r.length, nI sc, 0, 0, f_levelNow, a_kindOf, a_partX, a_partY, a_partZ, a_weightOf, a_needOf, a_names, a_known, a_knownNumber, a_functionOf, a_op, a_operand, a_workNode, a_workPhase, a_workLast, a_workPatch, a_letPlace, a_isUsed, a_functionAt, a_heldCount, a_cells, a_waiting, a_globals, a_stack, a_openFrame, a_openAt), (nI n, nI fc, nI (r.length + 1), nI (mc_hi r + ((tb_c b_ey e, 0, false) :: (e, 2, l) :: K').length), nI (mc_vt r + mc_nv E), nI sc, 0, g_how, 0, 0, a_kindOf, a_partX, b_ey, b_ez, a_weightOf, a_names, b_globalSort, b_global, b_body, b_heldSort, b_held, b_needed, b_envSort, b_env, b_length, b_base, b_floor, upd b_begun (mc_hi r + K'.length + 1) (nI (tb_c b_ey e)), upd (upd b_stage (mc_hi r + K'.length) (nI 2)) (mc_hi r + K'.length + 1) 0, upd b_last (mc_hi r + K'.length + 1) 0, b_valueSort, b_value), _, 1, mc_in (Ks := (tb_c b_ey e, 0, false) :: (e, 2, l) :: K') (fn := fn) (r := r) (p := p) h1 h2 ⟨?_, ⟨⟨v1, v2⟩, v3⟩, hC, Or.inl ⟨tb_c b_ey e, false, (e, 2, l) :: K', p2, rfl, by omega, hcode, ⟨by omega, hen, hkn, Or.inr (Or.inl ⟨hk2, rfl, hI, fun a ha => ?_, ?_⟩)⟩, hbu⟩, ⟨b1, b2, b3, ?_⟩, rfl⟩, Nat.le_refl _, ?_, fun _ _ h => h, mc_Y1 (by omega) g6 (by omega) (fun post hp => ?_)⟩
  · refine ⟨⟨g1, g2, g3, ⟨g4, g4'⟩, ⟨⟨pk_us, pk_us, pk_us⟩, ⟨?_, ?_, ?_⟩, mc_KS_cg K' (fun j hj => ⟨pk_un (by omega), by rw [pk_un (by omega), pk_un (by omega)], pk_un (by omega)⟩) g5.2⟩, ⟨g6, g6'⟩, g7⟩, mc_M_cg r (fun j hj => rfl) (fun j hj => ⟨rfl, rfl⟩) (fun j hj => ⟨rfl, rfl⟩) (fun j hj => ⟨rfl, rfl, rfl⟩) (fun j hj => ⟨pk_un (by omega), by rw [pk_un (by omega), pk_un (by omega)], pk_un (by omega)⟩) g8⟩
    · rw [pk_un (by omega)]; exact g5.1.1
    · rw [pk_un (by omega), pk_us]
    · rw [pk_un (by omega)]; exact g5.1.2.2
  · have := mc_L_lt E' a (by rw [hE] at ha; exact ha)
    rw [hE, List.length_cons]
    omega
  · rw [show 3 + E.length - 1 = 2 + E.length by omega]
    exact hcont
  · have := hbu.2.1
    simp only [List.length_cons]
    omega
  · have := mc_pk2 (Y := b_ey) (l := l) (l' := false) (K := a_kindOf) (X := a_partX) (W := a_weightOf) (e := e) (y := tb_c b_ey e) (by rw [hck]; exact a1) (by omega) K'
    omega
  · refine ys_head (h := mc_hi r + K'.length) (by omega) g5.1.1 (by omega) hk hk19 g5.1.2.1 ?_
    rw [if_neg (by omega)]
    refine ys_1 (by omega) hk19 a1 a2 ?_
    rw [y1]
    exact ys_start (h := mc_hi r + K'.length + 1) (by omega) (Or.inl rfl) hp
theorem mc_pk3 {K X Y W : Nat → Int32} {e : Nat} {l : Bool} (Ks : List mc_F) : mc_pp K X Y W Ks + 1 = mc_pp K X Y W ((e, 2, l) :: Ks) := by
  simp only [mc_pp, mc_pk]
  omega
/-- THEN is done -/
theorem sm_then2 : ∀ {f_codeEnd f_depth f_letCount f_height f_heldNames f_usedCount f_marking f_waitCount f_levelNow : Int32} {f_marks : Int64} {a_kindOf a_partX a_partY a_partZ a_weightOf a_needOf a_names a_known a_knownNumber a_functionOf a_op a_operand a_workNode a_workPhase a_workLast a_workPatch a_letPlace a_isUsed a_functionAt a_heldCount a_waiting a_openFrame a_openAt : Nat → Int32} {a_cells a_globals a_stack : Nat → Int64}, ∀ {g_how : Int32} {b_ey b_ez b_globalSort b_global b_body b_heldSort b_held b_needed b_envSort b_env b_length b_base b_floor b_begun b_stage b_last b_valueSort b_value : Nat → Int32} {n fc : Nat} {P : Nat → Nat → Nat → Prop} {E : List mc_E} {Ks : List mc_F} {fn : mc_Fn} {p : Nat} {r : List mc_Bd} {sc Φ : Nat} {e : Nat} {l : Bool} {K' : List mc_F} {x : Int64} {s v : Int32} {E' : List mc_E} (_ : rl_St n fc a_kindOf a_partX b_ey b_ez a_weightOf a_names a_partY a_partZ a_needOf a_known a_knownNumber a_functionOf a_op a_operand) (_ : rl_Hp n a_kindOf a_partX a_names a_functionOf P f_usedCount f_marks f_marking f_waitCount a_isUsed a_functionAt a_heldCount a_cells a_waiting a_globals b_body b_heldSort b_held b_globalSort b_global) (_ : mc_G n a_kindOf a_partX b_ey b_ez a_weightOf a_names a_known a_knownNumber a_functionOf a_op a_operand P a_cells a_stack a_openFrame a_openAt b_envSort b_env b_length b_base b_floor b_begun b_stage b_last b_valueSort b_value E Ks fn p r sc Φ) (_ : Ks = (e, 2, l) :: K') (_ : E = (false, x, s, v) :: E') (_ : e < n) (_ : a_kindOf e = 19) (_ : mc_K n a_kindOf a_partX b_ey b_ez a_weightOf a_names a_known a_knownNumber a_functionOf a_op a_operand (mc_hm a_names fn) K' (mc_L E) (2 + E.length) p), mc_Res Φ (nI n, nI fc, f_codeEnd, f_depth, f_letCount, f_height, f_heldNames, f_usedCount, f_marks, f_marking, f_waitCount, nI (mc_xt r + 2 + E.length), nI (mc_xt r), nI p, nI r.length, nI sc, 0, 0, f_levelNow, a_kindOf, a_partX, a_partY, a_partZ, a_weightOf, a_needOf, a_names, a_known, a_knownNumber, a_functionOf, a_op, a_operand, a_workNode, a_workPhase, a_workLast, a_workPatch, a_letPlace, a_isUsed, a_functionAt, a_heldCount, a_cells, a_waiting, a_globals, a_stack, a_openFrame, a_openAt) (nI n, nI fc, nI (r.length + 1), nI (mc_hi r + Ks.length), nI (mc_vt r + mc_nv E), nI sc, 0, g_how, 0, 0, a_kindOf, a_partX, b_ey, b_ez, a_weightOf, a_names, b_globalSort, b_global, b_body, b_heldSort, b_held, b_needed, b_envSort, b_env, b_length, b_base, b_floor, b_begun, b_stage, b_last, b_valueSort, b_value) := by
  intro f_codeEnd f_depth f_letCount f_height f_heldNames f_usedCount f_marking f_waitCount f_levelNow f_marks a_kindOf a_partX a_partY a_partZ a_weightOf a_needOf a_names a_known a_knownNumber a_functionOf a_op a_operand a_workNode a_workPhase a_workLast a_workPatch a_letPlace a_isUsed a_functionAt a_heldCount a_waiting a_openFrame a_openAt a_cells a_globals a_stack g_how b_ey b_ez b_globalSort b_global b_body b_heldSort b_held b_needed b_envSort b_env b_length b_base b_floor b_begun b_stage b_last b_valueSort b_value n fc P E Ks fn p r sc Φ e l K' x s v E' h1 h2 h3 hKs hE hen hk hcont
  subst hKs
  obtain ⟨⟨⟨g1, g2, g3, ⟨g4, g4'⟩, g5, ⟨g6, g6'⟩, g7⟩, g8⟩, ⟨⟨v1, v2⟩, v3⟩, hC, hnow, ⟨b1, b2, b3, b4⟩, hΦ⟩ := h3
  have hn := h1.1
  have bnd := mc_C_b r hC
  simp only [List.length_cons] at b4
  have hpk := mc_pk3 (K := a_kindOf) (X := a_partX) (Y := b_ey) (W := a_weightOf) (e := e) (l := l) K'
  refine Or.inl ⟨(nI n, nI fc, f_codeEnd, f_depth, f_letCount, f_height, f_heldNames, f_usedCount, f_marks, f_marking, f_waitCount, nI (mc_xt r + 2 + E.length), nI (mc_xt r), nI p, nI r.length, nI sc, 0, 0, f_levelNow, a_kindOf, a_partX, a_partY, a_partZ, a_weightOf, a_needOf, a_names, a_known, a_knownNumber, a_functionOf, a_op, a_operand, a_workNode, a_workPhase, a_workLast, a_workPatch, a_letPlace, a_isUsed, a_functionAt, a_heldCount, a_cells, a_waiting, a_globals, a_stack, a_openFrame, a_openAt), (nI n, nI fc, nI (r.length + 1), nI (mc_hi r + K'.length), nI (mc_vt r + mc_nv E), nI sc, 0, g_how, 0, 0, a_kindOf, a_partX, b_ey, b_ez, a_weightOf, a_names, b_globalSort, b_global, b_body, b_heldSort, b_held, b_needed, b_envSort, b_env, b_length, b_base, b_floor, b_begun, upd b_stage (mc_hi r + K'.length) (nI 3), b_last, b_valueSort, b_value), _, 1, mc_in (Ks := K') (fn := fn) (r := r) (p := p) h1 h2 ⟨?_, ⟨⟨v1, v2⟩, v3⟩, hC, Or.inr ⟨x, s, v, E', hE, hcont⟩, ⟨b1, b2, b3, by omega⟩, rfl⟩, Nat.le_refl _, by omega, fun _ _ h => h, mc_Y1 (by omega) g6 (by omega) (fun post hp => ?_)⟩
  · exact ⟨⟨g1, g2, g3, ⟨g4, g4'⟩, mc_KS_cg K' (fun j hj => ⟨rfl, pk_un (by omega), rfl⟩) g5.2, ⟨g6, g6'⟩, g7⟩, mc_M_cg r (fun j hj => rfl) (fun j hj => ⟨rfl, rfl⟩) (fun j hj => ⟨rfl, rfl⟩) (fun j hj => ⟨rfl, rfl, rfl⟩) (fun j hj => ⟨rfl, pk_un (by omega), rfl⟩) g8⟩
  · refine ys_head (k := 19) (h := mc_hi r + K'.length) (by omega) g5.1.1 (by omega) hk (by omega) g5.1.2.1 ?_
    rw [if_pos (by omega)]
    exact ys_c (by omega) (by omega) (by omega) (by omega) (yc_2 (h := mc_hi r + K'.length) (by omega) hk (by decide) hp)
/-- IF is done -/
theorem sm_if2 : ∀ {f_codeEnd f_depth f_letCount f_height f_heldNames f_usedCount f_marking f_waitCount f_levelNow : Int32} {f_marks : Int64} {a_kindOf a_partX a_partY a_partZ a_weightOf a_needOf a_names a_known a_knownNumber a_functionOf a_op a_operand a_workNode a_workPhase a_workLast a_workPatch a_letPlace a_isUsed a_functionAt a_heldCount a_waiting a_openFrame a_openAt : Nat → Int32} {a_cells a_globals a_stack : Nat → Int64}, ∀ {g_how : Int32} {b_ey b_ez b_globalSort b_global b_body b_heldSort b_held b_needed b_envSort b_env b_length b_base b_floor b_begun b_stage b_last b_valueSort b_value : Nat → Int32} {n fc : Nat} {P : Nat → Nat → Nat → Prop} {E : List mc_E} {Ks : List mc_F} {fn : mc_Fn} {p : Nat} {r : List mc_Bd} {sc Φ : Nat} {e q2 : Nat} {l : Bool} {K' : List mc_F} {x : Int64} {s v : Int32} {E' : List mc_E} (_ : rl_St n fc a_kindOf a_partX b_ey b_ez a_weightOf a_names a_partY a_partZ a_needOf a_known a_knownNumber a_functionOf a_op a_operand) (_ : rl_Hp n a_kindOf a_partX a_names a_functionOf P f_usedCount f_marks f_marking f_waitCount a_isUsed a_functionAt a_heldCount a_cells a_waiting a_globals b_body b_heldSort b_held b_globalSort b_global) (_ : mc_G n a_kindOf a_partX b_ey b_ez a_weightOf a_names a_known a_knownNumber a_functionOf a_op a_operand P a_cells a_stack a_openFrame a_openAt b_envSort b_env b_length b_base b_floor b_begun b_stage b_last b_valueSort b_value E Ks fn p r sc Φ) (_ : Ks = (e, 2, l) :: K') (_ : E = (false, x, s, v) :: E') (_ : e < n) (_ : a_kindOf e = 8) (_ : p < 1560) (_ : p = q2 ∨ (a_op p = 14 ∧ a_operand p = nI q2)) (_ : mc_K n a_kindOf a_partX b_ey b_ez a_weightOf a_names a_known a_knownNumber a_functionOf a_op a_operand (mc_hm a_names fn) K' (mc_L E) (2 + E.length) q2), mc_Res Φ (nI n, nI fc, f_codeEnd, f_depth, f_letCount, f_height, f_heldNames, f_usedCount, f_marks, f_marking, f_waitCount, nI (mc_xt r + 2 + E.length), nI (mc_xt r), nI p, nI r.length, nI sc, 0, 0, f_levelNow, a_kindOf, a_partX, a_partY, a_partZ, a_weightOf, a_needOf, a_names, a_known, a_knownNumber, a_functionOf, a_op, a_operand, a_workNode, a_workPhase, a_workLast, a_workPatch, a_letPlace, a_isUsed, a_functionAt, a_heldCount, a_cells, a_waiting, a_globals, a_stack, a_openFrame, a_openAt) (nI n, nI fc, nI (r.length + 1), nI (mc_hi r + Ks.length), nI (mc_vt r + mc_nv E), nI sc, 0, g_how, 0, 0, a_kindOf, a_partX, b_ey, b_ez, a_weightOf, a_names, b_globalSort, b_global, b_body, b_heldSort, b_held, b_needed, b_envSort, b_env, b_length, b_base, b_floor, b_begun, b_stage, b_last, b_valueSort, b_value) := by
  intro f_codeEnd f_depth f_letCount f_height f_heldNames f_usedCount f_marking f_waitCount f_levelNow f_marks a_kindOf a_partX a_partY a_partZ a_weightOf a_needOf a_names a_known a_knownNumber a_functionOf a_op a_operand a_workNode a_workPhase a_workLast a_workPatch a_letPlace a_isUsed a_functionAt a_heldCount a_waiting a_openFrame a_openAt a_cells a_globals a_stack g_how b_ey b_ez b_globalSort b_global b_body b_heldSort b_held b_needed b_envSort b_env b_length b_base b_floor b_begun b_stage b_last b_valueSort b_value n fc P E Ks fn p r sc Φ e q2 l K' x s v E' h1 h2 h3 hKs hE hen hk hp1 hj hcont
  subst hKs
  obtain ⟨⟨⟨g1, g2, g3, ⟨g4, g4'⟩, g5, ⟨g6, g6'⟩, g7⟩, g8⟩, ⟨⟨v1, v2⟩, v3⟩, hC, hnow, ⟨b1, b2, b3, b4⟩, hΦ⟩ := h3
  have hn := h1.1
  have bnd := mc_C_b r hC
  simp only [List.length_cons] at b4
  have hpk := mc_pk3 (K := a_kindOf) (X := a_partX) (Y := b_ey) (W := a_weightOf) (e := e) (l := l) K'
  refine Or.inl ⟨(nI n, nI fc, f_codeEnd, f_depth, f_letCount, f_height, f_heldNames, f_usedCount, f_marks, f_marking, f_waitCount, nI (mc_xt r + 2 + E.length), nI (mc_xt r), nI q2, nI r.length, nI sc, 0, 0, f_levelNow, a_kindOf, a_partX, a_partY, a_partZ, a_weightOf, a_needOf, a_names, a_known, a_knownNumber, a_functionOf, a_op, a_operand, a_workNode, a_workPhase, a_workLast, a_workPatch, a_letPlace, a_isUsed, a_functionAt, a_heldCount, a_cells, a_waiting, a_globals, a_stack, a_openFrame, a_openAt), (nI n, nI fc, nI (r.length + 1), nI (mc_hi r + K'.length), nI (mc_vt r + mc_nv E), nI sc, 0, g_how, 0, 0, a_kindOf, a_partX, b_ey, b_ez, a_weightOf, a_names, b_globalSort, b_global, b_body, b_heldSort, b_held, b_needed, b_envSort, b_env, b_length, b_base, b_floor, b_begun, upd b_stage (mc_hi r + K'.length) (nI 3), b_last, b_valueSort, b_value), _, 1, mc_in (Ks := K') (fn := fn) (r := r) (p := q2) h1 h2 ⟨?_, ⟨⟨v1, v2⟩, v3⟩, hC, Or.inr ⟨x, s, v, E', hE, hcont⟩, ⟨b1, b2, b3, by omega⟩, rfl⟩, Nat.le_refl _, by omega, ?_, mc_Y1 (by omega) g6 (by omega) (fun post hp => ?_)⟩
  · exact ⟨⟨g1, g2, g3, ⟨g4, g4'⟩, mc_KS_cg K' (fun j hj => ⟨rfl, pk_un (by omega), rfl⟩) g5.2, ⟨g6, g6'⟩, g7⟩, mc_M_cg r (fun j hj => rfl) (fun j hj => ⟨rfl, rfl⟩) (fun j hj => ⟨rfl, rfl⟩) (fun j hj => ⟨rfl, rfl, rfl⟩) (fun j hj => ⟨rfl, pk_un (by omega), rfl⟩) g8⟩
  · rcases hj with hj | ⟨j1, j2⟩
    · subst hj; exact fun _ _ h => h
    · exact mc_X1 (fun post hq => xs_jump hp1 j1 j2 hq)
  · refine ys_head (k := 8) (h := mc_hi r + K'.length) (by omega) g5.1.1 (by omega) hk (by omega) g5.1.2.1 ?_
    rw [if_pos (by omega)]
    exact ys_c (by omega) (by omega) (by omega) (by omega) (yc_2 (h := mc_hi r + K'.length) (by omega) hk (by decide) hp)
/-- THEN drops its first value -/
theorem sm_then1 : ∀ {f_codeEnd f_depth f_letCount f_height f_heldNames f_usedCount f_marking f_waitCount f_levelNow : Int32} {f_marks : Int64} {a_kindOf a_partX a_partY a_partZ a_weightOf a_needOf a_names a_known a_knownNumber a_functionOf a_op a_operand a_workNode a_workPhase a_workLast a_workPatch a_letPlace a_isUsed a_functionAt a_heldCount a_waiting a_openFrame a_openAt : Nat → Int32} {a_cells a_globals a_stack : Nat → Int64}, ∀ {g_how : Int32} {b_ey b_ez b_globalSort b_global b_body b_heldSort b_held b_needed b_envSort b_env b_length b_base b_floor b_begun b_stage b_last b_valueSort b_value : Nat → Int32} {n fc : Nat} {P : Nat → Nat → Nat → Prop} {E : List mc_E} {Ks : List mc_F} {fn : mc_Fn} {p : Nat} {r : List mc_Bd} {sc Φ : Nat} {e p2 : Nat} {l : Bool} {K' : List mc_F} {x : Int64} {s v : Int32} {E' : List mc_E} (_ : rl_St n fc a_kindOf a_partX b_ey b_ez a_weightOf a_names a_partY a_partZ a_needOf a_known a_knownNumber a_functionOf a_op a_operand) (_ : rl_Hp n a_kindOf a_partX a_names a_functionOf P f_usedCount f_marks f_marking f_waitCount a_isUsed a_functionAt a_heldCount a_cells a_waiting a_globals b_body b_heldSort b_held b_globalSort b_global) (_ : mc_G n a_kindOf a_partX b_ey b_ez a_weightOf a_names a_known a_knownNumber a_functionOf a_op a_operand P a_cells a_stack a_openFrame a_openAt b_envSort b_env b_length b_base b_floor b_begun b_stage b_last b_valueSort b_value E Ks fn p r sc Φ) (_ : Ks = (e, 1, l) :: K') (_ : E = (false, x, s, v) :: E') (_ : e < n) (_ : a_known e = 0) (_ : a_kindOf e = 19) (_ : p < 1560) (_ : mc_Bu a_weightOf (tb_c b_ey e) (mc_L E) (2 + E.length - 1) (K'.length + 1))
    (_ : a_op p = 20) (_ : ∃ D, cp_C a_kindOf a_partX b_ey b_ez a_names a_known a_knownNumber a_functionOf (mc_hm a_names fn) a_op a_operand D (tb_c b_ey e) l (mc_L E) (2 + E.length - 1) (p + 1) p2) (_ : mc_K n a_kindOf a_partX b_ey b_ez a_weightOf a_names a_known a_knownNumber a_functionOf a_op a_operand (mc_hm a_names fn) K' (mc_L E) (2 + E.length) p2), mc_Res Φ (nI n, nI fc, f_codeEnd, f_depth, f_letCount, f_height, f_heldNames, f_usedCount, f_marks, f_marking, f_waitCount, nI (mc_xt r + 2 + E.length), nI (mc_xt r), nI p, nI r.length, nI sc, 0, 0, f_levelNow, a_kindOf, a_partX, a_partY, a_partZ, a_weightOf, a_needOf, a_names, a_known, a_knownNumber, a_functionOf, a_op, a_operand, a_workNode, a_workPhase, a_workLast, a_workPatch, a_letPlace, a_isUsed, a_functionAt, a_heldCount, a_cells, a_waiting, a_globals, a_stack, a_openFrame, a_openAt) (nI n, nI fc, nI (r.length + 1), nI (mc_hi r + Ks.length), nI (mc_vt r + mc_nv E), nI sc, 0, g_how, 0, 0, a_kindOf, a_partX, b_ey, b_ez, a_weightOf, a_names, b_globalSort, b_global, b_body, b_heldSort, b_held, b_needed, b_envSort, b_env, b_length, b_base, b_floor, b_begun, b_stage, b_last, b_valueSort, b_value) := by
  intro f_codeEnd f_depth f_letCount f_height f_heldNames f_usedCount f_marking f_waitCount f_levelNow f_marks a_kindOf a_partX a_partY a_partZ a_weightOf a_needOf a_names a_known a_knownNumber a_functionOf a_op a_operand a_workNode a_workPhase a_workLast a_workPatch a_letPlace a_isUsed a_functionAt a_heldCount a_waiting a_openFrame a_openAt a_cells a_globals a_stack g_how b_ey b_ez b_globalSort b_global b_body b_heldSort b_held b_needed b_envSort b_env b_length b_base b_floor b_begun b_stage b_last b_valueSort b_value n fc P E Ks fn p r sc Φ e p2 l K' x s v E' h1 h2 h3 hKs hE hen hkn hk hp1 hbu hop hcode hcont
  subst hKs hE
  obtain ⟨⟨⟨g1, g2, g3, ⟨g4, g4'⟩, g5, ⟨g6, g6'⟩, g7⟩, g8⟩, ⟨⟨v1, v2⟩, v3⟩, hC, hnow, ⟨b1, b2, b3, b4⟩, hΦ⟩ := h3
  have hn := h1.1
  have bnd := mc_C_b r hC
  have nvl := mc_nvL E'
  simp only [List.length_cons] at b4 b3 hbu hcode hcont
  simp only [mc_L] at hbu hcode hcont g4'
  rw [show 2 + (E'.length + 1) - 1 = 2 + E'.length by omega] at hbu hcode
  rw [show 2 + (E'.length + 1) = 3 + E'.length by omega] at hcont
  have hkc : tb_c a_kindOf e = 19 := tb_lit hk
  obtain ⟨x1, x2, y1, y2, hW, wx, wy, w30, _⟩ := tb_two_f h1.2.2.1 hen (by rw [hkc]; decide) (by rw [hkc]; decide)
  rw [hkc, if_neg (by omega)] at hW
  have hq := mc_K_q _ _ _ _ hcont
  obtain ⟨g2a, g2b⟩ := g2
  have hl : b_last (mc_hi r + K'.length) = 0 ∨ b_last (mc_hi r + K'.length) = 1 := by rw [g5.1.2.2]; exact cp_l01 l
  refine Or.inl ⟨(nI n, nI fc, f_codeEnd, f_depth, f_letCount, f_height, f_heldNames, f_usedCount, f_marks, f_marking, f_waitCount, nI (mc_xt r + 2 + E'.length), nI (mc_xt r), nI (p + 1), nI r.length, nI sc, 0, 0, f_levelNow, a_kindOf, a_partX, a_partY, a_partZ, a_weightOf, a_needOf, a_names, a_known, a_knownNumber, a_functionOf, a_op, a_operand, a_workNode, a_workPhase, a_workLast, a_workPatch, a_letPlace, a_isUsed, a_functionAt, a_heldCount, a_cells, a_waiting, a_globals, a_stack, a_openFrame, a_openAt), (nI n, nI fc, nI (r.length + 1), nI (mc_hi r + ((tb_c b_ey e, 0, l) :: (e, 2, l) :: K').length), nI (mc_vt r + mc_nv E'), nI sc, 0, g_how, 0, 0, a_kindOf, a_partX, b_ey, b_ez, a_weightOf, a_names, b_globalSort, b_global, b_body, b_heldSort, b_held, b_needed, b_envSort, b_env, b_length, b_base, b_floor, upd b_begun (mc_hi r + K'.length + 1) (nI (tb_c b_ey e)), upd (upd b_stage (mc_hi r + K'.length) (nI 2)) (mc_hi r + K'.length + 1) 0, upd b_last (mc_hi r + K'.length + 1) (b_last (mc_hi r + K'.length)), b_valueSort, b_value), _, 1, mc_in (E := E') (Ks := (tb_c b_ey e, 0, l) :: (e, 2, l) :: K') (fn := fn) (r := r) (p := p + 1) h1 h2 ⟨?_, ⟨⟨fun z hz => v1 z (List.mem_cons_of_mem _ hz), v2⟩, v3⟩, hC, Or.inl ⟨tb_c b_ey e, l, (e, 2, l) :: K', p2, rfl, by omega, hcode, ⟨hq, hen, hkn, Or.inr (Or.inr (Or.inr (Or.inr (Or.inr (Or.inr (Or.inr (Or.inr ⟨hk, rfl, hcont⟩)))))))⟩, hbu⟩, ⟨b1, b2, by omega, ?_⟩, rfl⟩, Nat.le_refl _, ?_, mc_X1 (fun post hq => ?_), mc_Y1 (by omega) g6 (by omega) (fun post hp => ?_)⟩
  · refine ⟨⟨g1.2, g2b, g3, ⟨g4, g4'⟩, ⟨⟨pk_us, pk_us, ?_⟩, ⟨?_, ?_, ?_⟩, mc_KS_cg K' (fun j hj => ⟨pk_un (by omega), by rw [pk_un (by omega), pk_un (by omega)], pk_un (by omega)⟩) g5.2⟩, ⟨g6, g6'⟩, g7⟩, mc_M_cg r (fun j hj => rfl) (fun j hj => ⟨rfl, rfl⟩) (fun j hj => ⟨rfl, rfl⟩) (fun j hj => ⟨rfl, rfl, rfl⟩) (fun j hj => ⟨pk_un (by omega), by rw [pk_un (by omega), pk_un (by omega)], pk_un (by omega)⟩) g8⟩
    · rw [← g5.1.2.2]; exact pk_us
    · rw [pk_un (by omega)]; exact g5.1.1
    · rw [pk_un (by omega), pk_us]
    · rw [pk_un (by omega)]; exact g5.1.2.2
  · have := hbu.2.1
    simp only [List.length_cons]
    omega
  · have := mc_pk2 (Y := b_ey) (l := l) (l' := l) (K := a_kindOf) (X := a_partX) (W := a_weightOf) (e := e) (y := tb_c b_ey e) (by rw [hkc]; decide) (by omega) K'
    omega
  · exact xs_drop (t := mc_xt r + 2 + E'.length) hp1 hop (by omega) hq
  · refine ys_head (k := 19) (h := mc_hi r + K'.length) (by omega) g5.1.1 (by omega) hk (by omega) g5.1.2.1 ?_
    rw [if_pos (by omega)]
    refine ys_c (by omega) (by omega) (by omega) (by omega) ?_
    refine yc_1t (t := mc_vt r + mc_nv E') (h := mc_hi r + K'.length + 1) (by omega) hk (by omega) hl ?_
    rw [y1]
    exact hp
end
section
/-! the simulation: IF and LET -/

theorem hp_V_0 {P : Nat → Nat → Nat → Prop} (h40 : ∀ o w t, P o w t → o < 40) {x : Int64} {s v : Int32} (hv : hp_V P x s v) : x = 0 ↔ s = 0 := by
  rcases hv with ⟨a, b⟩ | ⟨a, b⟩ | ⟨o, w, t, p, b, c, d⟩
  · exact ⟨fun _ => a, fun _ => b⟩
  · exact ⟨fun q => absurd (b.symm.trans q) (vl_iv_ne0 _), fun q => by rw [a] at q; exact absurd q (by decide)⟩
  · refine ⟨fun q => absurd (b.symm.trans q) (vl_ob_ne0 (by have := h40 o w t p; omega)), fun q => ?_⟩
    rw [d] at q
    split at q <;> exact absurd q (by decide)
theorem sm_if1 : ∀ {f_codeEnd f_depth f_letCount f_height f_heldNames f_usedCount f_marking f_waitCount f_levelNow : Int32} {f_marks : Int64} {a_kindOf a_partX a_partY a_partZ a_weightOf a_needOf a_names a_known a_knownNumber a_functionOf a_op a_operand a_workNode a_workPhase a_workLast a_workPatch a_letPlace a_isUsed a_functionAt a_heldCount a_waiting a_openFrame a_openAt : Nat → Int32} {a_cells a_globals a_stack : Nat → Int64}, ∀ {g_how : Int32} {b_ey b_ez b_globalSort b_global b_body b_heldSort b_held b_needed b_envSort b_env b_length b_base b_floor b_begun b_stage b_last b_valueSort b_value : Nat → Int32} {n fc : Nat} {P : Nat → Nat → Nat → Prop} {E : List mc_E} {Ks : List mc_F} {fn : mc_Fn} {p : Nat} {r : List mc_Bd} {sc Φ : Nat} {e p2 q2 : Nat} {l : Bool} {K' : List mc_F} {x : Int64} {s v : Int32} {E' : List mc_E} (_ : rl_St n fc a_kindOf a_partX b_ey b_ez a_weightOf a_names a_partY a_partZ a_needOf a_known a_knownNumber a_functionOf a_op a_operand) (_ : rl_Hp n a_kindOf a_partX a_names a_functionOf P f_usedCount f_marks f_marking f_waitCount a_isUsed a_functionAt a_heldCount a_cells a_waiting a_globals b_body b_heldSort b_held b_globalSort b_global) (_ : mc_G n a_kindOf a_partX b_ey b_ez a_weightOf a_names a_known a_knownNumber a_functionOf a_op a_operand P a_cells a_stack a_openFrame a_openAt b_envSort b_env b_length b_base b_floor b_begun b_stage b_last b_valueSort b_value E Ks fn p r sc Φ) (_ : Ks = (e, 1, l) :: K') (_ : E = (false, x, s, v) :: E') (_ : e < n) (_ : a_known e = 0) (_ : a_kindOf e = 8) (_ : p < 1560) (_ : mc_Bu a_weightOf (tb_c b_ey e) (mc_L E) (2 + E.length - 1) (K'.length + 1)) (_ : mc_Bu a_weightOf (tb_c b_ez e) (mc_L E) (2 + E.length - 1) (K'.length + 1))
    (_ : a_op p = 19) (_ : a_operand p = nI (p2 + 1)) (_ : ∃ D, cp_C a_kindOf a_partX b_ey b_ez a_names a_known a_knownNumber a_functionOf (mc_hm a_names fn) a_op a_operand D (tb_c b_ey e) l (mc_L E) (2 + E.length - 1) (p + 1) p2) (_ : a_op p2 = 14) (_ : a_operand p2 = nI q2) (_ : ∃ D, cp_C a_kindOf a_partX b_ey b_ez a_names a_known a_knownNumber a_functionOf (mc_hm a_names fn) a_op a_operand D (tb_c b_ez e) l (mc_L E) (2 + E.length - 1) (p2 + 1) q2) (_ : mc_K n a_kindOf a_partX b_ey b_ez a_weightOf a_names a_known a_knownNumber a_functionOf a_op a_operand (mc_hm a_names fn) K' (mc_L E) (2 + E.length) q2), mc_Res Φ (nI n, nI fc, f_codeEnd, f_depth, f_letCount, f_height, f_heldNames, f_usedCount, f_marks, f_marking, f_waitCount, nI (mc_xt r + 2 + E.length), nI (mc_xt r), nI p, nI r.length, nI sc, 0, 0, f_levelNow, a_kindOf, a_partX, a_partY, a_partZ, a_weightOf, a_needOf, a_names, a_known, a_knownNumber, a_functionOf, a_op, a_operand, a_workNode, a_workPhase, a_workLast, a_workPatch, a_letPlace, a_isUsed, a_functionAt, a_heldCount, a_cells, a_waiting, a_globals, a_stack, a_openFrame, a_openAt) (nI n, nI fc, nI (r.length + 1), nI (mc_hi r + Ks.length), nI (mc_vt r + mc_nv E), nI sc, 0, g_how, 0, 0, a_kindOf, a_partX, b_ey, b_ez, a_weightOf, a_names, b_globalSort, b_global, b_body, b_heldSort, b_held, b_needed, b_envSort, b_env, b_length, b_base, b_floor, b_begun, b_stage, b_last, b_valueSort, b_value) := by
  intro f_codeEnd f_depth f_letCount f_height f_heldNames f_usedCount f_marking f_waitCount f_levelNow f_marks a_kindOf a_partX a_partY a_partZ a_weightOf a_needOf a_names a_known a_knownNumber a_functionOf a_op a_operand a_workNode a_workPhase a_workLast a_workPatch a_letPlace a_isUsed a_functionAt a_heldCount a_waiting a_openFrame a_openAt a_cells a_globals a_stack g_how b_ey b_ez b_globalSort b_global b_body b_heldSort b_held b_needed b_envSort b_env b_length b_base b_floor b_begun b_stage b_last b_valueSort b_value n fc P E Ks fn p r sc Φ e p2 q2 l K' x s v E' h1 h2 h3 hKs hE hen hkn hk hp1 hbuy hbuz hop hod hcy hop2 hod2 hcz hcont
  subst hKs hE
  obtain ⟨⟨⟨g1, g2, g3, ⟨g4, g4'⟩, g5, ⟨g6, g6'⟩, g7⟩, g8⟩, ⟨⟨v1, v2⟩, v3⟩, hC, hnow, ⟨b1, b2, b3, b4⟩, hΦ⟩ := h3
  have hn := h1.1
  have bnd := mc_C_b r hC
  have nvl := mc_nvL E'
  simp only [List.length_cons] at b4 b3 hbuy hbuz hcy hcz hcont
  simp only [mc_L] at hbuy hbuz hcy hcz hcont g4'
  rw [show 2 + (E'.length + 1) - 1 = 2 + E'.length by omega] at hbuy hbuz hcy hcz
  rw [show 2 + (E'.length + 1) = 3 + E'.length by omega] at hcont
  have hkc : tb_c a_kindOf e = 8 := tb_lit hk
  obtain ⟨x1, x2, y1, y2, hW, wx, wy, w30, _⟩ := tb_two_f h1.2.2.1 hen (by rw [hkc]; decide) (by rw [hkc]; decide)
  rw [hkc, if_pos rfl] at hW
  obtain ⟨z1, z2⟩ := (h1.2.2.1 e hen).1.2.2.2.1 hkc
  have wz := tb_N_w (h1.2.2.1 (tb_c b_ez e) (by omega)).1
  have hq := mc_K_q _ _ _ _ hcont
  have hlz : p2 + 1 < q2 := by obtain ⟨D, h⟩ := hcz; exact cp_lt _ _ _ _ _ _ _ h
  obtain ⟨⟨g2a, g2a'⟩, g2b⟩ := g2
  have hl : b_last (mc_hi r + K'.length) = 0 ∨ b_last (mc_hi r + K'.length) = 1 := by rw [g5.1.2.2]; exact cp_l01 l
  have hV := hp_V_0 (hp_o40 h2.1) (v1 (false, x, s, v) (List.mem_cons_self))
  have hx : a_stack (mc_xt r + 2 + E'.length) = x := g1.1
  have fin : ∀ (c pn qn : Nat), c = (if s = 0 then tb_c b_ez e else tb_c b_ey e) → pn = (if s = 0 then p2 + 1 else p + 1) → (if b_valueSort (mc_vt r + mc_nv E') = 0 then b_ez e else b_ey e) = nI c → c < n → 1 + tb_c a_weightOf (tb_c a_partX e) + tb_c a_weightOf c ≤ tb_c a_weightOf e → mc_Bu a_weightOf c (mc_L E') (2 + E'.length) (K'.length + 1) → (∃ D, cp_C a_kindOf a_partX b_ey b_ez a_names a_known a_knownNumber a_functionOf (mc_hm a_names fn) a_op a_operand D c l (mc_L E') (2 + E'.length) pn qn) → mc_K n a_kindOf a_partX b_ey b_ez a_weightOf a_names a_known a_knownNumber a_functionOf a_op a_operand (mc_hm a_names fn) ((e, 2, l) :: K') (mc_L E') (3 + E'.length) qn → mc_Res Φ (nI n, nI fc, f_codeEnd, f_depth, f_letCount, f_height, f_heldNames, f_usedCount, f_marks, f_marking, f_waitCount, nI (mc_xt r + 2 + (E'.length + 1)), nI (mc_xt r), nI p, nI r.length, nI sc, 0, 0, f_levelNow, a_kindOf, a_partX, a_partY, a_partZ, a_weightOf, a_needOf, a_names, a_known, a_knownNumber, a_functionOf, a_op, a_operand, a_workNode, a_workPhase, a_workLast, a_workPatch, a_letPlace, a_isUsed, a_functionAt, a_heldCount, a_cells, a_waiting, a_globals, a_stack, a_openFrame, a_openAt) (nI n, nI fc, nI (r.length + 1), nI (mc_hi r + (K'.length + 1)), nI (mc_vt r + (mc_nv E' + 1)), nI sc, 0, g_how, 0, 0, a_kindOf, a_partX, b_ey, b_ez, a_weightOf, a_names, b_globalSort, b_global, b_body, b_heldSort, b_held, b_needed, b_envSort, b_env, b_length, b_base, b_floor, b_begun, b_stage, b_last, b_valueSort, b_value) := by
    intro c pn qn ec epn hch hcn hw hbu hcode hK
    refine Or.inl ⟨(nI n, nI fc, f_codeEnd, f_depth, f_letCount, f_height, f_heldNames, f_usedCount, f_marks, f_marking, f_waitCount, nI (mc_xt r + 2 + E'.length), nI (mc_xt r), nI pn, nI r.length, nI sc, 0, 0, f_levelNow, a_kindOf, a_partX, a_partY, a_partZ, a_weightOf, a_needOf, a_names, a_known, a_knownNumber, a_functionOf, a_op, a_operand, a_workNode, a_workPhase, a_workLast, a_workPatch, a_letPlace, a_isUsed, a_functionAt, a_heldCount, a_cells, a_waiting, a_globals, a_stack, a_openFrame, a_openAt), (nI n, nI fc, nI (r.length + 1), nI (mc_hi r + ((c, 0, l) :: (e, 2, l) :: K').length), nI (mc_vt r + mc_nv E'), nI sc, 0, g_how, 0, 0, a_kindOf, a_partX, b_ey, b_ez, a_weightOf, a_names, b_globalSort, b_global, b_body, b_heldSort, b_held, b_needed, b_envSort, b_env, b_length, b_base, b_floor, upd b_begun (mc_hi r + K'.length + 1) (nI c), upd (upd b_stage (mc_hi r + K'.length) (nI 2)) (mc_hi r + K'.length + 1) 0, upd b_last (mc_hi r + K'.length + 1) (b_last (mc_hi r + K'.length)), b_valueSort, b_value), _, 1, mc_in (E := E') (Ks := (c, 0, l) :: (e, 2, l) :: K') (fn := fn) (r := r) (p := pn) h1 h2 ⟨?_, ⟨⟨fun z hz => v1 z (List.mem_cons_of_mem _ hz), v2⟩, v3⟩, hC, Or.inl ⟨c, l, (e, 2, l) :: K', qn, rfl, hcn, hcode, hK, hbu⟩, ⟨b1, b2, by omega, ?_⟩, rfl⟩, Nat.le_refl _, ?_, mc_X1 (fun post hq => ?_), mc_Y1 (by omega) g6 (by omega) (fun post hp => ?_)⟩
    · refine ⟨⟨g1.2, g2b, g3, ⟨g4, g4'⟩, ⟨⟨pk_us, pk_us, ?_⟩, ⟨?_, ?_, ?_⟩, mc_KS_cg K' (fun j hj => ⟨pk_un (by omega), by rw [pk_un (by omega), pk_un (by omega)], pk_un (by omega)⟩) g5.2⟩, ⟨g6, g6'⟩, g7⟩, mc_M_cg r (fun j hj => rfl) (fun j hj => ⟨rfl, rfl⟩) (fun j hj => ⟨rfl, rfl⟩) (fun j hj => ⟨rfl, rfl, rfl⟩) (fun j hj => ⟨pk_un (by omega), by rw [pk_un (by omega), pk_un (by omega)], pk_un (by omega)⟩) g8⟩
      · rw [← g5.1.2.2]; exact pk_us
      · rw [pk_un (by omega)]; exact g5.1.1
      · rw [pk_un (by omega), pk_us]
      · rw [pk_un (by omega)]; exact g5.1.2.2
    · have := hbu.2.1
      have := tb_N_w (h1.2.2.1 c hcn).1
      simp only [List.length_cons]
      omega
    · have := mc_pk2 (Y := b_ey) (l := l) (l' := l) (K := a_kindOf) (X := a_partX) (W := a_weightOf) (e := e) (y := c) (by rw [hkc]; decide) hw K'
      omega
    · refine xs_jie (t := mc_xt r + 2 + E'.length) hp1 hop hod (by omega) ?_
      rw [hx]
      have e : (if x = 0 then p2 + 1 else p + 1) = pn := by
        rw [epn]
        by_cases c : s = 0
        · rw [if_pos c, if_pos (hV.mpr c)]
        · rw [if_neg c, if_neg (fun q => c (hV.mp q))]
      rw [e]
      exact hq
    · refine ys_head (k := 8) (h := mc_hi r + K'.length) (by omega) g5.1.1 (by omega) hk (by omega) g5.1.2.1 ?_
      rw [if_pos (by omega)]
      refine ys_c (by omega) (by omega) (by omega) (by omega) ?_
      refine yc_1i (t := mc_vt r + mc_nv E') (h := mc_hi r + K'.length + 1) (by omega) hk (by omega) (by omega) hl ?_
      rw [hch]
      exact hp
  by_cases c : s = 0
  · refine fin (tb_c b_ez e) (p2 + 1) q2 (by rw [if_pos c]) (by rw [if_pos c]) (by rw [g2a, if_pos c]; exact z1) (by omega) (by omega) hbuz hcz ⟨hq, hen, hkn, Or.inr (Or.inr (Or.inr (Or.inr (Or.inl ⟨hk, rfl, q2, Or.inl rfl, hcont⟩))))⟩
  · refine fin (tb_c b_ey e) (p + 1) p2 (by rw [if_neg c]) (by rw [if_neg c]) (by rw [g2a, if_neg c]; exact y1) (by omega) (by omega) hbuy hcy ⟨by omega, hen, hkn, Or.inr (Or.inr (Or.inr (Or.inr (Or.inl ⟨hk, rfl, q2, Or.inr ⟨hop2, hod2⟩, hcont⟩))))⟩
/-- LET binds its value -/
theorem sm_let1 : ∀ {f_codeEnd f_depth f_letCount f_height f_heldNames f_usedCount f_marking f_waitCount f_levelNow : Int32} {f_marks : Int64} {a_kindOf a_partX a_partY a_partZ a_weightOf a_needOf a_names a_known a_knownNumber a_functionOf a_op a_operand a_workNode a_workPhase a_workLast a_workPatch a_letPlace a_isUsed a_functionAt a_heldCount a_waiting a_openFrame a_openAt : Nat → Int32} {a_cells a_globals a_stack : Nat → Int64}, ∀ {g_how : Int32} {b_ey b_ez b_globalSort b_global b_body b_heldSort b_held b_needed b_envSort b_env b_length b_base b_floor b_begun b_stage b_last b_valueSort b_value : Nat → Int32} {n fc : Nat} {P : Nat → Nat → Nat → Prop} {E : List mc_E} {Ks : List mc_F} {fn : mc_Fn} {p : Nat} {r : List mc_Bd} {sc Φ : Nat} {e p2 : Nat} {l : Bool} {K' : List mc_F} {x : Int64} {s v : Int32} {E' : List mc_E} (_ : rl_St n fc a_kindOf a_partX b_ey b_ez a_weightOf a_names a_partY a_partZ a_needOf a_known a_knownNumber a_functionOf a_op a_operand) (_ : rl_Hp n a_kindOf a_partX a_names a_functionOf P f_usedCount f_marks f_marking f_waitCount a_isUsed a_functionAt a_heldCount a_cells a_waiting a_globals b_body b_heldSort b_held b_globalSort b_global) (_ : mc_G n a_kindOf a_partX b_ey b_ez a_weightOf a_names a_known a_knownNumber a_functionOf a_op a_operand P a_cells a_stack a_openFrame a_openAt b_envSort b_env b_length b_base b_floor b_begun b_stage b_last b_valueSort b_value E Ks fn p r sc Φ) (_ : Ks = (e, 1, l) :: K') (_ : E = (false, x, s, v) :: E') (_ : e < n) (_ : a_known e = 0) (_ : a_kindOf e = 14) (_ : p < 1560) (_ : mc_Bu a_weightOf (tb_c b_ey e) ((2 + E.length - 1) :: mc_L E) (2 + E.length) (K'.length + 1))
    (_ : ∃ D, cp_C a_kindOf a_partX b_ey b_ez a_names a_known a_knownNumber a_functionOf (mc_hm a_names fn) a_op a_operand D (tb_c b_ey e) l ((2 + E.length - 1) :: mc_L E) (2 + E.length) p p2) (_ : a_op p2 = 21) (_ : mc_K n a_kindOf a_partX b_ey b_ez a_weightOf a_names a_known a_knownNumber a_functionOf a_op a_operand (mc_hm a_names fn) K' (mc_L E) (2 + E.length) (p2 + 1)), mc_Res Φ (nI n, nI fc, f_codeEnd, f_depth, f_letCount, f_height, f_heldNames, f_usedCount, f_marks, f_marking, f_waitCount, nI (mc_xt r + 2 + E.length), nI (mc_xt r), nI p, nI r.length, nI sc, 0, 0, f_levelNow, a_kindOf, a_partX, a_partY, a_partZ, a_weightOf, a_needOf, a_names, a_known, a_knownNumber, a_functionOf, a_op, a_operand, a_workNode, a_workPhase, a_workLast, a_workPatch, a_letPlace, a_isUsed, a_functionAt, a_heldCount, a_cells, a_waiting, a_globals, a_stack, a_openFrame, a_openAt) (nI n, nI fc, nI (r.length + 1), nI (mc_hi r + Ks.length), nI (mc_vt r + mc_nv E), nI sc, 0, g_how, 0, 0, a_kindOf, a_partX, b_ey, b_ez, a_weightOf, a_names, b_globalSort, b_global, b_body, b_heldSort, b_held, b_needed, b_envSort, b_env, b_length, b_base, b_floor, b_begun, b_stage, b_last, b_valueSort, b_value) := by
  intro f_codeEnd f_depth f_letCount f_height f_heldNames f_usedCount f_marking f_waitCount f_levelNow f_marks a_kindOf a_partX a_partY a_partZ a_weightOf a_needOf a_names a_known a_knownNumber a_functionOf a_op a_operand a_workNode a_workPhase a_workLast a_workPatch a_letPlace a_isUsed a_functionAt a_heldCount a_waiting a_openFrame a_openAt a_cells a_globals a_stack g_how b_ey b_ez b_globalSort b_global b_body b_heldSort b_held b_needed b_envSort b_env b_length b_base b_floor b_begun b_stage b_last b_valueSort b_value n fc P E Ks fn p r sc Φ e p2 l K' x s v E' h1 h2 h3 hKs hE hen hkn hk hp1 hbu hcode hop hcont
  subst hKs hE
  obtain ⟨⟨⟨g1, g2, g3, ⟨g4, g4'⟩, g5, ⟨g6, g6'⟩, g7⟩, g8⟩, ⟨⟨v1, v2⟩, v3⟩, hC, hnow, ⟨b1, b2, b3, b4⟩, hΦ⟩ := h3
  have hn := h1.1
  have bnd := mc_C_b r hC
  have nvl := mc_nvL E'
  have m8 := mc_m8_le fn
  simp only [List.length_cons] at b4 b3 hbu hcode hcont
  simp only [mc_L] at hbu hcode hcont g4 g4'
  rw [show 2 + (E'.length + 1) - 1 = 2 + E'.length by omega, show 2 + (E'.length + 1) = 3 + E'.length by omega] at hbu hcode
  rw [show 2 + (E'.length + 1) = 3 + E'.length by omega] at hcont
  have hkc : tb_c a_kindOf e = 14 := tb_lit hk
  obtain ⟨x1, x2, y1, y2, hW, wx, wy, w30, _⟩ := tb_two_f h1.2.2.1 hen (by rw [hkc]; decide) (by rw [hkc]; decide)
  rw [hkc, if_neg (by omega)] at hW
  have hq := mc_K_q _ _ _ _ hcont
  have hbl := hbu.2.2
  rw [List.length_cons] at hbl
  obtain ⟨⟨g2a, g2a'⟩, g2b⟩ := g2
  have hl : b_last (mc_hi r + K'.length) = 0 ∨ b_last (mc_hi r + K'.length) = 1 := by rw [g5.1.2.2]; exact cp_l01 l
  refine Or.inl ⟨(nI n, nI fc, f_codeEnd, f_depth, f_letCount, f_height, f_heldNames, f_usedCount, f_marks, f_marking, f_waitCount, nI (mc_xt r + 2 + ((true, x, s, v) :: E').length), nI (mc_xt r), nI p, nI r.length, nI sc, 0, 0, f_levelNow, a_kindOf, a_partX, a_partY, a_partZ, a_weightOf, a_needOf, a_names, a_known, a_knownNumber, a_functionOf, a_op, a_operand, a_workNode, a_workPhase, a_workLast, a_workPatch, a_letPlace, a_isUsed, a_functionAt, a_heldCount, a_cells, a_waiting, a_globals, a_stack, a_openFrame, a_openAt), (nI n, nI fc, nI (r.length + 1), nI (mc_hi r + ((tb_c b_ey e, 0, l) :: (e, 2, l) :: K').length), nI (mc_vt r + mc_nv E'), nI sc, 0, g_how, 0, 0, a_kindOf, a_partX, b_ey, b_ez, a_weightOf, a_names, b_globalSort, b_global, b_body, b_heldSort, b_held, b_needed, upd b_envSort (24 * r.length + (mc_m8 fn + (mc_L E').length)) s, upd b_env (24 * r.length + (mc_m8 fn + (mc_L E').length)) v, upd b_length r.length (nI (mc_m8 fn + (mc_L E').length + 1)), b_base, b_floor, upd b_begun (mc_hi r + K'.length + 1) (nI (tb_c b_ey e)), upd (upd b_stage (mc_hi r + K'.length) (nI 2)) (mc_hi r + K'.length + 1) 0, upd b_last (mc_hi r + K'.length + 1) (b_last (mc_hi r + K'.length)), b_valueSort, b_value), _, 1, mc_in (E := (true, x, s, v) :: E') (Ks := (tb_c b_ey e, 0, l) :: (e, 2, l) :: K') (fn := fn) (r := r) (p := p) h1 h2 ⟨?_, ⟨⟨?_, mc_VF_cg fn (fun j _ hj => ⟨pk_un (by omega), pk_un (by omega)⟩) v2⟩, mc_Vl_cg r (fun j hj => ⟨pk_un (by omega), pk_un (by omega)⟩) v3⟩, hC, Or.inl ⟨tb_c b_ey e, l, (e, 2, l) :: K', p2, rfl, by omega, ?_, ⟨by omega, hen, hkn, Or.inr (Or.inr (Or.inr (Or.inr (Or.inr (Or.inr (Or.inl ⟨hk, rfl, mc_L E', ?_, hop, ?_⟩))))))⟩, ?_⟩, ⟨b1, b2, by rw [List.length_cons]; omega, ?_⟩, rfl⟩, Nat.le_refl _, ?_, fun _ _ h => h, mc_Y1 (by omega) g6 (by omega) (fun post hp => ?_)⟩
  · refine ⟨⟨g1, g2b, ⟨⟨?_, ?_⟩, mc_ES_cg E' (fun j hj => ⟨pk_un (by omega), pk_un (by omega)⟩) g3⟩, ⟨pk_us, by simp only [mc_L, List.length_cons]; omega⟩, ⟨⟨pk_us, pk_us, ?_⟩, ⟨?_, ?_, ?_⟩, mc_KS_cg K' (fun j hj => ⟨pk_un (by omega), by rw [pk_un (by omega), pk_un (by omega)], pk_un (by omega)⟩) g5.2⟩, ⟨g6, g6'⟩, mc_FM_cg fn ⟨rfl, rfl⟩ (fun j _ hj => ⟨pk_un (by omega), pk_un (by omega)⟩) g7⟩, mc_M_cg r (fun j hj => rfl) (fun j hj => ⟨rfl, rfl⟩) (fun j hj => ⟨pk_un (by omega), pk_un (by omega)⟩) (fun j hj => ⟨pk_un (by omega), rfl, rfl⟩) (fun j hj => ⟨pk_un (by omega), by rw [pk_un (by omega), pk_un (by omega)], pk_un (by omega)⟩) g8⟩
    · rw [Nat.add_assoc]; exact pk_us
    · rw [Nat.add_assoc]; exact pk_us
    · rw [← g5.1.2.2]; exact pk_us
    · rw [pk_un (by omega)]; exact g5.1.1
    · rw [pk_un (by omega), pk_us]
    · rw [pk_un (by omega)]; exact g5.1.2.2
  · intro z hz
    rcases List.mem_cons.mp hz with q | q
    · rw [q]; exact v1 (false, x, s, v) (List.mem_cons_self)
    · exact v1 z (List.mem_cons_of_mem _ q)
  · simp only [mc_L, List.length_cons]
    rw [show 2 + (E'.length + 1) = 3 + E'.length by omega]
    exact hcode
  · simp only [mc_L, List.length_cons]
    rw [show 3 + (E'.length + 1) - 2 = 2 + E'.length by omega]
  · simp only [List.length_cons]
    rw [show 3 + (E'.length + 1) - 1 = 3 + E'.length by omega]
    exact hcont
  · simp only [mc_L, List.length_cons]
    rw [show 2 + (E'.length + 1) = 3 + E'.length by omega]
    exact hbu
  · have := hbu.2.1
    simp only [List.length_cons]
    omega
  · have := mc_pk2 (Y := b_ey) (l := l) (l' := l) (K := a_kindOf) (X := a_partX) (W := a_weightOf) (e := e) (y := tb_c b_ey e) (by rw [hkc]; decide) (by omega) K'
    omega
  · refine ys_head (k := 14) (h := mc_hi r + K'.length) (by omega) g5.1.1 (by omega) hk (by omega) g5.1.2.1 ?_
    rw [if_pos (by omega)]
    refine ys_c (by omega) (by omega) (by omega) (by omega) ?_
    refine yc_1l (t := mc_vt r + mc_nv E') (h := mc_hi r + K'.length + 1) (b := r.length) (L := mc_m8 fn + (mc_L E').length) (by omega) hk (by omega) (by omega) hl (by omega) g4 (by omega) ?_
    rw [y1, g2a, g2a']
    exact hp
/-- LET is done: its value is dropped from below the top -/
theorem sm_let2 : ∀ {f_codeEnd f_depth f_letCount f_height f_heldNames f_usedCount f_marking f_waitCount f_levelNow : Int32} {f_marks : Int64} {a_kindOf a_partX a_partY a_partZ a_weightOf a_needOf a_names a_known a_knownNumber a_functionOf a_op a_operand a_workNode a_workPhase a_workLast a_workPatch a_letPlace a_isUsed a_functionAt a_heldCount a_waiting a_openFrame a_openAt : Nat → Int32} {a_cells a_globals a_stack : Nat → Int64}, ∀ {g_how : Int32} {b_ey b_ez b_globalSort b_global b_body b_heldSort b_held b_needed b_envSort b_env b_length b_base b_floor b_begun b_stage b_last b_valueSort b_value : Nat → Int32} {n fc : Nat} {P : Nat → Nat → Nat → Prop} {E : List mc_E} {Ks : List mc_F} {fn : mc_Fn} {p : Nat} {r : List mc_Bd} {sc Φ : Nat} {e : Nat} {l : Bool} {K' : List mc_F} {L' : List Nat} {x : Int64} {s v : Int32} {E' : List mc_E} (_ : rl_St n fc a_kindOf a_partX b_ey b_ez a_weightOf a_names a_partY a_partZ a_needOf a_known a_knownNumber a_functionOf a_op a_operand) (_ : rl_Hp n a_kindOf a_partX a_names a_functionOf P f_usedCount f_marks f_marking f_waitCount a_isUsed a_functionAt a_heldCount a_cells a_waiting a_globals b_body b_heldSort b_held b_globalSort b_global) (_ : mc_G n a_kindOf a_partX b_ey b_ez a_weightOf a_names a_known a_knownNumber a_functionOf a_op a_operand P a_cells a_stack a_openFrame a_openAt b_envSort b_env b_length b_base b_floor b_begun b_stage b_last b_valueSort b_value E Ks fn p r sc Φ) (_ : Ks = (e, 2, l) :: K') (_ : E = (false, x, s, v) :: E') (_ : e < n) (_ : a_kindOf e = 14) (_ : p < 1560) (_ : mc_L E = (2 + E.length - 2) :: L') (_ : a_op p = 21) (_ : mc_K n a_kindOf a_partX b_ey b_ez a_weightOf a_names a_known a_knownNumber a_functionOf a_op a_operand (mc_hm a_names fn) K' L' (2 + E.length - 1) (p + 1)), mc_Res Φ (nI n, nI fc, f_codeEnd, f_depth, f_letCount, f_height, f_heldNames, f_usedCount, f_marks, f_marking, f_waitCount, nI (mc_xt r + 2 + E.length), nI (mc_xt r), nI p, nI r.length, nI sc, 0, 0, f_levelNow, a_kindOf, a_partX, a_partY, a_partZ, a_weightOf, a_needOf, a_names, a_known, a_knownNumber, a_functionOf, a_op, a_operand, a_workNode, a_workPhase, a_workLast, a_workPatch, a_letPlace, a_isUsed, a_functionAt, a_heldCount, a_cells, a_waiting, a_globals, a_stack, a_openFrame, a_openAt) (nI n, nI fc, nI (r.length + 1), nI (mc_hi r + Ks.length), nI (mc_vt r + mc_nv E), nI sc, 0, g_how, 0, 0, a_kindOf, a_partX, b_ey, b_ez, a_weightOf, a_names, b_globalSort, b_global, b_body, b_heldSort, b_held, b_needed, b_envSort, b_env, b_length, b_base, b_floor, b_begun, b_stage, b_last, b_valueSort, b_value) := by
  intro f_codeEnd f_depth f_letCount f_height f_heldNames f_usedCount f_marking f_waitCount f_levelNow f_marks a_kindOf a_partX a_partY a_partZ a_weightOf a_needOf a_names a_known a_knownNumber a_functionOf a_op a_operand a_workNode a_workPhase a_workLast a_workPatch a_letPlace a_isUsed a_functionAt a_heldCount a_waiting a_openFrame a_openAt a_cells a_globals a_stack g_how b_ey b_ez b_globalSort b_global b_body b_heldSort b_held b_needed b_envSort b_env b_length b_base b_floor b_begun b_stage b_last b_valueSort b_value n fc P E Ks fn p r sc Φ e l K' L' x s v E' h1 h2 h3 hKs hE hen hk hp1 hL hop hcont
  subst hKs hE
  obtain ⟨bb, x2, s2, v2', E2, rfl⟩ : ∃ bb x2 s2 v2' E2, E' = (bb, x2, s2, v2') :: E2 := by
    cases E' with
    | nil => simp [mc_L] at hL
    | cons a E2 => exact ⟨a.1, a.2.1, a.2.2.1, a.2.2.2, E2, rfl⟩
  have hbb : bb = true := by
    cases bb with
    | true => rfl
    | false =>
      simp only [mc_L, List.length_cons] at hL
      have := mc_L_lt E2 (2 + (E2.length + 1 + 1) - 2) (by rw [hL]; exact List.mem_cons_self)
      omega
  subst hbb
  have hL2 : mc_L E2 = L' := by
    simp only [mc_L] at hL
    exact (List.cons.inj hL).2
  subst hL2
  obtain ⟨⟨⟨g1, g2, g3, ⟨g4, g4'⟩, g5, ⟨g6, g6'⟩, g7⟩, g8⟩, ⟨⟨v1, v2⟩, v3⟩, hC, hnow, ⟨b1, b2, b3, b4⟩, hΦ⟩ := h3
  have hn := h1.1
  have bnd := mc_C_b r hC
  have nvl := mc_nvL E2
  have m8 := mc_m8_le fn
  simp only [List.length_cons] at b4 b3 hcont
  simp only [mc_L, List.length_cons] at g4 g4'
  rw [show 2 + (E2.length + 1 + 1) - 1 = 2 + (E2.length + 1) by omega] at hcont
  obtain ⟨⟨g2a, g2a'⟩, g2b⟩ := g2
  have hpk := mc_pk3 (K := a_kindOf) (X := a_partX) (Y := b_ey) (W := a_weightOf) (e := e) (l := l) K'
  have hx : a_stack (mc_xt r + 2 + E2.length + 1) = x := g1.1
  have g1b : mc_XS a_stack (mc_xt r + 2) E2 := g1.2.2
  have g3b : mc_ES b_envSort b_env (24 * r.length + mc_m8 fn) E2 := g3.2
  have g2c : mc_VS b_valueSort b_value (mc_vt r) E2 := g2b
  refine Or.inl ⟨(nI n, nI fc, f_codeEnd, f_depth, f_letCount, f_height, f_heldNames, f_usedCount, f_marks, f_marking, f_waitCount, nI (mc_xt r + 2 + ((false, x, s, v) :: E2).length), nI (mc_xt r), nI (p + 1), nI r.length, nI sc, 0, 0, f_levelNow, a_kindOf, a_partX, a_partY, a_partZ, a_weightOf, a_needOf, a_names, a_known, a_knownNumber, a_functionOf, a_op, a_operand, a_workNode, a_workPhase, a_workLast, a_workPatch, a_letPlace, a_isUsed, a_functionAt, a_heldCount, a_cells, a_waiting, a_globals, vp_updL a_stack (mc_xt r + 2 + E2.length) x, a_openFrame, a_openAt), (nI n, nI fc, nI (r.length + 1), nI (mc_hi r + K'.length), nI (mc_vt r + mc_nv ((false, x, s, v) :: E2)), nI sc, 0, g_how, 0, 0, a_kindOf, a_partX, b_ey, b_ez, a_weightOf, a_names, b_globalSort, b_global, b_body, b_heldSort, b_held, b_needed, b_envSort, b_env, upd b_length r.length (nI (mc_m8 fn + (mc_L E2).length)), b_base, b_floor, b_begun, upd b_stage (mc_hi r + K'.length) (nI 3), b_last, b_valueSort, b_value), _, 1, mc_in (E := (false, x, s, v) :: E2) (Ks := K') (fn := fn) (r := r) (p := p + 1) h1 h2 ⟨?_, ⟨⟨fun z hz => ?_, v2⟩, v3⟩, hC, Or.inr ⟨x, s, v, E2, rfl, hcont⟩, ⟨b1, b2, by rw [List.length_cons]; omega, by omega⟩, rfl⟩, Nat.le_refl _, by omega, mc_X1 (fun post hq => ?_), mc_Y1 (by omega) g6 (by omega) (fun post hp => ?_)⟩
  · refine ⟨⟨⟨pk_uLs, mc_XS_cg E2 (fun j hj => pk_uLn (by omega)) g1b⟩, ⟨⟨g2a, g2a'⟩, g2c⟩, g3b, ⟨pk_us, by simp only [mc_L]; omega⟩, mc_KS_cg K' (fun j hj => ⟨rfl, pk_un (by omega), rfl⟩) g5.2, ⟨g6, g6'⟩, mc_FM_cg fn ⟨pk_uLn (by omega), pk_uLn (by omega)⟩ (fun j _ hj => ⟨rfl, rfl⟩) g7⟩, mc_M_cg r (fun j hj => pk_uLn (by omega)) (fun j hj => ⟨rfl, rfl⟩) (fun j hj => ⟨rfl, rfl⟩) (fun j hj => ⟨pk_un (by omega), rfl, rfl⟩) (fun j hj => ⟨rfl, pk_un (by omega), rfl⟩) g8⟩
  · rcases List.mem_cons.mp hz with q | q
    · rw [q]; exact v1 (false, x, s, v) (List.mem_cons_self)
    · exact v1 z (List.mem_cons_of_mem _ (List.mem_cons_of_mem _ q))
  · refine xs_keep (t := mc_xt r + 2 + E2.length) hp1 hop (by omega) ?_
    rw [hx]
    exact hq
  · refine ys_head (k := 14) (h := mc_hi r + K'.length) (by omega) g5.1.1 (by omega) hk (by omega) g5.1.2.1 ?_
    rw [if_pos (by omega)]
    exact ys_c (by omega) (by omega) (by omega) (by omega) (yc_2l (b := r.length) (h := mc_hi r + K'.length) (L := mc_m8 fn + (mc_L E2).length) (by omega) hk (by omega) g4 hp)
end
section
/-! the simulation: values that are pushed -/

section
variable {n : Nat} {K X Y Z W M KN KV FO OP OD : Nat → Int32} {P : Nat → Nat → Nat → Prop} {cs st st' : Nat → Int64} {oF oA es ev ln bs fl bg sg la vs vv bg' sg' la' vs' vv' : Nat → Int32} {E : List mc_E} {f : mc_F} {K' : List mc_F} {fn : mc_Fn} {p q : Nat} {r : List mc_Bd} {sc Φ : Nat} {x : Int64} {s v : Int32}
theorem mc_Gpush (h3 : mc_G n K X Y Z W M KN KV FO OP OD P cs st oF oA es ev ln bs fl bg sg la vs vv E (f :: K') fn p r sc Φ) (hst : st' (mc_xt r + 2 + E.length) = x) (hst2 : ∀ j, j < mc_xt r + 2 + E.length → st' j = st j) (hvs : vs' (mc_vt r + mc_nv E) = s ∧ vv' (mc_vt r + mc_nv E) = v) (hvs2 : ∀ j, j < mc_vt r + mc_nv E → vs' j = vs j ∧ vv' j = vv j) (hbg : ∀ j, j < mc_hi r + K'.length → bg' j = bg j ∧ sg' j = sg j ∧ la' j = la j)
    (hK : mc_K n K X Y Z W M KN KV FO OP OD (mc_hm M fn) K' (mc_L E) (3 + E.length) q) (hV : hp_V P x s v) (hb : E.length + 1 ≤ 30) :
    mc_G n K X Y Z W M KN KV FO OP OD P cs st' oF oA es ev ln bs fl bg' sg' la' vs' vv' ((false, x, s, v) :: E) K' fn q r sc ((200 - sc) * 91 + (mc_pp K X Y W K' + 1) + mc_pb K X Y W r) := by
  obtain ⟨⟨⟨g1, g2, g3, ⟨g4, g4'⟩, g5, ⟨g6, g6'⟩, g7⟩, g8⟩, ⟨⟨v1, v2⟩, v3⟩, hC, hnow, ⟨b1, b2, b3, b4⟩, hΦ⟩ := h3
  simp only [List.length_cons] at b4
  refine ⟨⟨⟨⟨hst, mc_XS_cg E (fun j hj => hst2 j (by omega)) g1⟩, ⟨hvs, mc_VS_cg E hvs2 g2⟩, g3, ⟨g4, g4'⟩, mc_KS_cg K' hbg g5.2, ⟨g6, g6'⟩, mc_FM_cg fn ⟨hst2 _ (by omega), hst2 _ (by omega)⟩ (fun j _ _ => ⟨rfl, rfl⟩) g7⟩, mc_M_cg r (fun j hj => hst2 j (by omega)) (fun j hj => hvs2 j (by omega)) (fun j hj => ⟨rfl, rfl⟩) (fun j hj => ⟨rfl, rfl, rfl⟩) (fun j hj => hbg j (by omega)) g8⟩, ⟨⟨fun z hz => ?_, v2⟩, v3⟩, hC, Or.inr ⟨x, s, v, E, rfl, ?_⟩, ⟨b1, b2, by rw [List.length_cons]; omega, by omega⟩, rfl⟩
  · rcases List.mem_cons.mp hz with q | q
    · rw [q]; exact hV
    · exact v1 z q
  · rw [List.length_cons, show 2 + (E.length + 1) = 3 + E.length by omega]
    exact hK
end
theorem mc_pk4 {K X Y W : Nat → Int32} {e : Nat} {l : Bool} (hw : 1 ≤ tb_c W e) (Ks : List mc_F) : mc_pp K X Y W Ks + 1 ≤ mc_pp K X Y W ((e, 0, l) :: Ks) := by
  simp only [mc_pp, mc_pk]
  omega
/-- a LET's value: its place on the stack, its place in the environment -/
theorem mc_let_get {st : Nat → Int64} {es ev : Nat → Int32} {fr b : Nat} : ∀ (E : List mc_E) (i : Nat), i < (mc_L E).length → mc_XS st (fr + 2) E → mc_ES es ev b E →
    ∃ x s v, (true, x, s, v) ∈ E ∧ st (fr + (mc_L E).getD i 0) = x ∧ es (b + (mc_L E).length - 1 - i) = s ∧ ev (b + (mc_L E).length - 1 - i) = v ∧ (mc_L E).getD i 0 < 2 + E.length
  | [], i, h, _, _ => by simp [mc_L] at h
  | (false, a) :: E, i, h, g1, g2 => by
    obtain ⟨x, s, v, h1, h2, h3, h4, h5⟩ := mc_let_get E i h g1.2 g2
    exact ⟨x, s, v, List.mem_cons_of_mem _ h1, h2, h3, h4, by rw [List.length_cons]; simp only [mc_L]; omega⟩
  | (true, x, s, v) :: E, i, h, g1, g2 => by
    cases i with
    | zero =>
      refine ⟨x, s, v, List.mem_cons_self, ?_, ?_, ?_, ?_⟩
      · simp only [mc_L, List.getD_cons_zero]
        rw [show fr + (2 + E.length) = fr + 2 + E.length by omega]; exact g1.1
      · simp only [mc_L, List.length_cons]
        rw [show b + ((mc_L E).length + 1) - 1 - 0 = b + (mc_L E).length by omega]; exact g2.1.1
      · simp only [mc_L, List.length_cons]
        rw [show b + ((mc_L E).length + 1) - 1 - 0 = b + (mc_L E).length by omega]; exact g2.1.2
      · simp only [mc_L, List.getD_cons_zero, List.length_cons]; omega
    | succ i =>
      simp only [mc_L, List.length_cons] at h
      obtain ⟨x', s', v', h1, h2, h3, h4, h5⟩ := mc_let_get E i (by omega) g1.2 g2.2
      refine ⟨x', s', v', List.mem_cons_of_mem _ h1, ?_, ?_, ?_, ?_⟩
      · simp only [mc_L, List.getD_cons_succ]; exact h2
      · simp only [mc_L, List.length_cons]
        rw [show b + ((mc_L E).length + 1) - 1 - (i + 1) = b + (mc_L E).length - 1 - i by omega]; exact h3
      · simp only [mc_L, List.length_cons]
        rw [show b + ((mc_L E).length + 1) - 1 - (i + 1) = b + (mc_L E).length - 1 - i by omega]; exact h4
      · simp only [mc_L, List.getD_cons_succ, List.length_cons]; omega
/-- a variable: X's operation pushes x; Y finds (s, v) in the environment -/
theorem mc_var {FT : Nat → Nat → Nat → Nat → Prop} {P : Nat → Nat → Nat → Prop} {fa hA : Nat → Int32} {cs st : Nat → Int64} {bd hs hv M OP OD es ev : Nat → Int32} {E : List mc_E} {fn : mc_Fn} {fr b i p : Nat} (hH : hp_H FT P fa hA cs bd hs hv) (hi : i ≤ 7) (g1 : mc_XS st (fr + 2) E) (g3 : mc_ES es ev (24 * b + mc_m8 fn) E) (g7 : mc_FM st es ev fr b fn) (v1 : ∀ x, x ∈ E → hp_V P x.2.1 x.2.2.1 x.2.2.2) (v2 : mc_VF P M cs es ev b fn) (hfr : fr + 2 + E.length ≤ 490) (hp1 : p < 1560) (hc : cp_V OP OD (mc_hm M fn) (mc_L E) i p) :
    ∃ x s v, hp_V P x s v ∧ i < mc_m8 fn + (mc_L E).length ∧ es (24 * b + (mc_m8 fn + (mc_L E).length) - 1 - i) = s ∧ ev (24 * b + (mc_m8 fn + (mc_L E).length) - 1 - i) = v ∧
      ∀ {f_expressionCount f_functionCount f_codeEnd f_depth f_letCount f_height f_heldNames f_usedCount f_marking f_waitCount f_openCount f_stepCount f_resultSort f_resultNumber f_levelNow : Int32} {f_marks : Int64} {a_kindOf a_partX a_partY a_partZ a_weightOf a_needOf a_names a_known a_knownNumber a_functionOf a_workNode a_workPhase a_workLast a_workPatch a_letPlace a_isUsed a_functionAt a_heldCount a_waiting a_openFrame a_openAt : Nat → Int32} {a_globals : Nat → Int64} (t : Nat) (st' : Nat → Int64) (post : Int32 → SX → Prop), t < 500 → (∀ j, j < fr + 2 + E.length → st' j = st j) → post (-1) (f_expressionCount, f_functionCount, f_codeEnd, f_depth, f_letCount, f_height, f_heldNames, f_usedCount, f_marks, f_marking, f_waitCount, nI (t + 1), nI fr, nI (p + 1), f_openCount, f_stepCount, f_resultSort, f_resultNumber, f_levelNow, a_kindOf, a_partX, a_partY, a_partZ, a_weightOf, a_needOf, a_names, a_known, a_knownNumber, a_functionOf, OP, OD, a_workNode, a_workPhase, a_workLast, a_workPatch, a_letPlace, a_isUsed, a_functionAt, a_heldCount, cs, a_waiting, a_globals, vp_updL st' t x, a_openFrame, a_openAt) → wpX_step post (f_expressionCount, f_functionCount, f_codeEnd, f_depth, f_letCount, f_height, f_heldNames, f_usedCount, f_marks, f_marking, f_waitCount, nI t, nI fr, nI p, f_openCount, f_stepCount, f_resultSort, f_resultNumber, f_levelNow, a_kindOf, a_partX, a_partY, a_partZ, a_weightOf, a_needOf, a_names, a_known, a_knownNumber, a_functionOf, OP, OD, a_workNode, a_workPhase, a_workLast, a_workPatch, a_letPlace, a_isUsed, a_functionAt, a_heldCount, cs, a_waiting, a_globals, st', a_openFrame, a_openAt) := by
  rcases hc with ⟨c1, c2, c3⟩ | ⟨mk, c0, c1, c2, c3, c4⟩ | ⟨mk, c0, c1, c2, c3, c4⟩
  · obtain ⟨x, s, v, h1, h2, h3, h4, h5⟩ := mc_let_get E i c1 g1 g3
    refine ⟨x, s, v, v1 _ h1, by omega, ?_, ?_, fun t st' post ht hst hq => ?_⟩
    · rw [show 24 * b + (mc_m8 fn + (mc_L E).length) - 1 - i = 24 * b + mc_m8 fn + (mc_L E).length - 1 - i by omega]; exact h3
    · rw [show 24 * b + (mc_m8 fn + (mc_L E).length) - 1 - i = 24 * b + mc_m8 fn + (mc_L E).length - 1 - i by omega]; exact h4
    · refine xs_fs hp1 c2 c3 (by omega) ht ?_
      rw [hst _ (by omega), h2]
      exact hq
  · cases fn with
    | none => exact absurd c0 (by simp [mc_hm])
    | some a =>
      obtain ⟨o, w, e, ax, as, av⟩ := a
      obtain ⟨⟨f1, f2⟩, ⟨f3, f4⟩, f5, f6⟩ := g7
      obtain ⟨w1, w2, w3⟩ := v2
      by_cases z : i = (mc_L E).length
      · refine ⟨ax, as, av, w2, by simp only [mc_m8]; omega, ?_, ?_, fun t st' post ht hst hq => ?_⟩
        · simp only [mc_m8]
          rw [show 24 * b + (8 + (mc_L E).length) - 1 - i = 24 * b + 7 by omega]; exact f5
        · simp only [mc_m8]
          rw [show 24 * b + (8 + (mc_L E).length) - 1 - i = 24 * b + 7 by omega]; exact f6
        · rw [show (mc_L E).length + 1 - i = 1 by omega] at c4
          refine xs_fs hp1 c3 c4 (by omega) ht ?_
          rw [hst _ (by omega), f2]
          exact hq
      · refine ⟨vl_ob o, 3, nI w, Or.inr (Or.inr ⟨o, w, e + 1, w1, rfl, rfl, by rw [if_neg (by omega)]⟩), by simp only [mc_m8]; omega, ?_, ?_, fun t st' post ht hst hq => ?_⟩
        · simp only [mc_m8]
          rw [show 24 * b + (8 + (mc_L E).length) - 1 - i = 24 * b + 6 by omega]; exact f3
        · simp only [mc_m8]
          rw [show 24 * b + (8 + (mc_L E).length) - 1 - i = 24 * b + 6 by omega]; exact f4
        · rw [show (mc_L E).length + 1 - i = 0 by omega] at c4
          refine xs_fs hp1 c3 c4 (by omega) ht ?_
          have e0 : st (fr + 0) = vl_ob o := f1
          rw [hst _ (by omega), e0]
          exact hq
  · cases fn with
    | none => exact absurd c0 (by simp [mc_hm])
    | some a =>
      obtain ⟨o, w, e, ax, as, av⟩ := a
      obtain ⟨⟨f1, f2⟩, ⟨f3, f4⟩, f5, f6⟩ := g7
      obtain ⟨w1, w2, w3⟩ := v2
      have emk : mk = tb_c M e := by simp only [mc_hm, Option.some.injEq] at c0; exact c0.symm
      subst emk
      have hr := hp_rk_le (tb_c M e) (i - (mc_L E).length - 2)
      have ho := hp_o40 hH _ _ _ w1
      have hF := (w3 (i - (mc_L E).length - 2) (by omega)).1 c2
      refine ⟨_, _, _, hF, by simp only [mc_m8]; omega, ?_, ?_, fun t st' post ht hst hq => ?_⟩
      · simp only [mc_m8]
        rw [show 24 * b + (8 + (mc_L E).length) - 1 - i = 24 * b + 5 - (i - (mc_L E).length - 2) by omega]
      · simp only [mc_m8]
        rw [show 24 * b + (8 + (mc_L E).length) - 1 - i = 24 * b + 5 - (i - (mc_L E).length - 2) by omega]
      · exact xs_ff (j := hp_rk (tb_c M e) (i - (mc_L E).length - 2)) (c := o) hp1 c3 c4 (by omega) ho (by omega) (by rw [hst _ (by omega)]; exact f1) ht hq
/-- one step of Y for a leaf, one step of X -/
theorem sm_leaf : ∀ {f_codeEnd f_depth f_letCount f_height f_heldNames f_usedCount f_marking f_waitCount f_levelNow : Int32} {f_marks : Int64} {a_kindOf a_partX a_partY a_partZ a_weightOf a_needOf a_names a_known a_knownNumber a_functionOf a_op a_operand a_workNode a_workPhase a_workLast a_workPatch a_letPlace a_isUsed a_functionAt a_heldCount a_waiting a_openFrame a_openAt : Nat → Int32} {a_cells a_globals a_stack : Nat → Int64}, ∀ {g_how : Int32} {b_ey b_ez b_globalSort b_global b_body b_heldSort b_held b_needed b_envSort b_env b_length b_base b_floor b_begun b_stage b_last b_valueSort b_value : Nat → Int32} {n fc : Nat} {P : Nat → Nat → Nat → Prop} {E : List mc_E} {Ks : List mc_F} {fn : mc_Fn} {p : Nat} {r : List mc_Bd} {sc Φ : Nat} {e k q : Nat} {l : Bool} {K' : List mc_F} {x : Int64} {s v : Int32} (_ : rl_St n fc a_kindOf a_partX b_ey b_ez a_weightOf a_names a_partY a_partZ a_needOf a_known a_knownNumber a_functionOf a_op a_operand) (_ : rl_Hp n a_kindOf a_partX a_names a_functionOf P f_usedCount f_marks f_marking f_waitCount a_isUsed a_functionAt a_heldCount a_cells a_waiting a_globals b_body b_heldSort b_held b_globalSort b_global) (_ : mc_G n a_kindOf a_partX b_ey b_ez a_weightOf a_names a_known a_knownNumber a_functionOf a_op a_operand P a_cells a_stack a_openFrame a_openAt b_envSort b_env b_length b_base b_floor b_begun b_stage b_last b_valueSort b_value E Ks fn p r sc Φ) (_ : Ks = (e, 0, l) :: K') (_ : e < n) (_ : a_kindOf e = nI k) (_ : k ≤ 19) (_ : ¬ k = 15) (_ : ¬ tb_hx k = true ∧ ¬ tb_hy k = true) (_ : mc_K n a_kindOf a_partX b_ey b_ez a_weightOf a_names a_known a_knownNumber a_functionOf a_op a_operand (mc_hm a_names fn) K' (mc_L E) (3 + E.length) q) (_ : mc_Bu a_weightOf e (mc_L E) (2 + E.length) K'.length) (_ : hp_V P x s v)
    (_ : ∀ post : Int32 → SX → Prop, post (-1) (nI n, nI fc, f_codeEnd, f_depth, f_letCount, f_height, f_heldNames, f_usedCount, f_marks, f_marking, f_waitCount, nI (mc_xt r + 2 + E.length + 1), nI (mc_xt r), nI q, nI r.length, nI sc, 0, 0, f_levelNow, a_kindOf, a_partX, a_partY, a_partZ, a_weightOf, a_needOf, a_names, a_known, a_knownNumber, a_functionOf, a_op, a_operand, a_workNode, a_workPhase, a_workLast, a_workPatch, a_letPlace, a_isUsed, a_functionAt, a_heldCount, a_cells, a_waiting, a_globals, vp_updL a_stack (mc_xt r + 2 + E.length) x, a_openFrame, a_openAt) → wpX_step post (nI n, nI fc, f_codeEnd, f_depth, f_letCount, f_height, f_heldNames, f_usedCount, f_marks, f_marking, f_waitCount, nI (mc_xt r + 2 + E.length), nI (mc_xt r), nI p, nI r.length, nI sc, 0, 0, f_levelNow, a_kindOf, a_partX, a_partY, a_partZ, a_weightOf, a_needOf, a_names, a_known, a_knownNumber, a_functionOf, a_op, a_operand, a_workNode, a_workPhase, a_workLast, a_workPatch, a_letPlace, a_isUsed, a_functionAt, a_heldCount, a_cells, a_waiting, a_globals, a_stack, a_openFrame, a_openAt))
    (_ : ∀ post : SY → Prop, post (nI n, nI fc, nI (r.length + 1), nI (mc_hi r + K'.length), nI (mc_vt r + mc_nv E + 1), nI sc, 0, g_how, 0, 0, a_kindOf, a_partX, b_ey, b_ez, a_weightOf, a_names, b_globalSort, b_global, b_body, b_heldSort, b_held, b_needed, b_envSort, b_env, b_length, b_base, b_floor, b_begun, upd b_stage (mc_hi r + K'.length) (nI 1), b_last, upd b_valueSort (mc_vt r + mc_nv E) s, upd b_value (mc_vt r + mc_nv E) v) → wpY_leaf post (nI n, nI fc, nI (r.length + 1), nI (mc_hi r + K'.length), nI (mc_vt r + mc_nv E), nI sc, 0, g_how, 0, 0, a_kindOf, a_partX, b_ey, b_ez, a_weightOf, a_names, b_globalSort, b_global, b_body, b_heldSort, b_held, b_needed, b_envSort, b_env, b_length, b_base, b_floor, b_begun, upd b_stage (mc_hi r + K'.length) (nI 1), b_last, b_valueSort, b_value) (nI k) (a_partX e)), mc_Res Φ (nI n, nI fc, f_codeEnd, f_depth, f_letCount, f_height, f_heldNames, f_usedCount, f_marks, f_marking, f_waitCount, nI (mc_xt r + 2 + E.length), nI (mc_xt r), nI p, nI r.length, nI sc, 0, 0, f_levelNow, a_kindOf, a_partX, a_partY, a_partZ, a_weightOf, a_needOf, a_names, a_known, a_knownNumber, a_functionOf, a_op, a_operand, a_workNode, a_workPhase, a_workLast, a_workPatch, a_letPlace, a_isUsed, a_functionAt, a_heldCount, a_cells, a_waiting, a_globals, a_stack, a_openFrame, a_openAt) (nI n, nI fc, nI (r.length + 1), nI (mc_hi r + Ks.length), nI (mc_vt r + mc_nv E), nI sc, 0, g_how, 0, 0, a_kindOf, a_partX, b_ey, b_ez, a_weightOf, a_names, b_globalSort, b_global, b_body, b_heldSort, b_held, b_needed, b_envSort, b_env, b_length, b_base, b_floor, b_begun, b_stage, b_last, b_valueSort, b_value) := by
  intro f_codeEnd f_depth f_letCount f_height f_heldNames f_usedCount f_marking f_waitCount f_levelNow f_marks a_kindOf a_partX a_partY a_partZ a_weightOf a_needOf a_names a_known a_knownNumber a_functionOf a_op a_operand a_workNode a_workPhase a_workLast a_workPatch a_letPlace a_isUsed a_functionAt a_heldCount a_waiting a_openFrame a_openAt a_cells a_globals a_stack g_how b_ey b_ez b_globalSort b_global b_body b_heldSort b_held b_needed b_envSort b_env b_length b_base b_floor b_begun b_stage b_last b_valueSort b_value n fc P E Ks fn p r sc Φ e k q l K' x s v h1 h2 h3 hKs hen hk hk19 h15 hxy hK hbu hV hX hY
  subst hKs
  have hbw := tb_N_w (h1.2.2.1 e hen).1
  have b3' := hbu.1
  have hG := mc_Gpush (st' := vp_updL a_stack (mc_xt r + 2 + E.length) x) (vs' := upd b_valueSort (mc_vt r + mc_nv E) s) (vv' := upd b_value (mc_vt r + mc_nv E) v) (sg' := upd b_stage (mc_hi r + K'.length) (nI 1)) (bg' := b_begun) (la' := b_last) h3 pk_uLs (fun j hj => pk_uLn (by omega)) ⟨pk_us, pk_us⟩ (fun j hj => ⟨pk_un (by omega), pk_un (by omega)⟩) (fun j hj => ⟨rfl, pk_un (by omega), rfl⟩) hK hV (by omega)
  have hpk := mc_pk4 (K := a_kindOf) (X := a_partX) (Y := b_ey) (l := l) hbw K'
  obtain ⟨⟨⟨g1, g2, g3, ⟨g4, g4'⟩, g5, ⟨g6, g6'⟩, g7⟩, g8⟩, ⟨⟨v1, v2⟩, v3⟩, hC, hnow, ⟨b1, b2, b3, b4⟩, hΦ⟩ := h3
  have hn := h1.1
  have bnd := mc_C_b r hC
  simp only [List.length_cons] at b4
  refine Or.inl ⟨(nI n, nI fc, f_codeEnd, f_depth, f_letCount, f_height, f_heldNames, f_usedCount, f_marks, f_marking, f_waitCount, nI (mc_xt r + 2 + ((false, x, s, v) :: E).length), nI (mc_xt r), nI q, nI r.length, nI sc, 0, 0, f_levelNow, a_kindOf, a_partX, a_partY, a_partZ, a_weightOf, a_needOf, a_names, a_known, a_knownNumber, a_functionOf, a_op, a_operand, a_workNode, a_workPhase, a_workLast, a_workPatch, a_letPlace, a_isUsed, a_functionAt, a_heldCount, a_cells, a_waiting, a_globals, vp_updL a_stack (mc_xt r + 2 + E.length) x, a_openFrame, a_openAt), (nI n, nI fc, nI (r.length + 1), nI (mc_hi r + K'.length), nI (mc_vt r + mc_nv ((false, x, s, v) :: E)), nI sc, 0, g_how, 0, 0, a_kindOf, a_partX, b_ey, b_ez, a_weightOf, a_names, b_globalSort, b_global, b_body, b_heldSort, b_held, b_needed, b_envSort, b_env, b_length, b_base, b_floor, b_begun, upd b_stage (mc_hi r + K'.length) (nI 1), b_last, upd b_valueSort (mc_vt r + mc_nv E) s, upd b_value (mc_vt r + mc_nv E) v), _, 1, mc_in (E := (false, x, s, v) :: E) (Ks := K') (fn := fn) (r := r) (p := q) h1 h2 hG, Nat.le_refl _, by omega, mc_X1 hX, mc_Y1 (by omega) g6 (by omega) (fun post hp => ?_)⟩
  refine ys_head (h := mc_hi r + K'.length) (by omega) g5.1.1 (by omega) hk hk19 g5.1.2.1 ?_
  have h8 : ¬ (k = 8 ∨ k = 14 ∨ k = 19) := fun c => hxy.1 (by rw [tb_hx_t]; omega)
  rw [if_neg h8]
  exact ys_l (h := mc_hi r + K'.length) (by omega) hk19 (Or.inr hxy) (hY _ hp)
end
section
/-! the simulation: variables, nothing, globals, known numbers -/

theorem sm_var : ∀ {f_codeEnd f_depth f_letCount f_height f_heldNames f_usedCount f_marking f_waitCount f_levelNow : Int32} {f_marks : Int64} {a_kindOf a_partX a_partY a_partZ a_weightOf a_needOf a_names a_known a_knownNumber a_functionOf a_op a_operand a_workNode a_workPhase a_workLast a_workPatch a_letPlace a_isUsed a_functionAt a_heldCount a_waiting a_openFrame a_openAt : Nat → Int32} {a_cells a_globals a_stack : Nat → Int64}, ∀ {g_how : Int32} {b_ey b_ez b_globalSort b_global b_body b_heldSort b_held b_needed b_envSort b_env b_length b_base b_floor b_begun b_stage b_last b_valueSort b_value : Nat → Int32} {n fc : Nat} {P : Nat → Nat → Nat → Prop} {E : List mc_E} {Ks : List mc_F} {fn : mc_Fn} {p : Nat} {r : List mc_Bd} {sc Φ : Nat} {e q : Nat} {l : Bool} {K' : List mc_F} (_ : rl_St n fc a_kindOf a_partX b_ey b_ez a_weightOf a_names a_partY a_partZ a_needOf a_known a_knownNumber a_functionOf a_op a_operand) (_ : rl_Hp n a_kindOf a_partX a_names a_functionOf P f_usedCount f_marks f_marking f_waitCount a_isUsed a_functionAt a_heldCount a_cells a_waiting a_globals b_body b_heldSort b_held b_globalSort b_global) (_ : mc_G n a_kindOf a_partX b_ey b_ez a_weightOf a_names a_known a_knownNumber a_functionOf a_op a_operand P a_cells a_stack a_openFrame a_openAt b_envSort b_env b_length b_base b_floor b_begun b_stage b_last b_valueSort b_value E Ks fn p r sc Φ) (_ : Ks = (e, 0, l) :: K') (_ : e < n) (_ : a_kindOf e = 1) (_ : cp_V a_op a_operand (mc_hm a_names fn) (mc_L E) (tb_c a_partX e) p) (_ : q = p + 1) (_ : mc_K n a_kindOf a_partX b_ey b_ez a_weightOf a_names a_known a_knownNumber a_functionOf a_op a_operand (mc_hm a_names fn) K' (mc_L E) (3 + E.length) q) (_ : mc_Bu a_weightOf e (mc_L E) (2 + E.length) K'.length), mc_Res Φ (nI n, nI fc, f_codeEnd, f_depth, f_letCount, f_height, f_heldNames, f_usedCount, f_marks, f_marking, f_waitCount, nI (mc_xt r + 2 + E.length), nI (mc_xt r), nI p, nI r.length, nI sc, 0, 0, f_levelNow, a_kindOf, a_partX, a_partY, a_partZ, a_weightOf, a_needOf, a_names, a_known, a_knownNumber, a_functionOf, a_op, a_operand, a_workNode, a_workPhase, a_workLast, a_workPatch, a_letPlace, a_isUsed, a_functionAt, a_heldCount, a_cells, a_waiting, a_globals, a_stack, a_openFrame, a_openAt) (nI n, nI fc, nI (r.length + 1), nI (mc_hi r + Ks.length), nI (mc_vt r + mc_nv E), nI sc, 0, g_how, 0, 0, a_kindOf, a_partX, b_ey, b_ez, a_weightOf, a_names, b_globalSort, b_global, b_body, b_heldSort, b_held, b_needed, b_envSort, b_env, b_length, b_base, b_floor, b_begun, b_stage, b_last, b_valueSort, b_value) := by
  intro f_codeEnd f_depth f_letCount f_height f_heldNames f_usedCount f_marking f_waitCount f_levelNow f_marks a_kindOf a_partX a_partY a_partZ a_weightOf a_needOf a_names a_known a_knownNumber a_functionOf a_op a_operand a_workNode a_workPhase a_workLast a_workPatch a_letPlace a_isUsed a_functionAt a_heldCount a_waiting a_openFrame a_openAt a_cells a_globals a_stack g_how b_ey b_ez b_globalSort b_global b_body b_heldSort b_held b_needed b_envSort b_env b_length b_base b_floor b_begun b_stage b_last b_valueSort b_value n fc P E Ks fn p r sc Φ e q l K' h1 h2 h3 hKs hen hk hcv hq hK hbu
  subst hq
  have hkc : tb_c a_kindOf e = 1 := tb_lit hk
  obtain ⟨x1, x2⟩ := (h1.2.2.1 e hen).1.2.2.2.2.1 hkc
  have hqq := mc_K_q _ _ _ _ hK
  have h3' := h3
  obtain ⟨⟨⟨g1, g2, g3, ⟨g4, g4'⟩, g5, ⟨g6, g6'⟩, g7⟩, g8⟩, ⟨⟨v1, v2⟩, v3⟩, hC, hnow, ⟨b1, b2, b3, b4⟩, hΦ⟩ := h3
  have bnd := mc_C_b r hC
  have nvl := mc_nvL E
  have m8 := mc_m8_le fn
  obtain ⟨x, s, v, hV, hi, es, ev, hX⟩ := mc_var h2.1 x2 g1 g3 g7 v1 v2 (show mc_xt r + 2 + E.length ≤ 490 by omega) (show p < 1560 by omega) hcv
  refine sm_leaf (k := 1) h1 h2 h3' hKs hen hk (by omega) (by omega) (by decide) hK hbu hV (fun post hp => hX _ _ post (by omega) (fun j hj => rfl) hp) (fun post hp => ?_)
  rw [x1]
  refine yl_var (b := r.length) (L := mc_m8 fn + (mc_L E).length) (t := mc_vt r + mc_nv E) (by omega) (by omega) g4 (by omega) hi ?_
  rw [es, ev]
  exact hp
theorem sm_emp : ∀ {f_codeEnd f_depth f_letCount f_height f_heldNames f_usedCount f_marking f_waitCount f_levelNow : Int32} {f_marks : Int64} {a_kindOf a_partX a_partY a_partZ a_weightOf a_needOf a_names a_known a_knownNumber a_functionOf a_op a_operand a_workNode a_workPhase a_workLast a_workPatch a_letPlace a_isUsed a_functionAt a_heldCount a_waiting a_openFrame a_openAt : Nat → Int32} {a_cells a_globals a_stack : Nat → Int64}, ∀ {g_how : Int32} {b_ey b_ez b_globalSort b_global b_body b_heldSort b_held b_needed b_envSort b_env b_length b_base b_floor b_begun b_stage b_last b_valueSort b_value : Nat → Int32} {n fc : Nat} {P : Nat → Nat → Nat → Prop} {E : List mc_E} {Ks : List mc_F} {fn : mc_Fn} {p : Nat} {r : List mc_Bd} {sc Φ : Nat} {e q : Nat} {l : Bool} {K' : List mc_F} (_ : rl_St n fc a_kindOf a_partX b_ey b_ez a_weightOf a_names a_partY a_partZ a_needOf a_known a_knownNumber a_functionOf a_op a_operand) (_ : rl_Hp n a_kindOf a_partX a_names a_functionOf P f_usedCount f_marks f_marking f_waitCount a_isUsed a_functionAt a_heldCount a_cells a_waiting a_globals b_body b_heldSort b_held b_globalSort b_global) (_ : mc_G n a_kindOf a_partX b_ey b_ez a_weightOf a_names a_known a_knownNumber a_functionOf a_op a_operand P a_cells a_stack a_openFrame a_openAt b_envSort b_env b_length b_base b_floor b_begun b_stage b_last b_valueSort b_value E Ks fn p r sc Φ) (_ : Ks = (e, 0, l) :: K') (_ : e < n) (_ : a_kindOf e = 2) (_ : a_op p = 2) (_ : q = p + 1) (_ : mc_K n a_kindOf a_partX b_ey b_ez a_weightOf a_names a_known a_knownNumber a_functionOf a_op a_operand (mc_hm a_names fn) K' (mc_L E) (3 + E.length) q) (_ : mc_Bu a_weightOf e (mc_L E) (2 + E.length) K'.length), mc_Res Φ (nI n, nI fc, f_codeEnd, f_depth, f_letCount, f_height, f_heldNames, f_usedCount, f_marks, f_marking, f_waitCount, nI (mc_xt r + 2 + E.length), nI (mc_xt r), nI p, nI r.length, nI sc, 0, 0, f_levelNow, a_kindOf, a_partX, a_partY, a_partZ, a_weightOf, a_needOf, a_names, a_known, a_knownNumber, a_functionOf, a_op, a_operand, a_workNode, a_workPhase, a_workLast, a_workPatch, a_letPlace, a_isUsed, a_functionAt, a_heldCount, a_cells, a_waiting, a_globals, a_stack, a_openFrame, a_openAt) (nI n, nI fc, nI (r.length + 1), nI (mc_hi r + Ks.length), nI (mc_vt r + mc_nv E), nI sc, 0, g_how, 0, 0, a_kindOf, a_partX, b_ey, b_ez, a_weightOf, a_names, b_globalSort, b_global, b_body, b_heldSort, b_held, b_needed, b_envSort, b_env, b_length, b_base, b_floor, b_begun, b_stage, b_last, b_valueSort, b_value) := by
  intro f_codeEnd f_depth f_letCount f_height f_heldNames f_usedCount f_marking f_waitCount f_levelNow f_marks a_kindOf a_partX a_partY a_partZ a_weightOf a_needOf a_names a_known a_knownNumber a_functionOf a_op a_operand a_workNode a_workPhase a_workLast a_workPatch a_letPlace a_isUsed a_functionAt a_heldCount a_waiting a_openFrame a_openAt a_cells a_globals a_stack g_how b_ey b_ez b_globalSort b_global b_body b_heldSort b_held b_needed b_envSort b_env b_length b_base b_floor b_begun b_stage b_last b_valueSort b_value n fc P E Ks fn p r sc Φ e q l K' h1 h2 h3 hKs hen hk hop hq hK hbu
  subst hq
  have hqq := mc_K_q _ _ _ _ hK
  have h3' := h3
  obtain ⟨⟨⟨g1, g2, g3, ⟨g4, g4'⟩, g5, ⟨g6, g6'⟩, g7⟩, g8⟩, ⟨⟨v1, v2⟩, v3⟩, hC, hnow, ⟨b1, b2, b3, b4⟩, hΦ⟩ := h3
  have bnd := mc_C_b r hC
  have nvl := mc_nvL E
  exact sm_leaf (k := 2) (x := 0) (s := 0) (v := 0) h1 h2 h3' hKs hen hk (by omega) (by omega) (by decide) hK hbu (Or.inl ⟨rfl, rfl⟩) (fun post hp => xs_emp (by omega) hop (by omega) hp) (fun post hp => yl_emp (t := mc_vt r + mc_nv E) (by omega) hp)
theorem sm_glob : ∀ {f_codeEnd f_depth f_letCount f_height f_heldNames f_usedCount f_marking f_waitCount f_levelNow : Int32} {f_marks : Int64} {a_kindOf a_partX a_partY a_partZ a_weightOf a_needOf a_names a_known a_knownNumber a_functionOf a_op a_operand a_workNode a_workPhase a_workLast a_workPatch a_letPlace a_isUsed a_functionAt a_heldCount a_waiting a_openFrame a_openAt : Nat → Int32} {a_cells a_globals a_stack : Nat → Int64}, ∀ {g_how : Int32} {b_ey b_ez b_globalSort b_global b_body b_heldSort b_held b_needed b_envSort b_env b_length b_base b_floor b_begun b_stage b_last b_valueSort b_value : Nat → Int32} {n fc : Nat} {P : Nat → Nat → Nat → Prop} {E : List mc_E} {Ks : List mc_F} {fn : mc_Fn} {p : Nat} {r : List mc_Bd} {sc Φ : Nat} {e q : Nat} {l : Bool} {K' : List mc_F} (_ : rl_St n fc a_kindOf a_partX b_ey b_ez a_weightOf a_names a_partY a_partZ a_needOf a_known a_knownNumber a_functionOf a_op a_operand) (_ : rl_Hp n a_kindOf a_partX a_names a_functionOf P f_usedCount f_marks f_marking f_waitCount a_isUsed a_functionAt a_heldCount a_cells a_waiting a_globals b_body b_heldSort b_held b_globalSort b_global) (_ : mc_G n a_kindOf a_partX b_ey b_ez a_weightOf a_names a_known a_knownNumber a_functionOf a_op a_operand P a_cells a_stack a_openFrame a_openAt b_envSort b_env b_length b_base b_floor b_begun b_stage b_last b_valueSort b_value E Ks fn p r sc Φ) (_ : Ks = (e, 0, l) :: K') (_ : e < n) (_ : a_kindOf e = 17) (_ : a_op p = 17) (_ : a_operand p = a_partX e) (_ : q = p + 1) (_ : mc_K n a_kindOf a_partX b_ey b_ez a_weightOf a_names a_known a_knownNumber a_functionOf a_op a_operand (mc_hm a_names fn) K' (mc_L E) (3 + E.length) q) (_ : mc_Bu a_weightOf e (mc_L E) (2 + E.length) K'.length), mc_Res Φ (nI n, nI fc, f_codeEnd, f_depth, f_letCount, f_height, f_heldNames, f_usedCount, f_marks, f_marking, f_waitCount, nI (mc_xt r + 2 + E.length), nI (mc_xt r), nI p, nI r.length, nI sc, 0, 0, f_levelNow, a_kindOf, a_partX, a_partY, a_partZ, a_weightOf, a_needOf, a_names, a_known, a_knownNumber, a_functionOf, a_op, a_operand, a_workNode, a_workPhase, a_workLast, a_workPatch, a_letPlace, a_isUsed, a_functionAt, a_heldCount, a_cells, a_waiting, a_globals, a_stack, a_openFrame, a_openAt) (nI n, nI fc, nI (r.length + 1), nI (mc_hi r + Ks.length), nI (mc_vt r + mc_nv E), nI sc, 0, g_how, 0, 0, a_kindOf, a_partX, b_ey, b_ez, a_weightOf, a_names, b_globalSort, b_global, b_body, b_heldSort, b_held, b_needed, b_envSort, b_env, b_length, b_base, b_floor, b_begun, b_stage, b_last, b_valueSort, b_value) := by
  intro f_codeEnd f_depth f_letCount f_height f_heldNames f_usedCount f_marking f_waitCount f_levelNow f_marks a_kindOf a_partX a_partY a_partZ a_weightOf a_needOf a_names a_known a_knownNumber a_functionOf a_op a_operand a_workNode a_workPhase a_workLast a_workPatch a_letPlace a_isUsed a_functionAt a_heldCount a_waiting a_openFrame a_openAt a_cells a_globals a_stack g_how b_ey b_ez b_globalSort b_global b_body b_heldSort b_held b_needed b_envSort b_env b_length b_base b_floor b_begun b_stage b_last b_valueSort b_value n fc P E Ks fn p r sc Φ e q l K' h1 h2 h3 hKs hen hk hop hod hq hK hbu
  subst hq
  have hkc : tb_c a_kindOf e = 17 := tb_lit hk
  obtain ⟨x1, x2⟩ := (h1.2.2.1 e hen).1.2.2.2.2.2.1 (Or.inl hkc)
  have hqq := mc_K_q _ _ _ _ hK
  have h3' := h3
  obtain ⟨⟨⟨g1, g2, g3, ⟨g4, g4'⟩, g5, ⟨g6, g6'⟩, g7⟩, g8⟩, ⟨⟨v1, v2⟩, v3⟩, hC, hnow, ⟨b1, b2, b3, b4⟩, hΦ⟩ := h3
  have bnd := mc_C_b r hC
  have nvl := mc_nvL E
  refine sm_leaf (k := 17) h1 h2 h3' hKs hen hk (by omega) (by omega) (by decide) hK hbu (h2.2.2 (tb_c a_partX e) (by omega)) (fun post hp => xs_gl (g := tb_c a_partX e) (by omega) hop (hod.trans x1) (by omega) (by omega) hp) (fun post hp => ?_)
  rw [x1]
  exact yl_glob (t := mc_vt r + mc_nv E) (by omega) (by omega) hp
/-- the reference works out what is known beforehand -/
theorem yk_known {n fc : Nat} {K X Y Z W M PY PZ KN KV FO : Nat → Int32} (hT : tb_T n fc K X Y Z W M PY PZ KN KV FO) (hn : n ≤ 60) {b h0 : Nat} (hb : b < 13) {bs : Nat → Int32} (hba : bs b = nI h0) :
    ∀ e, e < n → KN e = 1 → ∀ (m t : Nat) (bg sg la vs vv : Nat → Int32), h0 + m + tb_c W e ≤ 419 → t + tb_c W e ≤ 419 → bg (h0 + m) = nI e → sg (h0 + m) = nI 0 →
    ∃ (j : Nat) (bg' sg' la' vs' vv' : Nat → Int32), 1 ≤ j ∧ j ≤ 3 * tb_c W e ∧ (∀ i, i < h0 + m → bg' i = bg i ∧ sg' i = sg i ∧ la' i = la i) ∧ (vs' t = 1 ∧ vv' t = KV e) ∧ (∀ i, i < t → vs' i = vs i ∧ vv' i = vv i) ∧
      ∀ {g_made g_functions g_steps g_how g_givenSort g_given : Int32} {b_ez b_ew b_outside b_globalSort b_global b_body b_heldSort b_held b_needed b_envSort b_env b_length b_floor : Nat → Int32} (k : Nat), k + j ≤ 30000 → ∀ r v', mc_RY (k + j) (g_made, g_functions, nI (b + 1), nI (h0 + m), nI (t + 1), g_steps, 0, g_how, g_givenSort, g_given, K, X, Y, b_ez, b_ew, b_outside, b_globalSort, b_global, b_body, b_heldSort, b_held, b_needed, b_envSort, b_env, b_length, bs, b_floor, bg', sg', la', vs', vv') r v' →
        mc_RY k (g_made, g_functions, nI (b + 1), nI (h0 + (m + 1)), nI t, g_steps, 0, g_how, g_givenSort, g_given, K, X, Y, b_ez, b_ew, b_outside, b_globalSort, b_global, b_body, b_heldSort, b_held, b_needed, b_envSort, b_env, b_length, bs, b_floor, bg, sg, la, vs, vv) r v' := by
  intro e
  induction e using Nat.strongRecOn with
  | ind e ih =>
    intro he hkn m t bg sg la vs vv hm ht h1 h2
    obtain ⟨hN, _, _, hKn, _⟩ := hT e he
    have hw1 := tb_N_w hN
    rcases hKn with ⟨a, _⟩ | ⟨_, hk, hv⟩ | ⟨_, hk, kx, ky, hv⟩
    · rw [hkn] at a; exact absurd a (by decide)
    · refine ⟨1, bg, upd sg (h0 + m) (nI 1), la, upd vs t 1, upd vv t (X e), Nat.le_refl _, by omega, fun i hi => ⟨rfl, pk_un (by omega), rfl⟩, ⟨pk_us, by rw [pk_us]; exact hv.symm⟩, fun i hi => ⟨pk_un (by omega), pk_un (by omega)⟩, fun k hkk r v' h => mc_Y1 hb hba (by omega) (fun post hp => ?_) k hkk r v' h⟩
      refine ys_head (k := 0) (h := h0 + m) (by omega) h1 (by omega) hk (by omega) h2 ?_
      rw [if_neg (by omega)]
      exact ys_l (h := h0 + m) (by omega) (by omega) (Or.inr (by decide)) (yl_num (by omega) hp)
    · have hk2 : cp_two (K e) := by
        rcases hk with q | q | q
        · exact Or.inl q
        · exact Or.inr (Or.inl q)
        · exact Or.inr (Or.inr (Or.inl q))
      obtain ⟨a1, a2, a3, a4, a5, a6⟩ := tb_two_k hk2
      obtain ⟨x1, x2, y1, y2, hW, wx, wy, w30, k, hkk, hk19, hck⟩ := tb_two_f hT he a1 a2
      rw [if_neg a3] at hW
      rw [hck] at a1 a2 a3 a4 a5
      have hk345 : k = 3 ∨ k = 4 ∨ k = 5 := by
        rcases hk with q | q | q
        · exact Or.inl ((nI_eq (b := 3) (by omega) (by omega)).mp (hkk.symm.trans q))
        · exact Or.inr (Or.inl ((nI_eq (b := 4) (by omega) (by omega)).mp (hkk.symm.trans q)))
        · exact Or.inr (Or.inr ((nI_eq (b := 5) (by omega) (by omega)).mp (hkk.symm.trans q)))
      obtain ⟨j1, bg1, sg1, la1, vs1, vv1, p1, p2, p3, p4, p5, p6⟩ := ih (tb_c X e) x2 (by omega) kx (m + 1) t (upd bg (h0 + m + 1) (nI (tb_c X e))) (upd (upd sg (h0 + m) (nI 1)) (h0 + m + 1) 0) (upd la (h0 + m + 1) 0) vs vv (by omega) (by omega) pk_us pk_us
      obtain ⟨c1, c2, c3⟩ := p3 (h0 + m) (by omega)
      rw [pk_un (by omega)] at c1 c3
      rw [pk_un (by omega), pk_us] at c2
      obtain ⟨j2, bg2, sg2, la2, vs2, vv2, q1, q2, q3, q4, q5, q6⟩ := ih (tb_c Y e) y2 (by omega) ky (m + 1) (t + 1) (upd bg1 (h0 + m + 1) (nI (tb_c Y e))) (upd (upd sg1 (h0 + m) (nI 2)) (h0 + m + 1) 0) (upd la1 (h0 + m + 1) 0) vs1 vv1 (by omega) (by omega) pk_us pk_us
      obtain ⟨d1, d2, d3⟩ := q3 (h0 + m) (by omega)
      rw [pk_un (by omega)] at d1 d3
      rw [pk_un (by omega), pk_us] at d2
      have s1 := q5 t (by omega)
      refine ⟨1 + j1 + (1 + j2) + 1, bg2, upd sg2 (h0 + m) (nI 3), la2, upd vs2 t 1, upd vv2 t (KV e), by omega, by omega, fun i hi => ?_, ⟨pk_us, pk_us⟩, fun i hi => ?_, ?_⟩
      · have w2 := q3 i (by omega)
        have w1 := p3 i (by omega)
        rw [pk_un (by omega), pk_un (by omega), pk_un (by omega), pk_un (by omega)] at w1 w2
        rw [pk_un (by omega), w2.1, w2.2.1, w2.2.2]
        exact w1
      · rw [pk_un (by omega), pk_un (by omega), (q5 i (by omega)).1, (q5 i (by omega)).2]
        exact p5 i hi
      · intro g_made g_functions g_steps g_how g_givenSort g_given b_ez b_ew b_outside b_globalSort b_global b_body b_heldSort b_held b_needed b_envSort b_env b_length b_floor kk hk3 r v' h
        have hns : ¬ (k = 8 ∨ k = 14 ∨ k = 19) := by omega
        refine mc_Y1 (v1 := (g_made, g_functions, nI (b + 1), nI (h0 + (m + 1 + 1)), nI t, g_steps, 0, g_how, g_givenSort, g_given, K, X, Y, b_ez, b_ew, b_outside, b_globalSort, b_global, b_body, b_heldSort, b_held, b_needed, b_envSort, b_env, b_length, bs, b_floor, upd bg (h0 + m + 1) (nI (tb_c X e)), upd (upd sg (h0 + m) (nI 1)) (h0 + m + 1) 0, upd la (h0 + m + 1) 0, vs, vv)) (m := m) hb hba (by omega) (fun post hp => ?_) kk (by omega) r v' (p6 (kk + 1) (by omega) r v' (mc_Y1 (v1 := (g_made, g_functions, nI (b + 1), nI (h0 + (m + 1 + 1)), nI (t + 1), g_steps, 0, g_how, g_givenSort, g_given, K, X, Y, b_ez, b_ew, b_outside, b_globalSort, b_global, b_body, b_heldSort, b_held, b_needed, b_envSort, b_env, b_length, bs, b_floor, upd bg1 (h0 + m + 1) (nI (tb_c Y e)), upd (upd sg1 (h0 + m) (nI 2)) (h0 + m + 1) 0, upd la1 (h0 + m + 1) 0, vs1, vv1)) (m := m) hb hba (by omega) (fun post hp => ?_) (kk + 1 + j1) (by omega) r v' (q6 (kk + 1 + j1 + 1) (by omega) r v' (mc_Y1 (v1 := (g_made, g_functions, nI (b + 1), nI (h0 + m), nI (t + 1), g_steps, 0, g_how, g_givenSort, g_given, K, X, Y, b_ez, b_ew, b_outside, b_globalSort, b_global, b_body, b_heldSort, b_held, b_needed, b_envSort, b_env, b_length, bs, b_floor, bg2, upd sg2 (h0 + m) (nI 3), la2, upd vs2 t 1, upd vv2 t (KV e))) (m := m) hb hba (by omega) (fun post hp => ?_) (kk + 1 + j1 + 1 + j2) (by omega) r v' ?_))))
        · refine ys_head (h := h0 + m) (by omega) h1 (by omega) hkk hk19 h2 ?_
          rw [if_neg hns]
          refine ys_0 (by omega) hk19 a5 (Or.inl a1) ?_
          rw [if_pos a1, x1]
          exact ys_start (h := h0 + m + 1) (by omega) (Or.inl rfl) hp
        · refine ys_head (h := h0 + m) (s := 1) (by omega) (c1.trans h1) (by omega) hkk hk19 c2 ?_
          rw [if_neg hns]
          refine ys_1 (by omega) hk19 a1 a2 ?_
          rw [y1]
          exact ys_start (h := h0 + m + 1) (by omega) (Or.inl rfl) hp
        · refine ys_head (h := h0 + m) (s := 2) (by omega) (d1.trans (c1.trans h1)) (by omega) hkk hk19 d2 ?_
          rw [if_neg hns]
          refine ys_f (by omega) hk19 a5 (by omega) (by omega) (Or.inl a1) (Or.inl (by omega)) ?_
          refine yf_two (h := h0 + m) (by omega) hkk (nI_nlt (b := 3) (by omega) (by omega)) (nI_nlt (a := 7) (by omega) (by omega)) ?_
          refine yt_ar (t := t) (by omega) (fun q => absurd ((nI_eq (b := 7) (by omega) (by omega)).mp q) (by omega)) (fun q => absurd ((nI_eq (b := 6) (by omega) (by omega)).mp q) (by omega)) (s1.1.trans p4.1) q4.1 ?_
          have e3 : (if nI k = 3 then vv2 t + vv2 (t + 1) else if nI k = 4 then vv2 t - vv2 (t + 1) else vv2 t * vv2 (t + 1)) = KV e := by
            rw [s1.2, p4.2, q4.2, hv, hkk]
          rw [e3]
          exact hp
        · rw [show kk + 1 + j1 + 1 + j2 + 1 = kk + (1 + j1 + (1 + j2) + 1) by omega]
          exact h
theorem sm_known : ∀ {f_codeEnd f_depth f_letCount f_height f_heldNames f_usedCount f_marking f_waitCount f_levelNow : Int32} {f_marks : Int64} {a_kindOf a_partX a_partY a_partZ a_weightOf a_needOf a_names a_known a_knownNumber a_functionOf a_op a_operand a_workNode a_workPhase a_workLast a_workPatch a_letPlace a_isUsed a_functionAt a_heldCount a_waiting a_openFrame a_openAt : Nat → Int32} {a_cells a_globals a_stack : Nat → Int64}, ∀ {g_how : Int32} {b_ey b_ez b_globalSort b_global b_body b_heldSort b_held b_needed b_envSort b_env b_length b_base b_floor b_begun b_stage b_last b_valueSort b_value : Nat → Int32} {n fc : Nat} {P : Nat → Nat → Nat → Prop} {E : List mc_E} {Ks : List mc_F} {fn : mc_Fn} {p : Nat} {r : List mc_Bd} {sc Φ : Nat} {e q : Nat} {l : Bool} {K' : List mc_F} (_ : rl_St n fc a_kindOf a_partX b_ey b_ez a_weightOf a_names a_partY a_partZ a_needOf a_known a_knownNumber a_functionOf a_op a_operand) (_ : rl_Hp n a_kindOf a_partX a_names a_functionOf P f_usedCount f_marks f_marking f_waitCount a_isUsed a_functionAt a_heldCount a_cells a_waiting a_globals b_body b_heldSort b_held b_globalSort b_global) (_ : mc_G n a_kindOf a_partX b_ey b_ez a_weightOf a_names a_known a_knownNumber a_functionOf a_op a_operand P a_cells a_stack a_openFrame a_openAt b_envSort b_env b_length b_base b_floor b_begun b_stage b_last b_valueSort b_value E Ks fn p r sc Φ) (_ : Ks = (e, 0, l) :: K') (_ : e < n) (_ : a_known e = 1) (_ : a_op p = 0) (_ : a_operand p = a_knownNumber e) (_ : q = p + 1) (_ : mc_K n a_kindOf a_partX b_ey b_ez a_weightOf a_names a_known a_knownNumber a_functionOf a_op a_operand (mc_hm a_names fn) K' (mc_L E) (3 + E.length) q) (_ : mc_Bu a_weightOf e (mc_L E) (2 + E.length) K'.length), mc_Res Φ (nI n, nI fc, f_codeEnd, f_depth, f_letCount, f_height, f_heldNames, f_usedCount, f_marks, f_marking, f_waitCount, nI (mc_xt r + 2 + E.length), nI (mc_xt r), nI p, nI r.length, nI sc, 0, 0, f_levelNow, a_kindOf, a_partX, a_partY, a_partZ, a_weightOf, a_needOf, a_names, a_known, a_knownNumber, a_functionOf, a_op, a_operand, a_workNode, a_workPhase, a_workLast, a_workPatch, a_letPlace, a_isUsed, a_functionAt, a_heldCount, a_cells, a_waiting, a_globals, a_stack, a_openFrame, a_openAt) (nI n, nI fc, nI (r.length + 1), nI (mc_hi r + Ks.length), nI (mc_vt r + mc_nv E), nI sc, 0, g_how, 0, 0, a_kindOf, a_partX, b_ey, b_ez, a_weightOf, a_names, b_globalSort, b_global, b_body, b_heldSort, b_held, b_needed, b_envSort, b_env, b_length, b_base, b_floor, b_begun, b_stage, b_last, b_valueSort, b_value) := by
  intro f_codeEnd f_depth f_letCount f_height f_heldNames f_usedCount f_marking f_waitCount f_levelNow f_marks a_kindOf a_partX a_partY a_partZ a_weightOf a_needOf a_names a_known a_knownNumber a_functionOf a_op a_operand a_workNode a_workPhase a_workLast a_workPatch a_letPlace a_isUsed a_functionAt a_heldCount a_waiting a_openFrame a_openAt a_cells a_globals a_stack g_how b_ey b_ez b_globalSort b_global b_body b_heldSort b_held b_needed b_envSort b_env b_length b_base b_floor b_begun b_stage b_last b_valueSort b_value n fc P E Ks fn p r sc Φ e q l K' h1 h2 h3 hKs hen hkn hop hod hq hK hbu
  subst hq hKs
  have hqq := mc_K_q _ _ _ _ hK
  have hbw := tb_N_w (h1.2.2.1 e hen).1
  have h3' := h3
  obtain ⟨⟨⟨g1, g2, g3, ⟨g4, g4'⟩, g5, ⟨g6, g6'⟩, g7⟩, g8⟩, ⟨⟨v1, v2⟩, v3⟩, hC, hnow, ⟨b1, b2, b3, b4⟩, hΦ⟩ := h3
  have bnd := mc_C_b r hC
  have nvl := mc_nvL E
  have hn := h1.1
  have hb1 := hbu.1
  have hb2 := hbu.2.1
  simp only [List.length_cons] at b4
  obtain ⟨j, bg', sg', la', vs', vv', j1, j2, j3, j4, j5, j6⟩ := yk_known h1.2.2.1 hn (show r.length < 13 by omega) g6 e hen hkn K'.length (mc_vt r + mc_nv E) b_begun b_stage b_last b_valueSort b_value (by omega) (by omega) g5.1.1 g5.1.2.1
  have hG := mc_Gpush (st' := vp_updL a_stack (mc_xt r + 2 + E.length) (vl_iv (a_knownNumber e))) (vs' := vs') (vv' := vv') (sg' := sg') (bg' := bg') (la' := la') (s := 1) (v := a_knownNumber e) h3' pk_uLs (fun j hj => pk_uLn (by omega)) j4 j5 j3 hK (Or.inr (Or.inl ⟨rfl, rfl⟩)) (by omega)
  refine Or.inl ⟨(nI n, nI fc, f_codeEnd, f_depth, f_letCount, f_height, f_heldNames, f_usedCount, f_marks, f_marking, f_waitCount, nI (mc_xt r + 2 + ((false, vl_iv (a_knownNumber e), (1 : Int32), a_knownNumber e) :: E).length), nI (mc_xt r), nI (p + 1), nI r.length, nI sc, 0, 0, f_levelNow, a_kindOf, a_partX, a_partY, a_partZ, a_weightOf, a_needOf, a_names, a_known, a_knownNumber, a_functionOf, a_op, a_operand, a_workNode, a_workPhase, a_workLast, a_workPatch, a_letPlace, a_isUsed, a_functionAt, a_heldCount, a_cells, a_waiting, a_globals, vp_updL a_stack (mc_xt r + 2 + E.length) (vl_iv (a_knownNumber e)), a_openFrame, a_openAt), (nI n, nI fc, nI (r.length + 1), nI (mc_hi r + K'.length), nI (mc_vt r + mc_nv ((false, vl_iv (a_knownNumber e), (1 : Int32), a_knownNumber e) :: E)), nI sc, 0, g_how, 0, 0, a_kindOf, a_partX, b_ey, b_ez, a_weightOf, a_names, b_globalSort, b_global, b_body, b_heldSort, b_held, b_needed, b_envSort, b_env, b_length, b_base, b_floor, bg', sg', la', vs', vv'), _, j, mc_in (E := (false, vl_iv (a_knownNumber e), 1, a_knownNumber e) :: E) (Ks := K') (fn := fn) (r := r) (p := p + 1) h1 h2 hG, j1, ?_, mc_X1 (fun post hp => ?_), fun k hk r' v' h => j6 k hk r' v' h⟩
  · have : mc_pp a_kindOf a_partX b_ey a_weightOf ((e, 0, l) :: K') = 3 * tb_c a_weightOf e + mc_pp a_kindOf a_partX b_ey a_weightOf K' := rfl
    omega
  · refine xs_push (by omega) hop (by omega) ?_
    rw [hod]
    exact hp
end
section
/-! the simulation: nodes that are finished -/

theorem mc_K_h {n : Nat} {K X Y Z W M KN KV FO OP OD : Nat → Int32} {hm : Option Nat} : ∀ (Ks : List mc_F) (L : List Nat) (h q : Nat), mc_K n K X Y Z W M KN KV FO OP OD hm Ks L h q → 3 ≤ h
  | [], _, _, _, g => by have := g.2.2.2; omega
  | (e, s, l) :: Ks, L, h, q, ⟨_, _, _, g⟩ => by
    rcases g with ⟨_, _, _, p2, _, _, g⟩ | ⟨_, _, _, _, g⟩ | ⟨_, _, _, g⟩ | ⟨_, _, _, _, p2, q2, _, _, _, _, _, _, g⟩ | ⟨_, _, q2, _, g⟩ | ⟨_, _, _, p2, _, _, g⟩ | ⟨_, _, L', _, _, g⟩ | ⟨_, _, _, _, p2, _, g⟩ | ⟨_, _, g⟩
    · exact mc_K_h _ _ _ _ g
    · have := mc_K_h _ _ _ _ g; omega
    · exact mc_K_h _ _ _ _ g
    · exact mc_K_h _ _ _ _ g
    · exact mc_K_h _ _ _ _ g
    · exact mc_K_h _ _ _ _ g
    · have := mc_K_h _ _ _ _ g; omega
    · exact mc_K_h _ _ _ _ g
    · exact mc_K_h _ _ _ _ g
theorem mc_two_E {E E' : List mc_E} {y : mc_E} (hE : E = (false, y.2) :: E') (hL : ∀ a, a ∈ mc_L E → a < 2 + E.length - 2) (h2 : 2 ≤ E.length) : ∃ x s a E2, E' = (false, x, s, a) :: E2 := by
  subst hE
  cases E' with
  | nil => simp at h2
  | cons z E2 =>
    obtain ⟨b, x, s, a⟩ := z
    cases b with
    | false => exact ⟨x, s, a, E2, rfl⟩
    | true =>
      have := hL (2 + E2.length) (by simp [mc_L])
      simp only [List.length_cons] at this
      omega
theorem hp_V_i {P : Nat → Nat → Nat → Prop} (h40 : ∀ o w t, P o w t → o < 40) {x : Int64} {s v : Int32} (hv : hp_V P x s v) : (x &&& 3 = 1 ↔ s = 1) ∧ (s = 1 → x = vl_iv v) := by
  rcases hv with ⟨a, b⟩ | ⟨a, b⟩ | ⟨o, w, t, p, b, c, d⟩
  · exact ⟨⟨fun q => by rw [b] at q; exact absurd q (by decide), fun q => by rw [a] at q; exact absurd q (by decide)⟩, fun q => by rw [a] at q; exact absurd q (by decide)⟩
  · exact ⟨⟨fun _ => a, fun _ => by rw [b]; exact vl_iv_and v⟩, fun _ => b⟩
  · have ho := h40 o w t p
    have n1 : ¬ s = 1 := fun q => by rw [d] at q; split at q <;> exact absurd q (by decide)
    exact ⟨⟨fun q => by rw [b, vl_ob_and (by omega)] at q; exact absurd q (by decide), fun q => absurd q n1⟩, fun q => absurd q n1⟩
theorem hp_V_eq {FT : Nat → Nat → Nat → Nat → Prop} {P : Nat → Nat → Nat → Prop} {fa hA : Nat → Int32} {cs : Nat → Int64} {bd hs hv : Nat → Int32} (h : hp_H FT P fa hA cs bd hs hv) {x y : Int64} {s t a b : Int32} (hx : hp_V P x s a) (hy : hp_V P y t b) : x = y ↔ (s = t ∧ (s = 0 ∨ a = b)) := by
  have tt : ∀ k : Nat, (if k = 0 then (2 : Int32) else 3) ≠ 0 ∧ (if k = 0 then (2 : Int32) else 3) ≠ 1 := fun k => by split <;> decide
  rcases hx with ⟨s0, x0⟩ | ⟨s1, x1⟩ | ⟨o, w, k, p, xo, av, sk⟩
  · rcases hy with ⟨t0, y0⟩ | ⟨t1, y1⟩ | ⟨o', w', k', p', yo, bv, tk⟩
    · exact ⟨fun _ => ⟨s0.trans t0.symm, Or.inl s0⟩, fun _ => x0.trans y0.symm⟩
    · exact ⟨fun q => absurd (y1.symm.trans (q.symm.trans x0)) (vl_iv_ne0 _), fun q => by rw [s0, t1] at q; exact absurd q.1 (by decide)⟩
    · have := hp_o40 h _ _ _ p'
      exact ⟨fun q => absurd (yo.symm.trans (q.symm.trans x0)) (vl_ob_ne0 (by omega)), fun q => by rw [s0, tk] at q; exact absurd q.1.symm (tt k').1⟩
  · rcases hy with ⟨t0, y0⟩ | ⟨t1, y1⟩ | ⟨o', w', k', p', yo, bv, tk⟩
    · exact ⟨fun q => absurd (x1.symm.trans (q.trans y0)) (vl_iv_ne0 _), fun q => by rw [s1, t0] at q; exact absurd q.1 (by decide)⟩
    · refine ⟨fun q => ⟨s1.trans t1.symm, Or.inr (vl_iv_inj (x1.symm.trans (q.trans y1)))⟩, fun q => ?_⟩
      rcases q.2 with z | z
      · rw [s1] at z; exact absurd z (by decide)
      · rw [x1, y1, z]
    · have := hp_o40 h _ _ _ p'
      exact ⟨fun q => absurd (x1.symm.trans (q.trans yo)) (vl_iv_ob (by omega)), fun q => by rw [s1, tk] at q; exact absurd q.1.symm (tt k').2⟩
  · have ho := hp_o40 h _ _ _ p
    have hw := hp_w40 h _ _ _ p
    rcases hy with ⟨t0, y0⟩ | ⟨t1, y1⟩ | ⟨o', w', k', p', yo, bv, tk⟩
    · exact ⟨fun q => absurd (xo.symm.trans (q.trans y0)) (vl_ob_ne0 (by omega)), fun q => by rw [sk, t0] at q; exact absurd q.1 (tt k).1⟩
    · exact ⟨fun q => absurd (y1.symm.trans (q.symm.trans xo)) (vl_iv_ob (by omega)), fun q => by rw [sk, t1] at q; exact absurd q.1 (tt k).2⟩
    · have ho' := hp_o40 h _ _ _ p'
      have hw' := hp_w40 h _ _ _ p'
      constructor
      · intro q
        have e : o = o' := vl_ob_inj (by omega) (by omega) (xo.symm.trans (q.trans yo))
        subst e
        obtain ⟨e1, e2⟩ := h.1 _ _ _ _ _ p p'
        subst e1 e2
        exact ⟨sk.trans tk.symm, Or.inr (av.trans bv.symm)⟩
      · rintro ⟨q1, q2⟩
        rcases q2 with z | z
        · rw [sk] at z; exact absurd z (tt k).1
        · have e : w = w' := (nI_eq (by omega) (by omega)).mp (av.symm.trans (z.trans bv))
          subst e
          rw [xo, yo, h.2.1 _ _ _ _ _ p p']
section
variable {n : Nat} {K X Y Z W M KN KV FO OP OD : Nat → Int32} {P : Nat → Nat → Nat → Prop} {cs st : Nat → Int64} {oF oA es ev ln bs fl bg sg la vs vv : Nat → Int32} {E : List mc_E} {K' : List mc_F} {fn : mc_Fn} {q : Nat} {r : List mc_Bd} {sc : Nat} {x : Int64} {s v : Int32}
/-- a value comes on the top of E -/
theorem mc_Gval (g1 : mc_XS st (mc_xt r + 2) E) (g2 : mc_VS vs vv (mc_vt r) E) (g3 : mc_ES es ev (24 * r.length + mc_m8 fn) E) (g4 : ln r.length = nI (mc_m8 fn + (mc_L E).length) ∧ (mc_L E).length ≤ 16) (g5 : mc_KS bg sg la (mc_hi r) K') (g6 : bs r.length = nI (mc_hi r) ∧ fl r.length = nI (mc_vt r)) (g7 : mc_FM st es ev (mc_xt r) r.length fn) (g8 : mc_M st vs vv es ev ln bs fl bg sg la r)
    (v1 : ∀ x, x ∈ E → hp_V P x.2.1 x.2.2.1 x.2.2.2) (v2 : mc_VF P M cs es ev r.length fn) (v3 : mc_Vl P M cs es ev r) (hC : mc_C n K X Y Z W M KN KV FO OP OD oF oA r) (hK : mc_K n K X Y Z W M KN KV FO OP OD (mc_hm M fn) K' (mc_L E) (3 + E.length) q) (hb : sc ≤ 200 ∧ r.length ≤ 12 ∧ E.length + 1 ≤ 30 ∧ K'.length ≤ 30) (hst : st (mc_xt r + 2 + E.length) = x) (hvs : vs (mc_vt r + mc_nv E) = s ∧ vv (mc_vt r + mc_nv E) = v) (hV : hp_V P x s v) :
    mc_G n K X Y Z W M KN KV FO OP OD P cs st oF oA es ev ln bs fl bg sg la vs vv ((false, x, s, v) :: E) K' fn q r sc ((200 - sc) * 91 + (mc_pp K X Y W K' + 1) + mc_pb K X Y W r) := by
  refine ⟨⟨⟨⟨hst, g1⟩, ⟨hvs, g2⟩, g3, g4, g5, g6, g7⟩, g8⟩, ⟨⟨fun z hz => ?_, v2⟩, v3⟩, hC, Or.inr ⟨x, s, v, E, rfl, ?_⟩, ⟨hb.1, hb.2.1, by rw [List.length_cons]; omega, hb.2.2.2⟩, rfl⟩
  · rcases List.mem_cons.mp hz with q | q
    · rw [q]; exact hV
    · exact v1 z q
  · rw [List.length_cons, show 2 + (E.length + 1) = 3 + E.length by omega]
    exact hK
end
/-- two values on the top become one, X and Y in one step each -/
theorem sm_two2 : ∀ {f_codeEnd f_depth f_letCount f_height f_heldNames f_usedCount f_marking f_waitCount f_levelNow : Int32} {f_marks : Int64} {a_kindOf a_partX a_partY a_partZ a_weightOf a_needOf a_names a_known a_knownNumber a_functionOf a_op a_operand a_workNode a_workPhase a_workLast a_workPatch a_letPlace a_isUsed a_functionAt a_heldCount a_waiting a_openFrame a_openAt : Nat → Int32} {a_cells a_globals a_stack : Nat → Int64}, ∀ {g_how : Int32} {b_ey b_ez b_globalSort b_global b_body b_heldSort b_held b_needed b_envSort b_env b_length b_base b_floor b_begun b_stage b_last b_valueSort b_value : Nat → Int32} {n fc : Nat} {P : Nat → Nat → Nat → Prop} {E : List mc_E} {Ks : List mc_F} {fn : mc_Fn} {p : Nat} {r : List mc_Bd} {sc Φ : Nat} {e k : Nat} {l : Bool} {K' : List mc_F} {x y z : Int64} {s t a b sz vz : Int32} {E2 : List mc_E} (_ : rl_St n fc a_kindOf a_partX b_ey b_ez a_weightOf a_names a_partY a_partZ a_needOf a_known a_knownNumber a_functionOf a_op a_operand) (_ : rl_Hp n a_kindOf a_partX a_names a_functionOf P f_usedCount f_marks f_marking f_waitCount a_isUsed a_functionAt a_heldCount a_cells a_waiting a_globals b_body b_heldSort b_held b_globalSort b_global) (_ : mc_G n a_kindOf a_partX b_ey b_ez a_weightOf a_names a_known a_knownNumber a_functionOf a_op a_operand P a_cells a_stack a_openFrame a_openAt b_envSort b_env b_length b_base b_floor b_begun b_stage b_last b_valueSort b_value E Ks fn p r sc Φ) (_ : Ks = (e, 2, l) :: K') (_ : E = (false, y, t, b) :: (false, x, s, a) :: E2) (_ : e < n) (_ : a_kindOf e = nI k) (_ : k ≤ 7) (_ : 3 ≤ k) (_ : mc_K n a_kindOf a_partX b_ey b_ez a_weightOf a_names a_known a_knownNumber a_functionOf a_op a_operand (mc_hm a_names fn) K' (mc_L E) (2 + E.length - 1) (p + 1)) (_ : hp_V P z sz vz)
    (_ : ∀ post : Int32 → SX → Prop, post (-1) (nI n, nI fc, f_codeEnd, f_depth, f_letCount, f_height, f_heldNames, f_usedCount, f_marks, f_marking, f_waitCount, nI (mc_xt r + 2 + E2.length + 1), nI (mc_xt r), nI (p + 1), nI r.length, nI sc, 0, 0, f_levelNow, a_kindOf, a_partX, a_partY, a_partZ, a_weightOf, a_needOf, a_names, a_known, a_knownNumber, a_functionOf, a_op, a_operand, a_workNode, a_workPhase, a_workLast, a_workPatch, a_letPlace, a_isUsed, a_functionAt, a_heldCount, a_cells, a_waiting, a_globals, vp_updL a_stack (mc_xt r + 2 + E2.length) z, a_openFrame, a_openAt) → wpX_step post (nI n, nI fc, f_codeEnd, f_depth, f_letCount, f_height, f_heldNames, f_usedCount, f_marks, f_marking, f_waitCount, nI (mc_xt r + 2 + E2.length + 2), nI (mc_xt r), nI p, nI r.length, nI sc, 0, 0, f_levelNow, a_kindOf, a_partX, a_partY, a_partZ, a_weightOf, a_needOf, a_names, a_known, a_knownNumber, a_functionOf, a_op, a_operand, a_workNode, a_workPhase, a_workLast, a_workPatch, a_letPlace, a_isUsed, a_functionAt, a_heldCount, a_cells, a_waiting, a_globals, a_stack, a_openFrame, a_openAt))
    (_ : ∀ post : SY → Prop, post (nI n, nI fc, nI (r.length + 1), nI (mc_hi r + K'.length), nI (mc_vt r + mc_nv E2 + 1), nI sc, 0, g_how, 0, 0, a_kindOf, a_partX, b_ey, b_ez, a_weightOf, a_names, b_globalSort, b_global, b_body, b_heldSort, b_held, b_needed, b_envSort, b_env, b_length, b_base, b_floor, b_begun, upd b_stage (mc_hi r + K'.length) (nI 3), b_last, upd b_valueSort (mc_vt r + mc_nv E2) sz, upd b_value (mc_vt r + mc_nv E2) vz) → wpY_two post (nI n, nI fc, nI (r.length + 1), nI (mc_hi r + K'.length), nI (mc_vt r + mc_nv E2 + 2), nI sc, 0, g_how, 0, 0, a_kindOf, a_partX, b_ey, b_ez, a_weightOf, a_names, b_globalSort, b_global, b_body, b_heldSort, b_held, b_needed, b_envSort, b_env, b_length, b_base, b_floor, b_begun, upd b_stage (mc_hi r + K'.length) (nI 3), b_last, b_valueSort, b_value) (nI k)), mc_Res Φ (nI n, nI fc, f_codeEnd, f_depth, f_letCount, f_height, f_heldNames, f_usedCount, f_marks, f_marking, f_waitCount, nI (mc_xt r + 2 + E.length), nI (mc_xt r), nI p, nI r.length, nI sc, 0, 0, f_levelNow, a_kindOf, a_partX, a_partY, a_partZ, a_weightOf, a_needOf, a_names, a_known, a_knownNumber, a_functionOf, a_op, a_operand, a_workNode, a_workPhase, a_workLast, a_workPatch, a_letPlace, a_isUsed, a_functionAt, a_heldCount, a_cells, a_waiting, a_globals, a_stack, a_openFrame, a_openAt) (nI n, nI fc, nI (r.length + 1), nI (mc_hi r + Ks.length), nI (mc_vt r + mc_nv E), nI sc, 0, g_how, 0, 0, a_kindOf, a_partX, b_ey, b_ez, a_weightOf, a_names, b_globalSort, b_global, b_body, b_heldSort, b_held, b_needed, b_envSort, b_env, b_length, b_base, b_floor, b_begun, b_stage, b_last, b_valueSort, b_value) := by
  intro f_codeEnd f_depth f_letCount f_height f_heldNames f_usedCount f_marking f_waitCount f_levelNow f_marks a_kindOf a_partX a_partY a_partZ a_weightOf a_needOf a_names a_known a_knownNumber a_functionOf a_op a_operand a_workNode a_workPhase a_workLast a_workPatch a_letPlace a_isUsed a_functionAt a_heldCount a_waiting a_openFrame a_openAt a_cells a_globals a_stack g_how b_ey b_ez b_globalSort b_global b_body b_heldSort b_held b_needed b_envSort b_env b_length b_base b_floor b_begun b_stage b_last b_valueSort b_value n fc P E Ks fn p r sc Φ e k l K' x y z s t a b sz vz E2 h1 h2 h3 hKs hE hen hk hk7 hk3 hK hV hX hY
  subst hKs hE
  obtain ⟨⟨⟨g1, g2, g3, ⟨g4, g4'⟩, g5, ⟨g6, g6'⟩, g7⟩, g8⟩, ⟨⟨v1, v2⟩, v3⟩, hC, hnow, ⟨b1, b2, b3, b4⟩, hΦ⟩ := h3
  have hn := h1.1
  have bnd := mc_C_b r hC
  simp only [List.length_cons] at b4 b3 hK
  simp only [mc_L] at hK g4 g4'
  rw [show 2 + (E2.length + 1 + 1) - 1 = 3 + E2.length by omega] at hK
  have hpk := mc_pk3 (K := a_kindOf) (X := a_partX) (Y := b_ey) (W := a_weightOf) (e := e) (l := l) K'
  have hG := mc_Gval (st := vp_updL a_stack (mc_xt r + 2 + E2.length) z) (vs := upd b_valueSort (mc_vt r + mc_nv E2) sz) (vv := upd b_value (mc_vt r + mc_nv E2) vz) (sg := upd b_stage (mc_hi r + K'.length) (nI 3)) (mc_XS_cg E2 (fun j hj => pk_uLn (by omega)) g1.2.2) (mc_VS_cg E2 (fun j hj => ⟨pk_un (by omega), pk_un (by omega)⟩) g2.2.2) g3 ⟨g4, g4'⟩ (mc_KS_cg K' (fun j hj => ⟨rfl, pk_un (by omega), rfl⟩) g5.2) ⟨g6, g6'⟩ (mc_FM_cg fn ⟨pk_uLn (by omega), pk_uLn (by omega)⟩ (fun j _ _ => ⟨rfl, rfl⟩) g7) (mc_M_cg r (fun j hj => pk_uLn (by omega)) (fun j hj => ⟨pk_un (by omega), pk_un (by omega)⟩) (fun j hj => ⟨rfl, rfl⟩) (fun j hj => ⟨rfl, rfl, rfl⟩) (fun j hj => ⟨rfl, pk_un (by omega), rfl⟩) g8) (fun w hw => v1 w (List.mem_cons_of_mem _ (List.mem_cons_of_mem _ hw))) v2 v3 hC hK ⟨b1, b2, by omega, by omega⟩ pk_uLs ⟨pk_us, pk_us⟩ hV
  refine Or.inl ⟨(nI n, nI fc, f_codeEnd, f_depth, f_letCount, f_height, f_heldNames, f_usedCount, f_marks, f_marking, f_waitCount, nI (mc_xt r + 2 + ((false, z, sz, vz) :: E2).length), nI (mc_xt r), nI (p + 1), nI r.length, nI sc, 0, 0, f_levelNow, a_kindOf, a_partX, a_partY, a_partZ, a_weightOf, a_needOf, a_names, a_known, a_knownNumber, a_functionOf, a_op, a_operand, a_workNode, a_workPhase, a_workLast, a_workPatch, a_letPlace, a_isUsed, a_functionAt, a_heldCount, a_cells, a_waiting, a_globals, vp_updL a_stack (mc_xt r + 2 + E2.length) z, a_openFrame, a_openAt), (nI n, nI fc, nI (r.length + 1), nI (mc_hi r + K'.length), nI (mc_vt r + mc_nv ((false, z, sz, vz) :: E2)), nI sc, 0, g_how, 0, 0, a_kindOf, a_partX, b_ey, b_ez, a_weightOf, a_names, b_globalSort, b_global, b_body, b_heldSort, b_held, b_needed, b_envSort, b_env, b_length, b_base, b_floor, b_begun, upd b_stage (mc_hi r + K'.length) (nI 3), b_last, upd b_valueSort (mc_vt r + mc_nv E2) sz, upd b_value (mc_vt r + mc_nv E2) vz), _, 1, mc_in (E := (false, z, sz, vz) :: E2) (Ks := K') (fn := fn) (r := r) (p := p + 1) h1 h2 hG, Nat.le_refl _, by omega, mc_X1 hX, mc_Y1 (by omega) g6 (by omega) (fun post hp => ?_)⟩
  refine ys_head (h := mc_hi r + K'.length) (by omega) g5.1.1 (by omega) hk (by omega) g5.1.2.1 ?_
  rw [if_neg (by omega)]
  exact ys_f (by omega) (by omega) (by omega) (by omega) (by omega) (Or.inl (by rw [tb_hx_t]; omega)) (Or.inl (by omega)) (yf_two (h := mc_hi r + K'.length) (by omega) hk (nI_nlt (b := 3) hk3 (by omega)) (nI_nlt (a := 7) hk7 (by omega)) (hY _ hp))
/-- the sorts don't fit: both end -/
theorem sm_bad2 : ∀ {f_codeEnd f_depth f_letCount f_height f_heldNames f_usedCount f_marking f_waitCount f_levelNow : Int32} {f_marks : Int64} {a_kindOf a_partX a_partY a_partZ a_weightOf a_needOf a_names a_known a_knownNumber a_functionOf a_op a_operand a_workNode a_workPhase a_workLast a_workPatch a_letPlace a_isUsed a_functionAt a_heldCount a_waiting a_openFrame a_openAt : Nat → Int32} {a_cells a_globals a_stack : Nat → Int64}, ∀ {g_how : Int32} {b_ey b_ez b_globalSort b_global b_body b_heldSort b_held b_needed b_envSort b_env b_length b_base b_floor b_begun b_stage b_last b_valueSort b_value : Nat → Int32} {n fc : Nat} {P : Nat → Nat → Nat → Prop} {E : List mc_E} {Ks : List mc_F} {fn : mc_Fn} {p : Nat} {r : List mc_Bd} {sc Φ : Nat} {e k : Nat} {l : Bool} {K' : List mc_F} {x y : Int64} {s t a b : Int32} {E2 : List mc_E} (_ : rl_St n fc a_kindOf a_partX b_ey b_ez a_weightOf a_names a_partY a_partZ a_needOf a_known a_knownNumber a_functionOf a_op a_operand) (_ : rl_Hp n a_kindOf a_partX a_names a_functionOf P f_usedCount f_marks f_marking f_waitCount a_isUsed a_functionAt a_heldCount a_cells a_waiting a_globals b_body b_heldSort b_held b_globalSort b_global) (_ : mc_G n a_kindOf a_partX b_ey b_ez a_weightOf a_names a_known a_knownNumber a_functionOf a_op a_operand P a_cells a_stack a_openFrame a_openAt b_envSort b_env b_length b_base b_floor b_begun b_stage b_last b_valueSort b_value E Ks fn p r sc Φ) (_ : Ks = (e, 2, l) :: K') (_ : E = (false, y, t, b) :: (false, x, s, a) :: E2) (_ : e < n) (_ : a_kindOf e = nI k) (_ : k ≤ 6) (_ : 3 ≤ k) (_ : p < 1560) (_ : a_op p = nI k) (_ : ¬ (s = 1 ∧ t = 1)), mc_Res Φ (nI n, nI fc, f_codeEnd, f_depth, f_letCount, f_height, f_heldNames, f_usedCount, f_marks, f_marking, f_waitCount, nI (mc_xt r + 2 + E.length), nI (mc_xt r), nI p, nI r.length, nI sc, 0, 0, f_levelNow, a_kindOf, a_partX, a_partY, a_partZ, a_weightOf, a_needOf, a_names, a_known, a_knownNumber, a_functionOf, a_op, a_operand, a_workNode, a_workPhase, a_workLast, a_workPatch, a_letPlace, a_isUsed, a_functionAt, a_heldCount, a_cells, a_waiting, a_globals, a_stack, a_openFrame, a_openAt) (nI n, nI fc, nI (r.length + 1), nI (mc_hi r + Ks.length), nI (mc_vt r + mc_nv E), nI sc, 0, g_how, 0, 0, a_kindOf, a_partX, b_ey, b_ez, a_weightOf, a_names, b_globalSort, b_global, b_body, b_heldSort, b_held, b_needed, b_envSort, b_env, b_length, b_base, b_floor, b_begun, b_stage, b_last, b_valueSort, b_value) := by
  intro f_codeEnd f_depth f_letCount f_height f_heldNames f_usedCount f_marking f_waitCount f_levelNow f_marks a_kindOf a_partX a_partY a_partZ a_weightOf a_needOf a_names a_known a_knownNumber a_functionOf a_op a_operand a_workNode a_workPhase a_workLast a_workPatch a_letPlace a_isUsed a_functionAt a_heldCount a_waiting a_openFrame a_openAt a_cells a_globals a_stack g_how b_ey b_ez b_globalSort b_global b_body b_heldSort b_held b_needed b_envSort b_env b_length b_base b_floor b_begun b_stage b_last b_valueSort b_value n fc P E Ks fn p r sc Φ e k l K' x y s t a b E2 h1 h2 h3 hKs hE hen hk hk6 hk3 hp1 hop hbad
  subst hKs hE
  obtain ⟨⟨⟨g1, g2, g3, ⟨g4, g4'⟩, g5, ⟨g6, g6'⟩, g7⟩, g8⟩, ⟨⟨v1, v2⟩, v3⟩, hC, hnow, ⟨b1, b2, b3, b4⟩, hΦ⟩ := h3
  have hn := h1.1
  have bnd := mc_C_b r hC
  have nvl := mc_nvL E2
  simp only [List.length_cons] at b4 b3
  have hx := hp_V_i (hp_o40 h2.1) (v1 (false, x, s, a) (List.mem_cons_of_mem _ List.mem_cons_self))
  have hy := hp_V_i (hp_o40 h2.1) (v1 (false, y, t, b) List.mem_cons_self)
  obtain ⟨⟨c1, c1'⟩, ⟨c2, c2'⟩, c3⟩ := g2
  refine Or.inr ⟨1, mc_t0 (nI n, nI fc, f_codeEnd, f_depth, f_letCount, f_height, f_heldNames, f_usedCount, f_marks, f_marking, f_waitCount, nI (mc_xt r + 2 + E2.length + 2), nI (mc_xt r), nI (p + 1), nI r.length, nI sc, 0, 0, f_levelNow, a_kindOf, a_partX, a_partY, a_partZ, a_weightOf, a_needOf, a_names, a_known, a_knownNumber, a_functionOf, a_op, a_operand, a_workNode, a_workPhase, a_workLast, a_workPatch, a_letPlace, a_isUsed, a_functionAt, a_heldCount, a_cells, a_waiting, a_globals, a_stack, a_openFrame, a_openAt), (nI n, nI fc, 0, nI (mc_hi r + K'.length), 0, nI sc, 1, 1, 0, 0, a_kindOf, a_partX, b_ey, b_ez, a_weightOf, a_names, b_globalSort, b_global, b_body, b_heldSort, b_held, b_needed, b_envSort, b_env, b_length, b_base, b_floor, b_begun, upd b_stage (mc_hi r + K'.length) (nI 3), b_last, b_valueSort, b_value), rl_in h1 h2, mc_XE (by decide) (fun post hq => ?_), fun kk hkk => mc_Y1 (by omega) g6 (by omega) (fun post hp => ?_) kk hkk _ _ (mc_YE (g_how := 1) (g_bodies := nI (r.length + 1)) (g_top := nI (mc_vt r + mc_nv E2)) (kk + 1) hkk)⟩
  · refine xs_cb (t := mc_xt r + 2 + E2.length) hp1 hop ?_ (by omega) g1.2.1 g1.1 (fun q => hbad ⟨hx.1.mp q.1, hy.1.mp q.2⟩) hq
    have : k = 3 ∨ k = 4 ∨ k = 5 ∨ k = 6 := by omega
    rcases this with q | q | q | q <;> rw [q]
    · exact Or.inl rfl
    · exact Or.inr (Or.inl rfl)
    · exact Or.inr (Or.inr (Or.inl rfl))
    · exact Or.inr (Or.inr (Or.inr rfl))
  · refine ys_head (h := mc_hi r + K'.length) (by omega) g5.1.1 (by omega) hk (by omega) g5.1.2.1 ?_
    rw [if_neg (by omega)]
    refine ys_f (by omega) (by omega) (by omega) (by omega) (by omega) (Or.inl (by rw [tb_hx_t]; omega)) (Or.inl (by omega)) (yf_two (h := mc_hi r + K'.length) (by omega) hk (nI_nlt (b := 3) hk3 (by omega)) (nI_nlt (a := 7) (by omega) (by omega)) ?_)
    exact yt_bad (t := mc_vt r + mc_nv E2) (by omega) (fun q => absurd ((nI_eq (b := 7) (by omega) (by omega)).mp q) (by omega)) (fun q => hbad ⟨c2.symm.trans q.1, c1.symm.trans q.2⟩) hp
theorem sm_calc : ∀ {f_codeEnd f_depth f_letCount f_height f_heldNames f_usedCount f_marking f_waitCount f_levelNow : Int32} {f_marks : Int64} {a_kindOf a_partX a_partY a_partZ a_weightOf a_needOf a_names a_known a_knownNumber a_functionOf a_op a_operand a_workNode a_workPhase a_workLast a_workPatch a_letPlace a_isUsed a_functionAt a_heldCount a_waiting a_openFrame a_openAt : Nat → Int32} {a_cells a_globals a_stack : Nat → Int64}, ∀ {g_how : Int32} {b_ey b_ez b_globalSort b_global b_body b_heldSort b_held b_needed b_envSort b_env b_length b_base b_floor b_begun b_stage b_last b_valueSort b_value : Nat → Int32} {n fc : Nat} {P : Nat → Nat → Nat → Prop} {E : List mc_E} {Ks : List mc_F} {fn : mc_Fn} {p : Nat} {r : List mc_Bd} {sc Φ : Nat} {e k : Nat} {l : Bool} {K' : List mc_F} {x y : Int64} {s t a b : Int32} {E2 : List mc_E} (_ : rl_St n fc a_kindOf a_partX b_ey b_ez a_weightOf a_names a_partY a_partZ a_needOf a_known a_knownNumber a_functionOf a_op a_operand) (_ : rl_Hp n a_kindOf a_partX a_names a_functionOf P f_usedCount f_marks f_marking f_waitCount a_isUsed a_functionAt a_heldCount a_cells a_waiting a_globals b_body b_heldSort b_held b_globalSort b_global) (_ : mc_G n a_kindOf a_partX b_ey b_ez a_weightOf a_names a_known a_knownNumber a_functionOf a_op a_operand P a_cells a_stack a_openFrame a_openAt b_envSort b_env b_length b_base b_floor b_begun b_stage b_last b_valueSort b_value E Ks fn p r sc Φ) (_ : Ks = (e, 2, l) :: K') (_ : E = (false, y, t, b) :: (false, x, s, a) :: E2) (_ : e < n) (_ : a_kindOf e = nI k) (_ : k ≤ 7) (_ : 3 ≤ k) (_ : p < 1560) (_ : a_op p = nI k) (_ : mc_K n a_kindOf a_partX b_ey b_ez a_weightOf a_names a_known a_knownNumber a_functionOf a_op a_operand (mc_hm a_names fn) K' (mc_L E) (2 + E.length - 1) (p + 1)), mc_Res Φ (nI n, nI fc, f_codeEnd, f_depth, f_letCount, f_height, f_heldNames, f_usedCount, f_marks, f_marking, f_waitCount, nI (mc_xt r + 2 + E.length), nI (mc_xt r), nI p, nI r.length, nI sc, 0, 0, f_levelNow, a_kindOf, a_partX, a_partY, a_partZ, a_weightOf, a_needOf, a_names, a_known, a_knownNumber, a_functionOf, a_op, a_operand, a_workNode, a_workPhase, a_workLast, a_workPatch, a_letPlace, a_isUsed, a_functionAt, a_heldCount, a_cells, a_waiting, a_globals, a_stack, a_openFrame, a_openAt) (nI n, nI fc, nI (r.length + 1), nI (mc_hi r + Ks.length), nI (mc_vt r + mc_nv E), nI sc, 0, g_how, 0, 0, a_kindOf, a_partX, b_ey, b_ez, a_weightOf, a_names, b_globalSort, b_global, b_body, b_heldSort, b_held, b_needed, b_envSort, b_env, b_length, b_base, b_floor, b_begun, b_stage, b_last, b_valueSort, b_value) := by
  intro f_codeEnd f_depth f_letCount f_height f_heldNames f_usedCount f_marking f_waitCount f_levelNow f_marks a_kindOf a_partX a_partY a_partZ a_weightOf a_needOf a_names a_known a_knownNumber a_functionOf a_op a_operand a_workNode a_workPhase a_workLast a_workPatch a_letPlace a_isUsed a_functionAt a_heldCount a_waiting a_openFrame a_openAt a_cells a_globals a_stack g_how b_ey b_ez b_globalSort b_global b_body b_heldSort b_held b_needed b_envSort b_env b_length b_base b_floor b_begun b_stage b_last b_valueSort b_value n fc P E Ks fn p r sc Φ e k l K' x y s t a b E2 h1 h2 h3 hKs hE hen hk hk7 hk3 hp1 hop hK
  have h3' := h3
  have hE' := hE
  subst hE
  obtain ⟨⟨⟨g1, g2, g3, ⟨g4, g4'⟩, g5, ⟨g6, g6'⟩, g7⟩, g8⟩, ⟨⟨v1, v2⟩, v3⟩, hC, hnow, ⟨b1, b2, b3, b4⟩, hΦ⟩ := h3
  have bnd := mc_C_b r hC
  have nvl := mc_nvL E2
  simp only [List.length_cons] at b3
  have Vx := v1 (false, x, s, a) (List.mem_cons_of_mem _ List.mem_cons_self)
  have Vy := v1 (false, y, t, b) List.mem_cons_self
  have hx := hp_V_i (hp_o40 h2.1) Vx
  have hy := hp_V_i (hp_o40 h2.1) Vy
  obtain ⟨⟨c1, c1'⟩, ⟨c2, c2'⟩, c3⟩ := g2
  have s1 : a_stack (mc_xt r + 2 + E2.length) = x := g1.2.1
  have s2 : a_stack (mc_xt r + 2 + E2.length + 1) = y := g1.1
  have d1 : b_valueSort (mc_vt r + mc_nv E2 + 1) = t := c1
  have d1' : b_value (mc_vt r + mc_nv E2 + 1) = b := c1'
  by_cases k7 : k = 7
  · subst k7
    have heq := hp_V_eq h2.1 Vx Vy
    have V1 : hp_V P (vl_iv 1) 1 1 := Or.inr (Or.inl ⟨rfl, rfl⟩)
    have V0 : hp_V P 0 0 0 := Or.inl ⟨rfl, rfl⟩
    refine sm_two2 (z := if x = y then vl_iv 1 else 0) (sz := if x = y then 1 else 0) (vz := if x = y then 1 else 0) h1 h2 h3' hKs hE' hen hk hk7 hk3 hK ?_ (fun post hq => xs_cmp (t := mc_xt r + 2 + E2.length) hp1 hop (by omega) s1 s2 hq) (fun post hp => yt_same (t := mc_vt r + mc_nv E2) (by omega) ?_ hp)
    · split
      · exact V1
      · exact V0
    · rw [c2, c2', d1, d1']; exact heq
  · by_cases hb : s = 1 ∧ t = 1
    · obtain ⟨hs1, ht1⟩ := hb
      have ex := hx.2 hs1
      have ey := hy.2 ht1
      by_cases k6 : k = 6
      · subst k6
        refine sm_two2 (z := if b ≤ a then 0 else vl_iv 1) (sz := if b ≤ a then 0 else 1) (vz := if b ≤ a then 0 else 1) h1 h2 h3' hKs hE' hen hk hk7 hk3 hK ?_ (fun post hq => xs_cl (t := mc_xt r + 2 + E2.length) hp1 hop (by omega) (s1.trans ex) (s2.trans ey) hq) (fun post hp => yt_less (t := mc_vt r + mc_nv E2) (by omega) (c2.trans hs1) (d1.trans ht1) ?_)
        · split
          · exact Or.inl ⟨rfl, rfl⟩
          · exact Or.inr (Or.inl ⟨rfl, rfl⟩)
        · rw [c2', d1']; exact hp
      · refine sm_two2 (z := vl_iv (if nI k = 3 then a + b else if nI k = 4 then a - b else a * b)) (sz := 1) (vz := if nI k = 3 then a + b else if nI k = 4 then a - b else a * b) h1 h2 h3' hKs hE' hen hk hk7 hk3 hK (Or.inr (Or.inl ⟨rfl, rfl⟩)) (fun post hq => xs_ca (t := mc_xt r + 2 + E2.length) hp1 hop ?_ (by omega) (s1.trans ex) (s2.trans ey) hq) (fun post hp => yt_ar (t := mc_vt r + mc_nv E2) (by omega) (fun q => absurd ((nI_eq (b := 7) (by omega) (by omega)).mp q) (by omega)) (fun q => absurd ((nI_eq (b := 6) (by omega) (by omega)).mp q) (by omega)) (c2.trans hs1) (d1.trans ht1) ?_)
        · have : k = 3 ∨ k = 4 ∨ k = 5 := by omega
          rcases this with q | q | q <;> rw [q]
          · exact Or.inl rfl
          · exact Or.inr (Or.inl rfl)
          · exact Or.inr (Or.inr rfl)
        · rw [c2', d1']; exact hp
    · exact sm_bad2 h1 h2 h3' hKs hE' hen hk (by omega) hk3 hp1 hop hb
end
section
/-! the simulation: pairs and globals -/

theorem mc_pk5 {K X Y W : Nat → Int32} {e : Nat} {l : Bool} (hw : 1 + tb_c W (if tb_hx (tb_c K e) = true then tb_c X e else tb_c Y e) ≤ tb_c W e) (Ks : List mc_F) : mc_pp K X Y W Ks + 1 ≤ mc_pp K X Y W ((e, 1, l) :: Ks) := by
  simp only [mc_pp, mc_pk]
  omega
theorem tb_un_w {n fc : Nat} {K X Y Z W M PY PZ KN KV FO : Nat → Int32} {e : Nat} (hT : tb_T n fc K X Y Z W M PY PZ KN KV FO) (he : e < n) (hxy : tb_hx (tb_c K e) = true ∨ tb_hy (tb_c K e) = true) : 1 + tb_c W (if tb_hx (tb_c K e) = true then tb_c X e else tb_c Y e) ≤ tb_c W e := by
  have hWe := (hT e he).1.2.2.2.2.2.2.1.2.2
  unfold tb_w at hWe
  by_cases c : tb_hx (tb_c K e) = true
  · rw [if_pos c] at hWe ⊢; omega
  · rw [if_pos (hxy.resolve_left c)] at hWe
    rw [if_neg c] at hWe ⊢; omega
/-- the two cells of a pair -/
theorem hp_pair {FT : Nat → Nat → Nat → Nat → Prop} {P : Nat → Nat → Nat → Prop} {fa hA : Nat → Int32} {cs : Nat → Int64} {bd hs hv : Nat → Int32} (h : hp_H FT P fa hA cs bd hs hv) {o w j : Nat} (p : P o w 0) (hj : j < 2) : hp_V P (cs (8 * o + j)) (hs (6 * w + j)) (hv (6 * w + j)) := by
  obtain ⟨_, _, hN⟩ := h.2.2 o w 0 p
  rcases hN with ⟨_, _, _, a, b, _⟩ | ⟨e, f, mk, x, et, _⟩
  · by_cases z : j = 0
    · subst z; exact a
    · rw [show j = 1 by omega]; exact b
  · exact absurd et (by omega)
theorem hp_V_2 {P : Nat → Nat → Nat → Prop} {x : Int64} {s v : Int32} (hv : hp_V P x s v) (hs : s = 2) : ∃ o w, P o w 0 ∧ x = vl_ob o ∧ v = nI w := by
  obtain ⟨o, w, t, p, ex, ev, es⟩ := hp_V_y hv (by rw [hs]; decide)
  have ht : t = 0 := by
    by_cases y : t = 0
    · exact y
    · rw [hs, if_neg y] at es; exact absurd es (by decide)
  subst ht
  exact ⟨o, w, p, ex, ev⟩
theorem hp_V_D {P : Nat → Nat → Nat → Prop} (h40 : ∀ o w t, P o w t → o < 40) {x : Int64} {s v : Int32} (hv : hp_V P x s v) : ∀ c, c < 40 → x = vl_ob c → ∃ w t, P c w t := fun c hc e => by
  rw [e] at hv
  obtain ⟨w, t, p, _⟩ := hp_V_x h40 hc hv
  exact ⟨w, t, p⟩
theorem sm_get : ∀ {f_codeEnd f_depth f_letCount f_height f_heldNames f_usedCount f_marking f_waitCount f_levelNow : Int32} {f_marks : Int64} {a_kindOf a_partX a_partY a_partZ a_weightOf a_needOf a_names a_known a_knownNumber a_functionOf a_op a_operand a_workNode a_workPhase a_workLast a_workPatch a_letPlace a_isUsed a_functionAt a_heldCount a_waiting a_openFrame a_openAt : Nat → Int32} {a_cells a_globals a_stack : Nat → Int64}, ∀ {g_how : Int32} {b_ey b_ez b_globalSort b_global b_body b_heldSort b_held b_needed b_envSort b_env b_length b_base b_floor b_begun b_stage b_last b_valueSort b_value : Nat → Int32} {n fc : Nat} {P : Nat → Nat → Nat → Prop} {E : List mc_E} {Ks : List mc_F} {fn : mc_Fn} {p : Nat} {r : List mc_Bd} {sc Φ : Nat} {e : Nat} {l : Bool} {K' : List mc_F} {x : Int64} {s a : Int32} {E' : List mc_E} (_ : rl_St n fc a_kindOf a_partX b_ey b_ez a_weightOf a_names a_partY a_partZ a_needOf a_known a_knownNumber a_functionOf a_op a_operand) (_ : rl_Hp n a_kindOf a_partX a_names a_functionOf P f_usedCount f_marks f_marking f_waitCount a_isUsed a_functionAt a_heldCount a_cells a_waiting a_globals b_body b_heldSort b_held b_globalSort b_global) (_ : mc_G n a_kindOf a_partX b_ey b_ez a_weightOf a_names a_known a_knownNumber a_functionOf a_op a_operand P a_cells a_stack a_openFrame a_openAt b_envSort b_env b_length b_base b_floor b_begun b_stage b_last b_valueSort b_value E Ks fn p r sc Φ) (_ : Ks = (e, 1, l) :: K') (_ : E = (false, x, s, a) :: E') (_ : e < n) (_ : a_kindOf e = 10 ∨ a_kindOf e = 11) (_ : p < 1560) (_ : a_op p = a_kindOf e) (_ : mc_K n a_kindOf a_partX b_ey b_ez a_weightOf a_names a_known a_knownNumber a_functionOf a_op a_operand (mc_hm a_names fn) K' (mc_L E) (2 + E.length) (p + 1)), mc_Res Φ (nI n, nI fc, f_codeEnd, f_depth, f_letCount, f_height, f_heldNames, f_usedCount, f_marks, f_marking, f_waitCount, nI (mc_xt r + 2 + E.length), nI (mc_xt r), nI p, nI r.length, nI sc, 0, 0, f_levelNow, a_kindOf, a_partX, a_partY, a_partZ, a_weightOf, a_needOf, a_names, a_known, a_knownNumber, a_functionOf, a_op, a_operand, a_workNode, a_workPhase, a_workLast, a_workPatch, a_letPlace, a_isUsed, a_functionAt, a_heldCount, a_cells, a_waiting, a_globals, a_stack, a_openFrame, a_openAt) (nI n, nI fc, nI (r.length + 1), nI (mc_hi r + Ks.length), nI (mc_vt r + mc_nv E), nI sc, 0, g_how, 0, 0, a_kindOf, a_partX, b_ey, b_ez, a_weightOf, a_names, b_globalSort, b_global, b_body, b_heldSort, b_held, b_needed, b_envSort, b_env, b_length, b_base, b_floor, b_begun, b_stage, b_last, b_valueSort, b_value) := by
  intro f_codeEnd f_depth f_letCount f_height f_heldNames f_usedCount f_marking f_waitCount f_levelNow f_marks a_kindOf a_partX a_partY a_partZ a_weightOf a_needOf a_names a_known a_knownNumber a_functionOf a_op a_operand a_workNode a_workPhase a_workLast a_workPatch a_letPlace a_isUsed a_functionAt a_heldCount a_waiting a_openFrame a_openAt a_cells a_globals a_stack g_how b_ey b_ez b_globalSort b_global b_body b_heldSort b_held b_needed b_envSort b_env b_length b_base b_floor b_begun b_stage b_last b_valueSort b_value n fc P E Ks fn p r sc Φ e l K' x s a E' h1 h2 h3 hKs hE hen hk hp1 hop hK
  subst hKs hE
  obtain ⟨⟨⟨g1, g2, g3, ⟨g4, g4'⟩, g5, ⟨g6, g6'⟩, g7⟩, g8⟩, ⟨⟨v1, v2⟩, v3⟩, hC, hnow, ⟨b1, b2, b3, b4⟩, hΦ⟩ := h3
  have hn := h1.1
  have bnd := mc_C_b r hC
  have nvl := mc_nvL E'
  simp only [List.length_cons] at b4 b3 hK
  simp only [mc_L] at hK g4 g4'
  rw [show 2 + (E'.length + 1) = 3 + E'.length by omega] at hK
  have Vx := v1 (false, x, s, a) List.mem_cons_self
  obtain ⟨⟨c1, c1'⟩, c2⟩ := g2
  have sx : a_stack (mc_xt r + 2 + E'.length) = x := g1.1
  obtain ⟨k, hkk, hk19, hkj⟩ : ∃ k, a_kindOf e = nI k ∧ (k = 10 ∨ k = 11) ∧ tb_c a_kindOf e = k := by
    rcases hk with q | q
    · exact ⟨10, q, Or.inl rfl, tb_lit q⟩
    · exact ⟨11, q, Or.inr rfl, tb_lit q⟩
  have hxk : tb_hx k = true := by rcases hk19 with q | q <;> (rw [q]; decide)
  have hyk : ¬ tb_hy k = true := by rcases hk19 with q | q <;> (rw [q]; decide)
  have hk4 : nI k = 10 ∨ nI k = 11 ∨ nI k = 12 ∨ nI k = 13 := by
    rcases hk19 with q | q <;> rw [q]
    · exact Or.inl rfl
    · exact Or.inr (Or.inl rfl)
  have hpk := mc_pk5 (l := l) (tb_un_w h1.2.2.1 hen (Or.inl (by rw [hkj]; exact hxk))) K'
  by_cases s2 : s = 2
  · obtain ⟨o, w, po, ex, ev⟩ := hp_V_2 Vx s2
    have ho := hp_o40 h2.1 _ _ _ po
    have hw := hp_w40 h2.1 _ _ _ po
    obtain ⟨j, hj, hkj2⟩ : ∃ j, j < 2 ∧ ((k = 10 ∧ j = 0) ∨ (k = 11 ∧ j = 1)) := by
      rcases hk19 with q | q
      · exact ⟨0, by omega, Or.inl ⟨q, rfl⟩⟩
      · exact ⟨1, by omega, Or.inr ⟨q, rfl⟩⟩
    have hkI : (a_kindOf e = 10 ∧ j = 0) ∨ (a_kindOf e = 11 ∧ j = 1) := by
      rcases hkj2 with ⟨q, z⟩ | ⟨q, z⟩
      · exact Or.inl ⟨by rw [hkk, q]; rfl, z⟩
      · exact Or.inr ⟨by rw [hkk, q]; rfl, z⟩
    have hV := hp_pair h2.1 po hj
    have hG := mc_Gval (st := vp_updL a_stack (mc_xt r + 2 + E'.length) (a_cells (8 * o + j))) (vs := upd b_valueSort (mc_vt r + mc_nv E') (b_heldSort (6 * w + j))) (vv := upd b_value (mc_vt r + mc_nv E') (b_held (6 * w + j))) (sg := upd b_stage (mc_hi r + K'.length) (nI 2)) (mc_XS_cg E' (fun j hj => pk_uLn (by omega)) g1.2) (mc_VS_cg E' (fun j hj => ⟨pk_un (by omega), pk_un (by omega)⟩) c2) g3 ⟨g4, g4'⟩ (mc_KS_cg K' (fun j hj => ⟨rfl, pk_un (by omega), rfl⟩) g5.2) ⟨g6, g6'⟩ (mc_FM_cg fn ⟨pk_uLn (by omega), pk_uLn (by omega)⟩ (fun j _ _ => ⟨rfl, rfl⟩) g7) (mc_M_cg r (fun j hj => pk_uLn (by omega)) (fun j hj => ⟨pk_un (by omega), pk_un (by omega)⟩) (fun j hj => ⟨rfl, rfl⟩) (fun j hj => ⟨rfl, rfl, rfl⟩) (fun j hj => ⟨rfl, pk_un (by omega), rfl⟩) g8) (fun w hw => v1 w (List.mem_cons_of_mem _ hw)) v2 v3 hC hK ⟨b1, b2, by omega, by omega⟩ pk_uLs ⟨pk_us, pk_us⟩ hV
    refine Or.inl ⟨(nI n, nI fc, f_codeEnd, f_depth, f_letCount, f_height, f_heldNames, f_usedCount, f_marks, f_marking, f_waitCount, nI (mc_xt r + 2 + ((false, a_cells (8 * o + j), b_heldSort (6 * w + j), b_held (6 * w + j)) :: E').length), nI (mc_xt r), nI (p + 1), nI r.length, nI sc, 0, 0, f_levelNow, a_kindOf, a_partX, a_partY, a_partZ, a_weightOf, a_needOf, a_names, a_known, a_knownNumber, a_functionOf, a_op, a_operand, a_workNode, a_workPhase, a_workLast, a_workPatch, a_letPlace, a_isUsed, a_functionAt, a_heldCount, a_cells, a_waiting, a_globals, vp_updL a_stack (mc_xt r + 2 + E'.length) (a_cells (8 * o + j)), a_openFrame, a_openAt), (nI n, nI fc, nI (r.length + 1), nI (mc_hi r + K'.length), nI (mc_vt r + mc_nv ((false, a_cells (8 * o + j), b_heldSort (6 * w + j), b_held (6 * w + j)) :: E')), nI sc, 0, g_how, 0, 0, a_kindOf, a_partX, b_ey, b_ez, a_weightOf, a_names, b_globalSort, b_global, b_body, b_heldSort, b_held, b_needed, b_envSort, b_env, b_length, b_base, b_floor, b_begun, upd b_stage (mc_hi r + K'.length) (nI 2), b_last, upd b_valueSort (mc_vt r + mc_nv E') (b_heldSort (6 * w + j)), upd b_value (mc_vt r + mc_nv E') (b_held (6 * w + j))), _, 1, mc_in (E := (false, a_cells (8 * o + j), b_heldSort (6 * w + j), b_held (6 * w + j)) :: E') (Ks := K') (fn := fn) (r := r) (p := p + 1) h1 h2 hG, Nat.le_refl _, by omega, mc_X1 (fun post hq => ?_), mc_Y1 (by omega) g6 (by omega) (fun post hp => ?_)⟩
    · refine xs_get (t := mc_xt r + 2 + E'.length) (o := a_kindOf e) (c := o) (j := j) hp1 hop hkI (by omega) ho (sx.trans ex) (fun post' hq' => ?_) hq
      rw [sx]
      exact hp_sortOf h2.1 Vx post' (s2 ▸ hq')
    · refine ys_head (h := mc_hi r + K'.length) (by omega) g5.1.1 (by omega) hkk (by omega) g5.1.2.1 ?_
      rw [if_neg (by omega)]
      refine ys_f (by omega) (by omega) (by omega) (by omega) (by omega) (Or.inl hxk) (Or.inr (fun q => hyk q.2)) (yf_pair (h := mc_hi r + K'.length) (by omega) hkk hk4 ?_)
      exact yp_get (t := mc_vt r + mc_nv E') (w := w) (j := j) (by omega) (by rcases hkj2 with ⟨q, z⟩ | ⟨q, z⟩ <;> rw [q, z]; exact Or.inl ⟨rfl, rfl⟩; exact Or.inr ⟨rfl, rfl⟩) hw (c1.trans s2) (c1'.trans ev) hp
  · refine Or.inr ⟨1, mc_t0 (nI n, nI fc, f_codeEnd, f_depth, f_letCount, f_height, f_heldNames, f_usedCount, f_marks, f_marking, f_waitCount, nI (mc_xt r + 2 + E'.length + 1), nI (mc_xt r), nI (p + 1), nI r.length, nI sc, 0, 0, f_levelNow, a_kindOf, a_partX, a_partY, a_partZ, a_weightOf, a_needOf, a_names, a_known, a_knownNumber, a_functionOf, a_op, a_operand, a_workNode, a_workPhase, a_workLast, a_workPatch, a_letPlace, a_isUsed, a_functionAt, a_heldCount, a_cells, a_waiting, a_globals, a_stack, a_openFrame, a_openAt), (nI n, nI fc, 0, nI (mc_hi r + K'.length), 0, nI sc, 1, 1, 0, 0, a_kindOf, a_partX, b_ey, b_ez, a_weightOf, a_names, b_globalSort, b_global, b_body, b_heldSort, b_held, b_needed, b_envSort, b_env, b_length, b_base, b_floor, b_begun, upd b_stage (mc_hi r + K'.length) (nI 2), b_last, b_valueSort, b_value), rl_in h1 h2, mc_XE (by decide) (fun post hq => ?_), fun kk hkk' => mc_Y1 (by omega) g6 (by omega) (fun post hp => ?_) kk hkk' _ _ (mc_YE (g_how := 1) (g_bodies := nI (r.length + 1)) (g_top := nI (mc_vt r + mc_nv E' + 1)) (kk + 1) hkk')⟩
    · refine xs_get0 (t := mc_xt r + 2 + E'.length) (s := s) hp1 hop hk (by omega) (fun post' hq' => ?_) s2 hq
      rw [sx]
      exact hp_sortOf h2.1 Vx post' hq'
    · refine ys_head (h := mc_hi r + K'.length) (by omega) g5.1.1 (by omega) hkk (by omega) g5.1.2.1 ?_
      rw [if_neg (by omega)]
      refine ys_f (by omega) (by omega) (by omega) (by omega) (by omega) (Or.inl hxk) (Or.inr (fun q => hyk q.2)) (yf_pair (h := mc_hi r + K'.length) (by omega) hkk hk4 ?_)
      exact yp_get0 (t := mc_vt r + mc_nv E') (by omega) (by rcases hk19 with q | q <;> rw [q]; exact Or.inl rfl; exact Or.inr rfl) (by rw [c1]; exact s2) hp
/-- a global is set -/
theorem sm_sg : ∀ {f_codeEnd f_depth f_letCount f_height f_heldNames f_usedCount f_marking f_waitCount f_levelNow : Int32} {f_marks : Int64} {a_kindOf a_partX a_partY a_partZ a_weightOf a_needOf a_names a_known a_knownNumber a_functionOf a_op a_operand a_workNode a_workPhase a_workLast a_workPatch a_letPlace a_isUsed a_functionAt a_heldCount a_waiting a_openFrame a_openAt : Nat → Int32} {a_cells a_globals a_stack : Nat → Int64}, ∀ {g_how : Int32} {b_ey b_ez b_globalSort b_global b_body b_heldSort b_held b_needed b_envSort b_env b_length b_base b_floor b_begun b_stage b_last b_valueSort b_value : Nat → Int32} {n fc : Nat} {P : Nat → Nat → Nat → Prop} {E : List mc_E} {Ks : List mc_F} {fn : mc_Fn} {p : Nat} {r : List mc_Bd} {sc Φ : Nat} {e : Nat} {l : Bool} {K' : List mc_F} {x : Int64} {s a : Int32} {E' : List mc_E} (_ : rl_St n fc a_kindOf a_partX b_ey b_ez a_weightOf a_names a_partY a_partZ a_needOf a_known a_knownNumber a_functionOf a_op a_operand) (_ : rl_Hp n a_kindOf a_partX a_names a_functionOf P f_usedCount f_marks f_marking f_waitCount a_isUsed a_functionAt a_heldCount a_cells a_waiting a_globals b_body b_heldSort b_held b_globalSort b_global) (_ : mc_G n a_kindOf a_partX b_ey b_ez a_weightOf a_names a_known a_knownNumber a_functionOf a_op a_operand P a_cells a_stack a_openFrame a_openAt b_envSort b_env b_length b_base b_floor b_begun b_stage b_last b_valueSort b_value E Ks fn p r sc Φ) (_ : Ks = (e, 1, l) :: K') (_ : E = (false, x, s, a) :: E') (_ : e < n) (_ : a_kindOf e = 18) (_ : p < 1560) (_ : a_op p = 18) (_ : a_operand p = a_partX e) (_ : mc_K n a_kindOf a_partX b_ey b_ez a_weightOf a_names a_known a_knownNumber a_functionOf a_op a_operand (mc_hm a_names fn) K' (mc_L E) (2 + E.length) (p + 1)), mc_Res Φ (nI n, nI fc, f_codeEnd, f_depth, f_letCount, f_height, f_heldNames, f_usedCount, f_marks, f_marking, f_waitCount, nI (mc_xt r + 2 + E.length), nI (mc_xt r), nI p, nI r.length, nI sc, 0, 0, f_levelNow, a_kindOf, a_partX, a_partY, a_partZ, a_weightOf, a_needOf, a_names, a_known, a_knownNumber, a_functionOf, a_op, a_operand, a_workNode, a_workPhase, a_workLast, a_workPatch, a_letPlace, a_isUsed, a_functionAt, a_heldCount, a_cells, a_waiting, a_globals, a_stack, a_openFrame, a_openAt) (nI n, nI fc, nI (r.length + 1), nI (mc_hi r + Ks.length), nI (mc_vt r + mc_nv E), nI sc, 0, g_how, 0, 0, a_kindOf, a_partX, b_ey, b_ez, a_weightOf, a_names, b_globalSort, b_global, b_body, b_heldSort, b_held, b_needed, b_envSort, b_env, b_length, b_base, b_floor, b_begun, b_stage, b_last, b_valueSort, b_value) := by
  intro f_codeEnd f_depth f_letCount f_height f_heldNames f_usedCount f_marking f_waitCount f_levelNow f_marks a_kindOf a_partX a_partY a_partZ a_weightOf a_needOf a_names a_known a_knownNumber a_functionOf a_op a_operand a_workNode a_workPhase a_workLast a_workPatch a_letPlace a_isUsed a_functionAt a_heldCount a_waiting a_openFrame a_openAt a_cells a_globals a_stack g_how b_ey b_ez b_globalSort b_global b_body b_heldSort b_held b_needed b_envSort b_env b_length b_base b_floor b_begun b_stage b_last b_valueSort b_value n fc P E Ks fn p r sc Φ e l K' x s a E' h1 h2 h3 hKs hE hen hk hp1 hop hod hK
  subst hKs hE
  obtain ⟨⟨⟨g1, g2, g3, ⟨g4, g4'⟩, g5, ⟨g6, g6'⟩, g7⟩, g8⟩, ⟨⟨v1, v2⟩, v3⟩, hC, hnow, ⟨b1, b2, b3, b4⟩, hΦ⟩ := h3
  have hn := h1.1
  have bnd := mc_C_b r hC
  have nvl := mc_nvL E'
  simp only [List.length_cons] at b4 b3 hK
  simp only [mc_L] at hK g4 g4'
  rw [show 2 + (E'.length + 1) = 3 + E'.length by omega] at hK
  have hkc : tb_c a_kindOf e = 18 := tb_lit hk
  obtain ⟨x1, x2⟩ := (h1.2.2.1 e hen).1.2.2.2.2.2.1 (Or.inr hkc)
  have Vx := v1 (false, x, s, a) List.mem_cons_self
  obtain ⟨⟨c1, c1'⟩, c2⟩ := g2
  have sx : a_stack (mc_xt r + 2 + E'.length) = x := g1.1
  have hpk := mc_pk5 (l := l) (tb_un_w h1.2.2.1 hen (Or.inr (by rw [hkc]; decide))) K'
  obtain ⟨hH, hG, hgl⟩ := h2
  have Vg := hgl (tb_c a_partX e) (by omega)
  obtain ⟨m', wc', wt', ok, _, hpt⟩ := gc_tell hG (hp_V_wf (hp_o40 hH) Vg) (hp_V_D (hp_o40 hH) Vg)
  have h2' : rl_Hp n a_kindOf a_partX a_names a_functionOf P f_usedCount m' f_marking wc' a_isUsed a_functionAt a_heldCount a_cells wt' (vp_updL a_globals (tb_c a_partX e) x) b_body b_heldSort b_held (upd b_globalSort (tb_c a_partX e) s) (upd b_global (tb_c a_partX e) a) := by
    refine ⟨hH, ok, fun g hg => ?_⟩
    by_cases q : g = tb_c a_partX e
    · rw [q, pk_uLs, pk_us, pk_us]; exact Vx
    · rw [pk_uLn q, pk_un q, pk_un q]; exact hgl g hg
  have hGv := mc_Gval (st := a_stack) (vs := b_valueSort) (vv := b_value) (sg := upd b_stage (mc_hi r + K'.length) (nI 2)) g1.2 c2 g3 ⟨g4, g4'⟩ (mc_KS_cg K' (fun j hj => ⟨rfl, pk_un (by omega), rfl⟩) g5.2) ⟨g6, g6'⟩ g7 (mc_M_cg r (fun j hj => rfl) (fun j hj => ⟨rfl, rfl⟩) (fun j hj => ⟨rfl, rfl⟩) (fun j hj => ⟨rfl, rfl, rfl⟩) (fun j hj => ⟨rfl, pk_un (by omega), rfl⟩) g8) (fun w hw => v1 w (List.mem_cons_of_mem _ hw)) v2 v3 hC hK ⟨b1, b2, by omega, by omega⟩ sx ⟨c1, c1'⟩ Vx
  refine Or.inl ⟨(nI n, nI fc, f_codeEnd, f_depth, f_letCount, f_height, f_heldNames, f_usedCount, m', f_marking, wc', nI (mc_xt r + 2 + ((false, x, s, a) :: E').length), nI (mc_xt r), nI (p + 1), nI r.length, nI sc, 0, 0, f_levelNow, a_kindOf, a_partX, a_partY, a_partZ, a_weightOf, a_needOf, a_names, a_known, a_knownNumber, a_functionOf, a_op, a_operand, a_workNode, a_workPhase, a_workLast, a_workPatch, a_letPlace, a_isUsed, a_functionAt, a_heldCount, a_cells, wt', vp_updL a_globals (tb_c a_partX e) x, a_stack, a_openFrame, a_openAt), (nI n, nI fc, nI (r.length + 1), nI (mc_hi r + K'.length), nI (mc_vt r + mc_nv ((false, x, s, a) :: E')), nI sc, 0, g_how, 0, 0, a_kindOf, a_partX, b_ey, b_ez, a_weightOf, a_names, upd b_globalSort (tb_c a_partX e) s, upd b_global (tb_c a_partX e) a, b_body, b_heldSort, b_held, b_needed, b_envSort, b_env, b_length, b_base, b_floor, b_begun, upd b_stage (mc_hi r + K'.length) (nI 2), b_last, b_valueSort, b_value), _, 1, mc_in (E := (false, x, s, a) :: E') (Ks := K') (fn := fn) (r := r) (p := p + 1) h1 h2' hGv, Nat.le_refl _, by omega, mc_X1 (fun post hq => ?_), mc_Y1 (by omega) g6 (by omega) (fun post hp => ?_)⟩
  · refine xs_sg (D := fun _ => True) (t := mc_xt r + 2 + E'.length) (g := tb_c a_partX e) hp1 hop (hod.trans x1) (by omega) (by omega) ⟨m', wc', wt', fun post' hq' => hpt post' hq', ?_⟩
    rw [sx]
    exact hq
  · refine ys_head (k := 18) (h := mc_hi r + K'.length) (by omega) g5.1.1 (by omega) hk (by omega) g5.1.2.1 ?_
    rw [if_neg (by omega)]
    refine ys_f (by omega) (by omega) (by omega) (by omega) (by omega) (Or.inr (by decide)) (Or.inr (by decide)) ?_
    refine yf_sg (h := mc_hi r + K'.length) (t := mc_vt r + mc_nv E') (g := tb_c a_partX e) (by omega) hk x1 (by omega) (by omega) ?_
    rw [c1, c1']
    exact hp
/-- a pair is changed -/
theorem sm_set : ∀ {f_codeEnd f_depth f_letCount f_height f_heldNames f_usedCount f_marking f_waitCount f_levelNow : Int32} {f_marks : Int64} {a_kindOf a_partX a_partY a_partZ a_weightOf a_needOf a_names a_known a_knownNumber a_functionOf a_op a_operand a_workNode a_workPhase a_workLast a_workPatch a_letPlace a_isUsed a_functionAt a_heldCount a_waiting a_openFrame a_openAt : Nat → Int32} {a_cells a_globals a_stack : Nat → Int64}, ∀ {g_how : Int32} {b_ey b_ez b_globalSort b_global b_body b_heldSort b_held b_needed b_envSort b_env b_length b_base b_floor b_begun b_stage b_last b_valueSort b_value : Nat → Int32} {n fc : Nat} {P : Nat → Nat → Nat → Prop} {E : List mc_E} {Ks : List mc_F} {fn : mc_Fn} {p : Nat} {r : List mc_Bd} {sc Φ : Nat} {e : Nat} {l : Bool} {K' : List mc_F} {x y : Int64} {s t a b : Int32} {E2 : List mc_E} (_ : rl_St n fc a_kindOf a_partX b_ey b_ez a_weightOf a_names a_partY a_partZ a_needOf a_known a_knownNumber a_functionOf a_op a_operand) (_ : rl_Hp n a_kindOf a_partX a_names a_functionOf P f_usedCount f_marks f_marking f_waitCount a_isUsed a_functionAt a_heldCount a_cells a_waiting a_globals b_body b_heldSort b_held b_globalSort b_global) (_ : mc_G n a_kindOf a_partX b_ey b_ez a_weightOf a_names a_known a_knownNumber a_functionOf a_op a_operand P a_cells a_stack a_openFrame a_openAt b_envSort b_env b_length b_base b_floor b_begun b_stage b_last b_valueSort b_value E Ks fn p r sc Φ) (_ : Ks = (e, 2, l) :: K') (_ : E = (false, y, t, b) :: (false, x, s, a) :: E2) (_ : e < n) (_ : a_kindOf e = 12 ∨ a_kindOf e = 13) (_ : p < 1560) (_ : a_op p = a_kindOf e) (_ : mc_K n a_kindOf a_partX b_ey b_ez a_weightOf a_names a_known a_knownNumber a_functionOf a_op a_operand (mc_hm a_names fn) K' (mc_L E) (2 + E.length - 1) (p + 1)), mc_Res Φ (nI n, nI fc, f_codeEnd, f_depth, f_letCount, f_height, f_heldNames, f_usedCount, f_marks, f_marking, f_waitCount, nI (mc_xt r + 2 + E.length), nI (mc_xt r), nI p, nI r.length, nI sc, 0, 0, f_levelNow, a_kindOf, a_partX, a_partY, a_partZ, a_weightOf, a_needOf, a_names, a_known, a_knownNumber, a_functionOf, a_op, a_operand, a_workNode, a_workPhase, a_workLast, a_workPatch, a_letPlace, a_isUsed, a_functionAt, a_heldCount, a_cells, a_waiting, a_globals, a_stack, a_openFrame, a_openAt) (nI n, nI fc, nI (r.length + 1), nI (mc_hi r + Ks.length), nI (mc_vt r + mc_nv E), nI sc, 0, g_how, 0, 0, a_kindOf, a_partX, b_ey, b_ez, a_weightOf, a_names, b_globalSort, b_global, b_body, b_heldSort, b_held, b_needed, b_envSort, b_env, b_length, b_base, b_floor, b_begun, b_stage, b_last, b_valueSort, b_value) := by
  intro f_codeEnd f_depth f_letCount f_height f_heldNames f_usedCount f_marking f_waitCount f_levelNow f_marks a_kindOf a_partX a_partY a_partZ a_weightOf a_needOf a_names a_known a_knownNumber a_functionOf a_op a_operand a_workNode a_workPhase a_workLast a_workPatch a_letPlace a_isUsed a_functionAt a_heldCount a_waiting a_openFrame a_openAt a_cells a_globals a_stack g_how b_ey b_ez b_globalSort b_global b_body b_heldSort b_held b_needed b_envSort b_env b_length b_base b_floor b_begun b_stage b_last b_valueSort b_value n fc P E Ks fn p r sc Φ e l K' x y s t a b E2 h1 h2 h3 hKs hE hen hk hp1 hop hK
  subst hKs hE
  obtain ⟨⟨⟨g1, g2, g3, ⟨g4, g4'⟩, g5, ⟨g6, g6'⟩, g7⟩, g8⟩, ⟨⟨v1, v2⟩, v3⟩, hC, hnow, ⟨b1, b2, b3, b4⟩, hΦ⟩ := h3
  have hn := h1.1
  have bnd := mc_C_b r hC
  have nvl := mc_nvL E2
  simp only [List.length_cons] at b4 b3 hK
  simp only [mc_L] at hK g4 g4'
  rw [show 2 + (E2.length + 1 + 1) - 1 = 3 + E2.length by omega] at hK
  have hpk := mc_pk3 (K := a_kindOf) (X := a_partX) (Y := b_ey) (W := a_weightOf) (e := e) (l := l) K'
  have Vx := v1 (false, x, s, a) (List.mem_cons_of_mem _ List.mem_cons_self)
  have Vy := v1 (false, y, t, b) List.mem_cons_self
  obtain ⟨⟨d1, d1'⟩, ⟨c2, c2'⟩, c3⟩ := g2
  have c1 : b_valueSort (mc_vt r + mc_nv E2 + 1) = t := d1
  have c1' : b_value (mc_vt r + mc_nv E2 + 1) = b := d1'
  have sx : a_stack (mc_xt r + 2 + E2.length) = x := g1.2.1
  have sy : a_stack (mc_xt r + 2 + E2.length + 1) = y := g1.1
  obtain ⟨k, hkk, hk19, hkj⟩ : ∃ k, a_kindOf e = nI k ∧ (k = 12 ∨ k = 13) ∧ tb_c a_kindOf e = k := by
    rcases hk with q | q
    · exact ⟨12, q, Or.inl rfl, tb_lit q⟩
    · exact ⟨13, q, Or.inr rfl, tb_lit q⟩
  have hxk : tb_hx k = true := by rcases hk19 with q | q <;> (rw [q]; decide)
  have hk4 : nI k = 10 ∨ nI k = 11 ∨ nI k = 12 ∨ nI k = 13 := by
    rcases hk19 with q | q <;> rw [q]
    · exact Or.inr (Or.inr (Or.inl rfl))
    · exact Or.inr (Or.inr (Or.inr rfl))
  by_cases s2 : s = 2
  · obtain ⟨o, w, po, ex, ev⟩ := hp_V_2 Vx s2
    have ho := hp_o40 h2.1 _ _ _ po
    have hw := hp_w40 h2.1 _ _ _ po
    obtain ⟨j, hj, hkj2⟩ : ∃ j, j < 2 ∧ ((k = 12 ∧ j = 0) ∨ (k = 13 ∧ j = 1)) := by
      rcases hk19 with q | q
      · exact ⟨0, by omega, Or.inl ⟨q, rfl⟩⟩
      · exact ⟨1, by omega, Or.inr ⟨q, rfl⟩⟩
    have hkI : (a_kindOf e = 12 ∧ j = 0) ∨ (a_kindOf e = 13 ∧ j = 1) := by
      rcases hkj2 with ⟨q, z⟩ | ⟨q, z⟩
      · exact Or.inl ⟨by rw [hkk, q]; rfl, z⟩
      · exact Or.inr ⟨by rw [hkk, q]; rfl, z⟩
    have hkI2 : (nI k = 12 ∧ j = 0) ∨ (nI k = 13 ∧ j = 1) := by rw [← hkk]; exact hkI
    obtain ⟨hH, hG, hgl⟩ := h2
    have hVc := hp_pair hH po hj
    obtain ⟨m', wc', wt', _, okS, hpt⟩ := gc_tell hG (hp_V_wf (hp_o40 hH) hVc) (hp_V_D (hp_o40 hH) hVc)
    have ok := okS o j y (by omega) (by omega) rfl (hp_V_wf (hp_o40 hH) Vy) (hp_V_D (hp_o40 hH) Vy)
    have hH' := hp_set hH po hj Vy
    have h2' : rl_Hp n a_kindOf a_partX a_names a_functionOf P f_usedCount m' f_marking wc' a_isUsed a_functionAt a_heldCount (vp_updL a_cells (8 * o + j) y) wt' a_globals b_body (upd b_heldSort (6 * w + j) t) (upd b_held (6 * w + j) b) b_globalSort b_global := ⟨hH', ok, hgl⟩
    have hcs : ∀ o' w' e', P o' w' (e' + 1) → ∀ k, k < 8 → vp_updL a_cells (8 * o + j) y (8 * o' + k) = a_cells (8 * o' + k) := fun o' w' e' p' k hk' => by
      refine pk_uLn (fun q => ?_)
      have e1 : o' = o := by omega
      subst e1
      exact absurd (hH.1 _ _ _ _ _ p' po).2 (by omega)
    have hGv := mc_Gval (st := vp_updL a_stack (mc_xt r + 2 + E2.length) y) (cs := vp_updL a_cells (8 * o + j) y) (vs := upd b_valueSort (mc_vt r + mc_nv E2) t) (vv := upd b_value (mc_vt r + mc_nv E2) b) (sg := upd b_stage (mc_hi r + K'.length) (nI 3)) (mc_XS_cg E2 (fun j hj => pk_uLn (by omega)) g1.2.2) (mc_VS_cg E2 (fun j hj => ⟨pk_un (by omega), pk_un (by omega)⟩) c3) g3 ⟨g4, g4'⟩ (mc_KS_cg K' (fun j hj => ⟨rfl, pk_un (by omega), rfl⟩) g5.2) ⟨g6, g6'⟩ (mc_FM_cg fn ⟨pk_uLn (by omega), pk_uLn (by omega)⟩ (fun j _ _ => ⟨rfl, rfl⟩) g7) (mc_M_cg r (fun j hj => pk_uLn (by omega)) (fun j hj => ⟨pk_un (by omega), pk_un (by omega)⟩) (fun j hj => ⟨rfl, rfl⟩) (fun j hj => ⟨rfl, rfl, rfl⟩) (fun j hj => ⟨rfl, pk_un (by omega), rfl⟩) g8) (fun w hw => v1 w (List.mem_cons_of_mem _ (List.mem_cons_of_mem _ hw))) (mc_VF_mem (fun _ _ _ h => h) (fun _ _ _ h => h) hcs fn v2) (mc_Vl_mem (fun _ _ _ h => h) (fun _ _ _ h => h) hcs r v3) hC hK ⟨b1, b2, by omega, by omega⟩ pk_uLs ⟨pk_us, pk_us⟩ Vy
    refine Or.inl ⟨(nI n, nI fc, f_codeEnd, f_depth, f_letCount, f_height, f_heldNames, f_usedCount, m', f_marking, wc', nI (mc_xt r + 2 + ((false, y, t, b) :: E2).length), nI (mc_xt r), nI (p + 1), nI r.length, nI sc, 0, 0, f_levelNow, a_kindOf, a_partX, a_partY, a_partZ, a_weightOf, a_needOf, a_names, a_known, a_knownNumber, a_functionOf, a_op, a_operand, a_workNode, a_workPhase, a_workLast, a_workPatch, a_letPlace, a_isUsed, a_functionAt, a_heldCount, vp_updL a_cells (8 * o + j) y, wt', a_globals, vp_updL a_stack (mc_xt r + 2 + E2.length) y, a_openFrame, a_openAt), (nI n, nI fc, nI (r.length + 1), nI (mc_hi r + K'.length), nI (mc_vt r + mc_nv ((false, y, t, b) :: E2)), nI sc, 0, g_how, 0, 0, a_kindOf, a_partX, b_ey, b_ez, a_weightOf, a_names, b_globalSort, b_global, b_body, upd b_heldSort (6 * w + j) t, upd b_held (6 * w + j) b, b_needed, b_envSort, b_env, b_length, b_base, b_floor, b_begun, upd b_stage (mc_hi r + K'.length) (nI 3), b_last, upd b_valueSort (mc_vt r + mc_nv E2) t, upd b_value (mc_vt r + mc_nv E2) b), _, 1, mc_in (E := (false, y, t, b) :: E2) (Ks := K') (fn := fn) (r := r) (p := p + 1) h1 h2' hGv, Nat.le_refl _, by omega, mc_X1 (fun post hq => ?_), mc_Y1 (by omega) g6 (by omega) (fun post hp => ?_)⟩
    · refine xs_set (t := mc_xt r + 2 + E2.length) (o := a_kindOf e) (c := o) (j := j) (m' := m') (wc' := wc') (wt' := wt') hp1 hop hkI (by omega) ho (sx.trans ex) (fun post' hq' => ?_) (fun post' hq' => hpt post' hq') ?_
      · rw [sx]
        exact hp_sortOf hH Vx post' (s2 ▸ hq')
      · rw [sy]
        exact hq
    · refine ys_head (h := mc_hi r + K'.length) (by omega) g5.1.1 (by omega) hkk (by omega) g5.1.2.1 ?_
      rw [if_neg (by omega)]
      refine ys_f (by omega) (by omega) (by omega) (by omega) (by omega) (Or.inl hxk) (Or.inl (by omega)) (yf_pair (h := mc_hi r + K'.length) (by omega) hkk hk4 ?_)
      refine yp_set (t := mc_vt r + mc_nv E2) (w := w) (j := j) (by omega) hkI2 hw (c2.trans s2) (c2'.trans ev) ?_
      rw [c1, c1']
      exact hp
  · refine Or.inr ⟨1, mc_t0 (nI n, nI fc, f_codeEnd, f_depth, f_letCount, f_height, f_heldNames, f_usedCount, f_marks, f_marking, f_waitCount, nI (mc_xt r + 2 + E2.length + 2), nI (mc_xt r), nI (p + 1), nI r.length, nI sc, 0, 0, f_levelNow, a_kindOf, a_partX, a_partY, a_partZ, a_weightOf, a_needOf, a_names, a_known, a_knownNumber, a_functionOf, a_op, a_operand, a_workNode, a_workPhase, a_workLast, a_workPatch, a_letPlace, a_isUsed, a_functionAt, a_heldCount, a_cells, a_waiting, a_globals, a_stack, a_openFrame, a_openAt), (nI n, nI fc, 0, nI (mc_hi r + K'.length), 0, nI sc, 1, 1, 0, 0, a_kindOf, a_partX, b_ey, b_ez, a_weightOf, a_names, b_globalSort, b_global, b_body, b_heldSort, b_held, b_needed, b_envSort, b_env, b_length, b_base, b_floor, b_begun, upd b_stage (mc_hi r + K'.length) (nI 3), b_last, b_valueSort, b_value), rl_in h1 h2, mc_XE (by decide) (fun post hq => ?_), fun kk hkk' => mc_Y1 (by omega) g6 (by omega) (fun post hp => ?_) kk hkk' _ _ (mc_YE (g_how := 1) (g_bodies := nI (r.length + 1)) (g_top := nI (mc_vt r + mc_nv E2 + 2)) (kk + 1) hkk')⟩
    · refine xs_set0 (t := mc_xt r + 2 + E2.length) (s := s) hp1 hop hk (by omega) (fun post' hq' => ?_) s2 hq
      rw [sx]
      exact hp_sortOf h2.1 Vx post' hq'
    · refine ys_head (h := mc_hi r + K'.length) (by omega) g5.1.1 (by omega) hkk (by omega) g5.1.2.1 ?_
      rw [if_neg (by omega)]
      refine ys_f (by omega) (by omega) (by omega) (by omega) (by omega) (Or.inl hxk) (Or.inl (by omega)) (yf_pair (h := mc_hi r + K'.length) (by omega) hkk hk4 ?_)
      exact yp_set0 (t := mc_vt r + mc_nv E2) (by omega) (by rcases hk19 with q | q <;> rw [q]; exact Or.inl rfl; exact Or.inr rfl) (by rw [c2]; exact s2) hp
end
section
/-! the simulation: the end of a body, calls -/

theorem mc_1 {E E' : List mc_E} {y : mc_E} (hE : E = (false, y.2) :: E') (h : 2 + E.length = 3) : E' = [] := by
  subst hE
  rw [List.length_cons] at h
  exact List.length_eq_zero_iff.mp (by omega)
/-- the run's expression is worked out -/
theorem sm_end : ∀ {f_codeEnd f_depth f_letCount f_height f_heldNames f_usedCount f_marking f_waitCount f_levelNow : Int32} {f_marks : Int64} {a_kindOf a_partX a_partY a_partZ a_weightOf a_needOf a_names a_known a_knownNumber a_functionOf a_op a_operand a_workNode a_workPhase a_workLast a_workPatch a_letPlace a_isUsed a_functionAt a_heldCount a_waiting a_openFrame a_openAt : Nat → Int32} {a_cells a_globals a_stack : Nat → Int64}, ∀ {g_how : Int32} {b_ey b_ez b_globalSort b_global b_body b_heldSort b_held b_needed b_envSort b_env b_length b_base b_floor b_begun b_stage b_last b_valueSort b_value : Nat → Int32} {n fc : Nat} {P : Nat → Nat → Nat → Prop} {E : List mc_E} {Ks : List mc_F} {fn : mc_Fn} {p : Nat} {r : List mc_Bd} {sc Φ : Nat} {x : Int64} {s a : Int32} {E' : List mc_E} (_ : rl_St n fc a_kindOf a_partX b_ey b_ez a_weightOf a_names a_partY a_partZ a_needOf a_known a_knownNumber a_functionOf a_op a_operand) (_ : rl_Hp n a_kindOf a_partX a_names a_functionOf P f_usedCount f_marks f_marking f_waitCount a_isUsed a_functionAt a_heldCount a_cells a_waiting a_globals b_body b_heldSort b_held b_globalSort b_global) (_ : mc_G n a_kindOf a_partX b_ey b_ez a_weightOf a_names a_known a_knownNumber a_functionOf a_op a_operand P a_cells a_stack a_openFrame a_openAt b_envSort b_env b_length b_base b_floor b_begun b_stage b_last b_valueSort b_value E Ks fn p r sc Φ) (_ : Ks = []) (_ : r = []) (_ : E = (false, x, s, a) :: E') (_ : p < 1560) (_ : a_op p = 25) (_ : 2 + E.length = 3), mc_Res Φ (nI n, nI fc, f_codeEnd, f_depth, f_letCount, f_height, f_heldNames, f_usedCount, f_marks, f_marking, f_waitCount, nI (mc_xt r + 2 + E.length), nI (mc_xt r), nI p, nI r.length, nI sc, 0, 0, f_levelNow, a_kindOf, a_partX, a_partY, a_partZ, a_weightOf, a_needOf, a_names, a_known, a_knownNumber, a_functionOf, a_op, a_operand, a_workNode, a_workPhase, a_workLast, a_workPatch, a_letPlace, a_isUsed, a_functionAt, a_heldCount, a_cells, a_waiting, a_globals, a_stack, a_openFrame, a_openAt) (nI n, nI fc, nI (r.length + 1), nI (mc_hi r + Ks.length), nI (mc_vt r + mc_nv E), nI sc, 0, g_how, 0, 0, a_kindOf, a_partX, b_ey, b_ez, a_weightOf, a_names, b_globalSort, b_global, b_body, b_heldSort, b_held, b_needed, b_envSort, b_env, b_length, b_base, b_floor, b_begun, b_stage, b_last, b_valueSort, b_value) := by
  intro f_codeEnd f_depth f_letCount f_height f_heldNames f_usedCount f_marking f_waitCount f_levelNow f_marks a_kindOf a_partX a_partY a_partZ a_weightOf a_needOf a_names a_known a_knownNumber a_functionOf a_op a_operand a_workNode a_workPhase a_workLast a_workPatch a_letPlace a_isUsed a_functionAt a_heldCount a_waiting a_openFrame a_openAt a_cells a_globals a_stack g_how b_ey b_ez b_globalSort b_global b_body b_heldSort b_held b_needed b_envSort b_env b_length b_base b_floor b_begun b_stage b_last b_valueSort b_value n fc P E Ks fn p r sc Φ x s a E' h1 h2 h3 hKs hr hE hp1 hop hlen
  have hE' := mc_1 (y := (false, x, s, a)) hE hlen
  subst hKs hr hE' hE
  obtain ⟨⟨⟨g1, g2, g3, ⟨g4, g4'⟩, g5, ⟨g6, g6'⟩, g7⟩, g8⟩, ⟨⟨v1, v2⟩, v3⟩, hC, hnow, ⟨b1, b2, b3, b4⟩, hΦ⟩ := h3
  have Vx := v1 (false, x, s, a) List.mem_cons_self
  have hi := hp_V_i (hp_o40 h2.1) Vx
  obtain ⟨⟨c1, c1'⟩, c2⟩ := g2
  have sx : a_stack 2 = x := g1.1
  have d1 : b_valueSort 0 = s := c1
  have d1' : b_value 0 = a := c1'
  refine Or.inr ⟨0, mc_t0 (nI n, nI fc, f_codeEnd, f_depth, f_letCount, f_height, f_heldNames, f_usedCount, f_marks, f_marking, f_waitCount, nI 3, nI 0, nI (p + 1), 0, nI sc, s, if s = 1 then a else 0, f_levelNow, a_kindOf, a_partX, a_partY, a_partZ, a_weightOf, a_needOf, a_names, a_known, a_knownNumber, a_functionOf, a_op, a_operand, a_workNode, a_workPhase, a_workLast, a_workPatch, a_letPlace, a_isUsed, a_functionAt, a_heldCount, a_cells, a_waiting, a_globals, a_stack, a_openFrame, a_openAt), (nI n, nI fc, 0, nI 0, 0, nI sc, 1, 0, s, if s = 1 then a else 0, a_kindOf, a_partX, b_ey, b_ez, a_weightOf, a_names, b_globalSort, b_global, b_body, b_heldSort, b_held, b_needed, b_envSort, b_env, b_length, b_base, b_floor, b_begun, b_stage, b_last, b_valueSort, b_value), rl_in h1 h2, mc_XE (by decide) (fun post hq => ?_), fun kk hkk' => mc_Y0 (b := 0) (h0 := 0) (by omega) g6 (fun post hp => ?_) kk hkk' _ _ (mc_YE (g_how := 0) (g_bodies := 1) (g_top := nI 1) (kk + 1) hkk')⟩
  · refine xs_ret0 (t := 2) (s := s) (n := if s = 1 then a else 0) hp1 hop (by omega) (fun post' hq' => ?_) (fun q => ?_) (fun q => by rw [if_neg q]) hq
    · rw [sx]
      exact hp_sortOf h2.1 Vx post' hq'
    · have ex : x = vl_iv a := hi.2 q
      rw [if_pos q, sx, ex]
      exact (vl_iv_pl a).symm
  · exact ye_end (t := 0) (s := s) (n := if s = 1 then a else 0) (by omega) d1 (fun q => by rw [if_pos q]; exact d1'.symm) (fun q => by rw [if_neg q]) hp
/-- a body's value is given back -/
theorem sm_ret : ∀ {f_codeEnd f_depth f_letCount f_height f_heldNames f_usedCount f_marking f_waitCount f_levelNow : Int32} {f_marks : Int64} {a_kindOf a_partX a_partY a_partZ a_weightOf a_needOf a_names a_known a_knownNumber a_functionOf a_op a_operand a_workNode a_workPhase a_workLast a_workPatch a_letPlace a_isUsed a_functionAt a_heldCount a_waiting a_openFrame a_openAt : Nat → Int32} {a_cells a_globals a_stack : Nat → Int64}, ∀ {g_how : Int32} {b_ey b_ez b_globalSort b_global b_body b_heldSort b_held b_needed b_envSort b_env b_length b_base b_floor b_begun b_stage b_last b_valueSort b_value : Nat → Int32} {n fc : Nat} {P : Nat → Nat → Nat → Prop} {E : List mc_E} {Ks : List mc_F} {fn : mc_Fn} {p : Nat} {r : List mc_Bd} {sc Φ : Nat} {x : Int64} {s a : Int32} {E' E1 : List mc_E} {K1 : List mc_F} {fn1 : mc_Fn} {p1 : Nat} {r1 : List mc_Bd} (_ : rl_St n fc a_kindOf a_partX b_ey b_ez a_weightOf a_names a_partY a_partZ a_needOf a_known a_knownNumber a_functionOf a_op a_operand) (_ : rl_Hp n a_kindOf a_partX a_names a_functionOf P f_usedCount f_marks f_marking f_waitCount a_isUsed a_functionAt a_heldCount a_cells a_waiting a_globals b_body b_heldSort b_held b_globalSort b_global) (_ : mc_G n a_kindOf a_partX b_ey b_ez a_weightOf a_names a_known a_knownNumber a_functionOf a_op a_operand P a_cells a_stack a_openFrame a_openAt b_envSort b_env b_length b_base b_floor b_begun b_stage b_last b_valueSort b_value E Ks fn p r sc Φ) (_ : Ks = []) (_ : r = (E1, K1, fn1, p1) :: r1) (_ : E = (false, x, s, a) :: E') (_ : p < 1560) (_ : a_op p = 25) (_ : 2 + E.length = 3), mc_Res Φ (nI n, nI fc, f_codeEnd, f_depth, f_letCount, f_height, f_heldNames, f_usedCount, f_marks, f_marking, f_waitCount, nI (mc_xt r + 2 + E.length), nI (mc_xt r), nI p, nI r.length, nI sc, 0, 0, f_levelNow, a_kindOf, a_partX, a_partY, a_partZ, a_weightOf, a_needOf, a_names, a_known, a_knownNumber, a_functionOf, a_op, a_operand, a_workNode, a_workPhase, a_workLast, a_workPatch, a_letPlace, a_isUsed, a_functionAt, a_heldCount, a_cells, a_waiting, a_globals, a_stack, a_openFrame, a_openAt) (nI n, nI fc, nI (r.length + 1), nI (mc_hi r + Ks.length), nI (mc_vt r + mc_nv E), nI sc, 0, g_how, 0, 0, a_kindOf, a_partX, b_ey, b_ez, a_weightOf, a_names, b_globalSort, b_global, b_body, b_heldSort, b_held, b_needed, b_envSort, b_env, b_length, b_base, b_floor, b_begun, b_stage, b_last, b_valueSort, b_value) := by
  intro f_codeEnd f_depth f_letCount f_height f_heldNames f_usedCount f_marking f_waitCount f_levelNow f_marks a_kindOf a_partX a_partY a_partZ a_weightOf a_needOf a_names a_known a_knownNumber a_functionOf a_op a_operand a_workNode a_workPhase a_workLast a_workPatch a_letPlace a_isUsed a_functionAt a_heldCount a_waiting a_openFrame a_openAt a_cells a_globals a_stack g_how b_ey b_ez b_globalSort b_global b_body b_heldSort b_held b_needed b_envSort b_env b_length b_base b_floor b_begun b_stage b_last b_valueSort b_value n fc P E Ks fn p r sc Φ x s a E' E1 K1 fn1 p1 r1 h1 h2 h3 hKs hr hE hp1 hop hlen
  have hE' := mc_1 (y := (false, x, s, a)) hE hlen
  subst hKs hr hE' hE
  obtain ⟨⟨⟨g1, g2, g3, ⟨g4, g4'⟩, g5, ⟨g6, g6'⟩, g7⟩, g8⟩, ⟨⟨v1, v2⟩, v3⟩, hC, hnow, ⟨b1, b2, b3, b4⟩, hΦ⟩ := h3
  have Vx := v1 (false, x, s, a) List.mem_cons_self
  obtain ⟨⟨c1, c1'⟩, c2⟩ := g2
  obtain ⟨⟨o1, o2⟩, o3, ⟨o4, o4'⟩, o5⟩ := hC
  obtain ⟨⟨w1, w2, w3, w4, w5, w6, w7⟩, w8⟩ := g8
  obtain ⟨⟨u1, u2⟩, u3⟩ := v3
  have bnd := mc_C_b r1 o5
  have nvl := mc_nvL E1
  simp only [List.length_cons] at b2 g6 g6'
  have ext : mc_xt ((E1, K1, fn1, p1) :: r1) = mc_xt r1 + 2 + E1.length := rfl
  have evt : mc_vt ((E1, K1, fn1, p1) :: r1) = mc_vt r1 + mc_nv E1 := rfl
  have ehi : mc_hi ((E1, K1, fn1, p1) :: r1) = mc_hi r1 + K1.length := rfl
  have epb : mc_pb a_kindOf a_partX b_ey a_weightOf ((E1, K1, fn1, p1) :: r1) = mc_pp a_kindOf a_partX b_ey a_weightOf K1 + 1 + mc_pb a_kindOf a_partX b_ey a_weightOf r1 := rfl
  have epp : mc_pp a_kindOf a_partX b_ey a_weightOf [] = 0 := rfl
  have sx : a_stack (mc_xt r1 + 2 + E1.length + 2) = x := g1.1
  have d1 : b_valueSort (mc_vt r1 + mc_nv E1) = s := c1
  have d1' : b_value (mc_vt r1 + mc_nv E1) = a := c1'
  have hGv := mc_Gval (st := vp_updL a_stack (mc_xt r1 + 2 + E1.length) x) (mc_XS_cg E1 (fun j hj => pk_uLn (by omega)) w1) w2 w3 w4 w5 w6 (mc_FM_cg fn1 ⟨pk_uLn (by omega), pk_uLn (by omega)⟩ (fun j _ _ => ⟨rfl, rfl⟩) w7) (mc_M_cg r1 (fun j hj => pk_uLn (by omega)) (fun j hj => ⟨rfl, rfl⟩) (fun j hj => ⟨rfl, rfl⟩) (fun j hj => ⟨rfl, rfl, rfl⟩) (fun j hj => ⟨rfl, rfl, rfl⟩) w8) u1 u2 u3 o5 o3 ⟨b1, by omega, by omega, o4'⟩ pk_uLs ⟨d1, d1'⟩ Vx
  refine Or.inl ⟨(nI n, nI fc, f_codeEnd, f_depth, f_letCount, f_height, f_heldNames, f_usedCount, f_marks, f_marking, f_waitCount, nI (mc_xt r1 + 2 + ((false, x, s, a) :: E1).length), nI (mc_xt r1), nI p1, nI r1.length, nI sc, 0, 0, f_levelNow, a_kindOf, a_partX, a_partY, a_partZ, a_weightOf, a_needOf, a_names, a_known, a_knownNumber, a_functionOf, a_op, a_operand, a_workNode, a_workPhase, a_workLast, a_workPatch, a_letPlace, a_isUsed, a_functionAt, a_heldCount, a_cells, a_waiting, a_globals, vp_updL a_stack (mc_xt r1 + 2 + E1.length) x, a_openFrame, a_openAt), (nI n, nI fc, nI (r1.length + 1), nI (mc_hi r1 + K1.length), nI (mc_vt r1 + mc_nv ((false, x, s, a) :: E1)), nI sc, 0, g_how, 0, 0, a_kindOf, a_partX, b_ey, b_ez, a_weightOf, a_names, b_globalSort, b_global, b_body, b_heldSort, b_held, b_needed, b_envSort, b_env, b_length, b_base, b_floor, b_begun, b_stage, b_last, b_valueSort, b_value), _, 1, mc_in (E := (false, x, s, a) :: E1) (Ks := K1) (fn := fn1) (r := r1) (p := p1) h1 h2 hGv, Nat.le_refl _, by omega, mc_X1 (fun post hq => ?_), mc_Y0 (b := r1.length + 1) (h0 := mc_hi r1 + K1.length) (by omega) g6 (fun post hp => ye_back (b := r1.length + 1) (by omega) (by omega) hp)⟩
  refine xs_ret (t := mc_xt r1 + 2 + E1.length + 2) (oc := r1.length) (fr := mc_xt r1 + 2 + E1.length) hp1 hop (by omega) (by omega) (by omega) o1 o2 ?_
  rw [sx]
  exact hq
theorem mc_pk6 {K X Y W : Nat → Int32} {c : Nat} : mc_pp K X Y W [(c, 0, true)] = 3 * tb_c W c := by
  simp only [mc_pp, mc_pk]
  omega
/-- what a function's object is -/
theorem hp_fun {FT : Nat → Nat → Nat → Nat → Prop} {P : Nat → Nat → Nat → Prop} {fa hA : Nat → Int32} {cs : Nat → Int64} {bd hs hv : Nat → Int32} (h : hp_H FT P fa hA cs bd hs hv) {x : Int64} {v : Int32} (hV : hp_V P x 3 v) : ∃ o w e f mk xb, P o w (e + 1) ∧ x = vl_ob o ∧ v = nI w ∧ o < 40 ∧ w < 40 ∧ FT e f mk xb ∧ f ≤ 12 ∧ fa o = nI f ∧ bd w = nI xb ∧ hp_F P mk cs o (fun i => hs (6 * w + i)) (fun i => hv (6 * w + i)) := by
  obtain ⟨o, w, t, p, ex, ev, es⟩ := hp_V_y hV (by decide)
  obtain ⟨ho, hw, hN⟩ := h.2.2 o w t p
  rcases hN with ⟨t0, _⟩ | ⟨e, f, mk, xb, et, hft, hf, hmk, ef, eh, eb, hF⟩
  · rw [t0] at es; exact absurd es (by decide)
  · subst et
    exact ⟨o, w, e, f, mk, xb, p, ex, ev, ho, hw, hft, hf, ef, eb, hF⟩
theorem sm_call : ∀ {f_codeEnd f_depth f_letCount f_height f_heldNames f_usedCount f_marking f_waitCount f_levelNow : Int32} {f_marks : Int64} {a_kindOf a_partX a_partY a_partZ a_weightOf a_needOf a_names a_known a_knownNumber a_functionOf a_op a_operand a_workNode a_workPhase a_workLast a_workPatch a_letPlace a_isUsed a_functionAt a_heldCount a_waiting a_openFrame a_openAt : Nat → Int32} {a_cells a_globals a_stack : Nat → Int64}, ∀ {g_how : Int32} {b_ey b_ez b_globalSort b_global b_body b_heldSort b_held b_needed b_envSort b_env b_length b_base b_floor b_begun b_stage b_last b_valueSort b_value : Nat → Int32} {n fc : Nat} {P : Nat → Nat → Nat → Prop} {E : List mc_E} {Ks : List mc_F} {fn : mc_Fn} {p : Nat} {r : List mc_Bd} {sc Φ : Nat} {e : Nat} {l : Bool} {K' : List mc_F} {x y : Int64} {s t a b : Int32} {E2 : List mc_E} (_ : rl_St n fc a_kindOf a_partX b_ey b_ez a_weightOf a_names a_partY a_partZ a_needOf a_known a_knownNumber a_functionOf a_op a_operand) (_ : rl_Hp n a_kindOf a_partX a_names a_functionOf P f_usedCount f_marks f_marking f_waitCount a_isUsed a_functionAt a_heldCount a_cells a_waiting a_globals b_body b_heldSort b_held b_globalSort b_global) (_ : mc_G n a_kindOf a_partX b_ey b_ez a_weightOf a_names a_known a_knownNumber a_functionOf a_op a_operand P a_cells a_stack a_openFrame a_openAt b_envSort b_env b_length b_base b_floor b_begun b_stage b_last b_valueSort b_value E Ks fn p r sc Φ) (_ : Ks = (e, 2, l) :: K') (_ : E = (false, y, t, b) :: (false, x, s, a) :: E2) (_ : e < n) (_ : a_kindOf e = 16) (_ : p + 1 < 1560) (_ : a_op p = (if l = true then 24 else 23)) (_ : mc_K n a_kindOf a_partX b_ey b_ez a_weightOf a_names a_known a_knownNumber a_functionOf a_op a_operand (mc_hm a_names fn) K' (mc_L E) (2 + E.length - 1) (p + 1)), mc_Res Φ (nI n, nI fc, f_codeEnd, f_depth, f_letCount, f_height, f_heldNames, f_usedCount, f_marks, f_marking, f_waitCount, nI (mc_xt r + 2 + E.length), nI (mc_xt r), nI p, nI r.length, nI sc, 0, 0, f_levelNow, a_kindOf, a_partX, a_partY, a_partZ, a_weightOf, a_needOf, a_names, a_known, a_knownNumber, a_functionOf, a_op, a_operand, a_workNode, a_workPhase, a_workLast, a_workPatch, a_letPlace, a_isUsed, a_functionAt, a_heldCount, a_cells, a_waiting, a_globals, a_stack, a_openFrame, a_openAt) (nI n, nI fc, nI (r.length + 1), nI (mc_hi r + Ks.length), nI (mc_vt r + mc_nv E), nI sc, 0, g_how, 0, 0, a_kindOf, a_partX, b_ey, b_ez, a_weightOf, a_names, b_globalSort, b_global, b_body, b_heldSort, b_held, b_needed, b_envSort, b_env, b_length, b_base, b_floor, b_begun, b_stage, b_last, b_valueSort, b_value) := by
  intro f_codeEnd f_depth f_letCount f_height f_heldNames f_usedCount f_marking f_waitCount f_levelNow f_marks a_kindOf a_partX a_partY a_partZ a_weightOf a_needOf a_names a_known a_knownNumber a_functionOf a_op a_operand a_workNode a_workPhase a_workLast a_workPatch a_letPlace a_isUsed a_functionAt a_heldCount a_waiting a_openFrame a_openAt a_cells a_globals a_stack g_how b_ey b_ez b_globalSort b_global b_body b_heldSort b_held b_needed b_envSort b_env b_length b_base b_floor b_begun b_stage b_last b_valueSort b_value n fc P E Ks fn p r sc Φ e l K' x y s t a b E2 h1 h2 h3 hKs hE hen hk hp1 hop hK
  subst hKs hE
  obtain ⟨⟨⟨g1, g2, g3, ⟨g4, g4'⟩, g5, ⟨g6, g6'⟩, g7⟩, g8⟩, ⟨⟨v1, v2⟩, v3⟩, hC, hnow, ⟨b1, b2, b3, b4⟩, hΦ⟩ := h3
  have hn := h1.1
  have bnd := mc_C_b r hC
  have nvl := mc_nvL E2
  simp only [List.length_cons] at b4 b3 hK
  simp only [mc_L] at hK g4 g4'
  rw [show 2 + (E2.length + 1 + 1) - 1 = 3 + E2.length by omega] at hK
  have hpk := mc_pk3 (K := a_kindOf) (X := a_partX) (Y := b_ey) (W := a_weightOf) (e := e) (l := l) K'
  have Vx := v1 (false, x, s, a) (List.mem_cons_of_mem _ List.mem_cons_self)
  have Vy := v1 (false, y, t, b) List.mem_cons_self
  obtain ⟨⟨d1, d1'⟩, ⟨c2, c2'⟩, c3⟩ := g2
  have c1 : b_valueSort (mc_vt r + mc_nv E2 + 1) = t := d1
  have c1' : b_value (mc_vt r + mc_nv E2 + 1) = b := d1'
  have sx : a_stack (mc_xt r + 2 + E2.length) = x := g1.2.1
  have sy : a_stack (mc_xt r + 2 + E2.length + 1) = y := g1.1
  -- Y comes to its call
  have hYc : ∀ post : SY → Prop, wpY_call (fun u => post u) (nI n, nI fc, nI (r.length + 1), nI (mc_hi r + K'.length), nI (mc_vt r + mc_nv E2 + 2), nI sc, 0, g_how, 0, 0, a_kindOf, a_partX, b_ey, b_ez, a_weightOf, a_names, b_globalSort, b_global, b_body, b_heldSort, b_held, b_needed, b_envSort, b_env, b_length, b_base, b_floor, b_begun, upd b_stage (mc_hi r + K'.length) (nI 3), b_last, b_valueSort, b_value) (if l = true then 1 else 0) → wpY_step post (nI n, nI fc, nI (r.length + 1), nI (mc_hi r + (K'.length + 1)), nI (mc_vt r + mc_nv E2 + 2), nI sc, 0, g_how, 0, 0, a_kindOf, a_partX, b_ey, b_ez, a_weightOf, a_names, b_globalSort, b_global, b_body, b_heldSort, b_held, b_needed, b_envSort, b_env, b_length, b_base, b_floor, b_begun, b_stage, b_last, b_valueSort, b_value) := fun post hp => by
    refine ys_head (k := 16) (h := mc_hi r + K'.length) (by omega) g5.1.1 (by omega) hk (by omega) g5.1.2.1 ?_
    rw [if_neg (by omega), g5.1.2.2]
    exact ys_f (by omega) (by omega) (by omega) (by omega) (by omega) (Or.inl (by decide)) (Or.inl (by omega)) (yf_cl (h := mc_hi r + K'.length) (by omega) hk hp)
  -- the ends
  have fin : ∀ rr : Int32, ¬ rr = -1 → (∀ post : Int32 → SX → Prop, post rr (nI n, nI fc, f_codeEnd, f_depth, f_letCount, f_height, f_heldNames, f_usedCount, f_marks, f_marking, f_waitCount, nI (mc_xt r + 2 + E2.length + 2), nI (mc_xt r), nI (p + 1), nI r.length, nI sc, 0, 0, f_levelNow, a_kindOf, a_partX, a_partY, a_partZ, a_weightOf, a_needOf, a_names, a_known, a_knownNumber, a_functionOf, a_op, a_operand, a_workNode, a_workPhase, a_workLast, a_workPatch, a_letPlace, a_isUsed, a_functionAt, a_heldCount, a_cells, a_waiting, a_globals, a_stack, a_openFrame, a_openAt) → wpX_step post (nI n, nI fc, f_codeEnd, f_depth, f_letCount, f_height, f_heldNames, f_usedCount, f_marks, f_marking, f_waitCount, nI (mc_xt r + 2 + E2.length + 2), nI (mc_xt r), nI p, nI r.length, nI sc, 0, 0, f_levelNow, a_kindOf, a_partX, a_partY, a_partZ, a_weightOf, a_needOf, a_names, a_known, a_knownNumber, a_functionOf, a_op, a_operand, a_workNode, a_workPhase, a_workLast, a_workPatch, a_letPlace, a_isUsed, a_functionAt, a_heldCount, a_cells, a_waiting, a_globals, a_stack, a_openFrame, a_openAt)) → (∀ post : SY → Prop, post (nI n, nI fc, nI (r.length + 1), nI (mc_hi r + K'.length), nI (mc_vt r + mc_nv E2 + 2), nI sc, 1, rr, 0, 0, a_kindOf, a_partX, b_ey, b_ez, a_weightOf, a_names, b_globalSort, b_global, b_body, b_heldSort, b_held, b_needed, b_envSort, b_env, b_length, b_base, b_floor, b_begun, upd b_stage (mc_hi r + K'.length) (nI 3), b_last, b_valueSort, b_value) → wpY_call post (nI n, nI fc, nI (r.length + 1), nI (mc_hi r + K'.length), nI (mc_vt r + mc_nv E2 + 2), nI sc, 0, g_how, 0, 0, a_kindOf, a_partX, b_ey, b_ez, a_weightOf, a_names, b_globalSort, b_global, b_body, b_heldSort, b_held, b_needed, b_envSort, b_env, b_length, b_base, b_floor, b_begun, upd b_stage (mc_hi r + K'.length) (nI 3), b_last, b_valueSort, b_value) (if l = true then 1 else 0)) → mc_Res Φ (nI n, nI fc, f_codeEnd, f_depth, f_letCount, f_height, f_heldNames, f_usedCount, f_marks, f_marking, f_waitCount, nI (mc_xt r + 2 + E2.length + 2), nI (mc_xt r), nI p, nI r.length, nI sc, 0, 0, f_levelNow, a_kindOf, a_partX, a_partY, a_partZ, a_weightOf, a_needOf, a_names, a_known, a_knownNumber, a_functionOf, a_op, a_operand, a_workNode, a_workPhase, a_workLast, a_workPatch, a_letPlace, a_isUsed, a_functionAt, a_heldCount, a_cells, a_waiting, a_globals, a_stack, a_openFrame, a_openAt) (nI n, nI fc, nI (r.length + 1), nI (mc_hi r + (K'.length + 1)), nI (mc_vt r + mc_nv E2 + 2), nI sc, 0, g_how, 0, 0, a_kindOf, a_partX, b_ey, b_ez, a_weightOf, a_names, b_globalSort, b_global, b_body, b_heldSort, b_held, b_needed, b_envSort, b_env, b_length, b_base, b_floor, b_begun, b_stage, b_last, b_valueSort, b_value) := fun rr hr hX hY =>
    Or.inr ⟨rr, mc_t0 (nI n, nI fc, f_codeEnd, f_depth, f_letCount, f_height, f_heldNames, f_usedCount, f_marks, f_marking, f_waitCount, nI (mc_xt r + 2 + E2.length + 2), nI (mc_xt r), nI (p + 1), nI r.length, nI sc, 0, 0, f_levelNow, a_kindOf, a_partX, a_partY, a_partZ, a_weightOf, a_needOf, a_names, a_known, a_knownNumber, a_functionOf, a_op, a_operand, a_workNode, a_workPhase, a_workLast, a_workPatch, a_letPlace, a_isUsed, a_functionAt, a_heldCount, a_cells, a_waiting, a_globals, a_stack, a_openFrame, a_openAt), (nI n, nI fc, 0, nI (mc_hi r + K'.length), 0, nI sc, 1, rr, 0, 0, a_kindOf, a_partX, b_ey, b_ez, a_weightOf, a_names, b_globalSort, b_global, b_body, b_heldSort, b_held, b_needed, b_envSort, b_env, b_length, b_base, b_floor, b_begun, upd b_stage (mc_hi r + K'.length) (nI 3), b_last, b_valueSort, b_value), rl_in h1 h2, mc_XE hr hX, fun kk hkk' => mc_Y1 (by omega) g6 (by omega) (fun post hp => hYc post (hY _ hp)) kk hkk' _ _ (mc_YE (g_how := rr) (g_bodies := nI (r.length + 1)) (g_top := nI (mc_vt r + mc_nv E2 + 2)) (kk + 1) hkk')⟩
  have hs : ∀ ss : Int32, s = ss → ∀ {f_expressionCount f_functionCount f_codeEnd f_depth f_letCount f_height f_heldNames f_usedCount f_marking f_waitCount f_top f_frame f_at f_openCount f_stepCount f_resultSort f_resultNumber f_levelNow : Int32} {f_marks : Int64} {a_kindOf a_partX a_partY a_partZ a_weightOf a_needOf a_names a_known a_knownNumber a_functionOf a_op a_operand a_workNode a_workPhase a_workLast a_workPatch a_letPlace a_isUsed a_heldCount a_waiting a_openFrame a_openAt : Nat → Int32} {a_cells a_globals : Nat → Int64} (post' : Int32 → Prop), post' ss → wpX_sortOf post' (f_expressionCount, f_functionCount, f_codeEnd, f_depth, f_letCount, f_height, f_heldNames, f_usedCount, f_marks, f_marking, f_waitCount, f_top, f_frame, f_at, f_openCount, f_stepCount, f_resultSort, f_resultNumber, f_levelNow, a_kindOf, a_partX, a_partY, a_partZ, a_weightOf, a_needOf, a_names, a_known, a_knownNumber, a_functionOf, a_op, a_operand, a_workNode, a_workPhase, a_workLast, a_workPatch, a_letPlace, a_isUsed, a_functionAt, a_heldCount, a_cells, a_waiting, a_globals, a_stack, a_openFrame, a_openAt) (a_stack (mc_xt r + 2 + E2.length)) := by
    intro ss es
    intros
    rename_i post' hq'
    rw [sx]
    exact hp_sortOf h2.1 Vx post' (es ▸ hq')
  have hoo : ((if l = true then (24 : Int32) else 23) = 23 ∧ (if l = true then (1 : Int32) else 0) = 0) ∨ ((if l = true then (24 : Int32) else 23) = 24 ∧ (if l = true then (1 : Int32) else 0) = 1) := by
    cases l
    · exact Or.inl ⟨rfl, rfl⟩
    · exact Or.inr ⟨rfl, rfl⟩
  by_cases s3 : s = 3
  · subst s3
    by_cases hdeep : l = false ∧ r.length = 12
    · obtain ⟨rfl, h12⟩ := hdeep
      rw [h12] at fin ⊢
      refine fin 4 (by decide) (fun post hq => ?_) (fun post hp => ?_)
      · exact xs_cld (t := mc_xt r + 2 + E2.length) (by omega) hop (by omega) (fun post' hq' => hs 3 rfl post' hq') hq
      · exact yc_deep (t := mc_vt r + mc_nv E2) (by omega) c2 hp
    · have hl12 : (l = false ∧ r.length < 12) ∨ l = true := by
        cases l
        · exact Or.inl ⟨rfl, by have : ¬ r.length = 12 := fun q => hdeep ⟨rfl, q⟩; omega⟩
        · exact Or.inr rfl
      have hoX : ((if l = true then (24 : Int32) else 23) = 23 ∧ (if l = true then (1 : Int32) else 0) = 0 ∧ r.length < 12) ∨ ((if l = true then (24 : Int32) else 23) = 24 ∧ (if l = true then (1 : Int32) else 0) = 1) := by
        rcases hl12 with ⟨q, z⟩ | q <;> rw [q]
        · exact Or.inl ⟨rfl, rfl, z⟩
        · exact Or.inr ⟨rfl, rfl⟩
      have hoY : ((if l = true then (1 : Int32) else 0) = 0 ∧ r.length + 1 < 13) ∨ ¬ (if l = true then (1 : Int32) else 0) = 0 := by
        rcases hl12 with ⟨q, z⟩ | q <;> rw [q]
        · exact Or.inl ⟨rfl, by omega⟩
        · exact Or.inr (by decide)
      by_cases h200 : sc = 200
      · subst h200
        refine fin 2 (by decide) (fun post hq => ?_) (fun post hp => ?_)
        · exact xs_cl200 (t := mc_xt r + 2 + E2.length) (oc := r.length) (by omega) hop hoX (by omega) (by omega) (fun post' hq' => hs 3 rfl post' hq') hq
        · exact yc_200 (t := mc_vt r + mc_nv E2) (b := r.length + 1) (by omega) c2 (by omega) hoY hp
      · obtain ⟨o, w, e', f, mk, xb, po, ex, ev, ho, hw, ⟨ft1, ft2, ft3, ft4, ft5, ft6⟩, hf, ef, eb, hF⟩ := hp_fun h2.1 Vx
        subst ft5 ft6
        obtain ⟨D, q, hq1, hcode, hret⟩ := h1.2.2.2.1 e' f ft1 ft2 ft3 hf
        have hxb := ((h1.2.2.1 e' ft1).1.2.1 (by rw [tb_lit ft2]; decide)).2
        have hxw := (h1.2.2.1 (tb_c a_partX e') (by omega)).1.2.2.2.2.2.2.1.2.1
        have hFn : ∀ (es' ev' : Nat → Int32) (bb : Nat), (∀ j, 0 ≤ j → j < 6 → es' (24 * bb + j) = b_heldSort (6 * w + (5 - j)) ∧ ev' (24 * bb + j) = b_held (6 * w + (5 - j))) → hp_F P (tb_c a_names e') a_cells o (fun i => es' (24 * bb + 5 - i)) (fun i => ev' (24 * bb + 5 - i)) := fun es' ev' bb hh i hi => by
          have := hh (5 - i) (by omega) (by omega)
          rw [show 5 - (5 - i) = i by omega, show 24 * bb + (5 - i) = 24 * bb + 5 - i by omega] at this
          show (_ → hp_V P _ (es' (24 * bb + 5 - i)) (ev' (24 * bb + 5 - i))) ∧ (_ → es' (24 * bb + 5 - i) = 0)
          rw [this.1, this.2]
          exact hF i hi
        have hnw : ∀ (ax : Int64) (as av : Int32), mc_now n a_kindOf a_partX b_ey b_ez a_weightOf a_names a_known a_knownNumber a_functionOf a_op a_operand (mc_hm a_names (some (o, w, e', ax, as, av))) [] [(tb_c a_partX e', 0, true)] (120 * f) := fun ax as av =>
          Or.inl ⟨tb_c a_partX e', true, [], q, rfl, by omega, ⟨D, hcode⟩, ⟨by omega, hret, rfl, rfl⟩, ⟨by simp; omega, by simp; omega, by simp [mc_L]; omega⟩⟩
        have hpk6 := mc_pk6 (K := a_kindOf) (X := a_partX) (Y := b_ey) (W := a_weightOf) (c := tb_c a_partX e')
        rcases hl12 with ⟨hl, h12⟩ | hl
        · -- a call that is waited for
          subst hl
          obtain ⟨es', ev', ln', a1, a2, a3, a4, a5, a6, hp212⟩ := ycl_212 (w := w) (b := r.length + 1) (hs := b_heldSort) (hv := b_held) (bd := b_body) (s := t) (v := b) (hh := mc_hi r + K'.length) hw (by omega) (by omega) 6 b_envSort b_env (upd b_length (r.length + 1) 0) (by omega) pk_us
          have m8 := mc_m8_le fn
          have hG : mc_G n a_kindOf a_partX b_ey b_ez a_weightOf a_names a_known a_knownNumber a_functionOf a_op a_operand P a_cells a_stack (upd a_openFrame r.length (nI (mc_xt r))) (upd a_openAt r.length (nI (p + 1))) es' ev' ln' (upd b_base (r.length + 1) (nI (mc_hi r + K'.length))) (upd b_floor (r.length + 1) (nI (mc_vt r + mc_nv E2))) (upd b_begun (mc_hi r + K'.length) (b_body w)) (upd (upd b_stage (mc_hi r + K'.length) (nI 3)) (mc_hi r + K'.length) 0) (upd b_last (mc_hi r + K'.length) 1) b_valueSort b_value [] [(tb_c a_partX e', 0, true)] (some (o, w, e', y, t, b)) (120 * f) ((E2, K', fn, p + 1) :: r) (sc + 1) ((200 - (sc + 1)) * 91 + (mc_pp a_kindOf a_partX b_ey a_weightOf [(tb_c a_partX e', 0, true)] + 1) + mc_pb a_kindOf a_partX b_ey a_weightOf ((E2, K', fn, p + 1) :: r)) := by
            refine ⟨⟨⟨trivial, trivial, trivial, ⟨a5, by simp [mc_L]⟩, ⟨⟨?_, ?_, ?_⟩, trivial⟩, ⟨pk_us, pk_us⟩, ⟨⟨sx.trans ex, sy⟩, a2, a3⟩⟩, ⟨g1.2.2, c3, mc_ES_cg E2 (fun j hj => a4 j (by omega)) g3, ⟨?_, g4'⟩, mc_KS_cg K' (fun j hj => ⟨pk_un (by omega), by rw [pk_un (by omega), pk_un (by omega)], pk_un (by omega)⟩) g5.2, ⟨?_, ?_⟩, mc_FM_cg fn ⟨rfl, rfl⟩ (fun j _ hj => a4 j (by omega)) g7⟩, mc_M_cg r (fun j hj => rfl) (fun j hj => ⟨rfl, rfl⟩) (fun j hj => a4 j (by omega)) (fun j hj => ⟨by rw [a6 j (by omega), pk_un (by omega)], pk_un (by omega), pk_un (by omega)⟩) (fun j hj => ⟨pk_un (by omega), by rw [pk_un (by omega), pk_un (by omega)], pk_un (by omega)⟩) g8⟩, ⟨⟨fun z hz => absurd hz (by simp), po, Vy, hFn es' ev' _ (fun j h1 h2 => a1 j (by omega) h2)⟩, ⟨fun z hz => v1 z (List.mem_cons_of_mem _ (List.mem_cons_of_mem _ hz)), mc_VF_cg fn (fun j _ hj => a4 j (by omega)) v2⟩, mc_Vl_cg r (fun j hj => a4 j (by omega)) v3⟩, ⟨⟨pk_us, pk_us⟩, hK, ⟨by omega, by omega⟩, mc_C_cg r (fun j hj => ⟨pk_un (by omega), pk_un (by omega)⟩) hC⟩, hnw y t b, ⟨by omega, by rw [List.length_cons]; omega, by simp, by simp⟩, rfl⟩
            · show upd b_begun (mc_hi r + K'.length) (b_body w) (mc_hi r + K'.length) = _
              rw [pk_us, eb]
            · show upd _ (mc_hi r + K'.length) 0 (mc_hi r + K'.length) = _
              rw [pk_us]; rfl
            · show upd b_last (mc_hi r + K'.length) 1 (mc_hi r + K'.length) = _
              rw [pk_us]; rfl
            · rw [a6 _ (by omega), pk_un (by omega)]; exact g4
            · rw [pk_un (by omega)]; exact g6
            · rw [pk_un (by omega)]; exact g6'
          have epb : mc_pb a_kindOf a_partX b_ey a_weightOf ((E2, K', fn, p + 1) :: r) = mc_pp a_kindOf a_partX b_ey a_weightOf K' + 1 + mc_pb a_kindOf a_partX b_ey a_weightOf r := rfl
          refine Or.inl ⟨(nI n, nI fc, f_codeEnd, f_depth, f_letCount, f_height, f_heldNames, f_usedCount, f_marks, f_marking, f_waitCount, nI (mc_xt ((E2, K', fn, p + 1) :: r) + 2 + ([] : List mc_E).length), nI (mc_xt ((E2, K', fn, p + 1) :: r)), nI (120 * f), nI (r.length + 1), nI (sc + 1), 0, 0, f_levelNow, a_kindOf, a_partX, a_partY, a_partZ, a_weightOf, a_needOf, a_names, a_known, a_knownNumber, a_functionOf, a_op, a_operand, a_workNode, a_workPhase, a_workLast, a_workPatch, a_letPlace, a_isUsed, a_functionAt, a_heldCount, a_cells, a_waiting, a_globals, a_stack, upd a_openFrame r.length (nI (mc_xt r)), upd a_openAt r.length (nI (p + 1))), (nI n, nI fc, nI (r.length + 1 + 1), nI (mc_hi ((E2, K', fn, p + 1) :: r) + [(tb_c a_partX e', 0, true)].length), nI (mc_vt ((E2, K', fn, p + 1) :: r) + mc_nv []), nI (sc + 1), 0, g_how, 0, 0, a_kindOf, a_partX, b_ey, b_ez, a_weightOf, a_names, b_globalSort, b_global, b_body, b_heldSort, b_held, b_needed, es', ev', ln', upd b_base (r.length + 1) (nI (mc_hi r + K'.length)), upd b_floor (r.length + 1) (nI (mc_vt r + mc_nv E2)), upd b_begun (mc_hi r + K'.length) (b_body w), upd (upd b_stage (mc_hi r + K'.length) (nI 3)) (mc_hi r + K'.length) 0, upd b_last (mc_hi r + K'.length) 1, b_valueSort, b_value), _, 1, mc_in (E := []) (Ks := [(tb_c a_partX e', 0, true)]) (fn := some (o, w, e', y, t, b)) (r := (E2, K', fn, p + 1) :: r) (p := 120 * f) h1 h2 hG, Nat.le_refl _, by omega, mc_X1 (fun post hq => ?_), mc_Y1 (by omega) g6 (by omega) (fun post hp => hYc post ?_)⟩
          · exact xs_clo (t := mc_xt r + 2 + E2.length) (oc := r.length) (c := o) (f := f) (fr := mc_xt r) (sc := sc) (by omega) hop h12 (by omega) (by omega) ho (sx.trans ex) ef (by omega) (fun post' hq' => hs 3 rfl post' hq') hq
          · refine yc_open (t := mc_vt r + mc_nv E2) (b := r.length + 1) (w := w) (sc := sc) (es' := es') (ev' := ev') (ln' := ln') (by omega) c2 (c2'.trans ev) (by omega) (by omega) (fun post' hp' => ?_) hp
            rw [c1, c1']
            exact hp212 _ _ _ _ hp'
        · -- a call in last place
          subst hl
          obtain ⟨es', ev', ln', a1, a2, a3, a4, a5, a6, hp212⟩ := ycl_212 (w := w) (b := r.length) (hs := b_heldSort) (hv := b_held) (bd := b_body) (s := t) (v := b) (hh := mc_hi r) hw (by omega) (by omega) 6 b_envSort b_env (upd b_length r.length 0) (by omega) pk_us
          have hst : ∀ j, j < mc_xt r → vp_updL (vp_updL a_stack (mc_xt r) (vl_ob o)) (mc_xt r + 1) y j = a_stack j := fun j hj => by rw [pk_uLn (by omega), pk_uLn (by omega)]
          have hG : mc_G n a_kindOf a_partX b_ey b_ez a_weightOf a_names a_known a_knownNumber a_functionOf a_op a_operand P a_cells (vp_updL (vp_updL a_stack (mc_xt r) (vl_ob o)) (mc_xt r + 1) y) a_openFrame a_openAt es' ev' ln' b_base b_floor (upd b_begun (mc_hi r) (b_body w)) (upd (upd b_stage (mc_hi r + K'.length) (nI 3)) (mc_hi r) 0) (upd b_last (mc_hi r) 1) b_valueSort b_value [] [(tb_c a_partX e', 0, true)] (some (o, w, e', y, t, b)) (120 * f) r (sc + 1) ((200 - (sc + 1)) * 91 + (mc_pp a_kindOf a_partX b_ey a_weightOf [(tb_c a_partX e', 0, true)] + 1) + mc_pb a_kindOf a_partX b_ey a_weightOf r) := by
            refine ⟨⟨⟨trivial, trivial, trivial, ⟨a5, by simp [mc_L]⟩, ⟨⟨?_, ?_, ?_⟩, trivial⟩, ⟨g6, g6'⟩, ⟨⟨by rw [pk_uLn (by omega), pk_uLs], pk_uLs⟩, a2, a3⟩⟩, mc_M_cg r hst (fun j hj => ⟨rfl, rfl⟩) (fun j hj => a4 j (by omega)) (fun j hj => ⟨by rw [a6 j (by omega), pk_un (by omega)], rfl, rfl⟩) (fun j hj => ⟨pk_un (by omega), by rw [pk_un (by omega), pk_un (by omega)], pk_un (by omega)⟩) g8⟩, ⟨⟨fun z hz => absurd hz (by simp), po, Vy, hFn es' ev' _ (fun j h1 h2 => a1 j (by omega) h2)⟩, mc_Vl_cg r (fun j hj => a4 j (by omega)) v3⟩, hC, hnw y t b, ⟨by omega, b2, by simp, by simp⟩, rfl⟩
            · show upd b_begun (mc_hi r) (b_body w) (mc_hi r) = _
              rw [pk_us, eb]
            · show upd _ (mc_hi r) 0 (mc_hi r) = _
              rw [pk_us]; rfl
            · show upd b_last (mc_hi r) 1 (mc_hi r) = _
              rw [pk_us]; rfl
          refine Or.inl ⟨(nI n, nI fc, f_codeEnd, f_depth, f_letCount, f_height, f_heldNames, f_usedCount, f_marks, f_marking, f_waitCount, nI (mc_xt r + 2 + ([] : List mc_E).length), nI (mc_xt r), nI (120 * f), nI r.length, nI (sc + 1), 0, 0, f_levelNow, a_kindOf, a_partX, a_partY, a_partZ, a_weightOf, a_needOf, a_names, a_known, a_knownNumber, a_functionOf, a_op, a_operand, a_workNode, a_workPhase, a_workLast, a_workPatch, a_letPlace, a_isUsed, a_functionAt, a_heldCount, a_cells, a_waiting, a_globals, vp_updL (vp_updL a_stack (mc_xt r) (vl_ob o)) (mc_xt r + 1) y, a_openFrame, a_openAt), (nI n, nI fc, nI (r.length + 1), nI (mc_hi r + [(tb_c a_partX e', 0, true)].length), nI (mc_vt r + mc_nv []), nI (sc + 1), 0, g_how, 0, 0, a_kindOf, a_partX, b_ey, b_ez, a_weightOf, a_names, b_globalSort, b_global, b_body, b_heldSort, b_held, b_needed, es', ev', ln', b_base, b_floor, upd b_begun (mc_hi r) (b_body w), upd (upd b_stage (mc_hi r + K'.length) (nI 3)) (mc_hi r) 0, upd b_last (mc_hi r) 1, b_valueSort, b_value), _, 1, mc_in (E := []) (Ks := [(tb_c a_partX e', 0, true)]) (fn := some (o, w, e', y, t, b)) (r := r) (p := 120 * f) h1 h2 hG, Nat.le_refl _, by omega, mc_X1 (fun post hq => ?_), mc_Y1 (by omega) g6 (by omega) (fun post hp => hYc post ?_)⟩
          · refine xs_cll (t := mc_xt r + 2 + E2.length) (oc := r.length) (c := o) (f := f) (fr := mc_xt r) (sc := sc) (by omega) hop b2 (by omega) (by omega) ho (sx.trans ex) ef (by omega) (fun post' hq' => hs 3 rfl post' hq') ?_
            rw [sy]
            exact hq
          · refine yc_last (t := mc_vt r + mc_nv E2) (b := r.length) (w := w) (sc := sc) (h0 := mc_hi r) (t0 := mc_vt r) (es' := es') (ev' := ev') (ln' := ln') (by omega) c2 (c2'.trans ev) (by omega) (by omega) g6 g6' (fun post' hp' => ?_) hp
            rw [c1, c1']
            exact hp212 _ _ _ _ hp'
  · refine fin 1 (by decide) (fun post hq => ?_) (fun post hp => ?_)
    · exact xs_clb (t := mc_xt r + 2 + E2.length) (s := s) (by omega) hop hoo (by omega) (fun post' hq' => hs s rfl post' hq') s3 hq
    · exact yc_bad (t := mc_vt r + mc_nv E2) (by omega) (by rw [c2]; exact s3) hp
end
section
/-! the roots of both memories during a run -/
section
variable {st : Nat → Int64} {vs vv es ev : Nat → Int32} {b0 v0 e0 : Nat}
theorem mc_entX : ∀ E : List mc_E, mc_XS st b0 E → mc_VS vs vv v0 E → mc_ES es ev e0 E → ∀ k, k < E.length → ∃ bb x s v, (bb, x, s, v) ∈ E ∧ st (b0 + k) = x ∧ ((∃ j, j < (mc_L E).length ∧ es (e0 + j) = s ∧ ev (e0 + j) = v) ∨ (∃ j, j < mc_nv E ∧ vs (v0 + j) = s ∧ vv (v0 + j) = v))
  | [], _, _, _, k, hk => absurd hk (by simp)
  | (true, x, s, v) :: E, g1, g2, g3, k, hk => by
    rw [List.length_cons] at hk
    by_cases z : k = E.length
    · subst z
      refine ⟨true, x, s, v, List.mem_cons_self, g1.1, Or.inl ⟨(mc_L E).length, by simp [mc_L], g3.1⟩⟩
    · obtain ⟨bb, x', s', v', h1, h2, h3⟩ := mc_entX E g1.2 g2 g3.2 k (by omega)
      refine ⟨bb, x', s', v', List.mem_cons_of_mem _ h1, h2, h3.imp (fun ⟨j, a, b⟩ => ⟨j, by simp only [mc_L, List.length_cons]; omega, b⟩) (fun ⟨j, a, b⟩ => ⟨j, a, b⟩)⟩
  | (false, x, s, v) :: E, g1, g2, g3, k, hk => by
    rw [List.length_cons] at hk
    by_cases z : k = E.length
    · subst z
      refine ⟨false, x, s, v, List.mem_cons_self, g1.1, Or.inr ⟨mc_nv E, by simp [mc_nv], g2.1⟩⟩
    · obtain ⟨bb, x', s', v', h1, h2, h3⟩ := mc_entX E g1.2 g2.2 g3 k (by omega)
      refine ⟨bb, x', s', v', List.mem_cons_of_mem _ h1, h2, h3.imp (fun ⟨j, a, b⟩ => ⟨j, a, b⟩) (fun ⟨j, a, b⟩ => ⟨j, by simp only [mc_nv]; omega, b⟩)⟩
theorem mc_entV : ∀ E : List mc_E, mc_XS st b0 E → mc_VS vs vv v0 E → ∀ j, j < mc_nv E → ∃ k x, k < E.length ∧ (false, x, vs (v0 + j), vv (v0 + j)) ∈ E ∧ st (b0 + k) = x
  | [], _, _, j, hj => absurd hj (by simp [mc_nv])
  | (true, a) :: E, g1, g2, j, hj => by
    obtain ⟨k, x, h1, h2, h3⟩ := mc_entV E g1.2 g2 j hj
    exact ⟨k, x, by rw [List.length_cons]; omega, List.mem_cons_of_mem _ h2, h3⟩
  | (false, x, s, v) :: E, g1, g2, j, hj => by
    simp only [mc_nv] at hj
    by_cases z : j = mc_nv E
    · subst z
      exact ⟨E.length, x, by rw [List.length_cons]; omega, by rw [g2.1.1, g2.1.2]; exact List.mem_cons_self, g1.1⟩
    · obtain ⟨k, x', h1, h2, h3⟩ := mc_entV E g1.2 g2.2 j (by omega)
      exact ⟨k, x', by rw [List.length_cons]; omega, List.mem_cons_of_mem _ h2, h3⟩
theorem mc_entL : ∀ E : List mc_E, mc_XS st b0 E → mc_ES es ev e0 E → ∀ j, j < (mc_L E).length → ∃ k x, k < E.length ∧ (true, x, es (e0 + j), ev (e0 + j)) ∈ E ∧ st (b0 + k) = x
  | [], _, _, j, hj => absurd hj (by simp [mc_L])
  | (false, a) :: E, g1, g2, j, hj => by
    obtain ⟨k, x, h1, h2, h3⟩ := mc_entL E g1.2 g2 j hj
    exact ⟨k, x, by rw [List.length_cons]; omega, List.mem_cons_of_mem _ h2, h3⟩
  | (true, x, s, v) :: E, g1, g2, j, hj => by
    simp only [mc_L, List.length_cons] at hj
    by_cases z : j = (mc_L E).length
    · subst z
      exact ⟨E.length, x, by rw [List.length_cons]; omega, by rw [g2.1.1, g2.1.2]; exact List.mem_cons_self, g1.1⟩
    · obtain ⟨k, x', h1, h2, h3⟩ := mc_entL E g1.2 g2.2 j (by omega)
      exact ⟨k, x', by rw [List.length_cons]; omega, List.mem_cons_of_mem _ h2, h3⟩
theorem mc_entM : ∀ E : List mc_E, mc_XS st b0 E → ∀ x, x ∈ E → ∃ k, k < E.length ∧ st (b0 + k) = x.2.1
  | [], _, x, h => absurd h (by simp)
  | (b, y, s, v) :: E, g, x, h => by
    rcases List.mem_cons.mp h with q | q
    · subst q; exact ⟨E.length, by rw [List.length_cons]; omega, g.1⟩
    · obtain ⟨k, a, c⟩ := mc_entM E g.2 x q
      exact ⟨k, by rw [List.length_cons]; omega, c⟩
end
def mc_lnN (ln : Nat → Int32) (b : Nat) : Nat := (ln b).toNatClampNeg
section
variable {FT : Nat → Nat → Nat → Nat → Prop} {P : Nat → Nat → Nat → Prop} {fa hA : Nat → Int32} {cs st : Nat → Int64} {bd hs hv : Nat → Int32} {vs vv es ev ln bs fl bg sg la M : Nat → Int32}
theorem mc_len : ∀ r : List mc_Bd, mc_M st vs vv es ev ln bs fl bg sg la r → ∀ b, b < r.length → ln b = nI (mc_lnN ln b) ∧ mc_lnN ln b ≤ 24
  | [], _, b, hb => absurd hb (by simp)
  | (E, Ks, fn, p) :: r, ⟨⟨g1, g2, g3, ⟨g4, g4'⟩, _⟩, g8⟩, b, hb => by
    rw [List.length_cons] at hb
    by_cases z : b = r.length
    · subst z
      have := mc_m8_le fn
      unfold mc_lnN
      rw [g4, nI_clamp (by omega)]
      exact ⟨rfl, by omega⟩
    · exact mc_len r g8 b (by omega)
theorem mc_lnE {b L : Nat} (h : ln b = nI L) (hL : L ≤ 24) : mc_lnN ln b = L := by unfold mc_lnN; rw [h, nI_clamp (by omega)]
/-- what lies on X's stack lies in Y's environments or among its values -/
theorem mc_rX : ∀ r : List mc_Bd, mc_M st vs vv es ev ln bs fl bg sg la r → mc_Vl P M cs es ev r → ∀ k, k < mc_xt r → st k = 0 ∨ ∃ s v, hp_V P (st k) s v ∧ ((∃ b i, b < r.length ∧ i < mc_lnN ln b ∧ es (24 * b + i) = s ∧ ev (24 * b + i) = v) ∨ (∃ j, j < mc_vt r ∧ vs j = s ∧ vv j = v))
  | [], _, _, k, hk => absurd hk (by simp [mc_xt])
  | (E, Ks, fn, p) :: r, ⟨⟨g1, g2, g3, ⟨g4, g4'⟩, g5, g6, g7⟩, g8⟩, ⟨⟨v1, v2⟩, v3⟩, k, hk => by
    simp only [mc_xt] at hk
    have m8 := mc_m8_le fn
    have hL := mc_lnE g4 (by omega)
    by_cases z : k < mc_xt r
    · rcases mc_rX r g8 v3 k z with h | ⟨s, v, h1, h2⟩
      · exact Or.inl h
      · refine Or.inr ⟨s, v, h1, h2.imp (fun ⟨b, i, a, c⟩ => ⟨b, i, by rw [List.length_cons]; omega, c⟩) (fun ⟨j, a, c⟩ => ⟨j, by simp only [mc_vt]; omega, c⟩)⟩
    · by_cases y : k < mc_xt r + 2
      · cases fn with
        | none =>
          refine Or.inl ?_
          by_cases q : k = mc_xt r
          · rw [q]; exact g7.1
          · rw [show k = mc_xt r + 1 by omega]; exact g7.2
        | some a =>
          obtain ⟨o, w, e, ax, as, av⟩ := a
          obtain ⟨⟨f1, f2⟩, f3, f5⟩ := g7
          obtain ⟨w1, w2, w3⟩ := v2
          simp only [mc_m8] at hL
          by_cases q : k = mc_xt r
          · subst q
            rw [f1]
            exact Or.inr ⟨3, nI w, Or.inr (Or.inr ⟨o, w, e + 1, w1, rfl, rfl, by rw [if_neg (by omega)]⟩), Or.inl ⟨r.length, 6, by rw [List.length_cons]; omega, by omega, f3⟩⟩
          · rw [show k = mc_xt r + 1 by omega, f2]
            exact Or.inr ⟨as, av, w2, Or.inl ⟨r.length, 7, by rw [List.length_cons]; omega, by omega, f5⟩⟩
      · obtain ⟨bb, x, s, v, h1, h2, h3⟩ := mc_entX E g1 g2 g3 (k - (mc_xt r + 2)) (by omega)
        rw [show mc_xt r + 2 + (k - (mc_xt r + 2)) = k by omega] at h2
        rw [h2]
        refine Or.inr ⟨s, v, v1 _ h1, h3.imp (fun ⟨j, a, c⟩ => ⟨r.length, mc_m8 fn + j, by rw [List.length_cons]; omega, by omega, ?_⟩) (fun ⟨j, a, c⟩ => ⟨mc_vt r + j, by simp only [mc_vt]; omega, c⟩)⟩
        rw [← Nat.add_assoc]; exact c
/-- what lies in Y's environments lies on X's stack, or a function there holds it -/
theorem mc_rE (hH : ∀ o w e, P o w (e + 1) → gc_hcf hA o = hp_rk (tb_c M e) 6) : ∀ r : List mc_Bd, mc_M st vs vv es ev ln bs fl bg sg la r → mc_Vl P M cs es ev r → ∀ b i, b < r.length → i < mc_lnN ln b → es (24 * b + i) = 0 ∨ ∃ x, hp_V P x (es (24 * b + i)) (ev (24 * b + i)) ∧ ((∃ k, k < mc_xt r ∧ st k = x) ∨ (∃ k o w e j, k < mc_xt r ∧ st k = vl_ob o ∧ P o w (e + 1) ∧ j < gc_hcf hA o ∧ x = cs (8 * o + j)))
  | [], _, _, b, i, hb, _ => absurd hb (by simp)
  | (E, Ks, fn, p) :: r, ⟨⟨g1, g2, g3, ⟨g4, g4'⟩, g5, g6, g7⟩, g8⟩, ⟨⟨v1, v2⟩, v3⟩, b, i, hb, hi => by
    rw [List.length_cons] at hb
    have m8 := mc_m8_le fn
    have hL := mc_lnE g4 (by omega)
    simp only [mc_xt]
    by_cases z : b = r.length
    · subst z
      rw [hL] at hi
      by_cases y : i < mc_m8 fn
      · cases fn with
        | none => simp only [mc_m8] at y; omega
        | some a =>
          obtain ⟨o, w, e, ax, as, av⟩ := a
          obtain ⟨⟨f1, f2⟩, ⟨f3, f4⟩, f5, f6⟩ := g7
          obtain ⟨w1, w2, w3⟩ := v2
          simp only [mc_m8] at y
          by_cases c7 : i = 7
          · subst c7
            rw [f5, f6]
            exact Or.inr ⟨ax, w2, Or.inl ⟨mc_xt r + 1, by omega, f2⟩⟩
          · by_cases c6 : i = 6
            · subst c6
              rw [f3, f4]
              exact Or.inr ⟨vl_ob o, Or.inr (Or.inr ⟨o, w, e + 1, w1, rfl, rfl, by rw [if_neg (by omega)]⟩), Or.inl ⟨mc_xt r, by omega, f1⟩⟩
            · have hF := w3 (5 - i) (by omega)
              dsimp only at hF
              rw [show 24 * r.length + 5 - (5 - i) = 24 * r.length + i by omega] at hF
              cases bit : (tb_c M e).testBit (5 - i) with
              | false => exact Or.inl (hF.2 bit)
              | true => exact Or.inr ⟨_, hF.1 bit, Or.inr ⟨mc_xt r, o, w, e, hp_rk (tb_c M e) (5 - i), by omega, f1, w1, by rw [hH o w e w1]; exact hp_rk_lt (by omega) bit, rfl⟩⟩
      · obtain ⟨k, x, h1, h2, h3⟩ := mc_entL E g1 g3 (i - mc_m8 fn) (by omega)
        rw [show 24 * r.length + mc_m8 fn + (i - mc_m8 fn) = 24 * r.length + i by omega] at h2
        exact Or.inr ⟨x, v1 _ h2, Or.inl ⟨mc_xt r + 2 + k, by omega, h3⟩⟩
    · rcases mc_rE hH r g8 v3 b i (by omega) hi with h | ⟨x, h1, h2⟩
      · exact Or.inl h
      · exact Or.inr ⟨x, h1, h2.imp (fun ⟨k, a, c⟩ => ⟨k, by omega, c⟩) (fun ⟨k, o, w, e, j, a, c⟩ => ⟨k, o, w, e, j, by omega, c⟩)⟩
theorem mc_rV : ∀ r : List mc_Bd, mc_M st vs vv es ev ln bs fl bg sg la r → mc_Vl P M cs es ev r → ∀ j, j < mc_vt r → ∃ x, hp_V P x (vs j) (vv j) ∧ ∃ k, k < mc_xt r ∧ st k = x
  | [], _, _, j, hj => absurd hj (by simp [mc_vt])
  | (E, Ks, fn, p) :: r, ⟨⟨g1, g2, g3, ⟨g4, g4'⟩, g5, g6, g7⟩, g8⟩, ⟨⟨v1, v2⟩, v3⟩, j, hj => by
    simp only [mc_vt] at hj
    simp only [mc_xt]
    by_cases z : j < mc_vt r
    · obtain ⟨x, h1, k, h2, h3⟩ := mc_rV r g8 v3 j z
      exact ⟨x, h1, k, by omega, h3⟩
    · obtain ⟨k, x, h1, h2, h3⟩ := mc_entV E g1 g2 (j - mc_vt r) (by omega)
      rw [show mc_vt r + (j - mc_vt r) = j by omega] at h2
      exact ⟨x, v1 _ h2, mc_xt r + 2 + k, by omega, h3⟩
/-- values cut down to what is reachable -/
theorem mc_Vl_res {R : Nat → Prop} (h40 : ∀ o w t, P o w t → o < 40) (hH : ∀ o w e, P o w (e + 1) → gc_hcf hA o = hp_rk (tb_c M e) 6) (hR : ∀ o k c, R o → k < gc_hcf hA o → c < 40 → cs (8 * o + k) = vl_ob c → R c) : ∀ r : List mc_Bd, mc_M st vs vv es ev ln bs fl bg sg la r → (∀ k c, k < mc_xt r → c < 40 → st k = vl_ob c → R c) → mc_Vl P M cs es ev r → mc_Vl (fun o w t => P o w t ∧ R o) M cs es ev r
  | [], _, _, _ => trivial
  | (E, Ks, fn, p) :: r, ⟨⟨g1, g2, g3, ⟨g4, g4'⟩, g5, g6, g7⟩, g8⟩, hst, ⟨⟨v1, v2⟩, v3⟩ => by
    simp only [mc_xt] at hst
    refine ⟨⟨fun x hx => ?_, ?_⟩, mc_Vl_res h40 hH hR r g8 (fun k c hk => hst k c (by omega)) v3⟩
    · obtain ⟨k, a, c⟩ := mc_entM E g1 x hx
      exact hp_V_res h40 (v1 x hx) (fun c' hc' e => hst (mc_xt r + 2 + k) c' (by omega) hc' (c.trans e))
    · cases fn with
      | none => trivial
      | some a =>
        obtain ⟨o, w, e, ax, as, av⟩ := a
        obtain ⟨⟨f1, f2⟩, _⟩ := g7
        obtain ⟨w1, w2, w3⟩ := v2
        have hRo := hst (mc_xt r) o (by omega) (h40 _ _ _ w1) f1
        refine ⟨⟨w1, hRo⟩, hp_V_res h40 w2 (fun c' hc' e' => hst (mc_xt r + 1) c' (by omega) hc' (f2.trans e')), fun i hi => ⟨fun q => hp_V_res h40 ((w3 i hi).1 q) (fun c' hc' e' => hR o _ c' hRo ?_ hc' e'), (w3 i hi).2⟩⟩
        rw [hH o w e w1]
        exact hp_rk_lt hi q
end
end
section
/-! making an object on both sides -/
theorem hp_hcf {n : Nat} {K X M FO : Nat → Int32} {P : Nat → Nat → Nat → Prop} {fa hA : Nat → Int32} {cs : Nat → Int64} {bd hs hv : Nat → Int32} (h : hp_H (rl_FT n K X M FO) P fa hA cs bd hs hv) : ∀ o w e, P o w (e + 1) → gc_hcf hA o = hp_rk (tb_c M e) 6 := fun o w e p => by
  obtain ⟨_, _, hN⟩ := h.2.2 o w (e + 1) p
  rcases hN with ⟨t0, _⟩ | ⟨e', f, mk, x, et, hft, hf, hmk, ef, eh, eb, hF⟩
  · exact absurd t0 (by omega)
  · have : e' = e := by omega
    subst this
    have l6 := hp_rk_le mk 6
    unfold gc_hcf
    rw [eh, nI_clamp (by omega), hft.2.2.2.2.1]
section
variable {n : Nat} {K X M FO : Nat → Int32} {P : Nat → Nat → Nat → Prop} {uc : Int32} {m : Int64} {mk wcI lv : Int32} {us fa hA : Nat → Int32} {cs : Nat → Int64} {wt : Nat → Int32} {gl st st1 : Nat → Int64} {bd hs hv gs gv : Nat → Int32} {vs vv es ev ln bs fl bg sg la nd : Nat → Int32} {Bs : List mc_Bd} {T cnt sc : Nat} {fn : Int32}
theorem mc_make (h2 : rl_Hp n K X M FO P uc m mk wcI us fa hA cs wt gl bd hs hv gs gv) (hM : mc_M st vs vv es ev ln bs fl bg sg la Bs) (hV : mc_Vl P M cs es ev Bs) (hst : ∀ k, k < mc_xt Bs → st1 k = st k) (hT : mc_xt Bs ≤ T) (hT5 : T ≤ 500) (hnb : Bs.length ≤ 13) (hvt : mc_vt Bs ≤ 420) (hsc : sc < 200) (hfn : vp_nar .byte fn.toInt8.toInt32 = fn) (hcn : cnt ≤ 8)
    (hex : ∀ k, mc_xt Bs ≤ k → k < T → ∃ s v, hp_V P (st1 k) s v ∧ ((∃ b i, b < Bs.length ∧ i < mc_lnN ln b ∧ es (24 * b + i) = s ∧ ev (24 * b + i) = v))) :
    (∀ o k c, gc_R (gc_rt gl st1 T) (gc_hcf hA) cs o → k < gc_hcf hA o → c < 40 → cs (8 * o + k) = vl_ob c → gc_R (gc_rt gl st1 T) (gc_hcf hA) cs c) ∧ (∀ k c, k < T → c < 40 → st1 k = vl_ob c → gc_R (gc_rt gl st1 T) (gc_hcf hA) cs c) ∧ hp_H (rl_FT n K X M FO) (fun o w t => P o w t ∧ gc_R (gc_rt gl st1 T) (gc_hcf hA) cs o) fa hA cs bd hs hv ∧ (∀ g, g < 4 → hp_V (fun o w t => P o w t ∧ gc_R (gc_rt gl st1 T) (gc_hcf hA) cs o) (gl g) (gs g) (gv g)) ∧
    ((∃ (uc' : Int32) (m' : Int64) (mk' wc' : Int32) (us' wt' nd' : Nat → Int32), gc_Ok (fun o => ∃ w t, P o w t ∧ gc_R (gc_rt gl st1 T) (gc_hcf hA) cs o) uc' m' mk' wc' us' hA cs wt' ∧
        (∀ {f_expressionCount f_functionCount f_codeEnd f_depth f_letCount f_height f_heldNames f_frame f_at f_openCount f_stepCount f_resultSort f_resultNumber : Int32} {a_kindOf a_partX a_partY a_partZ a_weightOf a_needOf a_names a_known a_knownNumber a_functionOf a_op a_operand a_workNode a_workPhase a_workLast a_workPatch a_letPlace a_openFrame a_openAt : Nat → Int32} (post : Int32 → SX → Prop), post (-1) (f_expressionCount, f_functionCount, f_codeEnd, f_depth, f_letCount, f_height, f_heldNames, uc', m', mk', wc', nI T, f_frame, f_at, f_openCount, f_stepCount, f_resultSort, f_resultNumber, lv, a_kindOf, a_partX, a_partY, a_partZ, a_weightOf, a_needOf, a_names, a_known, a_knownNumber, a_functionOf, a_op, a_operand, a_workNode, a_workPhase, a_workLast, a_workPatch, a_letPlace, us', fa, hA, cs, wt', gl, st1, a_openFrame, a_openAt) → wpX_newObject post (f_expressionCount, f_functionCount, f_codeEnd, f_depth, f_letCount, f_height, f_heldNames, uc, m, mk, wcI, nI T, f_frame, f_at, f_openCount, f_stepCount, f_resultSort, f_resultNumber, lv, a_kindOf, a_partX, a_partY, a_partZ, a_weightOf, a_needOf, a_names, a_known, a_knownNumber, a_functionOf, a_op, a_operand, a_workNode, a_workPhase, a_workLast, a_workPatch, a_letPlace, us, fa, hA, cs, wt, gl, st1, a_openFrame, a_openAt) fn (nI cnt)) ∧
        (∀ {g_made g_functions g_high g_how g_givenSort g_given : Int32} {b_ek b_ex b_ey b_ez b_ew b_outside b_body b_base b_floor b_begun b_stage b_last : Nat → Int32} (post : Int32 → SY → Prop), post (-1) (g_made, g_functions, nI Bs.length, g_high, nI (mc_vt Bs), nI sc, 1, 3, g_givenSort, g_given, b_ek, b_ex, b_ey, b_ez, b_ew, b_outside, gs, gv, b_body, hs, hv, nd', es, ev, ln, b_base, b_floor, b_begun, b_stage, b_last, vs, vv) → wpY_make post (g_made, g_functions, nI Bs.length, g_high, nI (mc_vt Bs), nI sc, 0, g_how, g_givenSort, g_given, b_ek, b_ex, b_ey, b_ez, b_ew, b_outside, gs, gv, b_body, hs, hv, nd, es, ev, ln, b_base, b_floor, b_begun, b_stage, b_last, vs, vv))) ∨
     (∃ (o w : Nat) (uc' : Int32) (m' : Int64) (mk' wc' : Int32) (us' wt' nd' hs' : Nat → Int32), o < 40 ∧ w < 40 ∧ ¬ gc_R (gc_rt gl st1 T) (gc_hcf hA) cs o ∧ (∀ o' t, ¬ (P o' w t ∧ gc_R (gc_rt gl st1 T) (gc_hcf hA) cs o')) ∧ (∀ j, 6 * w ≤ j → j < 6 * w + 6 → hs' j = 0) ∧ (∀ j, (j < 6 * w ∨ 6 * w + 6 ≤ j) → hs' j = hs j) ∧
        (∀ cs' : Nat → Int64, (∀ j, (j < 8 * o ∨ 8 * o + 8 ≤ j) → cs' j = cs j) → (∀ j, j < 384 → gc_wf (cs' j)) → gc_Ok (fun x => gc_R (gc_rt gl st1 T) (gc_hcf hA) cs x ∨ x = o) uc' m' mk' wc' us' (upd hA o (nI cnt)) cs' wt') ∧
        (∀ {f_expressionCount f_functionCount f_codeEnd f_depth f_letCount f_height f_heldNames f_frame f_at f_openCount f_stepCount f_resultSort f_resultNumber : Int32} {a_kindOf a_partX a_partY a_partZ a_weightOf a_needOf a_names a_known a_knownNumber a_functionOf a_op a_operand a_workNode a_workPhase a_workLast a_workPatch a_letPlace a_openFrame a_openAt : Nat → Int32} (post : Int32 → SX → Prop), post (nI o) (f_expressionCount, f_functionCount, f_codeEnd, f_depth, f_letCount, f_height, f_heldNames, uc', m', mk', wc', nI T, f_frame, f_at, f_openCount, f_stepCount, f_resultSort, f_resultNumber, lv, a_kindOf, a_partX, a_partY, a_partZ, a_weightOf, a_needOf, a_names, a_known, a_knownNumber, a_functionOf, a_op, a_operand, a_workNode, a_workPhase, a_workLast, a_workPatch, a_letPlace, us', upd fa o fn, upd hA o (nI cnt), cs, wt', gl, st1, a_openFrame, a_openAt) → wpX_newObject post (f_expressionCount, f_functionCount, f_codeEnd, f_depth, f_letCount, f_height, f_heldNames, uc, m, mk, wcI, nI T, f_frame, f_at, f_openCount, f_stepCount, f_resultSort, f_resultNumber, lv, a_kindOf, a_partX, a_partY, a_partZ, a_weightOf, a_needOf, a_names, a_known, a_knownNumber, a_functionOf, a_op, a_operand, a_workNode, a_workPhase, a_workLast, a_workPatch, a_letPlace, us, fa, hA, cs, wt, gl, st1, a_openFrame, a_openAt) fn (nI cnt)) ∧
        (∀ {g_made g_functions g_high g_how g_givenSort g_given : Int32} {b_ek b_ex b_ey b_ez b_ew b_outside b_body b_base b_floor b_begun b_stage b_last : Nat → Int32} (post : Int32 → SY → Prop), post (nI w) (g_made, g_functions, nI Bs.length, g_high, nI (mc_vt Bs), nI (sc + 1), 0, g_how, g_givenSort, g_given, b_ek, b_ex, b_ey, b_ez, b_ew, b_outside, gs, gv, b_body, hs', hv, nd', es, ev, ln, b_base, b_floor, b_begun, b_stage, b_last, vs, vv) → wpY_make post (g_made, g_functions, nI Bs.length, g_high, nI (mc_vt Bs), nI sc, 0, g_how, g_givenSort, g_given, b_ek, b_ex, b_ey, b_ez, b_ew, b_outside, gs, gv, b_body, hs, hv, nd, es, ev, ln, b_base, b_floor, b_begun, b_stage, b_last, vs, vv)))) := by
  obtain ⟨hH, hG, hgl⟩ := h2
  have h40 := hp_o40 hH
  have w40 := hp_w40 hH
  have hhc := hp_hcf hH
  have hclR : ∀ o k c, gc_R (gc_rt gl st1 T) (gc_hcf hA) cs o → k < gc_hcf hA o → c < 40 → cs (8 * o + k) = vl_ob c → gc_R (gc_rt gl st1 T) (gc_hcf hA) cs c := fun o k c a b d e => gc_R_cl a b d e
  have hrt : ∀ k c, k < T → c < 40 → st1 k = vl_ob c → gc_R (gc_rt gl st1 T) (gc_hcf hA) cs c := fun k c hk hc e => gc_R_rt ⟨hc, Or.inr ⟨k, hk, e⟩⟩
  have hlen := mc_len Bs hM
  have ha : ∀ o, gc_rt gl st1 T o → ∃ w t, P o w t ∧ ym_rt gs gv es ev vs vv Bs.length (mc_lnN ln) (mc_vt Bs) w := by
    rintro o ⟨ho, ⟨g, hg, e⟩ | ⟨k, hk, e⟩⟩
    · have V := hgl g hg
      rw [e] at V
      obtain ⟨w, t, p, ev', es', en⟩ := hp_V_x h40 ho V
      exact ⟨w, t, p, w40 _ _ _ p, Or.inl ⟨g, hg, en, ev'⟩⟩
    · have loc : ∃ s v, hp_V P (st1 k) s v ∧ ((∃ b i, b < Bs.length ∧ i < mc_lnN ln b ∧ es (24 * b + i) = s ∧ ev (24 * b + i) = v) ∨ (∃ j, j < mc_vt Bs ∧ vs j = s ∧ vv j = v)) := by
        by_cases z : k < mc_xt Bs
        · rcases mc_rX Bs hM hV k z with q | q
          · rw [hst k z, q] at e
            exact absurd e.symm (vl_ob_ne0 (by omega))
          · rw [hst k z]; exact q
        · obtain ⟨s, v, a, b⟩ := hex k (by omega) hk
          exact ⟨s, v, a, Or.inl b⟩
      obtain ⟨s, v, V, hl⟩ := loc
      rw [e] at V
      obtain ⟨w, t, p, ev', es', en⟩ := hp_V_x h40 ho V
      refine ⟨w, t, p, w40 _ _ _ p, Or.inr (hl.imp ?_ ?_)⟩
      · rintro ⟨b, i, hb, hi, q1, q2⟩
        exact ⟨b, i, hb, hi, by rw [q1]; exact en, q2.trans ev'⟩
      · rintro ⟨j, hj, q1, q2⟩
        exact ⟨j, hj, by rw [q1]; exact en, q2.trans ev'⟩
  have hb : ∀ w, ym_rt gs gv es ev vs vv Bs.length (mc_lnN ln) (mc_vt Bs) w → ∃ o t, P o w t ∧ gc_R (gc_rt gl st1 T) (gc_hcf hA) cs o := by
    rintro w ⟨hw, ⟨g, hg, en, ev'⟩ | ⟨b, i, hb, hi, en, ev'⟩ | ⟨j, hj, en, ev'⟩⟩
    · obtain ⟨o, w', t, p, ex, ev2, es2⟩ := hp_V_y (hgl g hg) en
      have := w40 _ _ _ p
      have e : w = w' := (nI_eq (by omega) (by omega)).mp (ev'.symm.trans ev2)
      subst e
      exact ⟨o, t, p, gc_R_rt ⟨h40 _ _ _ p, Or.inl ⟨g, hg, ex⟩⟩⟩
    · rcases mc_rE hhc Bs hM hV b i hb hi with q | ⟨x, V, hl⟩
      · rw [q] at en; exact absurd (by decide) en
      · obtain ⟨o, w', t, p, ex, ev2, es2⟩ := hp_V_y V en
        have := w40 _ _ _ p
        have e : w = w' := (nI_eq (by omega) (by omega)).mp (ev'.symm.trans ev2)
        subst e
        refine ⟨o, t, p, ?_⟩
        rcases hl with ⟨k, hk, q⟩ | ⟨k, o2, w2, e2, j2, hk, q, p2, hj2, q2⟩
        · exact hrt k o (by omega) (h40 _ _ _ p) ((hst k hk).trans (q.trans ex))
        · exact hclR o2 j2 o (hrt k o2 (by omega) (h40 _ _ _ p2) ((hst k hk).trans q)) hj2 (h40 _ _ _ p) (q2.symm.trans ex)
    · obtain ⟨x, V, k, hk, q⟩ := mc_rV Bs hM hV j hj
      obtain ⟨o, w', t, p, ex, ev2, es2⟩ := hp_V_y V en
      have := w40 _ _ _ p
      have e : w = w' := (nI_eq (by omega) (by omega)).mp (ev'.symm.trans ev2)
      subst e
      exact ⟨o, t, p, hrt k o (by omega) (h40 _ _ _ p) ((hst k hk).trans (q.trans ex))⟩
  have hwf : ∀ k, k < T → gc_wf (st1 k) := fun k hk => by
    by_cases z : k < mc_xt Bs
    · rw [hst k z]
      rcases mc_rX Bs hM hV k z with q | ⟨s, v, V, _⟩
      · rw [q]; exact gc_wf0
      · exact hp_V_wf h40 V
    · obtain ⟨s, v, V, _⟩ := hex k (by omega) hk
      exact hp_V_wf h40 V
  have hwg : ∀ g, g < 4 → gc_wf (gl g) := fun g hg => hp_V_wf h40 (hgl g hg)
  have hyg : ∀ g, g < 4 → ym_wf (gs g) (gv g) := fun g hg => hp_V_ywf w40 (hgl g hg)
  have hye : ∀ b i, b < Bs.length → i < mc_lnN ln b → ym_wf (es (24 * b + i)) (ev (24 * b + i)) := fun b i hb hi => by
    rcases mc_rE hhc Bs hM hV b i hb hi with q | ⟨x, V, _⟩
    · rw [q]; exact Or.inl (by decide)
    · exact hp_V_ywf w40 V
  have hyv : ∀ j, j < mc_vt Bs → ym_wf (vs j) (vv j) := fun j hj => by
    obtain ⟨x, V, _⟩ := mc_rV Bs hM hV j hj
    exact hp_V_ywf w40 V
  obtain ⟨r1, r2⟩ := hp_reach hH ha hb
  have hRD : ∀ o, gc_R (gc_rt gl st1 T) (gc_hcf hA) cs o → ∃ w t, P o w t := fun o ho => by
    obtain ⟨w, t, p, _⟩ := r1 o ho
    exact ⟨w, t, p⟩
  have hfull := hp_full hH ha hb
  have hH' := hp_res hH hclR
  have hglR : ∀ g, g < 4 → hp_V (fun o w t => P o w t ∧ gc_R (gc_rt gl st1 T) (gc_hcf hA) cs o) (gl g) (gs g) (gv g) := fun g hg => hp_V_res h40 (hgl g hg) (fun c hc e => gc_R_rt ⟨hc, Or.inl ⟨g, hg, e⟩⟩)
  have hymk := ym_make (nd := nd) (st := sc) hsc hnb hlen hvt hyg hye hyv (hp_ywf hH r2)
  refine ⟨hclR, hrt, hH', hglR, ?_⟩
  rcases gc_new (fa := fa) (lv := lv) (fn := fn) (cnt := cnt) hG hT5 hwf hwg hRD hfn hcn with ⟨uc', m', mk', wc', us', wt', ok, hall, hX⟩ | ⟨o, uc', m', mk', wc', us', wt', ho, hno, hok, hX⟩
  · obtain ⟨nd', hY⟩ := hymk.1 (hfull.mp hall)
    exact Or.inl ⟨uc', m', mk', wc', us', wt', nd', ⟨gc_Us_le (fun o ⟨w, t, p, q⟩ => q) ok.1, ok.2.1, gc_Mg_le (fun o ⟨w, t, p, q⟩ => q) ok.2.2⟩, fun post hp => hX post hp, fun post hp => hY post hp⟩
  · have hnot : ¬ ∀ w, w < 40 → ym_R (ym_rt gs gv es ev vs vv Bs.length (mc_lnN ln) (mc_vt Bs)) hs hv w := fun q => hno (hfull.mpr q o ho)
    obtain ⟨w, nd', hs', hw, hnw, z1, z2, hY⟩ := hymk.2 hnot
    refine Or.inr ⟨o, w, uc', m', mk', wc', us', wt', nd', hs', ho, hw, hno, fun o' t ⟨p, q⟩ => hnw ?_, z1, z2, hok, fun post hp => hX post hp, fun post hp => hY post hp⟩
    obtain ⟨w', t', p', q'⟩ := r1 o' q
    rw [(hH.1 _ _ _ _ _ p p').1]
    exact q'
end
end
section
/-! the simulation: pairs are made -/

theorem sm_mkpair : ∀ {f_codeEnd f_depth f_letCount f_height f_heldNames f_usedCount f_marking f_waitCount f_levelNow : Int32} {f_marks : Int64} {a_kindOf a_partX a_partY a_partZ a_weightOf a_needOf a_names a_known a_knownNumber a_functionOf a_op a_operand a_workNode a_workPhase a_workLast a_workPatch a_letPlace a_isUsed a_functionAt a_heldCount a_waiting a_openFrame a_openAt : Nat → Int32} {a_cells a_globals a_stack : Nat → Int64}, ∀ {g_how : Int32} {b_ey b_ez b_globalSort b_global b_body b_heldSort b_held b_needed b_envSort b_env b_length b_base b_floor b_begun b_stage b_last b_valueSort b_value : Nat → Int32} {n fc : Nat} {P : Nat → Nat → Nat → Prop} {E : List mc_E} {Ks : List mc_F} {fn : mc_Fn} {p : Nat} {r : List mc_Bd} {sc Φ : Nat} {e : Nat} {l : Bool} {K' : List mc_F} {x y : Int64} {s t a b : Int32} {E2 : List mc_E} (_ : rl_St n fc a_kindOf a_partX b_ey b_ez a_weightOf a_names a_partY a_partZ a_needOf a_known a_knownNumber a_functionOf a_op a_operand) (_ : rl_Hp n a_kindOf a_partX a_names a_functionOf P f_usedCount f_marks f_marking f_waitCount a_isUsed a_functionAt a_heldCount a_cells a_waiting a_globals b_body b_heldSort b_held b_globalSort b_global) (_ : mc_G n a_kindOf a_partX b_ey b_ez a_weightOf a_names a_known a_knownNumber a_functionOf a_op a_operand P a_cells a_stack a_openFrame a_openAt b_envSort b_env b_length b_base b_floor b_begun b_stage b_last b_valueSort b_value E Ks fn p r sc Φ) (_ : Ks = (e, 2, l) :: K') (_ : E = (false, y, t, b) :: (false, x, s, a) :: E2) (_ : e < n) (_ : a_kindOf e = 9) (_ : p < 1560) (_ : a_op p = 9) (_ : mc_K n a_kindOf a_partX b_ey b_ez a_weightOf a_names a_known a_knownNumber a_functionOf a_op a_operand (mc_hm a_names fn) K' (mc_L E) (2 + E.length - 1) (p + 1)), mc_Res Φ (nI n, nI fc, f_codeEnd, f_depth, f_letCount, f_height, f_heldNames, f_usedCount, f_marks, f_marking, f_waitCount, nI (mc_xt r + 2 + E.length), nI (mc_xt r), nI p, nI r.length, nI sc, 0, 0, f_levelNow, a_kindOf, a_partX, a_partY, a_partZ, a_weightOf, a_needOf, a_names, a_known, a_knownNumber, a_functionOf, a_op, a_operand, a_workNode, a_workPhase, a_workLast, a_workPatch, a_letPlace, a_isUsed, a_functionAt, a_heldCount, a_cells, a_waiting, a_globals, a_stack, a_openFrame, a_openAt) (nI n, nI fc, nI (r.length + 1), nI (mc_hi r + Ks.length), nI (mc_vt r + mc_nv E), nI sc, 0, g_how, 0, 0, a_kindOf, a_partX, b_ey, b_ez, a_weightOf, a_names, b_globalSort, b_global, b_body, b_heldSort, b_held, b_needed, b_envSort, b_env, b_length, b_base, b_floor, b_begun, b_stage, b_last, b_valueSort, b_value) := by
  intro f_codeEnd f_depth f_letCount f_height f_heldNames f_usedCount f_marking f_waitCount f_levelNow f_marks a_kindOf a_partX a_partY a_partZ a_weightOf a_needOf a_names a_known a_knownNumber a_functionOf a_op a_operand a_workNode a_workPhase a_workLast a_workPatch a_letPlace a_isUsed a_functionAt a_heldCount a_waiting a_openFrame a_openAt a_cells a_globals a_stack g_how b_ey b_ez b_globalSort b_global b_body b_heldSort b_held b_needed b_envSort b_env b_length b_base b_floor b_begun b_stage b_last b_valueSort b_value n fc P E Ks fn p r sc Φ e l K' x y s t a b E2 h1 h2 h3 hKs hE hen hk hp1 hop hK
  subst hKs hE
  have hM := h3.1
  have hVl := h3.2.1
  obtain ⟨⟨⟨g1, g2, g3, ⟨g4, g4'⟩, g5, ⟨g6, g6'⟩, g7⟩, g8⟩, ⟨⟨v1, v2⟩, v3⟩, hC, hnow, ⟨b1, b2, b3, b4⟩, hΦ⟩ := h3
  have hn := h1.1
  have bnd := mc_C_b r hC
  have nvl := mc_nvL E2
  have m8 := mc_m8_le fn
  simp only [List.length_cons] at b4 b3 hK
  simp only [mc_L] at hK g4 g4'
  rw [show 2 + (E2.length + 1 + 1) - 1 = 3 + E2.length by omega] at hK
  have hpk := mc_pk3 (K := a_kindOf) (X := a_partX) (Y := b_ey) (W := a_weightOf) (e := e) (l := l) K'
  have Vx := v1 (false, x, s, a) (List.mem_cons_of_mem _ List.mem_cons_self)
  have Vy := v1 (false, y, t, b) List.mem_cons_self
  obtain ⟨⟨d1, d1'⟩, ⟨c2, c2'⟩, c3⟩ := g2
  have c1 : b_valueSort (mc_vt r + mc_nv E2 + 1) = t := d1
  have c1' : b_value (mc_vt r + mc_nv E2 + 1) = b := d1'
  have sx : a_stack (mc_xt r + 2 + E2.length) = x := g1.2.1
  have sy : a_stack (mc_xt r + 2 + E2.length + 1) = y := g1.1
  have hkd : xs_kd 9 (a_operand p) 2 (-1) := Or.inl ⟨rfl, rfl, rfl⟩
  have hYm : ∀ post : SY → Prop, wpY_makePair (fun u => post u) (nI n, nI fc, nI (r.length + 1), nI (mc_hi r + K'.length), nI (mc_vt r + mc_nv E2 + 2), nI sc, 0, g_how, 0, 0, a_kindOf, a_partX, b_ey, b_ez, a_weightOf, a_names, b_globalSort, b_global, b_body, b_heldSort, b_held, b_needed, b_envSort, b_env, b_length, b_base, b_floor, b_begun, upd b_stage (mc_hi r + K'.length) (nI 3), b_last, b_valueSort, b_value) → wpY_step post (nI n, nI fc, nI (r.length + 1), nI (mc_hi r + (K'.length + 1)), nI (mc_vt r + mc_nv E2 + 2), nI sc, 0, g_how, 0, 0, a_kindOf, a_partX, b_ey, b_ez, a_weightOf, a_names, b_globalSort, b_global, b_body, b_heldSort, b_held, b_needed, b_envSort, b_env, b_length, b_base, b_floor, b_begun, b_stage, b_last, b_valueSort, b_value) := fun post hp => by
    refine ys_head (k := 9) (h := mc_hi r + K'.length) (by omega) g5.1.1 (by omega) hk (by omega) g5.1.2.1 ?_
    rw [if_neg (by omega)]
    exact ys_f (by omega) (by omega) (by omega) (by omega) (by omega) (Or.inl (by decide)) (Or.inl (by omega)) (yf_mp (h := mc_hi r + K'.length) (by omega) hk hp)
  by_cases h200 : sc = 200
  · subst h200
    exact Or.inr ⟨2, mc_t0 (nI n, nI fc, f_codeEnd, f_depth, f_letCount, f_height, f_heldNames, f_usedCount, f_marks, f_marking, f_waitCount, nI (mc_xt r + 2 + E2.length + 2), nI (mc_xt r), nI (p + 1), nI r.length, 200, 0, 0, f_levelNow, a_kindOf, a_partX, a_partY, a_partZ, a_weightOf, a_needOf, a_names, a_known, a_knownNumber, a_functionOf, a_op, a_operand, a_workNode, a_workPhase, a_workLast, a_workPatch, a_letPlace, a_isUsed, a_functionAt, a_heldCount, a_cells, a_waiting, a_globals, a_stack, a_openFrame, a_openAt), (nI n, nI fc, 0, nI (mc_hi r + K'.length), 0, 200, 1, 2, 0, 0, a_kindOf, a_partX, b_ey, b_ez, a_weightOf, a_names, b_globalSort, b_global, b_body, b_heldSort, b_held, b_needed, b_envSort, b_env, b_length, b_base, b_floor, b_begun, upd b_stage (mc_hi r + K'.length) (nI 3), b_last, b_valueSort, b_value), rl_in h1 h2, mc_XE (by decide) (fun post hq => xs_mk200 hp1 hop hkd hq), fun kk hkk' => mc_Y1 (by omega) g6 (by omega) (fun post hp => hYm post (ymp_no (fun post' hp' => ym_make200 post' hp') hp)) kk hkk' _ _ (mc_YE (g_how := 2) (g_bodies := nI (r.length + 1)) (g_top := nI (mc_vt r + mc_nv E2 + 2)) (kk + 1) hkk')⟩
  · have exT : mc_xt (((false, y, t, b) :: (false, x, s, a) :: E2, (e, 2, l) :: K', fn, p) :: r) = mc_xt r + 2 + E2.length + 2 := rfl
    have exV : mc_vt (((false, y, t, b) :: (false, x, s, a) :: E2, (e, 2, l) :: K', fn, p) :: r) = mc_vt r + mc_nv E2 + 2 := rfl
    have exL : (((false, y, t, b) :: (false, x, s, a) :: E2, (e, 2, l) :: K', fn, p) :: r).length = r.length + 1 := rfl
    have h40 := hp_o40 h2.1
    obtain ⟨hclR, hrt, hH', hglR, hmk⟩ := mc_make (nd := b_needed) (lv := f_levelNow) (st1 := a_stack) (T := mc_xt r + 2 + E2.length + 2) (sc := sc) (cnt := 2) (fn := -1) h2 hM hVl (fun k _ => rfl) (by omega) (by omega) (by omega) (by omega) (by omega) (by decide) (by omega) (fun k k1 k2 => by omega)
    have hVR := mc_Vl_res h40 (hp_hcf h2.1) hclR _ hM (fun k c hk => hrt k c (by omega)) hVl
    rcases hmk with ⟨uc', m', mk', wc', us', wt', nd', ok, hX, hY⟩ | ⟨o, w, uc', m', mk', wc', us', wt', nd', hs', ho, hw, hno, hnw, z1, z2, hok, hX, hY⟩
    · exact Or.inr ⟨3, mc_t0 (nI n, nI fc, f_codeEnd, f_depth, f_letCount, f_height, f_heldNames, uc', m', mk', wc', nI (mc_xt r + 2 + E2.length + 2), nI (mc_xt r), nI (p + 1), nI r.length, nI sc, 0, 0, f_levelNow, a_kindOf, a_partX, a_partY, a_partZ, a_weightOf, a_needOf, a_names, a_known, a_knownNumber, a_functionOf, a_op, a_operand, a_workNode, a_workPhase, a_workLast, a_workPatch, a_letPlace, us', a_functionAt, a_heldCount, a_cells, wt', a_globals, a_stack, a_openFrame, a_openAt), (nI n, nI fc, 0, nI (mc_hi r + K'.length), 0, nI sc, 1, 3, 0, 0, a_kindOf, a_partX, b_ey, b_ez, a_weightOf, a_names, b_globalSort, b_global, b_body, b_heldSort, b_held, nd', b_envSort, b_env, b_length, b_base, b_floor, b_begun, upd b_stage (mc_hi r + K'.length) (nI 3), b_last, b_valueSort, b_value), rl_in h1 ⟨hH', ok, hglR⟩, mc_XE (by decide) (fun post hq => xs_mkfull hp1 hop hkd (by omega) (fun post' hp' => hX post' hp') hq), fun kk hkk' => mc_Y1 (by omega) g6 (by omega) (fun post hp => hYm post (ymp_no (fun post' hp' => hY post' hp') hp)) kk hkk' _ _ (mc_YE (g_how := 3) (g_bodies := nI (r.length + 1)) (g_top := nI (mc_vt r + mc_nv E2 + 2)) (kk + 1) hkk')⟩
    · obtain ⟨cs', q1, q2, h81⟩ := xs_mk81 (o := o) (cnt := 2) (t := mc_xt r + 2 + E2.length) (st := a_stack) ho (by omega) (by omega) 2 0 a_cells (by omega)
      have e0 : cs' (8 * o + 0) = x := (q1 0 (by omega) (by omega)).trans sx
      have e1 : cs' (8 * o + 1) = y := (q1 1 (by omega) (by omega)).trans sy
      have hcs : ∀ j, (j < 8 * o ∨ 8 * o + 8 ≤ j) → cs' j = a_cells j := fun j hj => q2 j (by omega)
      have hmono : ∀ o' w' t', (P o' w' t' ∧ gc_R (gc_rt a_globals a_stack (mc_xt r + 2 + E2.length + 2)) (gc_hcf a_heldCount) a_cells o') → ((P o' w' t' ∧ gc_R (gc_rt a_globals a_stack (mc_xt r + 2 + E2.length + 2)) (gc_hcf a_heldCount) a_cells o') ∨ (o' = o ∧ w' = w ∧ t' = 0)) := fun _ _ _ h => Or.inl h
      have VxR := hVR.1.1 (false, x, s, a) (List.mem_cons_of_mem _ List.mem_cons_self)
      have VyR := hVR.1.1 (false, y, t, b) List.mem_cons_self
      have hwfc : ∀ j, j < 384 → gc_wf (cs' j) := fun j hj => by
        by_cases c0 : j = 8 * o + 0
        · rw [c0, e0]; exact hp_V_wf h40 Vx
        · by_cases c1 : j = 8 * o + 1
          · rw [c1, e1]; exact hp_V_wf h40 Vy
          · rw [q2 j (by omega)]; exact h2.2.1.2.1.2 j hj
      have ok := hok cs' hcs hwfc
      have hHn := hp_ext (o0 := o) (w0 := w) (t0 := 0) (fa' := upd a_functionAt o (-1)) (hA' := upd a_heldCount o (nI 2)) (bd' := b_body) (hs' := upd (upd hs' (6 * w + 0) s) (6 * w + 1) t) (hv' := upd (upd b_held (6 * w + 0) a) (6 * w + 1) b) (cs' := cs') hH' (fun w' t' h => hno h.2) (fun o' t' h => hnw o' t' h) (fun o' h => pk_un h) (fun o' h => pk_un h) hcs (fun _ _ => rfl) (fun j hj => by rw [pk_un (by omega), pk_un (by omega)]; exact z2 j hj) (fun j hj => by rw [pk_un (by omega), pk_un (by omega)])
        ⟨ho, hw, Or.inl ⟨rfl, pk_us, pk_us, by rw [e0, pk_un (by omega), pk_us, pk_un (by omega), pk_us]; exact hp_V_mono hmono VxR, by rw [e1, pk_us, pk_us]; exact hp_V_mono hmono VyR, fun k k2 k6 => by rw [pk_un (by omega), pk_un (by omega)]; exact z1 _ (by omega) (by omega)⟩⟩
      have h2' : rl_Hp n a_kindOf a_partX a_names a_functionOf (fun o' w' t' => (P o' w' t' ∧ gc_R (gc_rt a_globals a_stack (mc_xt r + 2 + E2.length + 2)) (gc_hcf a_heldCount) a_cells o') ∨ (o' = o ∧ w' = w ∧ t' = 0)) uc' m' mk' wc' us' (upd a_functionAt o (-1)) (upd a_heldCount o (nI 2)) cs' wt' a_globals b_body (upd (upd hs' (6 * w + 0) s) (6 * w + 1) t) (upd (upd b_held (6 * w + 0) a) (6 * w + 1) b) b_globalSort b_global := by
        have hD : ∀ o', (∃ w' t', (P o' w' t' ∧ gc_R (gc_rt a_globals a_stack (mc_xt r + 2 + E2.length + 2)) (gc_hcf a_heldCount) a_cells o') ∨ (o' = o ∧ w' = w ∧ t' = 0)) → (gc_R (gc_rt a_globals a_stack (mc_xt r + 2 + E2.length + 2)) (gc_hcf a_heldCount) a_cells o' ∨ o' = o) := fun o' ⟨w', t', h⟩ => h.imp (fun q => q.2) (fun q => q.1)
        exact ⟨hHn, ⟨gc_Us_le hD ok.1, ok.2.1, gc_Mg_le hD ok.2.2⟩, fun g hg => hp_V_mono hmono (hglR g hg)⟩
      have hcsF : ∀ o' w' e', (P o' w' (e' + 1) ∧ gc_R (gc_rt a_globals a_stack (mc_xt r + 2 + E2.length + 2)) (gc_hcf a_heldCount) a_cells o') → ∀ k, k < 8 → cs' (8 * o' + k) = a_cells (8 * o' + k) := fun o' w' e' h k hk' => by
        have : o' ≠ o := fun q => hno (q ▸ h.2)
        exact hcs _ (by omega)
      have hGv := mc_Gval (sc := sc + 1) (st := vp_updL a_stack (mc_xt r + 2 + E2.length) (vl_ob o)) (cs := cs') (P := fun o' w' t' => (P o' w' t' ∧ gc_R (gc_rt a_globals a_stack (mc_xt r + 2 + E2.length + 2)) (gc_hcf a_heldCount) a_cells o') ∨ (o' = o ∧ w' = w ∧ t' = 0)) (s := 2) (v := nI w) (vs := upd b_valueSort (mc_vt r + mc_nv E2) 2) (vv := upd b_value (mc_vt r + mc_nv E2) (nI w)) (sg := upd b_stage (mc_hi r + K'.length) (nI 3)) (mc_XS_cg E2 (fun j hj => pk_uLn (by omega)) g1.2.2) (mc_VS_cg E2 (fun j hj => ⟨pk_un (by omega), pk_un (by omega)⟩) c3) g3 ⟨g4, g4'⟩ (mc_KS_cg K' (fun j hj => ⟨rfl, pk_un (by omega), rfl⟩) g5.2) ⟨g6, g6'⟩ (mc_FM_cg fn ⟨pk_uLn (by omega), pk_uLn (by omega)⟩ (fun j _ _ => ⟨rfl, rfl⟩) g7) (mc_M_cg r (fun j hj => pk_uLn (by omega)) (fun j hj => ⟨pk_un (by omega), pk_un (by omega)⟩) (fun j hj => ⟨rfl, rfl⟩) (fun j hj => ⟨rfl, rfl, rfl⟩) (fun j hj => ⟨rfl, pk_un (by omega), rfl⟩) g8) (fun z hz => hp_V_mono hmono (hVR.1.1 z (List.mem_cons_of_mem _ (List.mem_cons_of_mem _ hz)))) (mc_VF_mem (fun _ _ _ h => hp_V_mono hmono h) hmono hcsF fn hVR.1.2) (mc_Vl_mem (fun _ _ _ h => hp_V_mono hmono h) hmono hcsF r hVR.2) hC hK ⟨by omega, b2, by omega, by omega⟩ pk_uLs ⟨pk_us, pk_us⟩ (Or.inr (Or.inr ⟨o, w, 0, Or.inr ⟨rfl, rfl, rfl⟩, rfl, rfl, rfl⟩))
      refine Or.inl ⟨(nI n, nI fc, f_codeEnd, f_depth, f_letCount, f_height, f_heldNames, uc', m', mk', wc', nI (mc_xt r + 2 + ((false, vl_ob o, (2 : Int32), nI w) :: E2).length), nI (mc_xt r), nI (p + 1), nI r.length, nI (sc + 1), 0, 0, f_levelNow, a_kindOf, a_partX, a_partY, a_partZ, a_weightOf, a_needOf, a_names, a_known, a_knownNumber, a_functionOf, a_op, a_operand, a_workNode, a_workPhase, a_workLast, a_workPatch, a_letPlace, us', upd a_functionAt o (-1), upd a_heldCount o (nI 2), cs', wt', a_globals, vp_updL a_stack (mc_xt r + 2 + E2.length) (vl_ob o), a_openFrame, a_openAt), (nI n, nI fc, nI (r.length + 1), nI (mc_hi r + K'.length), nI (mc_vt r + mc_nv ((false, vl_ob o, (2 : Int32), nI w) :: E2)), nI (sc + 1), 0, g_how, 0, 0, a_kindOf, a_partX, b_ey, b_ez, a_weightOf, a_names, b_globalSort, b_global, b_body, upd (upd hs' (6 * w + 0) s) (6 * w + 1) t, upd (upd b_held (6 * w + 0) a) (6 * w + 1) b, nd', b_envSort, b_env, b_length, b_base, b_floor, b_begun, upd b_stage (mc_hi r + K'.length) (nI 3), b_last, upd b_valueSort (mc_vt r + mc_nv E2) 2, upd b_value (mc_vt r + mc_nv E2) (nI w)), _, 1, mc_in (E := (false, vl_ob o, 2, nI w) :: E2) (Ks := K') (fn := fn) (r := r) (p := p + 1) h1 h2' hGv, Nat.le_refl _, by omega, mc_X1 (fun post hq => ?_), mc_Y1 (by omega) g6 (by omega) (fun post hp => hYm post ?_)⟩
      · exact xs_mknew (t := mc_xt r + 2 + E2.length) (cnt := 2) (sc := sc) (c := o) (o := 9) (fn := -1) hp1 hop hkd (by omega) ho (by omega) (by omega) (fun post' hp' => hX post' hp') (fun post' hp' => h81 post' hp') hq
      · refine ymp_new (t := mc_vt r + mc_nv E2) (w := w) (nd' := nd') (hs' := hs') (st' := nI (sc + 1)) hw (by omega) (fun post' hp' => hY post' hp') ?_
        rw [c1, c1', c2, c2']
        exact hp
end
section
/-! the simulation: functions are made -/

/-- the variables that the new function is to hold are pushed -/
theorem mc_pushvars : ∀ {f_codeEnd f_depth f_letCount f_height f_heldNames f_usedCount f_marking f_waitCount f_levelNow : Int32} {f_marks : Int64} {a_kindOf a_partX a_partY a_partZ a_weightOf a_needOf a_names a_known a_knownNumber a_functionOf a_op a_operand a_workNode a_workPhase a_workLast a_workPatch a_letPlace a_isUsed a_functionAt a_heldCount a_waiting a_openFrame a_openAt : Nat → Int32} {a_cells a_globals a_stack : Nat → Int64}, ∀ {g_how : Int32} {b_ey b_ez b_globalSort b_global b_body b_heldSort b_held b_needed b_envSort b_env b_length b_base b_floor b_begun b_stage b_last b_valueSort b_value : Nat → Int32} {n fc : Nat} {P : Nat → Nat → Nat → Prop} {E : List mc_E} {Ks : List mc_F} {fn : mc_Fn} {p : Nat} {r : List mc_Bd} {sc Φ : Nat} {e : Nat} (_ : rl_St n fc a_kindOf a_partX b_ey b_ez a_weightOf a_names a_partY a_partZ a_needOf a_known a_knownNumber a_functionOf a_op a_operand) (_ : rl_Hp n a_kindOf a_partX a_names a_functionOf P f_usedCount f_marks f_marking f_waitCount a_isUsed a_functionAt a_heldCount a_cells a_waiting a_globals b_body b_heldSort b_held b_globalSort b_global) (_ : mc_G n a_kindOf a_partX b_ey b_ez a_weightOf a_names a_known a_knownNumber a_functionOf a_op a_operand P a_cells a_stack a_openFrame a_openAt b_envSort b_env b_length b_base b_floor b_begun b_stage b_last b_valueSort b_value E Ks fn p r sc Φ) (_ : tb_c a_names e < 64) (_ : ∀ i, i < 6 → (tb_c a_names e).testBit i = true → cp_V a_op a_operand (mc_hm a_names fn) (mc_L E) i (p + hp_rk (tb_c a_names e) i)) (_ : p + hp_rk (tb_c a_names e) 6 < 1560),
    ∀ k, k ≤ 6 → ∃ st1 : Nat → Int64, (∀ j, j < (mc_xt r + 2 + E.length) → st1 j = a_stack j) ∧ (∀ i, i < k → (tb_c a_names e).testBit i = true → ∃ s v, hp_V P (st1 ((mc_xt r + 2 + E.length) + hp_rk (tb_c a_names e) i)) s v ∧ i < mc_m8 fn + (mc_L E).length ∧ b_envSort (24 * r.length + (mc_m8 fn + (mc_L E).length) - 1 - i) = s ∧ b_env (24 * r.length + (mc_m8 fn + (mc_L E).length) - 1 - i) = v) ∧
      (∀ rr u', mc_RX (nI n, nI fc, f_codeEnd, f_depth, f_letCount, f_height, f_heldNames, f_usedCount, f_marks, f_marking, f_waitCount, nI ((mc_xt r + 2 + E.length) + hp_rk (tb_c a_names e) k), nI (mc_xt r), nI (p + hp_rk (tb_c a_names e) k), nI r.length, nI sc, 0, 0, f_levelNow, a_kindOf, a_partX, a_partY, a_partZ, a_weightOf, a_needOf, a_names, a_known, a_knownNumber, a_functionOf, a_op, a_operand, a_workNode, a_workPhase, a_workLast, a_workPatch, a_letPlace, a_isUsed, a_functionAt, a_heldCount, a_cells, a_waiting, a_globals, st1, a_openFrame, a_openAt) rr u' → mc_RX (nI n, nI fc, f_codeEnd, f_depth, f_letCount, f_height, f_heldNames, f_usedCount, f_marks, f_marking, f_waitCount, nI (mc_xt r + 2 + E.length), nI (mc_xt r), nI p, nI r.length, nI sc, 0, 0, f_levelNow, a_kindOf, a_partX, a_partY, a_partZ, a_weightOf, a_needOf, a_names, a_known, a_knownNumber, a_functionOf, a_op, a_operand, a_workNode, a_workPhase, a_workLast, a_workPatch, a_letPlace, a_isUsed, a_functionAt, a_heldCount, a_cells, a_waiting, a_globals, a_stack, a_openFrame, a_openAt) rr u') := by
  intro f_codeEnd f_depth f_letCount f_height f_heldNames f_usedCount f_marking f_waitCount f_levelNow f_marks a_kindOf a_partX a_partY a_partZ a_weightOf a_needOf a_names a_known a_knownNumber a_functionOf a_op a_operand a_workNode a_workPhase a_workLast a_workPatch a_letPlace a_isUsed a_functionAt a_heldCount a_waiting a_openFrame a_openAt a_cells a_globals a_stack g_how b_ey b_ez b_globalSort b_global b_body b_heldSort b_held b_needed b_envSort b_env b_length b_base b_floor b_begun b_stage b_last b_valueSort b_value n fc P E Ks fn p r sc Φ e h1 h2 h3 hm64 hcode hp6 k
  obtain ⟨⟨⟨g1, g2, g3, ⟨g4, g4'⟩, g5, ⟨g6, g6'⟩, g7⟩, g8⟩, ⟨⟨v1, v2⟩, v3⟩, hC, hnow, ⟨b1, b2, b3, b4⟩, hΦ⟩ := h3
  have bnd := mc_C_b r hC
  induction k with
  | zero =>
    intro _
    exact ⟨a_stack, fun j _ => rfl, fun i hi => absurd hi (by omega), fun rr u' h => h⟩
  | succ k ih =>
    intro hk
    obtain ⟨st1, s1, s2, s3⟩ := ih (by omega)
    have hr : hp_rk (tb_c a_names e) (k + 1) = hp_rk (tb_c a_names e) k + (if (tb_c a_names e).testBit k = true then 1 else 0) := rfl
    have hrk := hp_rk_le (tb_c a_names e) k
    have hrm := hp_rk_mono (tb_c a_names e) (show k ≤ 6 by omega)
    by_cases z : (tb_c a_names e).testBit k = true
    · rw [if_pos z] at hr
      obtain ⟨x, s, v, hV, hi, es, ev, hX⟩ := mc_var h2.1 (show k ≤ 7 by omega) g1 g3 g7 v1 v2 (show mc_xt r + 2 + E.length ≤ 490 by omega) (show p + hp_rk (tb_c a_names e) k < 1560 by omega) (hcode k (by omega) z)
      refine ⟨vp_updL st1 ((mc_xt r + 2 + E.length) + hp_rk (tb_c a_names e) k) x, fun j hj => ?_, fun i hi' hb => ?_, fun rr u' h => s3 rr u' (mc_X1 (fun post hq => hX ((mc_xt r + 2 + E.length) + hp_rk (tb_c a_names e) k) st1 post (by omega) s1 hq) rr u' ?_)⟩
      · rw [pk_uLn (by omega)]; exact s1 j hj
      · by_cases q : i = k
        · subst q
          rw [pk_uLs]
          exact ⟨s, v, hV, hi, es, ev⟩
        · have := hp_rk_lt (show i < k by omega) hb
          rw [pk_uLn (by omega)]
          exact s2 i (by omega) hb
      · rw [hr] at h
        exact h
    · rw [if_neg z] at hr
      refine ⟨st1, s1, fun i hi' hb => ?_, fun rr u' h => s3 rr u' ?_⟩
      · by_cases q : i = k
        · subst q; exact absurd hb z
        · exact s2 i (by omega) hb
      · rw [hr] at h
        exact h
theorem sm_mkfun : ∀ {f_codeEnd f_depth f_letCount f_height f_heldNames f_usedCount f_marking f_waitCount f_levelNow : Int32} {f_marks : Int64} {a_kindOf a_partX a_partY a_partZ a_weightOf a_needOf a_names a_known a_knownNumber a_functionOf a_op a_operand a_workNode a_workPhase a_workLast a_workPatch a_letPlace a_isUsed a_functionAt a_heldCount a_waiting a_openFrame a_openAt : Nat → Int32} {a_cells a_globals a_stack : Nat → Int64}, ∀ {g_how : Int32} {b_ey b_ez b_globalSort b_global b_body b_heldSort b_held b_needed b_envSort b_env b_length b_base b_floor b_begun b_stage b_last b_valueSort b_value : Nat → Int32} {n fc : Nat} {P : Nat → Nat → Nat → Prop} {E : List mc_E} {Ks : List mc_F} {fn : mc_Fn} {p : Nat} {r : List mc_Bd} {sc Φ : Nat} {e q : Nat} {l : Bool} {K' : List mc_F} (_ : rl_St n fc a_kindOf a_partX b_ey b_ez a_weightOf a_names a_partY a_partZ a_needOf a_known a_knownNumber a_functionOf a_op a_operand) (_ : rl_Hp n a_kindOf a_partX a_names a_functionOf P f_usedCount f_marks f_marking f_waitCount a_isUsed a_functionAt a_heldCount a_cells a_waiting a_globals b_body b_heldSort b_held b_globalSort b_global) (_ : mc_G n a_kindOf a_partX b_ey b_ez a_weightOf a_names a_known a_knownNumber a_functionOf a_op a_operand P a_cells a_stack a_openFrame a_openAt b_envSort b_env b_length b_base b_floor b_begun b_stage b_last b_valueSort b_value E Ks fn p r sc Φ) (_ : Ks = (e, 0, l) :: K') (_ : e < n) (_ : a_kindOf e = 15) (_ : ∀ i, i < 6 → (tb_c a_names e).testBit i = true → cp_V a_op a_operand (mc_hm a_names fn) (mc_L E) i (p + hp_rk (tb_c a_names e) i)) (_ : a_op (p + (hp_rk (tb_c a_names e) 6)) = 22) (_ : a_operand (p + (hp_rk (tb_c a_names e) 6)) = 16 * a_functionOf e + nI (hp_rk (tb_c a_names e) 6)) (_ : q = p + (hp_rk (tb_c a_names e) 6) + 1) (_ : mc_K n a_kindOf a_partX b_ey b_ez a_weightOf a_names a_known a_knownNumber a_functionOf a_op a_operand (mc_hm a_names fn) K' (mc_L E) (3 + E.length) q) (_ : mc_Bu a_weightOf e (mc_L E) (2 + E.length) K'.length), mc_Res Φ (nI n, nI fc, f_codeEnd, f_depth, f_letCount, f_height, f_heldNames, f_usedCount, f_marks, f_marking, f_waitCount, nI (mc_xt r + 2 + E.length), nI (mc_xt r), nI p, nI r.length, nI sc, 0, 0, f_levelNow, a_kindOf, a_partX, a_partY, a_partZ, a_weightOf, a_needOf, a_names, a_known, a_knownNumber, a_functionOf, a_op, a_operand, a_workNode, a_workPhase, a_workLast, a_workPatch, a_letPlace, a_isUsed, a_functionAt, a_heldCount, a_cells, a_waiting, a_globals, a_stack, a_openFrame, a_openAt) (nI n, nI fc, nI (r.length + 1), nI (mc_hi r + Ks.length), nI (mc_vt r + mc_nv E), nI sc, 0, g_how, 0, 0, a_kindOf, a_partX, b_ey, b_ez, a_weightOf, a_names, b_globalSort, b_global, b_body, b_heldSort, b_held, b_needed, b_envSort, b_env, b_length, b_base, b_floor, b_begun, b_stage, b_last, b_valueSort, b_value) := by
  intro f_codeEnd f_depth f_letCount f_height f_heldNames f_usedCount f_marking f_waitCount f_levelNow f_marks a_kindOf a_partX a_partY a_partZ a_weightOf a_needOf a_names a_known a_knownNumber a_functionOf a_op a_operand a_workNode a_workPhase a_workLast a_workPatch a_letPlace a_isUsed a_functionAt a_heldCount a_waiting a_openFrame a_openAt a_cells a_globals a_stack g_how b_ey b_ez b_globalSort b_global b_body b_heldSort b_held b_needed b_envSort b_env b_length b_base b_floor b_begun b_stage b_last b_valueSort b_value n fc P E Ks fn p r sc Φ e q l K' h1 h2 h3 hKs hen hk hcode hop hod hq hK hbu
  subst hKs hq
  have hqq := mc_K_q _ _ _ _ hK
  have hkc : tb_c a_kindOf e = 15 := tb_lit hk
  obtain ⟨hN, _, _, _, hFO⟩ := h1.2.2.1 e hen
  obtain ⟨x1, x2⟩ := hN.2.1 (by rw [hkc]; decide)
  have hwx := tb_N_w (h1.2.2.1 (tb_c a_partX e) (by omega)).1
  have hM0 := hN.2.2.2.2.2.2.2
  have hmx := (h1.2.2.1 (tb_c a_partX e) (by omega)).1.2.2.2.2.2.2.2
  have hm4 : tb_c a_names e = tb_c a_names (tb_c a_partX e) / 4 := by
    have := hM0.2.2
    rw [hkc] at this
    exact this
  have hm64 : tb_c a_names e < 64 := by have := hmx.2.1; omega
  have hbit : ∀ i, (tb_c a_names (tb_c a_partX e)).testBit (i + 2) = (tb_c a_names e).testBit i := fun i => by
    rw [hm4, show tb_c a_names (tb_c a_partX e) / 4 = tb_c a_names (tb_c a_partX e) / 2 ^ 2 from rfl, Nat.testBit_div_two_pow]
  obtain ⟨f, hf, hf1, hf2⟩ := hFO hk
  have hfc := h1.2.1
  have h6 := hp_rk_le (tb_c a_names e) 6
  have hbw := tb_N_w hN
  have hpk := mc_pk4 (K := a_kindOf) (X := a_partX) (Y := b_ey) (l := l) hbw K'
  have hp6 : p + (hp_rk (tb_c a_names e) 6) + 1 < 1560 := hqq
  have h3' := h3
  have hM := h3.1
  have hVl := h3.2.1
  obtain ⟨⟨⟨g1, g2, g3, ⟨g4, g4'⟩, g5, ⟨g6, g6'⟩, g7⟩, g8⟩, ⟨⟨v1, v2⟩, v3⟩, hC, hnow, ⟨b1, b2, b3, b4⟩, hΦ⟩ := h3
  have hn := h1.1
  have bnd := mc_C_b r hC
  have nvl := mc_nvL E
  have m8 := mc_m8_le fn
  have hb1 := hbu.1
  simp only [List.length_cons] at b4
  -- the pushes
  obtain ⟨st1, s1, s2, s3⟩ := mc_pushvars (b_needed := b_needed) (g_how := g_how) h1 h2 h3' hm64 hcode (by omega) 6 (Nat.le_refl _)
  have hkd : xs_kd 22 (a_operand (p + (hp_rk (tb_c a_names e) 6))) (hp_rk (tb_c a_names e) 6) (nI f) := by
    refine Or.inr ⟨rfl, f, ?_, by omega, by omega, rfl⟩
    rw [hod, hf, show (16 : Int32) = nI 16 from rfl, pk_mul, nI_add]
  have hYm : ∀ (post : SY → Prop) (U : SY), (∀ post' : SY → Prop, post' U → wpY_makeFunction post' (nI n, nI fc, nI (r.length + 1), nI (mc_hi r + K'.length), nI (mc_vt r + mc_nv E), nI sc, 0, g_how, 0, 0, a_kindOf, a_partX, b_ey, b_ez, a_weightOf, a_names, b_globalSort, b_global, b_body, b_heldSort, b_held, b_needed, b_envSort, b_env, b_length, b_base, b_floor, b_begun, upd b_stage (mc_hi r + K'.length) (nI 1), b_last, b_valueSort, b_value) (nI (tb_c a_partX e))) → post U → wpY_step post (nI n, nI fc, nI (r.length + 1), nI (mc_hi r + (K'.length + 1)), nI (mc_vt r + mc_nv E), nI sc, 0, g_how, 0, 0, a_kindOf, a_partX, b_ey, b_ez, a_weightOf, a_names, b_globalSort, b_global, b_body, b_heldSort, b_held, b_needed, b_envSort, b_env, b_length, b_base, b_floor, b_begun, b_stage, b_last, b_valueSort, b_value) := fun post U hs hp => by
    refine ys_head (k := 15) (h := mc_hi r + K'.length) (by omega) g5.1.1 (by omega) hk (by omega) g5.1.2.1 ?_
    rw [if_neg (by omega)]
    refine ys_l (h := mc_hi r + K'.length) (by omega) (by omega) (Or.inl rfl) ?_
    rw [x1]
    exact yl_fun hs hp
  by_cases h200 : sc = 200
  · subst h200
    exact Or.inr ⟨2, mc_t0 (nI n, nI fc, f_codeEnd, f_depth, f_letCount, f_height, f_heldNames, f_usedCount, f_marks, f_marking, f_waitCount, nI ((mc_xt r + 2 + E.length) + (hp_rk (tb_c a_names e) 6)), nI (mc_xt r), nI (p + (hp_rk (tb_c a_names e) 6) + 1), nI r.length, 200, 0, 0, f_levelNow, a_kindOf, a_partX, a_partY, a_partZ, a_weightOf, a_needOf, a_names, a_known, a_knownNumber, a_functionOf, a_op, a_operand, a_workNode, a_workPhase, a_workLast, a_workPatch, a_letPlace, a_isUsed, a_functionAt, a_heldCount, a_cells, a_waiting, a_globals, st1, a_openFrame, a_openAt), (nI n, nI fc, 0, nI (mc_hi r + K'.length), 0, 200, 1, 2, 0, 0, a_kindOf, a_partX, b_ey, b_ez, a_weightOf, a_names, b_globalSort, b_global, b_body, b_heldSort, b_held, b_needed, b_envSort, b_env, b_length, b_base, b_floor, b_begun, upd b_stage (mc_hi r + K'.length) (nI 1), b_last, b_valueSort, b_value), rl_in h1 h2, s3 _ _ (mc_XE (by decide) (fun post hq => xs_mk200 (p := p + (hp_rk (tb_c a_names e) 6)) (by omega) hop hkd hq)), fun kk hkk' => mc_Y1 (by omega) g6 (by omega) (fun post hp => hYm post _ (fun post' hp' => ymf_no (fun post'' hp'' => ym_make200 post'' hp'') hp') hp) kk hkk' _ _ (mc_YE (g_how := 2) (g_bodies := nI (r.length + 1)) (g_top := nI (mc_vt r + mc_nv E)) (kk + 1) hkk')⟩
  · have exT : mc_xt ((E, (e, 0, l) :: K', fn, p) :: r) = (mc_xt r + 2 + E.length) := rfl
    have exV : mc_vt ((E, (e, 0, l) :: K', fn, p) :: r) = mc_vt r + mc_nv E := rfl
    have exL : ((E, (e, 0, l) :: K', fn, p) :: r).length = r.length + 1 := rfl
    have h40 := hp_o40 h2.1
    have hLn := mc_lnE g4 (by omega)
    obtain ⟨hclR, hrt, hH', hglR, hmk⟩ := mc_make (nd := b_needed) (lv := f_levelNow) (st1 := st1) (T := (mc_xt r + 2 + E.length) + (hp_rk (tb_c a_names e) 6)) (sc := sc) (cnt := (hp_rk (tb_c a_names e) 6)) (fn := nI f) h2 hM hVl s1 (by omega) (by omega) (by omega) (by omega) (by omega) (vl_nb (by omega)) (by omega) (fun k k1 k2 => by
      obtain ⟨i, hi, hb, hri⟩ := hp_rk_sur (tb_c a_names e) 6 (k - (mc_xt r + 2 + E.length)) (by omega)
      obtain ⟨s, v, V, hi2, es, ev⟩ := s2 i hi hb
      rw [hri, show (mc_xt r + 2 + E.length) + (k - (mc_xt r + 2 + E.length)) = k by omega] at V
      refine ⟨s, v, V, r.length, mc_m8 fn + (mc_L E).length - 1 - i, by omega, by rw [hLn]; omega, ?_, ?_⟩
      · rw [show 24 * r.length + (mc_m8 fn + (mc_L E).length - 1 - i) = 24 * r.length + (mc_m8 fn + (mc_L E).length) - 1 - i by omega]; exact es
      · rw [show 24 * r.length + (mc_m8 fn + (mc_L E).length - 1 - i) = 24 * r.length + (mc_m8 fn + (mc_L E).length) - 1 - i by omega]; exact ev)
    have hVR := mc_Vl_res h40 (hp_hcf h2.1) hclR _ hM (fun k c hk hc e => hrt k c (by omega) hc ((s1 k (by omega)).trans e)) hVl
    rcases hmk with ⟨uc', m', mk', wc', us', wt', nd', ok, hX, hY⟩ | ⟨o, w, uc', m', mk', wc', us', wt', nd', hs', ho, hw, hno, hnw, z1, z2, hok, hX, hY⟩
    · exact Or.inr ⟨3, mc_t0 (nI n, nI fc, f_codeEnd, f_depth, f_letCount, f_height, f_heldNames, uc', m', mk', wc', nI ((mc_xt r + 2 + E.length) + (hp_rk (tb_c a_names e) 6)), nI (mc_xt r), nI (p + (hp_rk (tb_c a_names e) 6) + 1), nI r.length, nI sc, 0, 0, f_levelNow, a_kindOf, a_partX, a_partY, a_partZ, a_weightOf, a_needOf, a_names, a_known, a_knownNumber, a_functionOf, a_op, a_operand, a_workNode, a_workPhase, a_workLast, a_workPatch, a_letPlace, us', a_functionAt, a_heldCount, a_cells, wt', a_globals, st1, a_openFrame, a_openAt), (nI n, nI fc, 0, nI (mc_hi r + K'.length), 0, nI sc, 1, 3, 0, 0, a_kindOf, a_partX, b_ey, b_ez, a_weightOf, a_names, b_globalSort, b_global, b_body, b_heldSort, b_held, nd', b_envSort, b_env, b_length, b_base, b_floor, b_begun, upd b_stage (mc_hi r + K'.length) (nI 1), b_last, b_valueSort, b_value), rl_in h1 ⟨hH', ok, hglR⟩, s3 _ _ (mc_XE (by decide) (fun post hq => xs_mkfull (p := p + (hp_rk (tb_c a_names e) 6)) (by omega) hop hkd (by omega) (fun post' hp' => hX post' hp') hq)), fun kk hkk' => mc_Y1 (by omega) g6 (by omega) (fun post hp => hYm post _ (fun post' hp' => ymf_no (fun post'' hp'' => hY post'' hp'') hp') hp) kk hkk' _ _ (mc_YE (g_how := 3) (g_bodies := nI (r.length + 1)) (g_top := nI (mc_vt r + mc_nv E)) (kk + 1) hkk')⟩
    · obtain ⟨cs', q1, q2, h81⟩ := xs_mk81 (o := o) (cnt := (hp_rk (tb_c a_names e) 6)) (t := (mc_xt r + 2 + E.length)) (st := st1) ho (by omega) (by omega) (hp_rk (tb_c a_names e) 6) 0 a_cells (by omega)
      have hcs : ∀ j, (j < 8 * o ∨ 8 * o + 8 ≤ j) → cs' j = a_cells j := fun j hj => q2 j (by omega)
      have hmono : ∀ o' w' t', (P o' w' t' ∧ (gc_R (gc_rt a_globals st1 (mc_xt r + 2 + E.length + hp_rk (tb_c a_names e) 6)) (gc_hcf a_heldCount) a_cells) o') → ((P o' w' t' ∧ (gc_R (gc_rt a_globals st1 (mc_xt r + 2 + E.length + hp_rk (tb_c a_names e) 6)) (gc_hcf a_heldCount) a_cells) o') ∨ (o' = o ∧ w' = w ∧ t' = e + 1)) := fun _ _ _ h => Or.inl h
      have hwfc : ∀ j, j < 384 → gc_wf (cs' j) := fun j hj => by
        by_cases c0 : 8 * o ≤ j ∧ j < 8 * o + (hp_rk (tb_c a_names e) 6)
        · have := q1 (j - 8 * o) (by omega) (by omega)
          rw [show 8 * o + (j - 8 * o) = j by omega] at this
          rw [this]
          obtain ⟨i, hi, hb, hri⟩ := hp_rk_sur (tb_c a_names e) 6 (j - 8 * o) (by omega)
          obtain ⟨s, v, V, _⟩ := s2 i hi hb
          rw [hri] at V
          exact hp_V_wf h40 V
        · rw [q2 j (by omega)]; exact h2.2.1.2.1.2 j hj
      have ok := hok cs' hcs hwfc
      obtain ⟨hs2, hv2, y1, y2, h27⟩ := ymf_27 (w := w) (b := r.length) (L := mc_m8 fn + (mc_L E).length) (jx := tb_c a_partX e) (mx := tb_c a_names (tb_c a_partX e)) (t := mc_vt r + mc_nv E) (es := b_envSort) (ev := b_env) (ou := a_names) (ln := b_length) hw (by omega) (by omega) g4 (by omega) hmx.1 hmx.2.1 (by omega) (fun i hi hb => by
        rw [hbit] at hb
        obtain ⟨s, v, V, hi2, _⟩ := s2 i hi hb
        exact hi2) 6 0 hs' b_held (by omega)
      have hHn := hp_ext (o0 := o) (w0 := w) (t0 := e + 1) (fa' := upd a_functionAt o (nI f)) (hA' := upd a_heldCount o (nI (hp_rk (tb_c a_names e) 6))) (bd' := upd b_body w (nI (tb_c a_partX e))) (hs' := hs2) (hv' := hv2) (cs' := cs') hH' (fun w' t' h => hno h.2) (fun o' t' h => hnw o' t' h) (fun o' h => pk_un h) (fun o' h => pk_un h) hcs (fun w' h => pk_un h) (fun j hj => (y2 j (by omega)).1.trans (z2 j hj)) (fun j hj => (y2 j (by omega)).2)
        ⟨ho, hw, Or.inr ⟨e, f, tb_c a_names e, tb_c a_partX e, rfl, ⟨hen, hk, hf, hf1, rfl, rfl⟩, by omega, hm64, pk_us, pk_us, pk_us, fun i hi => ⟨fun hb => by
          obtain ⟨s, v, V, hi2, es, ev⟩ := s2 i hi hb
          have hlt := hp_rk_lt hi hb
          have yy := (y1 i (by omega) hi).1 (by rw [hbit]; exact hb)
          show hp_V _ (cs' (8 * o + hp_rk (tb_c a_names e) i)) (hs2 (6 * w + i)) (hv2 (6 * w + i))
          rw [q1 _ (by omega) hlt, yy.1, yy.2, es, ev]
          exact hp_V_mono hmono (hp_V_res h40 V (fun c hc ec => hrt _ c (by omega) hc ec)), fun hb => by
          show hs2 (6 * w + i) = 0
          rw [(y1 i (by omega) hi).2 (by rw [hbit]; exact hb)]
          exact z1 _ (by omega) (by omega)⟩⟩⟩
      have h2' : rl_Hp n a_kindOf a_partX a_names a_functionOf (fun o' w' t' => (P o' w' t' ∧ (gc_R (gc_rt a_globals st1 (mc_xt r + 2 + E.length + hp_rk (tb_c a_names e) 6)) (gc_hcf a_heldCount) a_cells) o') ∨ (o' = o ∧ w' = w ∧ t' = e + 1)) uc' m' mk' wc' us' (upd a_functionAt o (nI f)) (upd a_heldCount o (nI (hp_rk (tb_c a_names e) 6))) cs' wt' a_globals (upd b_body w (nI (tb_c a_partX e))) hs2 hv2 b_globalSort b_global := by
        have hD : ∀ o', (∃ w' t', (P o' w' t' ∧ (gc_R (gc_rt a_globals st1 (mc_xt r + 2 + E.length + hp_rk (tb_c a_names e) 6)) (gc_hcf a_heldCount) a_cells) o') ∨ (o' = o ∧ w' = w ∧ t' = e + 1)) → ((gc_R (gc_rt a_globals st1 (mc_xt r + 2 + E.length + hp_rk (tb_c a_names e) 6)) (gc_hcf a_heldCount) a_cells) o' ∨ o' = o) := fun o' ⟨w', t', h⟩ => h.imp (fun q => q.2) (fun q => q.1)
        exact ⟨hHn, ⟨gc_Us_le hD ok.1, ok.2.1, gc_Mg_le hD ok.2.2⟩, fun g hg => hp_V_mono hmono (hglR g hg)⟩
      have hcsF : ∀ o' w' e', (P o' w' (e' + 1) ∧ (gc_R (gc_rt a_globals st1 (mc_xt r + 2 + E.length + hp_rk (tb_c a_names e) 6)) (gc_hcf a_heldCount) a_cells) o') → ∀ k, k < 8 → cs' (8 * o' + k) = a_cells (8 * o' + k) := fun o' w' e' h k hk' => by
        have : o' ≠ o := fun q => hno (q ▸ h.2)
        exact hcs _ (by omega)
      have hGv := mc_Gval (sc := sc + 1) (st := vp_updL st1 (mc_xt r + 2 + E.length) (vl_ob o)) (cs := cs') (P := fun o' w' t' => (P o' w' t' ∧ (gc_R (gc_rt a_globals st1 (mc_xt r + 2 + E.length + hp_rk (tb_c a_names e) 6)) (gc_hcf a_heldCount) a_cells) o') ∨ (o' = o ∧ w' = w ∧ t' = e + 1)) (s := 3) (v := nI w) (vs := upd b_valueSort (mc_vt r + mc_nv E) 3) (vv := upd b_value (mc_vt r + mc_nv E) (nI w)) (sg := upd b_stage (mc_hi r + K'.length) (nI 1)) (mc_XS_cg E (fun j hj => by rw [pk_uLn (by omega)]; exact s1 j (by omega)) g1) (mc_VS_cg E (fun j hj => ⟨pk_un (by omega), pk_un (by omega)⟩) g2) g3 ⟨g4, g4'⟩ (mc_KS_cg K' (fun j hj => ⟨rfl, pk_un (by omega), rfl⟩) g5.2) ⟨g6, g6'⟩ (mc_FM_cg fn ⟨by rw [pk_uLn (by omega)]; exact s1 _ (by omega), by rw [pk_uLn (by omega)]; exact s1 _ (by omega)⟩ (fun j _ _ => ⟨rfl, rfl⟩) g7) (mc_M_cg r (fun j hj => by rw [pk_uLn (by omega)]; exact s1 j (by omega)) (fun j hj => ⟨pk_un (by omega), pk_un (by omega)⟩) (fun j hj => ⟨rfl, rfl⟩) (fun j hj => ⟨rfl, rfl, rfl⟩) (fun j hj => ⟨rfl, pk_un (by omega), rfl⟩) g8) (fun z hz => hp_V_mono hmono (hVR.1.1 z hz)) (mc_VF_mem (fun _ _ _ h => hp_V_mono hmono h) hmono hcsF fn hVR.1.2) (mc_Vl_mem (fun _ _ _ h => hp_V_mono hmono h) hmono hcsF r hVR.2) hC hK ⟨by omega, b2, by omega, by omega⟩ pk_uLs ⟨pk_us, pk_us⟩ (Or.inr (Or.inr ⟨o, w, e + 1, Or.inr ⟨rfl, rfl, rfl⟩, rfl, rfl, by rw [if_neg (by omega)]⟩))
      refine Or.inl ⟨(nI n, nI fc, f_codeEnd, f_depth, f_letCount, f_height, f_heldNames, uc', m', mk', wc', nI (mc_xt r + 2 + ((false, vl_ob o, (3 : Int32), nI w) :: E).length), nI (mc_xt r), nI (p + (hp_rk (tb_c a_names e) 6) + 1), nI r.length, nI (sc + 1), 0, 0, f_levelNow, a_kindOf, a_partX, a_partY, a_partZ, a_weightOf, a_needOf, a_names, a_known, a_knownNumber, a_functionOf, a_op, a_operand, a_workNode, a_workPhase, a_workLast, a_workPatch, a_letPlace, us', upd a_functionAt o (nI f), upd a_heldCount o (nI (hp_rk (tb_c a_names e) 6)), cs', wt', a_globals, vp_updL st1 (mc_xt r + 2 + E.length) (vl_ob o), a_openFrame, a_openAt), (nI n, nI fc, nI (r.length + 1), nI (mc_hi r + K'.length), nI (mc_vt r + mc_nv ((false, vl_ob o, (3 : Int32), nI w) :: E)), nI (sc + 1), 0, g_how, 0, 0, a_kindOf, a_partX, b_ey, b_ez, a_weightOf, a_names, b_globalSort, b_global, upd b_body w (nI (tb_c a_partX e)), hs2, hv2, nd', b_envSort, b_env, b_length, b_base, b_floor, b_begun, upd b_stage (mc_hi r + K'.length) (nI 1), b_last, upd b_valueSort (mc_vt r + mc_nv E) 3, upd b_value (mc_vt r + mc_nv E) (nI w)), _, 1, mc_in (E := (false, vl_ob o, 3, nI w) :: E) (Ks := K') (fn := fn) (r := r) (p := p + (hp_rk (tb_c a_names e) 6) + 1) h1 h2' hGv, Nat.le_refl _, by omega, fun rr u' h => s3 rr u' (mc_X1 (fun post hq => ?_) rr u' h), mc_Y1 (by omega) g6 (by omega) (fun post hp => hYm post _ (fun post' hp' => ?_) hp)⟩
      · exact xs_mknew (p := p + (hp_rk (tb_c a_names e) 6)) (t := (mc_xt r + 2 + E.length)) (cnt := (hp_rk (tb_c a_names e) 6)) (sc := sc) (c := o) (o := 22) (fn := nI f) (by omega) hop hkd (by omega) ho (by omega) (by omega) (fun post' hp' => hX post' hp') (fun post' hp' => h81 post' hp') hq
      · exact ymf_new (t := mc_vt r + mc_nv E) (w := w) (b := r.length) (jx := tb_c a_partX e) (nd' := nd') (hs' := hs') (hs2 := hs2) (hv2 := hv2) (st' := nI (sc + 1)) hw (fun post'' hp'' => hY post'' hp'') (fun post'' hp'' => h27 b_valueSort b_value post'' hp'') hp'
end
section
/-! the simulation: every case -/

theorem sm_begin : ∀ {f_codeEnd f_depth f_letCount f_height f_heldNames f_usedCount f_marking f_waitCount f_levelNow : Int32} {f_marks : Int64} {a_kindOf a_partX a_partY a_partZ a_weightOf a_needOf a_names a_known a_knownNumber a_functionOf a_op a_operand a_workNode a_workPhase a_workLast a_workPatch a_letPlace a_isUsed a_functionAt a_heldCount a_waiting a_openFrame a_openAt : Nat → Int32} {a_cells a_globals a_stack : Nat → Int64}, ∀ {g_how : Int32} {b_ey b_ez b_globalSort b_global b_body b_heldSort b_held b_needed b_envSort b_env b_length b_base b_floor b_begun b_stage b_last b_valueSort b_value : Nat → Int32} {n fc : Nat} {P : Nat → Nat → Nat → Prop} {E : List mc_E} {Ks : List mc_F} {fn : mc_Fn} {p : Nat} {r : List mc_Bd} {sc Φ : Nat} {e q : Nat} {l : Bool} {K' : List mc_F} (_ : rl_St n fc a_kindOf a_partX b_ey b_ez a_weightOf a_names a_partY a_partZ a_needOf a_known a_knownNumber a_functionOf a_op a_operand) (_ : rl_Hp n a_kindOf a_partX a_names a_functionOf P f_usedCount f_marks f_marking f_waitCount a_isUsed a_functionAt a_heldCount a_cells a_waiting a_globals b_body b_heldSort b_held b_globalSort b_global) (_ : mc_G n a_kindOf a_partX b_ey b_ez a_weightOf a_names a_known a_knownNumber a_functionOf a_op a_operand P a_cells a_stack a_openFrame a_openAt b_envSort b_env b_length b_base b_floor b_begun b_stage b_last b_valueSort b_value E Ks fn p r sc Φ) (_ : Ks = (e, 0, l) :: K') (_ : e < n) (_ : ∃ D, cp_C a_kindOf a_partX b_ey b_ez a_names a_known a_knownNumber a_functionOf (mc_hm a_names fn) a_op a_operand D e l (mc_L E) (2 + E.length) p q) (_ : mc_K n a_kindOf a_partX b_ey b_ez a_weightOf a_names a_known a_knownNumber a_functionOf a_op a_operand (mc_hm a_names fn) K' (mc_L E) (3 + E.length) q) (_ : mc_Bu a_weightOf e (mc_L E) (2 + E.length) K'.length), mc_Res Φ (nI n, nI fc, f_codeEnd, f_depth, f_letCount, f_height, f_heldNames, f_usedCount, f_marks, f_marking, f_waitCount, nI (mc_xt r + 2 + E.length), nI (mc_xt r), nI p, nI r.length, nI sc, 0, 0, f_levelNow, a_kindOf, a_partX, a_partY, a_partZ, a_weightOf, a_needOf, a_names, a_known, a_knownNumber, a_functionOf, a_op, a_operand, a_workNode, a_workPhase, a_workLast, a_workPatch, a_letPlace, a_isUsed, a_functionAt, a_heldCount, a_cells, a_waiting, a_globals, a_stack, a_openFrame, a_openAt) (nI n, nI fc, nI (r.length + 1), nI (mc_hi r + Ks.length), nI (mc_vt r + mc_nv E), nI sc, 0, g_how, 0, 0, a_kindOf, a_partX, b_ey, b_ez, a_weightOf, a_names, b_globalSort, b_global, b_body, b_heldSort, b_held, b_needed, b_envSort, b_env, b_length, b_base, b_floor, b_begun, b_stage, b_last, b_valueSort, b_value) := by
  intro f_codeEnd f_depth f_letCount f_height f_heldNames f_usedCount f_marking f_waitCount f_levelNow f_marks a_kindOf a_partX a_partY a_partZ a_weightOf a_needOf a_names a_known a_knownNumber a_functionOf a_op a_operand a_workNode a_workPhase a_workLast a_workPatch a_letPlace a_isUsed a_functionAt a_heldCount a_waiting a_openFrame a_openAt a_cells a_globals a_stack g_how b_ey b_ez b_globalSort b_global b_body b_heldSort b_held b_needed b_envSort b_env b_length b_base b_floor b_begun b_stage b_last b_valueSort b_value n fc P E Ks fn p r sc Φ e q l K' h1 h2 h3 hKs hen hcode hK hbu
  obtain ⟨D, hD⟩ := hcode
  have hq := mc_K_q _ _ _ _ hK
  have hn := h1.1
  obtain ⟨bu1, bu2, bu3⟩ := hbu
  cases D with
  | zero => exact hD.elim
  | succ D =>
    rcases hD with ⟨kn, o1, o2, rfl⟩ | ⟨kn, hB⟩
    · exact sm_known h1 h2 h3 hKs hen kn o1 o2 rfl hK ⟨bu1, bu2, bu3⟩
    · rcases hB with ⟨k, v, z⟩ | ⟨k, v, z⟩ | ⟨k, v, w, z⟩ | ⟨k, v, w, x, z⟩ | ⟨k, p1, p2, a, o1, d1, b, o2, d2, c⟩ | ⟨k, p1, p2, a, b, o1, z⟩ | ⟨k, p1, a, o1, b⟩ | ⟨k, p1, p2, a, b, i, z⟩ | ⟨k, p1, a, i, z⟩ | ⟨k, p1, a, i, z⟩
      · exact sm_var h1 h2 h3 hKs hen k v z hK ⟨bu1, bu2, bu3⟩
      · exact sm_emp h1 h2 h3 hKs hen k v z hK ⟨bu1, bu2, bu3⟩
      · exact sm_glob h1 h2 h3 hKs hen k v w z hK ⟨bu1, bu2, bu3⟩
      · exact sm_mkfun h1 h2 h3 hKs hen k v w x z hK ⟨bu1, bu2, bu3⟩
      · -- IF
        have hkc : tb_c a_kindOf e = 8 := tb_lit k
        obtain ⟨x1, x2, y1, y2, hW, wx, wy, w30, _⟩ := tb_two_f h1.2.2.1 hen (by rw [hkc]; decide) (by rw [hkc]; decide)
        rw [hkc, if_pos rfl] at hW
        obtain ⟨z1, z2⟩ := (h1.2.2.1 e hen).1.2.2.2.1 hkc
        have wz := tb_N_w (h1.2.2.1 (tb_c b_ez e) (by omega)).1
        have l1 := cp_lt _ _ _ _ _ _ _ a
        have l2 := cp_lt _ _ _ _ _ _ _ b
        have l3 := cp_lt _ _ _ _ _ _ _ c
        refine sm_start (k := 8) (c := tb_c a_partX e) (p1 := p1) h1 h2 h3 hKs hen k (by omega) (by omega) (Or.inl (by decide)) x1 (by rw [hkc]; rfl) (by omega) (by omega) ⟨D, a⟩ ⟨by omega, hen, kn, Or.inr (Or.inr (Or.inr (Or.inl ⟨k, rfl, ?_, ?_, p2, q, o1, d1, ⟨D, ?_⟩, o2, d2, ⟨D, ?_⟩, hK⟩)))⟩ ⟨by omega, by omega, by omega⟩
        · rw [show 3 + E.length - 1 = 2 + E.length by omega]
          exact ⟨by omega, by omega, by omega⟩
        · rw [show 3 + E.length - 1 = 2 + E.length by omega]
          exact ⟨by omega, by omega, by omega⟩
        · rw [show 3 + E.length - 1 = 2 + E.length by omega]; exact b
        · rw [show 3 + E.length - 1 = 2 + E.length by omega]; exact c
      · -- LET
        have hkc : tb_c a_kindOf e = 14 := tb_lit k
        obtain ⟨x1, x2, y1, y2, hW, wx, wy, w30, _⟩ := tb_two_f h1.2.2.1 hen (by rw [hkc]; decide) (by rw [hkc]; decide)
        rw [hkc, if_neg (by omega)] at hW
        have l1 := cp_lt _ _ _ _ _ _ _ a
        have l2 := cp_lt _ _ _ _ _ _ _ b
        subst z
        refine sm_start (k := 14) (c := tb_c a_partX e) (p1 := p1) h1 h2 h3 hKs hen k (by omega) (by omega) (Or.inl (by decide)) x1 (by rw [hkc]; rfl) (by omega) (by omega) ⟨D, a⟩ ⟨by omega, hen, kn, Or.inr (Or.inr (Or.inr (Or.inr (Or.inr (Or.inl ⟨k, rfl, ?_, p2, ⟨D, ?_⟩, o1, hK⟩)))))⟩ ⟨by omega, by omega, by omega⟩
        · rw [show 3 + E.length - 1 = 2 + E.length by omega]
          refine ⟨by omega, by omega, ?_⟩
          rw [List.length_cons]; omega
        · rw [show 3 + E.length - 1 = 2 + E.length by omega, show 3 + E.length = 2 + E.length + 1 by omega]; exact b
      · -- THEN
        have hkc : tb_c a_kindOf e = 19 := tb_lit k
        obtain ⟨x1, x2, y1, y2, hW, wx, wy, w30, _⟩ := tb_two_f h1.2.2.1 hen (by rw [hkc]; decide) (by rw [hkc]; decide)
        rw [hkc, if_neg (by omega)] at hW
        have l1 := cp_lt _ _ _ _ _ _ _ a
        have l2 := cp_lt _ _ _ _ _ _ _ b
        refine sm_start (k := 19) (c := tb_c a_partX e) (p1 := p1) h1 h2 h3 hKs hen k (by omega) (by omega) (Or.inl (by decide)) x1 (by rw [hkc]; rfl) (by omega) (by omega) ⟨D, a⟩ ⟨by omega, hen, kn, Or.inr (Or.inr (Or.inr (Or.inr (Or.inr (Or.inr (Or.inr (Or.inl ⟨k, rfl, ?_, o1, q, ⟨D, ?_⟩, hK⟩)))))))⟩ ⟨by omega, by omega, by omega⟩
        · rw [show 3 + E.length - 1 = 2 + E.length by omega]
          exact ⟨by omega, by omega, by omega⟩
        · rw [show 3 + E.length - 1 = 2 + E.length by omega]; exact b
      · -- two plain parts
        obtain ⟨a1, a2, a3, a4, a5, a6⟩ := tb_two_k k
        obtain ⟨x1, x2, y1, y2, hW, wx, wy, w30, kk, hkk, hk19, hck⟩ := tb_two_f h1.2.2.1 hen a1 a2
        rw [if_neg a3] at hW
        have l1 := cp_lt _ _ _ _ _ _ _ a
        have l2 := cp_lt _ _ _ _ _ _ _ b
        subst z
        have ac : (if tb_hx (tb_c a_kindOf e) = true then tb_c a_partX e else tb_c b_ey e) = tb_c a_partX e := by rw [if_pos a1]
        rw [hck] at a1 a2 a3 a4 a5 a6
        refine sm_start (k := kk) (c := tb_c a_partX e) (p1 := p1) h1 h2 h3 hKs hen hkk hk19 a5 (Or.inl a1) (by rw [if_pos a1]; exact x1) ac (by omega) (by omega) ⟨D, a⟩ ⟨by omega, hen, kn, Or.inl ⟨k, rfl, ⟨by omega, by omega, by omega⟩, p2, ⟨D, ?_⟩, i, hK⟩⟩ ⟨by omega, by omega, by omega⟩
        rw [show 3 + E.length = 2 + E.length + 1 by omega]; exact b
      · -- HEAD, TAIL
        obtain ⟨kk, hkk, hk1, hck⟩ : ∃ kk, a_kindOf e = nI kk ∧ (kk = 10 ∨ kk = 11) ∧ tb_c a_kindOf e = kk := by
          rcases k with q | q
          · exact ⟨10, q, Or.inl rfl, tb_lit q⟩
          · exact ⟨11, q, Or.inr rfl, tb_lit q⟩
        have hxk : tb_hx kk = true := by rcases hk1 with q | q <;> (rw [q]; decide)
        have hxc : tb_hx (tb_c a_kindOf e) = true := by rw [hck]; exact hxk
        obtain ⟨x1, x2⟩ := (h1.2.2.1 e hen).1.2.1 hxc
        have hw := tb_un_w h1.2.2.1 hen (Or.inl hxc)
        rw [if_pos hxc] at hw
        have l1 := cp_lt _ _ _ _ _ _ _ a
        subst z
        have k3 : a_kindOf e = 10 ∨ a_kindOf e = 11 ∨ a_kindOf e = 18 := k.imp id Or.inl
        exact sm_start (k := kk) (c := tb_c a_partX e) (p1 := p1) h1 h2 h3 hKs hen hkk (by omega) (by omega) (Or.inl hxk) (by rw [if_pos hxk]; exact x1) (by rw [if_pos hxc]) (by omega) (by omega) ⟨D, a⟩ ⟨by omega, hen, kn, Or.inr (Or.inr (Or.inl ⟨k3, rfl, i, hK⟩))⟩ ⟨by omega, by omega, by omega⟩
      · -- SET_GLOBAL
        have hkc : tb_c a_kindOf e = 18 := tb_lit k
        obtain ⟨y1, y2⟩ := (h1.2.2.1 e hen).1.2.2.1 (by rw [hkc]; decide)
        have hw := tb_un_w h1.2.2.1 hen (Or.inr (by rw [hkc]; decide))
        rw [hkc, if_neg (by decide)] at hw
        have l1 := cp_lt _ _ _ _ _ _ _ a
        subst z
        exact sm_start (k := 18) (c := tb_c b_ey e) (p1 := p1) h1 h2 h3 hKs hen k (by omega) (by omega) (Or.inr (by decide)) (by rw [if_neg (by decide)]; exact y1) (by rw [hkc, if_neg (by decide)]) (by omega) (by omega) ⟨D, a⟩ ⟨by omega, hen, kn, Or.inr (Or.inr (Or.inl ⟨Or.inr (Or.inr k), rfl, i, hK⟩))⟩ ⟨by omega, by omega, by omega⟩
theorem sm_cont : ∀ {f_codeEnd f_depth f_letCount f_height f_heldNames f_usedCount f_marking f_waitCount f_levelNow : Int32} {f_marks : Int64} {a_kindOf a_partX a_partY a_partZ a_weightOf a_needOf a_names a_known a_knownNumber a_functionOf a_op a_operand a_workNode a_workPhase a_workLast a_workPatch a_letPlace a_isUsed a_functionAt a_heldCount a_waiting a_openFrame a_openAt : Nat → Int32} {a_cells a_globals a_stack : Nat → Int64}, ∀ {g_how : Int32} {b_ey b_ez b_globalSort b_global b_body b_heldSort b_held b_needed b_envSort b_env b_length b_base b_floor b_begun b_stage b_last b_valueSort b_value : Nat → Int32} {n fc : Nat} {P : Nat → Nat → Nat → Prop} {E : List mc_E} {Ks : List mc_F} {fn : mc_Fn} {p : Nat} {r : List mc_Bd} {sc Φ : Nat} {x : Int64} {s v : Int32} {E' : List mc_E} (_ : rl_St n fc a_kindOf a_partX b_ey b_ez a_weightOf a_names a_partY a_partZ a_needOf a_known a_knownNumber a_functionOf a_op a_operand) (_ : rl_Hp n a_kindOf a_partX a_names a_functionOf P f_usedCount f_marks f_marking f_waitCount a_isUsed a_functionAt a_heldCount a_cells a_waiting a_globals b_body b_heldSort b_held b_globalSort b_global) (_ : mc_G n a_kindOf a_partX b_ey b_ez a_weightOf a_names a_known a_knownNumber a_functionOf a_op a_operand P a_cells a_stack a_openFrame a_openAt b_envSort b_env b_length b_base b_floor b_begun b_stage b_last b_valueSort b_value E Ks fn p r sc Φ) (_ : E = (false, x, s, v) :: E') (_ : mc_K n a_kindOf a_partX b_ey b_ez a_weightOf a_names a_known a_knownNumber a_functionOf a_op a_operand (mc_hm a_names fn) Ks (mc_L E) (2 + E.length) p), mc_Res Φ (nI n, nI fc, f_codeEnd, f_depth, f_letCount, f_height, f_heldNames, f_usedCount, f_marks, f_marking, f_waitCount, nI (mc_xt r + 2 + E.length), nI (mc_xt r), nI p, nI r.length, nI sc, 0, 0, f_levelNow, a_kindOf, a_partX, a_partY, a_partZ, a_weightOf, a_needOf, a_names, a_known, a_knownNumber, a_functionOf, a_op, a_operand, a_workNode, a_workPhase, a_workLast, a_workPatch, a_letPlace, a_isUsed, a_functionAt, a_heldCount, a_cells, a_waiting, a_globals, a_stack, a_openFrame, a_openAt) (nI n, nI fc, nI (r.length + 1), nI (mc_hi r + Ks.length), nI (mc_vt r + mc_nv E), nI sc, 0, g_how, 0, 0, a_kindOf, a_partX, b_ey, b_ez, a_weightOf, a_names, b_globalSort, b_global, b_body, b_heldSort, b_held, b_needed, b_envSort, b_env, b_length, b_base, b_floor, b_begun, b_stage, b_last, b_valueSort, b_value) := by
  intro f_codeEnd f_depth f_letCount f_height f_heldNames f_usedCount f_marking f_waitCount f_levelNow f_marks a_kindOf a_partX a_partY a_partZ a_weightOf a_needOf a_names a_known a_knownNumber a_functionOf a_op a_operand a_workNode a_workPhase a_workLast a_workPatch a_letPlace a_isUsed a_functionAt a_heldCount a_waiting a_openFrame a_openAt a_cells a_globals a_stack g_how b_ey b_ez b_globalSort b_global b_body b_heldSort b_held b_needed b_envSort b_env b_length b_base b_floor b_begun b_stage b_last b_valueSort b_value n fc P E Ks fn p r sc Φ x s v E' h1 h2 h3 hE hK
  have hn := h1.1
  match Ks, h3, hK with
  | [], h3, hK =>
    obtain ⟨k1, k2, k3, k4⟩ := hK
    match r, h3 with
    | [], h3 => exact sm_end h1 h2 h3 rfl rfl hE k1 k2 k4
    | (E1, K1, fn1, p1) :: r1, h3 => exact sm_ret h1 h2 h3 rfl rfl hE k1 k2 k4
  | (e, st, l) :: K', h3, hK =>
    obtain ⟨hp1, hen, hkn, hA⟩ := hK
    rcases hA with ⟨k, es, bu, p2, c, i, hK⟩ | ⟨k, es, i, hL, hK⟩ | ⟨k, es, i, hK⟩ | ⟨k, es, bu, bu2, p2, q2, o1, d1, c, o2, d2, c2, hK⟩ | ⟨k, es, q2, hj, hK⟩ | ⟨k, es, bu, p2, c, o1, hK⟩ | ⟨k, es, L', hL, o1, hK⟩ | ⟨k, es, bu, o1, p2, c, hK⟩ | ⟨k, es, hK⟩
    · subst es
      exact sm_two1 h1 h2 h3 rfl hE hen hkn k bu c i hK
    · subst es
      have hh := mc_K_h _ _ _ _ hK
      have hq := mc_K_q _ _ _ _ hK
      obtain ⟨x2, s2, a2, E2, hE2⟩ := mc_two_E (y := (false, x, s, v)) hE hL (by omega)
      rw [hE2] at hE
      have hcase : (∃ kk, a_kindOf e = nI kk ∧ 3 ≤ kk ∧ kk ≤ 7) ∨ a_kindOf e = 9 ∨ (a_kindOf e = 12 ∨ a_kindOf e = 13) ∨ a_kindOf e = 16 := by
        rcases k with q | q | q | q | q | q | q | q | q
        · exact Or.inl ⟨3, q, by omega, by omega⟩
        · exact Or.inl ⟨4, q, by omega, by omega⟩
        · exact Or.inl ⟨5, q, by omega, by omega⟩
        · exact Or.inl ⟨6, q, by omega, by omega⟩
        · exact Or.inl ⟨7, q, by omega, by omega⟩
        · exact Or.inr (Or.inl q)
        · exact Or.inr (Or.inr (Or.inl (Or.inl q)))
        · exact Or.inr (Or.inr (Or.inl (Or.inr q)))
        · exact Or.inr (Or.inr (Or.inr q))
      rcases hcase with ⟨kk, hkk, k3, k7⟩ | k9 | k12 | k16
      · have hop : a_op p = nI kk := by
          rcases i with ⟨q, _⟩ | ⟨_, q, _⟩
          · exact absurd ((nI_eq (b := 16) (by omega) (by omega)).mp (hkk.symm.trans q)) (by omega)
          · exact q.trans hkk
        exact sm_calc h1 h2 h3 rfl hE hen hkk k7 k3 hp1 hop hK
      · have hop : a_op p = 9 := by
          rcases i with ⟨q, _⟩ | ⟨_, q, _⟩
          · rw [k9] at q; exact absurd q (by decide)
          · exact q.trans k9
        exact sm_mkpair h1 h2 h3 rfl hE hen k9 hp1 hop hK
      · have hop : a_op p = a_kindOf e := by
          rcases i with ⟨q, _⟩ | ⟨_, q, _⟩
          · rcases k12 with z | z <;> (rw [z] at q; exact absurd q (by decide))
          · exact q
        exact sm_set h1 h2 h3 rfl hE hen k12 hp1 hop hK
      · have hop : a_op p = (if l = true then 24 else 23) := by
          rcases i with ⟨_, q⟩ | ⟨q, _⟩
          · exact q
          · exact absurd k16 q
        exact sm_call h1 h2 h3 rfl hE hen k16 hq hop hK
    · subst es
      by_cases k18 : a_kindOf e = 18
      · obtain ⟨hop, hod⟩ : a_op p = 18 ∧ a_operand p = a_partX e := by
          rcases i with ⟨q, _⟩ | ⟨_, q, z⟩
          · rw [k18] at q; exact absurd q (by decide)
          · exact ⟨q.trans k18, z⟩
        exact sm_sg h1 h2 h3 rfl hE hen k18 hp1 hop hod hK
      · have k10 : a_kindOf e = 10 ∨ a_kindOf e = 11 := by
          rcases k with q | q | q
          · exact Or.inl q
          · exact Or.inr q
          · exact absurd q k18
        have hop : a_op p = a_kindOf e := by
          rcases i with ⟨q, _⟩ | ⟨_, q, _⟩
          · rcases k10 with z | z <;> (rw [z] at q; exact absurd q (by decide))
          · exact q
        exact sm_get h1 h2 h3 rfl hE hen k10 hp1 hop hK
    · subst es
      exact sm_if1 h1 h2 h3 rfl hE hen hkn k hp1 bu bu2 o1 d1 c o2 d2 c2 hK
    · subst es
      exact sm_if2 h1 h2 h3 rfl hE hen k hp1 hj hK
    · subst es
      exact sm_let1 h1 h2 h3 rfl hE hen hkn k hp1 bu c o1 hK
    · subst es
      exact sm_let2 h1 h2 h3 rfl hE hen k hp1 hL o1 hK
    · subst es
      exact sm_then1 h1 h2 h3 rfl hE hen hkn k hp1 bu o1 c hK
    · subst es
      exact sm_then2 h1 h2 h3 rfl hE hen k hK
theorem sm_all : ∀ Φ u v, mc_S Φ u v → mc_Res Φ u v := by
  intro Φ u v hS
  refine mc_el (Φ := Φ) (Q := fun u v => mc_Res Φ u v) ?_ hS
  intro f_codeEnd f_depth f_letCount f_height f_heldNames f_usedCount f_marking f_waitCount f_levelNow f_marks a_kindOf a_partX a_partY a_partZ a_weightOf a_needOf a_names a_known a_knownNumber a_functionOf a_op a_operand a_workNode a_workPhase a_workLast a_workPatch a_letPlace a_isUsed a_functionAt a_heldCount a_waiting a_openFrame a_openAt a_cells a_globals a_stack g_how b_ey b_ez b_globalSort b_global b_body b_heldSort b_held b_needed b_envSort b_env b_length b_base b_floor b_begun b_stage b_last b_valueSort b_value n fc P E Ks fn p r sc h1 h2 h3
  have h3' := h3
  obtain ⟨_, _, _, hnow, _, _⟩ := h3
  rcases hnow with ⟨e, l, K', q, hKs, hen, hcode, hK, hbu⟩ | ⟨x, s, v, E', hE, hK⟩
  · exact sm_begin h1 h2 h3' hKs hen hcode hK hbu
  · exact sm_cont h1 h2 h3' hE hK
end
section
/-! run -/
theorem i_vc_run {k : Nat} {u : SX} {v : SY} (I : i_Rel k u v) (hk : k + 5 ≤ 2560) (v1 : Int32) : wpX_run (fun r u' => wpY_run (fun r' v' => r' = r ∧ i_Rel (k + 5) u' v') v v1) u v1 := by
  refine rl_el (k := k) (Q := fun u v => wpX_run (fun r u' => wpY_run (fun r' v' => r' = r ∧ i_Rel (k + 5) u' v') v v1) u v1) ?_ I
  intro f_codeEnd f_depth f_letCount f_height f_heldNames f_usedCount f_marking f_waitCount f_frame f_at f_openCount f_stepCount f_resultSort f_resultNumber f_levelNow f_marks a_kindOf a_partX a_partY a_partZ a_weightOf a_needOf a_names a_known a_knownNumber a_functionOf a_op a_operand a_workNode a_workPhase a_workLast a_workPatch a_letPlace a_isUsed a_functionAt a_heldCount a_waiting a_openFrame a_openAt a_cells a_globals a_stack g_high g_over g_how b_ey b_ez b_globalSort b_global b_body b_heldSort b_held b_needed b_envSort b_env b_length b_base b_floor b_begun b_stage b_last b_valueSort b_value n fc P h1 h2
  have hn := h1.1
  have hT := h1.2.2.1
  unfold wpX_run
  refine ex_EX hn _ (fun hE => br_f (by decide) ?_) (fun hE => br_t rfl ?_)
  · obtain ⟨e, he, rfl⟩ := hE
    have hin : vp_in (nI e) 60 := vp_in_nI (by omega) (by omega)
    refine And.intro hin ?_
    obtain ⟨d, hd8, hND, hnd⟩ := h1.2.2.2.2 e he
    obtain ⟨hM, hM256, _⟩ := (hT e he).1.2.2.2.2.2.2.2
    have hz := nd_z hnd
    rw [nI_clamp (by omega), hND]
    by_cases d0 : d = 0
    · have hm0 : tb_c a_names e = 0 := hz.mp d0
      subst d0
      refine br_t (by decide) ?_
      have hw30 := (hT e he).1.2.2.2.2.2.2.1.2.1
      have hw1 := tb_N_w (hT e he).1
      obtain ⟨q, op', od', wN', wP', wL', wPt', lP', hq1, hcp, hret, hfr, hpB⟩ := cp_body (hm := none) (hN := 0) (e := e) (p := 0) (op := a_op) (od := a_operand) (wN := a_workNode) (wP := a_workPhase) (wL := a_workLast) (wPt := a_workPatch) (lP := a_letPlace) hn h1.2.1 hT (fun mk e => absurd e (by simp)) he (fun i hi => by rw [hm0, Nat.zero_testBit] at hi; exact absurd hi (by decide)) (by omega)
      -- the code of the functions stays
      have h1' : rl_St n fc a_kindOf a_partX b_ey b_ez a_weightOf a_names a_partY a_partZ a_needOf a_known a_knownNumber a_functionOf op' od' := by
        refine ⟨hn, h1.2.1, hT, fun e' f he' hk' hF hf => ?_, h1.2.2.2.2⟩
        obtain ⟨D, q', hq', hc', hr'⟩ := h1.2.2.2.1 e' f he' hk' hF hf
        obtain ⟨f', hf', hf1, _⟩ := (hT e' he').2.2.2.2 hk'
        have h12 := h1.2.1
        have ef : f = f' := (nI_eq (by omega) (by omega)).mp (hF.symm.trans hf')
        have hlt := cp_lt _ _ _ _ _ _ _ hc'
        exact ⟨D, q', hq', cp_loc _ _ _ _ _ _ _ (fun j a b => hfr j (by omega)) hc', (hfr q' (by omega)).1.trans hr'⟩
      refine hpB _ (nm_e (nm_e ?_))
      have hS : mc_S (200 * 91 + (3 * tb_c a_weightOf e + 1)) (nI n, nI fc, nI (q + 1), -1, 0, 3, 0, f_usedCount, f_marks, f_marking, f_waitCount, 2, 0, 0, 0, 0, 0, 0, f_levelNow, a_kindOf, a_partX, a_partY, a_partZ, a_weightOf, a_needOf, a_names, a_known, a_knownNumber, a_functionOf, op', od', wN', wP', wL', wPt', lP', a_isUsed, a_functionAt, a_heldCount, a_cells, a_waiting, a_globals, vp_updL (vp_updL a_stack 0 0) 1 0, a_openFrame, a_openAt) (nI n, nI fc, 1, 1, 0, 0, 0, g_how, 0, 0, a_kindOf, a_partX, b_ey, b_ez, a_weightOf, a_names, b_globalSort, b_global, b_body, b_heldSort, b_held, b_needed, b_envSort, b_env, upd b_length 0 0, upd b_base 0 0, upd b_floor 0 0, upd b_begun 0 (nI e), upd b_stage 0 0, upd b_last 0 1, b_valueSort, b_value) := by
        refine mc_in (n := n) (fc := fc) (P := P) (E := []) (Ks := [(e, 0, true)]) (fn := none) (p := 0) (r := []) (sc := 0) h1' h2 ⟨⟨⟨trivial, trivial, trivial, ⟨pk_us, by simp [mc_L]⟩, ⟨⟨pk_us, pk_us, pk_us⟩, trivial⟩, ⟨pk_us, pk_us⟩, ⟨?_, pk_uLs⟩⟩, trivial⟩, ⟨⟨fun x hx => absurd hx (by simp), trivial⟩, trivial⟩, trivial, Or.inl ⟨e, true, [], q, rfl, he, hcp, ⟨by omega, hret, rfl, rfl⟩, ⟨by simp; omega, by simp; omega, by simp [mc_L]; omega⟩⟩, ⟨by omega, by simp, by simp, by simp⟩, ?_⟩
        · show vp_updL (vp_updL a_stack 0 0) 1 0 0 = 0
          rw [pk_uLn (by omega), pk_uLs]
        · rw [mc_pk6]
          simp only [mc_pb]
          omega
      obtain ⟨r, u', v', hX, hY, hR⟩ := mc_main sm_all _ _ _ hS 0 (by omega) (by omega)
      refine hX _ ?_
      unfold wpY_run
      refine ex_EY hn _ (fun _ => br_f (by decide) (And.intro hin ?_)) (fun q => absurd ⟨e, he, rfl⟩ q)
      rw [nI_clamp (by omega)]
      refine br_t (by rw [hM, hm0]; rfl) (nm_e (nm_e (nm_e (ys_start (h := 0) (by omega) (Or.inr rfl) ?_))))
      exact hY (fun r' v' => r' = r ∧ i_Rel (k + 5) u' v') ⟨rfl, hR⟩
    · refine br_f (fun q => ?_) ?_
      · exact nI_nle (by omega) (by omega) q
      · unfold wpY_run
        refine ex_EY hn _ (fun _ => br_f (by decide) (And.intro hin ?_)) (fun q => absurd ⟨e, he, rfl⟩ q)
        rw [nI_clamp (by omega)]
        refine br_f (fun q => ?_) ⟨rfl, rl_in h1 h2⟩
        rw [hM] at q
        exact d0 (hz.mpr ((nI_eq (b := 0) (by omega) (by omega)).mp q))
  · unfold wpY_run
    exact ex_EY hn _ (fun q => absurd q hE) (fun _ => br_t rfl ⟨rfl, rl_in h1 h2⟩)
end

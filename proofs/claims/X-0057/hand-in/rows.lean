section
/-! pure rows to paste: stores, nI and lN arithmetic, masks, shifts, narrowing, branches by naturals (pk_le, pk_lt, pk_eq), loops (lp1 .. lp16: the measure of the state; rp1 ..: recursion), negatives. Take what you need -/
theorem pk_us {f : Nat → Int32} {k : Nat} {x : Int32} : upd f k x k = x := if_pos rfl
theorem pk_un {f : Nat → Int32} {k j : Nat} {x : Int32} (h : j ≠ k) : upd f k x j = f j := if_neg h
theorem pk_uLs {f : Nat → Int64} {k : Nat} {x : Int64} : vp_updL f k x k = x := if_pos rfl
theorem pk_uLn {f : Nat → Int64} {k j : Nat} {x : Int64} (h : j ≠ k) : vp_updL f k x j = f j := if_neg h
theorem pk_sub {a b : Nat} (h : b ≤ a) : nI a - nI b = nI (a - b) := by
  obtain ⟨c, rfl⟩ : ∃ c, a = c + b := ⟨a - b, by omega⟩
  rw [← nI_add, Int32.add_sub_cancel, Nat.add_sub_cancel]
theorem pk_m1 (n : Nat) : nI (n + 1) + (-1) = nI n := by
  rw [← nI_1, Int32.add_assoc, show (1 : Int32) + (-1) = 0 from rfl, Int32.add_zero]
theorem pk_mul (a b : Nat) : nI a * nI b = nI (a * b) := (Int32.ofNat_mul a b).symm
theorem pk_div {a d : Nat} (ha : a < 2 ^ 31) (h0 : 0 < d) (hd : d < 2 ^ 31) : nI a / nI d = nI (a / d) := by
  apply Int32.toInt_inj.mp
  rw [lg_idiv_nonneg (by rw [nI_toInt ha]; omega) (by rw [nI_toInt hd]; omega), nI_toInt ha, nI_toInt hd, nI_toInt (Nat.lt_of_le_of_lt (Nat.div_le_self a d) ha)]
  first | rfl | exact (Int.natCast_ediv _ _).symm
theorem pk_rem {a d : Nat} (ha : a < 2 ^ 31) (h0 : 0 < d) (hd : d < 2 ^ 31) : nI a - nI a / nI d * nI d = nI (a % d) := by
  rw [pk_div ha h0 hd, pk_mul, pk_sub (Nat.div_mul_le_self a d)]
  exact congrArg nI (by have := Nat.div_add_mod' a d; omega)
theorem pk_sub_toInt {a b : Nat} (ha : a < 2 ^ 30) (hb : b < 2 ^ 30) : (nI a - nI b).toInt = (a : Int) - b := by
  rw [Int32.toInt_sub, nI_toInt (by omega), nI_toInt (by omega)]
  exact Int.bmod_eq_of_le (by omega) (by omega)
theorem pk_sneg {a b : Nat} (hb : b < 2 ^ 30) (h : a < b) : nI a - nI b < 0 := by
  rw [Int32.lt_iff_toInt_lt, pk_sub_toInt (by omega) hb, show (0 : Int32).toInt = 0 from by decide]
  omega
theorem pk_ix (x : Int32) {n : Nat} (hn : n < 2 ^ 31) : x < 0 ∨ nI n ≤ x ∨ ∃ j : Nat, j < n ∧ x = nI j := by
  by_cases h : x < 0
  · exact Or.inl h
  · obtain ⟨j, hj, rfl⟩ := nI_of h
    by_cases h2 : j < n
    · exact Or.inr (Or.inr ⟨j, h2, rfl⟩)
    · exact Or.inr (Or.inl (nI_le (by omega) hj))
theorem pk_le {x y : Int32} {A B : Prop} (a b : Nat) (f : a ≤ b → A) (g : b < a → B) (hx : x = nI a := by rfl) (hy : y = nI b := by rfl) (ha : a < 2 ^ 31 := by omega) (hb : b < 2 ^ 31 := by omega) : (x ≤ y → A) ∧ (¬ x ≤ y → B) := by
  subst hx hy
  rw [nI_leI ha hb]
  exact ⟨f, fun z => g (by omega)⟩
theorem pk_lt {x y : Int32} {A B : Prop} (a b : Nat) (f : a < b → A) (g : b ≤ a → B) (hx : x = nI a := by rfl) (hy : y = nI b := by rfl) (ha : a < 2 ^ 31 := by omega) (hb : b < 2 ^ 31 := by omega) : (x < y → A) ∧ (¬ x < y → B) := by
  subst hx hy
  rw [nI_ltI ha hb]
  exact ⟨f, fun z => g (by omega)⟩
theorem pk_eq {x y : Int32} {A B : Prop} (a b : Nat) (f : a = b → A) (g : a ≠ b → B) (hx : x = nI a := by rfl) (hy : y = nI b := by rfl) (ha : a < 2 ^ 31 := by omega) (hb : b < 2 ^ 31 := by omega) : (x = y → A) ∧ (¬ x = y → B) := by
  subst hx hy
  rw [nI_eq ha hb]
  exact ⟨f, g⟩
theorem pk_in {x : Int32} (n N : Nat) (h : n < N) (hx : x = nI n := by rfl) (hN : N < 2 ^ 31 := by omega) : vp_in x N := by
  subst hx
  exact vp_in_nI h hN
theorem pk_cl {x : Int32} (n : Nat) (hx : x = nI n := by rfl) (h : n < 2 ^ 31 := by omega) : x.toNatClampNeg = n := by
  subst hx
  exact nI_clamp h
theorem pk_tn {n : Nat} (h : n < 2 ^ 32) : (nI n).toBitVec.toNat = n := Nat.mod_eq_of_lt h
theorem pk_and (x : Int32) {m : Int32} (k : Nat) (hm : m.toBitVec.toNat = 2 ^ k - 1) : x &&& m = nI (x.toBitVec.toNat % 2 ^ k) := by
  apply Int32.toBitVec_inj.mp
  apply BitVec.eq_of_toNat_eq
  rw [Int32.toBitVec_and, BitVec.toNat_and, hm, Nat.and_two_pow_sub_one_eq_mod]
  show _ = (BitVec.ofNat 32 _).toNat
  rw [BitVec.toNat_ofNat]
  exact (Nat.mod_eq_of_lt (Nat.lt_of_le_of_lt (Nat.mod_le _ _) x.toBitVec.isLt)).symm
theorem pk_andN {n : Nat} (h : n < 2 ^ 32) {m : Int32} (k : Nat) (hm : m.toBitVec.toNat = 2 ^ k - 1) : nI n &&& m = nI (n % 2 ^ k) := by
  rw [pk_and _ k hm, pk_tn h]
theorem pk_andE (x : Int32) {m : Int32} (k : Nat) (hm : m.toBitVec.toNat = 2 ^ k - 1) : ∃ j : Nat, j < 2 ^ k ∧ x &&& m = nI j := ⟨_, Nat.mod_lt _ (Nat.two_pow_pos k), pk_and x k hm⟩
theorem pk_andIn (x : Int32) {m : Int32} (k : Nat) (hm : m.toBitVec.toNat = 2 ^ k - 1) (hk : k ≤ 30) : vp_in (x &&& m) (2 ^ k) := by
  obtain ⟨j, hj, e⟩ := pk_andE x k hm
  rw [e]
  exact vp_in_nI hj (Nat.lt_of_le_of_lt (Nat.pow_le_pow_right (by decide) hk) (by decide))
theorem pk_shl (a s : Int32) (k : Nat) (hs : (s.toBitVec.smod 32).toNat = k) : (a <<< s).toBitVec.toNat = a.toBitVec.toNat * 2 ^ k % 2 ^ 32 := by
  show (a.toBitVec <<< (s.toBitVec.smod 32).toNat).toNat = _
  rw [hs, BitVec.toNat_shiftLeft, Nat.shiftLeft_eq]
theorem pk_shlN {n : Nat} (s : Int32) (k : Nat) (hs : (s.toBitVec.smod 32).toNat = k) (h : n * 2 ^ k < 2 ^ 32) : nI n <<< s = nI (n * 2 ^ k) := by
  apply Int32.toBitVec_inj.mp
  apply BitVec.eq_of_toNat_eq
  have hn : n < 2 ^ 32 := Nat.lt_of_le_of_lt (Nat.le_mul_of_pos_right n (Nat.two_pow_pos k)) h
  rw [pk_shl _ _ k hs, pk_tn hn, pk_tn h, Nat.mod_eq_of_lt h]
theorem pk_shr (a s : Int32) (k : Nat) (hs : (s.toBitVec.smod 32).toNat = k) : (a >>> s).toInt = a.toInt >>> k := by
  show (a.toBitVec.sshiftRight (s.toBitVec.smod 32).toNat).toInt = _
  rw [hs, BitVec.toInt_sshiftRight]
  rfl
theorem pk_shrN {n : Nat} (h : n < 2 ^ 31) (s : Int32) (k : Nat) (hs : (s.toBitVec.smod 32).toNat = k) : nI n >>> s = nI (n / 2 ^ k) := by
  apply Int32.toInt_inj.mp
  have h2 : n / 2 ^ k ≤ n := Nat.div_le_self _ _
  rw [pk_shr _ _ k hs, nI_toInt h, nI_toInt (by omega), Int.shiftRight_eq_div_pow]
  rfl
theorem pk_ushr (x s : Int32) (k : Nat) (hs : ((s.toUInt32 &&& Int32.toUInt32 31).toBitVec % 32).toNat = k) : (x.toUInt32 >>> (s.toUInt32 &&& Int32.toUInt32 31)).toInt32.toBitVec.toNat = x.toBitVec.toNat / 2 ^ k := by
  have e : (x.toUInt32 >>> (s.toUInt32 &&& Int32.toUInt32 31)).toInt32.toBitVec = x.toBitVec >>> k := by
    rw [← hs]
    exact UInt32.toBitVec_shiftRight _ _
  rw [e, BitVec.toNat_ushiftRight, Nat.shiftRight_eq_div_pow]
theorem pk_ushrN {n : Nat} (hn : n < 2 ^ 32) (s : Int32) (k : Nat) (hs : ((s.toUInt32 &&& Int32.toUInt32 31).toBitVec % 32).toNat = k) : ((nI n).toUInt32 >>> (s.toUInt32 &&& Int32.toUInt32 31)).toInt32 = nI (n / 2 ^ k) := by
  apply Int32.toBitVec_inj.mp
  apply BitVec.eq_of_toNat_eq
  rw [pk_ushr _ s k hs, pk_tn hn, pk_tn (Nat.lt_of_le_of_lt (Nat.div_le_self _ _) hn)]
theorem pk_nb (z : Int32) : narrow .byte (.int z.toInt8.toInt32) = .int z.toInt8.toInt32 := congrArg Value.int (by simp)
theorem pk_ns (z : Int32) : narrow .short (.int z.toInt16.toInt32) = .int z.toInt16.toInt32 := congrArg Value.int (by simp)
theorem pk_fb (r : Int32) : fits .byte (.int r.toInt8.toInt32) = true := by
  have ⟨a, b⟩ := lg_i2b_range r
  have h1 : (-128 : Int32).toInt = -128 := by decide
  have h2 : (127 : Int32).toInt = 127 := by decide
  simp only [fits, Bool.and_eq_true, decide_eq_true_eq, Int32.le_iff_toInt_le, h1, h2]
  omega
theorem pk_fs (r : Int32) : fits .short (.int r.toInt16.toInt32) = true := by
  have ⟨a, b⟩ := lg_i2s_range r
  have h1 : (-32768 : Int32).toInt = -32768 := by decide
  have h2 : (32767 : Int32).toInt = 32767 := by decide
  simp only [fits, Bool.and_eq_true, decide_eq_true_eq, Int32.le_iff_toInt_le, h1, h2]
  omega
theorem pk_charN {q : Nat} (hq : q < 65536) : narrow .char (.int (nI q)) = .int (nI q) ∧ fits .char (.int (nI q)) = true := by
  constructor
  · have e : (nI q).toUInt32.toUInt16.toUInt32.toInt32 = nI q := by
      apply Int32.toBitVec_inj.mp
      apply BitVec.eq_of_toNat_eq
      show (nI q).toUInt32.toUInt16.toUInt32.toNat = q % 2 ^ 32
      rw [UInt16.toNat_toUInt32, UInt32.toNat_toUInt16, show (nI q).toUInt32.toNat = q % 2 ^ 32 from rfl]
      omega
    exact congrArg Value.int e
  · have a : (0 : Int32) ≤ nI q := nI_pos' (by omega)
    have b : nI q ≤ 65535 := nI_le (b := 65535) (by omega) (by decide)
    show (decide ((0 : Int32) ≤ nI q) && decide (nI q ≤ 65535)) = true
    rw [decide_eq_true a, decide_eq_true b]
    rfl
theorem pk_char (x : Int32) : (x.toUInt32 % 65536).toInt32 = nI (x.toBitVec.toNat % 65536) := by
  apply Int32.toBitVec_inj.mp
  apply BitVec.eq_of_toNat_eq
  rw [pk_tn (by omega)]
  show (x.toUInt32 % 65536).toNat = _
  rw [UInt32.toNat_mod]
  rfl
theorem pk_nc (x : Int32) : narrow .char (.int (x.toUInt32 % 65536).toInt32) = .int (x.toUInt32 % 65536).toInt32 := by
  rw [pk_char]
  exact (pk_charN (Nat.mod_lt _ (by decide))).1
theorem pk_fc (x : Int32) : fits .char (.int (x.toUInt32 % 65536).toInt32) = true := by
  rw [pk_char]
  exact (pk_charN (Nat.mod_lt _ (by decide))).2
theorem pk_vb (z : Int32) : vp_nar .byte z.toInt8.toInt32 = z.toInt8.toInt32 := by rw [vp_nar_byte]; simp
theorem pk_vs (z : Int32) : vp_nar .short z.toInt16.toInt32 = z.toInt16.toInt32 := by rw [vp_nar_short]; simp
theorem pk_vc (z : Int32) : vp_nar .char (z.toUInt32 % 65536).toInt32 = (z.toUInt32 % 65536).toInt32 := Value.int.inj (pk_nc z)
theorem pk_lT {n : Nat} (h : n < 2 ^ 63) : (lN n).toInt = (n : Int) := lg_ofNat_toInt h
theorem pk_lLT {a b : Nat} (ha : a < 2 ^ 63) (hb : b < 2 ^ 63) : lN a < lN b ↔ a < b := by
  rw [Int64.lt_iff_toInt_lt, pk_lT ha, pk_lT hb]; omega
theorem pk_lLE {a b : Nat} (ha : a < 2 ^ 63) (hb : b < 2 ^ 63) : lN a ≤ lN b ↔ a ≤ b := by
  rw [Int64.le_iff_toInt_le, pk_lT ha, pk_lT hb]; omega
theorem pk_lEQ {a b : Nat} (ha : a < 2 ^ 63) (hb : b < 2 ^ 63) : lN a = lN b ↔ a = b := by
  rw [← Int64.toInt_inj, pk_lT ha, pk_lT hb]; omega
theorem pk_lOf {x : Int64} (h : ¬ x < 0) : ∃ k : Nat, k < 2 ^ 63 ∧ x = lN k := by
  rw [Int64.lt_iff_toInt_lt] at h
  have h0 : (0 : Int64).toInt = 0 := by decide
  have hx := Int64.toInt_lt x
  refine ⟨x.toInt.toNat, by omega, Int64.toInt_inj.mp ?_⟩
  rw [pk_lT (by omega)]
  omega
theorem pk_lDiv {a b : Nat} (ha : a < 2 ^ 63) (h0 : 0 < b) (hb : b < 2 ^ 63) : lN a / lN b = lN (a / b) := by
  apply Int64.toInt_inj.mp
  rw [lg_ldiv_nonneg (by rw [pk_lT ha]; omega) (by rw [pk_lT hb]; omega), pk_lT ha, pk_lT hb, pk_lT (Nat.lt_of_le_of_lt (Nat.div_le_self a b) ha)]
  rfl
theorem pk_lRem {a b : Nat} (ha : a < 2 ^ 63) (h0 : 0 < b) (hb : b < 2 ^ 63) : lN a - lN a / lN b * lN b = lN (a % b) := by
  rw [pk_lDiv ha h0 hb, lN_mul, lN_sub (Nat.div_mul_le_self a b)]
  exact congrArg lN (by have := Nat.div_add_mod' a b; omega)
theorem pk_loop {σ : Type} (W : Nat → Nat → σ → Prop) (I : Nat → σ → Prop) (e i0 : Nat) (s : σ) (hi : i0 ≤ e) (h0 : I i0 s) (hx : ∀ n s, I e s → W (n + 1) e s)
    (hs : ∀ n i s, i < e → I i s → (∀ s', I (i + 1) s' → W n (i + 1) s') → W (n + 1) i s) : ∃ n, W n i0 s :=
  ⟨e + 1, loop_i W I e hx hs (e + 1) i0 s hi (by omega) h0⟩
theorem pk_loopD {σ : Type} (W : Nat → Nat → σ → Prop) (I : Nat → σ → Prop) (hx : ∀ n s, I 0 s → W (n + 1) 0 s)
    (hs : ∀ n i s, I (i + 1) s → (∀ s', I i s' → W n i s') → W (n + 1) (i + 1) s) : ∀ (e : Nat) (s : σ), I e s → W (e + 1) e s := by
  intro e
  induction e with
  | zero => exact fun s h => hx 0 s h
  | succ e ih => exact fun s h => hs (e + 1) e s h (fun s' h' => ih s' h')
theorem lp1 {A1 : Type} (W : Nat → A1 → Prop) (I : A1 → Prop) (μ : A1 → Nat) (hs : ∀ (n : Nat) (a1 : A1), I a1 → (∀ (b1 : A1), I b1 → μ b1 < μ a1 → W n b1) → W (n + 1) a1) (a1 : A1) (h : I a1) : ∃ n, W n a1 :=
  loop_m (σ := A1) (fun n s => W n s) (fun s => I s) (fun s => μ s) (fun n s hI hk => hs n s hI (fun b1 h9 hm => hk b1 h9 hm)) a1 h
theorem lp2 {A1 A2 : Type} (W : Nat → A1 → A2 → Prop) (I : A1 → A2 → Prop) (μ : A1 → A2 → Nat) (hs : ∀ (n : Nat) (a1 : A1) (a2 : A2), I a1 a2 → (∀ (b1 : A1) (b2 : A2), I b1 b2 → μ b1 b2 < μ a1 a2 → W n b1 b2) → W (n + 1) a1 a2) (a1 : A1) (a2 : A2) (h : I a1 a2) : ∃ n, W n a1 a2 :=
  loop_m (σ := A1 × A2) (fun n s => W n s.1 s.2) (fun s => I s.1 s.2) (fun s => μ s.1 s.2) (fun n s hI hk => hs n s.1 s.2 hI (fun b1 b2 h9 hm => hk (b1, b2) h9 hm)) (a1, a2) h
theorem lp3 {A1 A2 A3 : Type} (W : Nat → A1 → A2 → A3 → Prop) (I : A1 → A2 → A3 → Prop) (μ : A1 → A2 → A3 → Nat) (hs : ∀ (n : Nat) (a1 : A1) (a2 : A2) (a3 : A3), I a1 a2 a3 → (∀ (b1 : A1) (b2 : A2) (b3 : A3), I b1 b2 b3 → μ b1 b2 b3 < μ a1 a2 a3 → W n b1 b2 b3) → W (n + 1) a1 a2 a3) (a1 : A1) (a2 : A2) (a3 : A3) (h : I a1 a2 a3) : ∃ n, W n a1 a2 a3 :=
  loop_m (σ := A1 × A2 × A3) (fun n s => W n s.1 s.2.1 s.2.2) (fun s => I s.1 s.2.1 s.2.2) (fun s => μ s.1 s.2.1 s.2.2) (fun n s hI hk => hs n s.1 s.2.1 s.2.2 hI (fun b1 b2 b3 h9 hm => hk (b1, b2, b3) h9 hm)) (a1, a2, a3) h
theorem lp4 {A1 A2 A3 A4 : Type} (W : Nat → A1 → A2 → A3 → A4 → Prop) (I : A1 → A2 → A3 → A4 → Prop) (μ : A1 → A2 → A3 → A4 → Nat) (hs : ∀ (n : Nat) (a1 : A1) (a2 : A2) (a3 : A3) (a4 : A4), I a1 a2 a3 a4 → (∀ (b1 : A1) (b2 : A2) (b3 : A3) (b4 : A4), I b1 b2 b3 b4 → μ b1 b2 b3 b4 < μ a1 a2 a3 a4 → W n b1 b2 b3 b4) → W (n + 1) a1 a2 a3 a4) (a1 : A1) (a2 : A2) (a3 : A3) (a4 : A4) (h : I a1 a2 a3 a4) : ∃ n, W n a1 a2 a3 a4 :=
  loop_m (σ := A1 × A2 × A3 × A4) (fun n s => W n s.1 s.2.1 s.2.2.1 s.2.2.2) (fun s => I s.1 s.2.1 s.2.2.1 s.2.2.2) (fun s => μ s.1 s.2.1 s.2.2.1 s.2.2.2) (fun n s hI hk => hs n s.1 s.2.1 s.2.2.1 s.2.2.2 hI (fun b1 b2 b3 b4 h9 hm => hk (b1, b2, b3, b4) h9 hm)) (a1, a2, a3, a4) h
theorem lp5 {A1 A2 A3 A4 A5 : Type} (W : Nat → A1 → A2 → A3 → A4 → A5 → Prop) (I : A1 → A2 → A3 → A4 → A5 → Prop) (μ : A1 → A2 → A3 → A4 → A5 → Nat) (hs : ∀ (n : Nat) (a1 : A1) (a2 : A2) (a3 : A3) (a4 : A4) (a5 : A5), I a1 a2 a3 a4 a5 → (∀ (b1 : A1) (b2 : A2) (b3 : A3) (b4 : A4) (b5 : A5), I b1 b2 b3 b4 b5 → μ b1 b2 b3 b4 b5 < μ a1 a2 a3 a4 a5 → W n b1 b2 b3 b4 b5) → W (n + 1) a1 a2 a3 a4 a5) (a1 : A1) (a2 : A2) (a3 : A3) (a4 : A4) (a5 : A5) (h : I a1 a2 a3 a4 a5) : ∃ n, W n a1 a2 a3 a4 a5 :=
  loop_m (σ := A1 × A2 × A3 × A4 × A5) (fun n s => W n s.1 s.2.1 s.2.2.1 s.2.2.2.1 s.2.2.2.2) (fun s => I s.1 s.2.1 s.2.2.1 s.2.2.2.1 s.2.2.2.2) (fun s => μ s.1 s.2.1 s.2.2.1 s.2.2.2.1 s.2.2.2.2) (fun n s hI hk => hs n s.1 s.2.1 s.2.2.1 s.2.2.2.1 s.2.2.2.2 hI (fun b1 b2 b3 b4 b5 h9 hm => hk (b1, b2, b3, b4, b5) h9 hm)) (a1, a2, a3, a4, a5) h
theorem lp6 {A1 A2 A3 A4 A5 A6 : Type} (W : Nat → A1 → A2 → A3 → A4 → A5 → A6 → Prop) (I : A1 → A2 → A3 → A4 → A5 → A6 → Prop) (μ : A1 → A2 → A3 → A4 → A5 → A6 → Nat) (hs : ∀ (n : Nat) (a1 : A1) (a2 : A2) (a3 : A3) (a4 : A4) (a5 : A5) (a6 : A6), I a1 a2 a3 a4 a5 a6 → (∀ (b1 : A1) (b2 : A2) (b3 : A3) (b4 : A4) (b5 : A5) (b6 : A6), I b1 b2 b3 b4 b5 b6 → μ b1 b2 b3 b4 b5 b6 < μ a1 a2 a3 a4 a5 a6 → W n b1 b2 b3 b4 b5 b6) → W (n + 1) a1 a2 a3 a4 a5 a6) (a1 : A1) (a2 : A2) (a3 : A3) (a4 : A4) (a5 : A5) (a6 : A6) (h : I a1 a2 a3 a4 a5 a6) : ∃ n, W n a1 a2 a3 a4 a5 a6 :=
  loop_m (σ := A1 × A2 × A3 × A4 × A5 × A6) (fun n s => W n s.1 s.2.1 s.2.2.1 s.2.2.2.1 s.2.2.2.2.1 s.2.2.2.2.2) (fun s => I s.1 s.2.1 s.2.2.1 s.2.2.2.1 s.2.2.2.2.1 s.2.2.2.2.2) (fun s => μ s.1 s.2.1 s.2.2.1 s.2.2.2.1 s.2.2.2.2.1 s.2.2.2.2.2) (fun n s hI hk => hs n s.1 s.2.1 s.2.2.1 s.2.2.2.1 s.2.2.2.2.1 s.2.2.2.2.2 hI (fun b1 b2 b3 b4 b5 b6 h9 hm => hk (b1, b2, b3, b4, b5, b6) h9 hm)) (a1, a2, a3, a4, a5, a6) h
theorem lp7 {A1 A2 A3 A4 A5 A6 A7 : Type} (W : Nat → A1 → A2 → A3 → A4 → A5 → A6 → A7 → Prop) (I : A1 → A2 → A3 → A4 → A5 → A6 → A7 → Prop) (μ : A1 → A2 → A3 → A4 → A5 → A6 → A7 → Nat) (hs : ∀ (n : Nat) (a1 : A1) (a2 : A2) (a3 : A3) (a4 : A4) (a5 : A5) (a6 : A6) (a7 : A7), I a1 a2 a3 a4 a5 a6 a7 → (∀ (b1 : A1) (b2 : A2) (b3 : A3) (b4 : A4) (b5 : A5) (b6 : A6) (b7 : A7), I b1 b2 b3 b4 b5 b6 b7 → μ b1 b2 b3 b4 b5 b6 b7 < μ a1 a2 a3 a4 a5 a6 a7 → W n b1 b2 b3 b4 b5 b6 b7) → W (n + 1) a1 a2 a3 a4 a5 a6 a7) (a1 : A1) (a2 : A2) (a3 : A3) (a4 : A4) (a5 : A5) (a6 : A6) (a7 : A7) (h : I a1 a2 a3 a4 a5 a6 a7) : ∃ n, W n a1 a2 a3 a4 a5 a6 a7 :=
  loop_m (σ := A1 × A2 × A3 × A4 × A5 × A6 × A7) (fun n s => W n s.1 s.2.1 s.2.2.1 s.2.2.2.1 s.2.2.2.2.1 s.2.2.2.2.2.1 s.2.2.2.2.2.2) (fun s => I s.1 s.2.1 s.2.2.1 s.2.2.2.1 s.2.2.2.2.1 s.2.2.2.2.2.1 s.2.2.2.2.2.2) (fun s => μ s.1 s.2.1 s.2.2.1 s.2.2.2.1 s.2.2.2.2.1 s.2.2.2.2.2.1 s.2.2.2.2.2.2) (fun n s hI hk => hs n s.1 s.2.1 s.2.2.1 s.2.2.2.1 s.2.2.2.2.1 s.2.2.2.2.2.1 s.2.2.2.2.2.2 hI (fun b1 b2 b3 b4 b5 b6 b7 h9 hm => hk (b1, b2, b3, b4, b5, b6, b7) h9 hm)) (a1, a2, a3, a4, a5, a6, a7) h
theorem lp8 {A1 A2 A3 A4 A5 A6 A7 A8 : Type} (W : Nat → A1 → A2 → A3 → A4 → A5 → A6 → A7 → A8 → Prop) (I : A1 → A2 → A3 → A4 → A5 → A6 → A7 → A8 → Prop) (μ : A1 → A2 → A3 → A4 → A5 → A6 → A7 → A8 → Nat) (hs : ∀ (n : Nat) (a1 : A1) (a2 : A2) (a3 : A3) (a4 : A4) (a5 : A5) (a6 : A6) (a7 : A7) (a8 : A8), I a1 a2 a3 a4 a5 a6 a7 a8 → (∀ (b1 : A1) (b2 : A2) (b3 : A3) (b4 : A4) (b5 : A5) (b6 : A6) (b7 : A7) (b8 : A8), I b1 b2 b3 b4 b5 b6 b7 b8 → μ b1 b2 b3 b4 b5 b6 b7 b8 < μ a1 a2 a3 a4 a5 a6 a7 a8 → W n b1 b2 b3 b4 b5 b6 b7 b8) → W (n + 1) a1 a2 a3 a4 a5 a6 a7 a8) (a1 : A1) (a2 : A2) (a3 : A3) (a4 : A4) (a5 : A5) (a6 : A6) (a7 : A7) (a8 : A8) (h : I a1 a2 a3 a4 a5 a6 a7 a8) : ∃ n, W n a1 a2 a3 a4 a5 a6 a7 a8 :=
  loop_m (σ := A1 × A2 × A3 × A4 × A5 × A6 × A7 × A8) (fun n s => W n s.1 s.2.1 s.2.2.1 s.2.2.2.1 s.2.2.2.2.1 s.2.2.2.2.2.1 s.2.2.2.2.2.2.1 s.2.2.2.2.2.2.2) (fun s => I s.1 s.2.1 s.2.2.1 s.2.2.2.1 s.2.2.2.2.1 s.2.2.2.2.2.1 s.2.2.2.2.2.2.1 s.2.2.2.2.2.2.2) (fun s => μ s.1 s.2.1 s.2.2.1 s.2.2.2.1 s.2.2.2.2.1 s.2.2.2.2.2.1 s.2.2.2.2.2.2.1 s.2.2.2.2.2.2.2) (fun n s hI hk => hs n s.1 s.2.1 s.2.2.1 s.2.2.2.1 s.2.2.2.2.1 s.2.2.2.2.2.1 s.2.2.2.2.2.2.1 s.2.2.2.2.2.2.2 hI (fun b1 b2 b3 b4 b5 b6 b7 b8 h9 hm => hk (b1, b2, b3, b4, b5, b6, b7, b8) h9 hm)) (a1, a2, a3, a4, a5, a6, a7, a8) h
theorem lp9 {A1 A2 A3 A4 A5 A6 A7 A8 A9 : Type} (W : Nat → A1 → A2 → A3 → A4 → A5 → A6 → A7 → A8 → A9 → Prop) (I : A1 → A2 → A3 → A4 → A5 → A6 → A7 → A8 → A9 → Prop) (μ : A1 → A2 → A3 → A4 → A5 → A6 → A7 → A8 → A9 → Nat) (hs : ∀ (n : Nat) (a1 : A1) (a2 : A2) (a3 : A3) (a4 : A4) (a5 : A5) (a6 : A6) (a7 : A7) (a8 : A8) (a9 : A9), I a1 a2 a3 a4 a5 a6 a7 a8 a9 → (∀ (b1 : A1) (b2 : A2) (b3 : A3) (b4 : A4) (b5 : A5) (b6 : A6) (b7 : A7) (b8 : A8) (b9 : A9), I b1 b2 b3 b4 b5 b6 b7 b8 b9 → μ b1 b2 b3 b4 b5 b6 b7 b8 b9 < μ a1 a2 a3 a4 a5 a6 a7 a8 a9 → W n b1 b2 b3 b4 b5 b6 b7 b8 b9) → W (n + 1) a1 a2 a3 a4 a5 a6 a7 a8 a9) (a1 : A1) (a2 : A2) (a3 : A3) (a4 : A4) (a5 : A5) (a6 : A6) (a7 : A7) (a8 : A8) (a9 : A9) (h : I a1 a2 a3 a4 a5 a6 a7 a8 a9) : ∃ n, W n a1 a2 a3 a4 a5 a6 a7 a8 a9 :=
  loop_m (σ := A1 × A2 × A3 × A4 × A5 × A6 × A7 × A8 × A9) (fun n s => W n s.1 s.2.1 s.2.2.1 s.2.2.2.1 s.2.2.2.2.1 s.2.2.2.2.2.1 s.2.2.2.2.2.2.1 s.2.2.2.2.2.2.2.1 s.2.2.2.2.2.2.2.2) (fun s => I s.1 s.2.1 s.2.2.1 s.2.2.2.1 s.2.2.2.2.1 s.2.2.2.2.2.1 s.2.2.2.2.2.2.1 s.2.2.2.2.2.2.2.1 s.2.2.2.2.2.2.2.2) (fun s => μ s.1 s.2.1 s.2.2.1 s.2.2.2.1 s.2.2.2.2.1 s.2.2.2.2.2.1 s.2.2.2.2.2.2.1 s.2.2.2.2.2.2.2.1 s.2.2.2.2.2.2.2.2) (fun n s hI hk => hs n s.1 s.2.1 s.2.2.1 s.2.2.2.1 s.2.2.2.2.1 s.2.2.2.2.2.1 s.2.2.2.2.2.2.1 s.2.2.2.2.2.2.2.1 s.2.2.2.2.2.2.2.2 hI (fun b1 b2 b3 b4 b5 b6 b7 b8 b9 h9 hm => hk (b1, b2, b3, b4, b5, b6, b7, b8, b9) h9 hm)) (a1, a2, a3, a4, a5, a6, a7, a8, a9) h
theorem lp10 {A1 A2 A3 A4 A5 A6 A7 A8 A9 A10 : Type} (W : Nat → A1 → A2 → A3 → A4 → A5 → A6 → A7 → A8 → A9 → A10 → Prop) (I : A1 → A2 → A3 → A4 → A5 → A6 → A7 → A8 → A9 → A10 → Prop) (μ : A1 → A2 → A3 → A4 → A5 → A6 → A7 → A8 → A9 → A10 → Nat) (hs : ∀ (n : Nat) (a1 : A1) (a2 : A2) (a3 : A3) (a4 : A4) (a5 : A5) (a6 : A6) (a7 : A7) (a8 : A8) (a9 : A9) (a10 : A10), I a1 a2 a3 a4 a5 a6 a7 a8 a9 a10 → (∀ (b1 : A1) (b2 : A2) (b3 : A3) (b4 : A4) (b5 : A5) (b6 : A6) (b7 : A7) (b8 : A8) (b9 : A9) (b10 : A10), I b1 b2 b3 b4 b5 b6 b7 b8 b9 b10 → μ b1 b2 b3 b4 b5 b6 b7 b8 b9 b10 < μ a1 a2 a3 a4 a5 a6 a7 a8 a9 a10 → W n b1 b2 b3 b4 b5 b6 b7 b8 b9 b10) → W (n + 1) a1 a2 a3 a4 a5 a6 a7 a8 a9 a10) (a1 : A1) (a2 : A2) (a3 : A3) (a4 : A4) (a5 : A5) (a6 : A6) (a7 : A7) (a8 : A8) (a9 : A9) (a10 : A10) (h : I a1 a2 a3 a4 a5 a6 a7 a8 a9 a10) : ∃ n, W n a1 a2 a3 a4 a5 a6 a7 a8 a9 a10 :=
  loop_m (σ := A1 × A2 × A3 × A4 × A5 × A6 × A7 × A8 × A9 × A10) (fun n s => W n s.1 s.2.1 s.2.2.1 s.2.2.2.1 s.2.2.2.2.1 s.2.2.2.2.2.1 s.2.2.2.2.2.2.1 s.2.2.2.2.2.2.2.1 s.2.2.2.2.2.2.2.2.1 s.2.2.2.2.2.2.2.2.2) (fun s => I s.1 s.2.1 s.2.2.1 s.2.2.2.1 s.2.2.2.2.1 s.2.2.2.2.2.1 s.2.2.2.2.2.2.1 s.2.2.2.2.2.2.2.1 s.2.2.2.2.2.2.2.2.1 s.2.2.2.2.2.2.2.2.2) (fun s => μ s.1 s.2.1 s.2.2.1 s.2.2.2.1 s.2.2.2.2.1 s.2.2.2.2.2.1 s.2.2.2.2.2.2.1 s.2.2.2.2.2.2.2.1 s.2.2.2.2.2.2.2.2.1 s.2.2.2.2.2.2.2.2.2) (fun n s hI hk => hs n s.1 s.2.1 s.2.2.1 s.2.2.2.1 s.2.2.2.2.1 s.2.2.2.2.2.1 s.2.2.2.2.2.2.1 s.2.2.2.2.2.2.2.1 s.2.2.2.2.2.2.2.2.1 s.2.2.2.2.2.2.2.2.2 hI (fun b1 b2 b3 b4 b5 b6 b7 b8 b9 b10 h9 hm => hk (b1, b2, b3, b4, b5, b6, b7, b8, b9, b10) h9 hm)) (a1, a2, a3, a4, a5, a6, a7, a8, a9, a10) h
theorem lp11 {A1 A2 A3 A4 A5 A6 A7 A8 A9 A10 A11 : Type} (W : Nat → A1 → A2 → A3 → A4 → A5 → A6 → A7 → A8 → A9 → A10 → A11 → Prop) (I : A1 → A2 → A3 → A4 → A5 → A6 → A7 → A8 → A9 → A10 → A11 → Prop) (μ : A1 → A2 → A3 → A4 → A5 → A6 → A7 → A8 → A9 → A10 → A11 → Nat) (hs : ∀ (n : Nat) (a1 : A1) (a2 : A2) (a3 : A3) (a4 : A4) (a5 : A5) (a6 : A6) (a7 : A7) (a8 : A8) (a9 : A9) (a10 : A10) (a11 : A11), I a1 a2 a3 a4 a5 a6 a7 a8 a9 a10 a11 → (∀ (b1 : A1) (b2 : A2) (b3 : A3) (b4 : A4) (b5 : A5) (b6 : A6) (b7 : A7) (b8 : A8) (b9 : A9) (b10 : A10) (b11 : A11), I b1 b2 b3 b4 b5 b6 b7 b8 b9 b10 b11 → μ b1 b2 b3 b4 b5 b6 b7 b8 b9 b10 b11 < μ a1 a2 a3 a4 a5 a6 a7 a8 a9 a10 a11 → W n b1 b2 b3 b4 b5 b6 b7 b8 b9 b10 b11) → W (n + 1) a1 a2 a3 a4 a5 a6 a7 a8 a9 a10 a11) (a1 : A1) (a2 : A2) (a3 : A3) (a4 : A4) (a5 : A5) (a6 : A6) (a7 : A7) (a8 : A8) (a9 : A9) (a10 : A10) (a11 : A11) (h : I a1 a2 a3 a4 a5 a6 a7 a8 a9 a10 a11) : ∃ n, W n a1 a2 a3 a4 a5 a6 a7 a8 a9 a10 a11 :=
  loop_m (σ := A1 × A2 × A3 × A4 × A5 × A6 × A7 × A8 × A9 × A10 × A11) (fun n s => W n s.1 s.2.1 s.2.2.1 s.2.2.2.1 s.2.2.2.2.1 s.2.2.2.2.2.1 s.2.2.2.2.2.2.1 s.2.2.2.2.2.2.2.1 s.2.2.2.2.2.2.2.2.1 s.2.2.2.2.2.2.2.2.2.1 s.2.2.2.2.2.2.2.2.2.2) (fun s => I s.1 s.2.1 s.2.2.1 s.2.2.2.1 s.2.2.2.2.1 s.2.2.2.2.2.1 s.2.2.2.2.2.2.1 s.2.2.2.2.2.2.2.1 s.2.2.2.2.2.2.2.2.1 s.2.2.2.2.2.2.2.2.2.1 s.2.2.2.2.2.2.2.2.2.2) (fun s => μ s.1 s.2.1 s.2.2.1 s.2.2.2.1 s.2.2.2.2.1 s.2.2.2.2.2.1 s.2.2.2.2.2.2.1 s.2.2.2.2.2.2.2.1 s.2.2.2.2.2.2.2.2.1 s.2.2.2.2.2.2.2.2.2.1 s.2.2.2.2.2.2.2.2.2.2) (fun n s hI hk => hs n s.1 s.2.1 s.2.2.1 s.2.2.2.1 s.2.2.2.2.1 s.2.2.2.2.2.1 s.2.2.2.2.2.2.1 s.2.2.2.2.2.2.2.1 s.2.2.2.2.2.2.2.2.1 s.2.2.2.2.2.2.2.2.2.1 s.2.2.2.2.2.2.2.2.2.2 hI (fun b1 b2 b3 b4 b5 b6 b7 b8 b9 b10 b11 h9 hm => hk (b1, b2, b3, b4, b5, b6, b7, b8, b9, b10, b11) h9 hm)) (a1, a2, a3, a4, a5, a6, a7, a8, a9, a10, a11) h
theorem lp12 {A1 A2 A3 A4 A5 A6 A7 A8 A9 A10 A11 A12 : Type} (W : Nat → A1 → A2 → A3 → A4 → A5 → A6 → A7 → A8 → A9 → A10 → A11 → A12 → Prop) (I : A1 → A2 → A3 → A4 → A5 → A6 → A7 → A8 → A9 → A10 → A11 → A12 → Prop) (μ : A1 → A2 → A3 → A4 → A5 → A6 → A7 → A8 → A9 → A10 → A11 → A12 → Nat) (hs : ∀ (n : Nat) (a1 : A1) (a2 : A2) (a3 : A3) (a4 : A4) (a5 : A5) (a6 : A6) (a7 : A7) (a8 : A8) (a9 : A9) (a10 : A10) (a11 : A11) (a12 : A12), I a1 a2 a3 a4 a5 a6 a7 a8 a9 a10 a11 a12 → (∀ (b1 : A1) (b2 : A2) (b3 : A3) (b4 : A4) (b5 : A5) (b6 : A6) (b7 : A7) (b8 : A8) (b9 : A9) (b10 : A10) (b11 : A11) (b12 : A12), I b1 b2 b3 b4 b5 b6 b7 b8 b9 b10 b11 b12 → μ b1 b2 b3 b4 b5 b6 b7 b8 b9 b10 b11 b12 < μ a1 a2 a3 a4 a5 a6 a7 a8 a9 a10 a11 a12 → W n b1 b2 b3 b4 b5 b6 b7 b8 b9 b10 b11 b12) → W (n + 1) a1 a2 a3 a4 a5 a6 a7 a8 a9 a10 a11 a12) (a1 : A1) (a2 : A2) (a3 : A3) (a4 : A4) (a5 : A5) (a6 : A6) (a7 : A7) (a8 : A8) (a9 : A9) (a10 : A10) (a11 : A11) (a12 : A12) (h : I a1 a2 a3 a4 a5 a6 a7 a8 a9 a10 a11 a12) : ∃ n, W n a1 a2 a3 a4 a5 a6 a7 a8 a9 a10 a11 a12 :=
  loop_m (σ := A1 × A2 × A3 × A4 × A5 × A6 × A7 × A8 × A9 × A10 × A11 × A12) (fun n s => W n s.1 s.2.1 s.2.2.1 s.2.2.2.1 s.2.2.2.2.1 s.2.2.2.2.2.1 s.2.2.2.2.2.2.1 s.2.2.2.2.2.2.2.1 s.2.2.2.2.2.2.2.2.1 s.2.2.2.2.2.2.2.2.2.1 s.2.2.2.2.2.2.2.2.2.2.1 s.2.2.2.2.2.2.2.2.2.2.2) (fun s => I s.1 s.2.1 s.2.2.1 s.2.2.2.1 s.2.2.2.2.1 s.2.2.2.2.2.1 s.2.2.2.2.2.2.1 s.2.2.2.2.2.2.2.1 s.2.2.2.2.2.2.2.2.1 s.2.2.2.2.2.2.2.2.2.1 s.2.2.2.2.2.2.2.2.2.2.1 s.2.2.2.2.2.2.2.2.2.2.2) (fun s => μ s.1 s.2.1 s.2.2.1 s.2.2.2.1 s.2.2.2.2.1 s.2.2.2.2.2.1 s.2.2.2.2.2.2.1 s.2.2.2.2.2.2.2.1 s.2.2.2.2.2.2.2.2.1 s.2.2.2.2.2.2.2.2.2.1 s.2.2.2.2.2.2.2.2.2.2.1 s.2.2.2.2.2.2.2.2.2.2.2) (fun n s hI hk => hs n s.1 s.2.1 s.2.2.1 s.2.2.2.1 s.2.2.2.2.1 s.2.2.2.2.2.1 s.2.2.2.2.2.2.1 s.2.2.2.2.2.2.2.1 s.2.2.2.2.2.2.2.2.1 s.2.2.2.2.2.2.2.2.2.1 s.2.2.2.2.2.2.2.2.2.2.1 s.2.2.2.2.2.2.2.2.2.2.2 hI (fun b1 b2 b3 b4 b5 b6 b7 b8 b9 b10 b11 b12 h9 hm => hk (b1, b2, b3, b4, b5, b6, b7, b8, b9, b10, b11, b12) h9 hm)) (a1, a2, a3, a4, a5, a6, a7, a8, a9, a10, a11, a12) h
theorem lp13 {A1 A2 A3 A4 A5 A6 A7 A8 A9 A10 A11 A12 A13 : Type} (W : Nat → A1 → A2 → A3 → A4 → A5 → A6 → A7 → A8 → A9 → A10 → A11 → A12 → A13 → Prop) (I : A1 → A2 → A3 → A4 → A5 → A6 → A7 → A8 → A9 → A10 → A11 → A12 → A13 → Prop) (μ : A1 → A2 → A3 → A4 → A5 → A6 → A7 → A8 → A9 → A10 → A11 → A12 → A13 → Nat) (hs : ∀ (n : Nat) (a1 : A1) (a2 : A2) (a3 : A3) (a4 : A4) (a5 : A5) (a6 : A6) (a7 : A7) (a8 : A8) (a9 : A9) (a10 : A10) (a11 : A11) (a12 : A12) (a13 : A13), I a1 a2 a3 a4 a5 a6 a7 a8 a9 a10 a11 a12 a13 → (∀ (b1 : A1) (b2 : A2) (b3 : A3) (b4 : A4) (b5 : A5) (b6 : A6) (b7 : A7) (b8 : A8) (b9 : A9) (b10 : A10) (b11 : A11) (b12 : A12) (b13 : A13), I b1 b2 b3 b4 b5 b6 b7 b8 b9 b10 b11 b12 b13 → μ b1 b2 b3 b4 b5 b6 b7 b8 b9 b10 b11 b12 b13 < μ a1 a2 a3 a4 a5 a6 a7 a8 a9 a10 a11 a12 a13 → W n b1 b2 b3 b4 b5 b6 b7 b8 b9 b10 b11 b12 b13) → W (n + 1) a1 a2 a3 a4 a5 a6 a7 a8 a9 a10 a11 a12 a13) (a1 : A1) (a2 : A2) (a3 : A3) (a4 : A4) (a5 : A5) (a6 : A6) (a7 : A7) (a8 : A8) (a9 : A9) (a10 : A10) (a11 : A11) (a12 : A12) (a13 : A13) (h : I a1 a2 a3 a4 a5 a6 a7 a8 a9 a10 a11 a12 a13) : ∃ n, W n a1 a2 a3 a4 a5 a6 a7 a8 a9 a10 a11 a12 a13 :=
  loop_m (σ := A1 × A2 × A3 × A4 × A5 × A6 × A7 × A8 × A9 × A10 × A11 × A12 × A13) (fun n s => W n s.1 s.2.1 s.2.2.1 s.2.2.2.1 s.2.2.2.2.1 s.2.2.2.2.2.1 s.2.2.2.2.2.2.1 s.2.2.2.2.2.2.2.1 s.2.2.2.2.2.2.2.2.1 s.2.2.2.2.2.2.2.2.2.1 s.2.2.2.2.2.2.2.2.2.2.1 s.2.2.2.2.2.2.2.2.2.2.2.1 s.2.2.2.2.2.2.2.2.2.2.2.2) (fun s => I s.1 s.2.1 s.2.2.1 s.2.2.2.1 s.2.2.2.2.1 s.2.2.2.2.2.1 s.2.2.2.2.2.2.1 s.2.2.2.2.2.2.2.1 s.2.2.2.2.2.2.2.2.1 s.2.2.2.2.2.2.2.2.2.1 s.2.2.2.2.2.2.2.2.2.2.1 s.2.2.2.2.2.2.2.2.2.2.2.1 s.2.2.2.2.2.2.2.2.2.2.2.2) (fun s => μ s.1 s.2.1 s.2.2.1 s.2.2.2.1 s.2.2.2.2.1 s.2.2.2.2.2.1 s.2.2.2.2.2.2.1 s.2.2.2.2.2.2.2.1 s.2.2.2.2.2.2.2.2.1 s.2.2.2.2.2.2.2.2.2.1 s.2.2.2.2.2.2.2.2.2.2.1 s.2.2.2.2.2.2.2.2.2.2.2.1 s.2.2.2.2.2.2.2.2.2.2.2.2) (fun n s hI hk => hs n s.1 s.2.1 s.2.2.1 s.2.2.2.1 s.2.2.2.2.1 s.2.2.2.2.2.1 s.2.2.2.2.2.2.1 s.2.2.2.2.2.2.2.1 s.2.2.2.2.2.2.2.2.1 s.2.2.2.2.2.2.2.2.2.1 s.2.2.2.2.2.2.2.2.2.2.1 s.2.2.2.2.2.2.2.2.2.2.2.1 s.2.2.2.2.2.2.2.2.2.2.2.2 hI (fun b1 b2 b3 b4 b5 b6 b7 b8 b9 b10 b11 b12 b13 h9 hm => hk (b1, b2, b3, b4, b5, b6, b7, b8, b9, b10, b11, b12, b13) h9 hm)) (a1, a2, a3, a4, a5, a6, a7, a8, a9, a10, a11, a12, a13) h
theorem lp14 {A1 A2 A3 A4 A5 A6 A7 A8 A9 A10 A11 A12 A13 A14 : Type} (W : Nat → A1 → A2 → A3 → A4 → A5 → A6 → A7 → A8 → A9 → A10 → A11 → A12 → A13 → A14 → Prop) (I : A1 → A2 → A3 → A4 → A5 → A6 → A7 → A8 → A9 → A10 → A11 → A12 → A13 → A14 → Prop) (μ : A1 → A2 → A3 → A4 → A5 → A6 → A7 → A8 → A9 → A10 → A11 → A12 → A13 → A14 → Nat) (hs : ∀ (n : Nat) (a1 : A1) (a2 : A2) (a3 : A3) (a4 : A4) (a5 : A5) (a6 : A6) (a7 : A7) (a8 : A8) (a9 : A9) (a10 : A10) (a11 : A11) (a12 : A12) (a13 : A13) (a14 : A14), I a1 a2 a3 a4 a5 a6 a7 a8 a9 a10 a11 a12 a13 a14 → (∀ (b1 : A1) (b2 : A2) (b3 : A3) (b4 : A4) (b5 : A5) (b6 : A6) (b7 : A7) (b8 : A8) (b9 : A9) (b10 : A10) (b11 : A11) (b12 : A12) (b13 : A13) (b14 : A14), I b1 b2 b3 b4 b5 b6 b7 b8 b9 b10 b11 b12 b13 b14 → μ b1 b2 b3 b4 b5 b6 b7 b8 b9 b10 b11 b12 b13 b14 < μ a1 a2 a3 a4 a5 a6 a7 a8 a9 a10 a11 a12 a13 a14 → W n b1 b2 b3 b4 b5 b6 b7 b8 b9 b10 b11 b12 b13 b14) → W (n + 1) a1 a2 a3 a4 a5 a6 a7 a8 a9 a10 a11 a12 a13 a14) (a1 : A1) (a2 : A2) (a3 : A3) (a4 : A4) (a5 : A5) (a6 : A6) (a7 : A7) (a8 : A8) (a9 : A9) (a10 : A10) (a11 : A11) (a12 : A12) (a13 : A13) (a14 : A14) (h : I a1 a2 a3 a4 a5 a6 a7 a8 a9 a10 a11 a12 a13 a14) : ∃ n, W n a1 a2 a3 a4 a5 a6 a7 a8 a9 a10 a11 a12 a13 a14 :=
  loop_m (σ := A1 × A2 × A3 × A4 × A5 × A6 × A7 × A8 × A9 × A10 × A11 × A12 × A13 × A14) (fun n s => W n s.1 s.2.1 s.2.2.1 s.2.2.2.1 s.2.2.2.2.1 s.2.2.2.2.2.1 s.2.2.2.2.2.2.1 s.2.2.2.2.2.2.2.1 s.2.2.2.2.2.2.2.2.1 s.2.2.2.2.2.2.2.2.2.1 s.2.2.2.2.2.2.2.2.2.2.1 s.2.2.2.2.2.2.2.2.2.2.2.1 s.2.2.2.2.2.2.2.2.2.2.2.2.1 s.2.2.2.2.2.2.2.2.2.2.2.2.2) (fun s => I s.1 s.2.1 s.2.2.1 s.2.2.2.1 s.2.2.2.2.1 s.2.2.2.2.2.1 s.2.2.2.2.2.2.1 s.2.2.2.2.2.2.2.1 s.2.2.2.2.2.2.2.2.1 s.2.2.2.2.2.2.2.2.2.1 s.2.2.2.2.2.2.2.2.2.2.1 s.2.2.2.2.2.2.2.2.2.2.2.1 s.2.2.2.2.2.2.2.2.2.2.2.2.1 s.2.2.2.2.2.2.2.2.2.2.2.2.2) (fun s => μ s.1 s.2.1 s.2.2.1 s.2.2.2.1 s.2.2.2.2.1 s.2.2.2.2.2.1 s.2.2.2.2.2.2.1 s.2.2.2.2.2.2.2.1 s.2.2.2.2.2.2.2.2.1 s.2.2.2.2.2.2.2.2.2.1 s.2.2.2.2.2.2.2.2.2.2.1 s.2.2.2.2.2.2.2.2.2.2.2.1 s.2.2.2.2.2.2.2.2.2.2.2.2.1 s.2.2.2.2.2.2.2.2.2.2.2.2.2) (fun n s hI hk => hs n s.1 s.2.1 s.2.2.1 s.2.2.2.1 s.2.2.2.2.1 s.2.2.2.2.2.1 s.2.2.2.2.2.2.1 s.2.2.2.2.2.2.2.1 s.2.2.2.2.2.2.2.2.1 s.2.2.2.2.2.2.2.2.2.1 s.2.2.2.2.2.2.2.2.2.2.1 s.2.2.2.2.2.2.2.2.2.2.2.1 s.2.2.2.2.2.2.2.2.2.2.2.2.1 s.2.2.2.2.2.2.2.2.2.2.2.2.2 hI (fun b1 b2 b3 b4 b5 b6 b7 b8 b9 b10 b11 b12 b13 b14 h9 hm => hk (b1, b2, b3, b4, b5, b6, b7, b8, b9, b10, b11, b12, b13, b14) h9 hm)) (a1, a2, a3, a4, a5, a6, a7, a8, a9, a10, a11, a12, a13, a14) h
theorem lp15 {A1 A2 A3 A4 A5 A6 A7 A8 A9 A10 A11 A12 A13 A14 A15 : Type} (W : Nat → A1 → A2 → A3 → A4 → A5 → A6 → A7 → A8 → A9 → A10 → A11 → A12 → A13 → A14 → A15 → Prop) (I : A1 → A2 → A3 → A4 → A5 → A6 → A7 → A8 → A9 → A10 → A11 → A12 → A13 → A14 → A15 → Prop) (μ : A1 → A2 → A3 → A4 → A5 → A6 → A7 → A8 → A9 → A10 → A11 → A12 → A13 → A14 → A15 → Nat) (hs : ∀ (n : Nat) (a1 : A1) (a2 : A2) (a3 : A3) (a4 : A4) (a5 : A5) (a6 : A6) (a7 : A7) (a8 : A8) (a9 : A9) (a10 : A10) (a11 : A11) (a12 : A12) (a13 : A13) (a14 : A14) (a15 : A15), I a1 a2 a3 a4 a5 a6 a7 a8 a9 a10 a11 a12 a13 a14 a15 → (∀ (b1 : A1) (b2 : A2) (b3 : A3) (b4 : A4) (b5 : A5) (b6 : A6) (b7 : A7) (b8 : A8) (b9 : A9) (b10 : A10) (b11 : A11) (b12 : A12) (b13 : A13) (b14 : A14) (b15 : A15), I b1 b2 b3 b4 b5 b6 b7 b8 b9 b10 b11 b12 b13 b14 b15 → μ b1 b2 b3 b4 b5 b6 b7 b8 b9 b10 b11 b12 b13 b14 b15 < μ a1 a2 a3 a4 a5 a6 a7 a8 a9 a10 a11 a12 a13 a14 a15 → W n b1 b2 b3 b4 b5 b6 b7 b8 b9 b10 b11 b12 b13 b14 b15) → W (n + 1) a1 a2 a3 a4 a5 a6 a7 a8 a9 a10 a11 a12 a13 a14 a15) (a1 : A1) (a2 : A2) (a3 : A3) (a4 : A4) (a5 : A5) (a6 : A6) (a7 : A7) (a8 : A8) (a9 : A9) (a10 : A10) (a11 : A11) (a12 : A12) (a13 : A13) (a14 : A14) (a15 : A15) (h : I a1 a2 a3 a4 a5 a6 a7 a8 a9 a10 a11 a12 a13 a14 a15) : ∃ n, W n a1 a2 a3 a4 a5 a6 a7 a8 a9 a10 a11 a12 a13 a14 a15 :=
  loop_m (σ := A1 × A2 × A3 × A4 × A5 × A6 × A7 × A8 × A9 × A10 × A11 × A12 × A13 × A14 × A15) (fun n s => W n s.1 s.2.1 s.2.2.1 s.2.2.2.1 s.2.2.2.2.1 s.2.2.2.2.2.1 s.2.2.2.2.2.2.1 s.2.2.2.2.2.2.2.1 s.2.2.2.2.2.2.2.2.1 s.2.2.2.2.2.2.2.2.2.1 s.2.2.2.2.2.2.2.2.2.2.1 s.2.2.2.2.2.2.2.2.2.2.2.1 s.2.2.2.2.2.2.2.2.2.2.2.2.1 s.2.2.2.2.2.2.2.2.2.2.2.2.2.1 s.2.2.2.2.2.2.2.2.2.2.2.2.2.2) (fun s => I s.1 s.2.1 s.2.2.1 s.2.2.2.1 s.2.2.2.2.1 s.2.2.2.2.2.1 s.2.2.2.2.2.2.1 s.2.2.2.2.2.2.2.1 s.2.2.2.2.2.2.2.2.1 s.2.2.2.2.2.2.2.2.2.1 s.2.2.2.2.2.2.2.2.2.2.1 s.2.2.2.2.2.2.2.2.2.2.2.1 s.2.2.2.2.2.2.2.2.2.2.2.2.1 s.2.2.2.2.2.2.2.2.2.2.2.2.2.1 s.2.2.2.2.2.2.2.2.2.2.2.2.2.2) (fun s => μ s.1 s.2.1 s.2.2.1 s.2.2.2.1 s.2.2.2.2.1 s.2.2.2.2.2.1 s.2.2.2.2.2.2.1 s.2.2.2.2.2.2.2.1 s.2.2.2.2.2.2.2.2.1 s.2.2.2.2.2.2.2.2.2.1 s.2.2.2.2.2.2.2.2.2.2.1 s.2.2.2.2.2.2.2.2.2.2.2.1 s.2.2.2.2.2.2.2.2.2.2.2.2.1 s.2.2.2.2.2.2.2.2.2.2.2.2.2.1 s.2.2.2.2.2.2.2.2.2.2.2.2.2.2) (fun n s hI hk => hs n s.1 s.2.1 s.2.2.1 s.2.2.2.1 s.2.2.2.2.1 s.2.2.2.2.2.1 s.2.2.2.2.2.2.1 s.2.2.2.2.2.2.2.1 s.2.2.2.2.2.2.2.2.1 s.2.2.2.2.2.2.2.2.2.1 s.2.2.2.2.2.2.2.2.2.2.1 s.2.2.2.2.2.2.2.2.2.2.2.1 s.2.2.2.2.2.2.2.2.2.2.2.2.1 s.2.2.2.2.2.2.2.2.2.2.2.2.2.1 s.2.2.2.2.2.2.2.2.2.2.2.2.2.2 hI (fun b1 b2 b3 b4 b5 b6 b7 b8 b9 b10 b11 b12 b13 b14 b15 h9 hm => hk (b1, b2, b3, b4, b5, b6, b7, b8, b9, b10, b11, b12, b13, b14, b15) h9 hm)) (a1, a2, a3, a4, a5, a6, a7, a8, a9, a10, a11, a12, a13, a14, a15) h
theorem lp16 {A1 A2 A3 A4 A5 A6 A7 A8 A9 A10 A11 A12 A13 A14 A15 A16 : Type} (W : Nat → A1 → A2 → A3 → A4 → A5 → A6 → A7 → A8 → A9 → A10 → A11 → A12 → A13 → A14 → A15 → A16 → Prop) (I : A1 → A2 → A3 → A4 → A5 → A6 → A7 → A8 → A9 → A10 → A11 → A12 → A13 → A14 → A15 → A16 → Prop) (μ : A1 → A2 → A3 → A4 → A5 → A6 → A7 → A8 → A9 → A10 → A11 → A12 → A13 → A14 → A15 → A16 → Nat) (hs : ∀ (n : Nat) (a1 : A1) (a2 : A2) (a3 : A3) (a4 : A4) (a5 : A5) (a6 : A6) (a7 : A7) (a8 : A8) (a9 : A9) (a10 : A10) (a11 : A11) (a12 : A12) (a13 : A13) (a14 : A14) (a15 : A15) (a16 : A16), I a1 a2 a3 a4 a5 a6 a7 a8 a9 a10 a11 a12 a13 a14 a15 a16 → (∀ (b1 : A1) (b2 : A2) (b3 : A3) (b4 : A4) (b5 : A5) (b6 : A6) (b7 : A7) (b8 : A8) (b9 : A9) (b10 : A10) (b11 : A11) (b12 : A12) (b13 : A13) (b14 : A14) (b15 : A15) (b16 : A16), I b1 b2 b3 b4 b5 b6 b7 b8 b9 b10 b11 b12 b13 b14 b15 b16 → μ b1 b2 b3 b4 b5 b6 b7 b8 b9 b10 b11 b12 b13 b14 b15 b16 < μ a1 a2 a3 a4 a5 a6 a7 a8 a9 a10 a11 a12 a13 a14 a15 a16 → W n b1 b2 b3 b4 b5 b6 b7 b8 b9 b10 b11 b12 b13 b14 b15 b16) → W (n + 1) a1 a2 a3 a4 a5 a6 a7 a8 a9 a10 a11 a12 a13 a14 a15 a16) (a1 : A1) (a2 : A2) (a3 : A3) (a4 : A4) (a5 : A5) (a6 : A6) (a7 : A7) (a8 : A8) (a9 : A9) (a10 : A10) (a11 : A11) (a12 : A12) (a13 : A13) (a14 : A14) (a15 : A15) (a16 : A16) (h : I a1 a2 a3 a4 a5 a6 a7 a8 a9 a10 a11 a12 a13 a14 a15 a16) : ∃ n, W n a1 a2 a3 a4 a5 a6 a7 a8 a9 a10 a11 a12 a13 a14 a15 a16 :=
  loop_m (σ := A1 × A2 × A3 × A4 × A5 × A6 × A7 × A8 × A9 × A10 × A11 × A12 × A13 × A14 × A15 × A16) (fun n s => W n s.1 s.2.1 s.2.2.1 s.2.2.2.1 s.2.2.2.2.1 s.2.2.2.2.2.1 s.2.2.2.2.2.2.1 s.2.2.2.2.2.2.2.1 s.2.2.2.2.2.2.2.2.1 s.2.2.2.2.2.2.2.2.2.1 s.2.2.2.2.2.2.2.2.2.2.1 s.2.2.2.2.2.2.2.2.2.2.2.1 s.2.2.2.2.2.2.2.2.2.2.2.2.1 s.2.2.2.2.2.2.2.2.2.2.2.2.2.1 s.2.2.2.2.2.2.2.2.2.2.2.2.2.2.1 s.2.2.2.2.2.2.2.2.2.2.2.2.2.2.2) (fun s => I s.1 s.2.1 s.2.2.1 s.2.2.2.1 s.2.2.2.2.1 s.2.2.2.2.2.1 s.2.2.2.2.2.2.1 s.2.2.2.2.2.2.2.1 s.2.2.2.2.2.2.2.2.1 s.2.2.2.2.2.2.2.2.2.1 s.2.2.2.2.2.2.2.2.2.2.1 s.2.2.2.2.2.2.2.2.2.2.2.1 s.2.2.2.2.2.2.2.2.2.2.2.2.1 s.2.2.2.2.2.2.2.2.2.2.2.2.2.1 s.2.2.2.2.2.2.2.2.2.2.2.2.2.2.1 s.2.2.2.2.2.2.2.2.2.2.2.2.2.2.2) (fun s => μ s.1 s.2.1 s.2.2.1 s.2.2.2.1 s.2.2.2.2.1 s.2.2.2.2.2.1 s.2.2.2.2.2.2.1 s.2.2.2.2.2.2.2.1 s.2.2.2.2.2.2.2.2.1 s.2.2.2.2.2.2.2.2.2.1 s.2.2.2.2.2.2.2.2.2.2.1 s.2.2.2.2.2.2.2.2.2.2.2.1 s.2.2.2.2.2.2.2.2.2.2.2.2.1 s.2.2.2.2.2.2.2.2.2.2.2.2.2.1 s.2.2.2.2.2.2.2.2.2.2.2.2.2.2.1 s.2.2.2.2.2.2.2.2.2.2.2.2.2.2.2) (fun n s hI hk => hs n s.1 s.2.1 s.2.2.1 s.2.2.2.1 s.2.2.2.2.1 s.2.2.2.2.2.1 s.2.2.2.2.2.2.1 s.2.2.2.2.2.2.2.1 s.2.2.2.2.2.2.2.2.1 s.2.2.2.2.2.2.2.2.2.1 s.2.2.2.2.2.2.2.2.2.2.1 s.2.2.2.2.2.2.2.2.2.2.2.1 s.2.2.2.2.2.2.2.2.2.2.2.2.1 s.2.2.2.2.2.2.2.2.2.2.2.2.2.1 s.2.2.2.2.2.2.2.2.2.2.2.2.2.2.1 s.2.2.2.2.2.2.2.2.2.2.2.2.2.2.2 hI (fun b1 b2 b3 b4 b5 b6 b7 b8 b9 b10 b11 b12 b13 b14 b15 b16 h9 hm => hk (b1, b2, b3, b4, b5, b6, b7, b8, b9, b10, b11, b12, b13, b14, b15, b16) h9 hm)) (a1, a2, a3, a4, a5, a6, a7, a8, a9, a10, a11, a12, a13, a14, a15, a16) h
theorem pk_least (P : Nat → Prop) (h : ∃ k, P k) : ∃ k, P k ∧ ∀ j, j < k → ¬ P j := by
  obtain ⟨k, hk⟩ := h
  induction k using Nat.strongRecOn with
  | ind k ih =>
    by_cases e : ∃ j, j < k ∧ P j
    · obtain ⟨j, hj, pj⟩ := e
      exact ih j hj pj
    · exact ⟨k, hk, fun j hj pj => e ⟨j, hj, pj⟩⟩
theorem rp1 {ρ A1 : Type} (W : Nat → (ρ → Prop) → A1 → Prop) (ok : A1 → Prop) (μ : A1 → Nat) (val : A1 → ρ)
    (hs : ∀ (d : Nat) (post : ρ → Prop) (a1 : A1), ok a1 → post (val a1) → (∀ (post' : ρ → Prop) (b1 : A1), ok b1 → μ b1 < μ a1 → post' (val b1) → W d post' b1) → W (d + 1) post a1) :
    ∀ (d : Nat) (post : ρ → Prop) (a1 : A1), ok a1 → μ a1 < d → post (val a1) → W d post a1 := by
  intro d
  induction d with
  | zero => intro post a1 _ h; omega
  | succ d ih =>
    intro post a1 ho hm hp
    exact hs d post a1 ho hp (fun post' b1 ho' hm' hp' => ih post' b1 ho' (by omega) hp')
theorem rp2 {ρ A1 A2 : Type} (W : Nat → (ρ → Prop) → A1 → A2 → Prop) (ok : A1 → A2 → Prop) (μ : A1 → A2 → Nat) (val : A1 → A2 → ρ)
    (hs : ∀ (d : Nat) (post : ρ → Prop) (a1 : A1) (a2 : A2), ok a1 a2 → post (val a1 a2) → (∀ (post' : ρ → Prop) (b1 : A1) (b2 : A2), ok b1 b2 → μ b1 b2 < μ a1 a2 → post' (val b1 b2) → W d post' b1 b2) → W (d + 1) post a1 a2) :
    ∀ (d : Nat) (post : ρ → Prop) (a1 : A1) (a2 : A2), ok a1 a2 → μ a1 a2 < d → post (val a1 a2) → W d post a1 a2 := by
  intro d
  induction d with
  | zero => intro post a1 a2 _ h; omega
  | succ d ih =>
    intro post a1 a2 ho hm hp
    exact hs d post a1 a2 ho hp (fun post' b1 b2 ho' hm' hp' => ih post' b1 b2 ho' (by omega) hp')
theorem rp3 {ρ A1 A2 A3 : Type} (W : Nat → (ρ → Prop) → A1 → A2 → A3 → Prop) (ok : A1 → A2 → A3 → Prop) (μ : A1 → A2 → A3 → Nat) (val : A1 → A2 → A3 → ρ)
    (hs : ∀ (d : Nat) (post : ρ → Prop) (a1 : A1) (a2 : A2) (a3 : A3), ok a1 a2 a3 → post (val a1 a2 a3) → (∀ (post' : ρ → Prop) (b1 : A1) (b2 : A2) (b3 : A3), ok b1 b2 b3 → μ b1 b2 b3 < μ a1 a2 a3 → post' (val b1 b2 b3) → W d post' b1 b2 b3) → W (d + 1) post a1 a2 a3) :
    ∀ (d : Nat) (post : ρ → Prop) (a1 : A1) (a2 : A2) (a3 : A3), ok a1 a2 a3 → μ a1 a2 a3 < d → post (val a1 a2 a3) → W d post a1 a2 a3 := by
  intro d
  induction d with
  | zero => intro post a1 a2 a3 _ h; omega
  | succ d ih =>
    intro post a1 a2 a3 ho hm hp
    exact hs d post a1 a2 a3 ho hp (fun post' b1 b2 b3 ho' hm' hp' => ih post' b1 b2 b3 ho' (by omega) hp')
theorem rp4 {ρ A1 A2 A3 A4 : Type} (W : Nat → (ρ → Prop) → A1 → A2 → A3 → A4 → Prop) (ok : A1 → A2 → A3 → A4 → Prop) (μ : A1 → A2 → A3 → A4 → Nat) (val : A1 → A2 → A3 → A4 → ρ)
    (hs : ∀ (d : Nat) (post : ρ → Prop) (a1 : A1) (a2 : A2) (a3 : A3) (a4 : A4), ok a1 a2 a3 a4 → post (val a1 a2 a3 a4) → (∀ (post' : ρ → Prop) (b1 : A1) (b2 : A2) (b3 : A3) (b4 : A4), ok b1 b2 b3 b4 → μ b1 b2 b3 b4 < μ a1 a2 a3 a4 → post' (val b1 b2 b3 b4) → W d post' b1 b2 b3 b4) → W (d + 1) post a1 a2 a3 a4) :
    ∀ (d : Nat) (post : ρ → Prop) (a1 : A1) (a2 : A2) (a3 : A3) (a4 : A4), ok a1 a2 a3 a4 → μ a1 a2 a3 a4 < d → post (val a1 a2 a3 a4) → W d post a1 a2 a3 a4 := by
  intro d
  induction d with
  | zero => intro post a1 a2 a3 a4 _ h; omega
  | succ d ih =>
    intro post a1 a2 a3 a4 ho hm hp
    exact hs d post a1 a2 a3 a4 ho hp (fun post' b1 b2 b3 b4 ho' hm' hp' => ih post' b1 b2 b3 b4 ho' (by omega) hp')
theorem rp5 {ρ A1 A2 A3 A4 A5 : Type} (W : Nat → (ρ → Prop) → A1 → A2 → A3 → A4 → A5 → Prop) (ok : A1 → A2 → A3 → A4 → A5 → Prop) (μ : A1 → A2 → A3 → A4 → A5 → Nat) (val : A1 → A2 → A3 → A4 → A5 → ρ)
    (hs : ∀ (d : Nat) (post : ρ → Prop) (a1 : A1) (a2 : A2) (a3 : A3) (a4 : A4) (a5 : A5), ok a1 a2 a3 a4 a5 → post (val a1 a2 a3 a4 a5) → (∀ (post' : ρ → Prop) (b1 : A1) (b2 : A2) (b3 : A3) (b4 : A4) (b5 : A5), ok b1 b2 b3 b4 b5 → μ b1 b2 b3 b4 b5 < μ a1 a2 a3 a4 a5 → post' (val b1 b2 b3 b4 b5) → W d post' b1 b2 b3 b4 b5) → W (d + 1) post a1 a2 a3 a4 a5) :
    ∀ (d : Nat) (post : ρ → Prop) (a1 : A1) (a2 : A2) (a3 : A3) (a4 : A4) (a5 : A5), ok a1 a2 a3 a4 a5 → μ a1 a2 a3 a4 a5 < d → post (val a1 a2 a3 a4 a5) → W d post a1 a2 a3 a4 a5 := by
  intro d
  induction d with
  | zero => intro post a1 a2 a3 a4 a5 _ h; omega
  | succ d ih =>
    intro post a1 a2 a3 a4 a5 ho hm hp
    exact hs d post a1 a2 a3 a4 a5 ho hp (fun post' b1 b2 b3 b4 b5 ho' hm' hp' => ih post' b1 b2 b3 b4 b5 ho' (by omega) hp')
theorem rp6 {ρ A1 A2 A3 A4 A5 A6 : Type} (W : Nat → (ρ → Prop) → A1 → A2 → A3 → A4 → A5 → A6 → Prop) (ok : A1 → A2 → A3 → A4 → A5 → A6 → Prop) (μ : A1 → A2 → A3 → A4 → A5 → A6 → Nat) (val : A1 → A2 → A3 → A4 → A5 → A6 → ρ)
    (hs : ∀ (d : Nat) (post : ρ → Prop) (a1 : A1) (a2 : A2) (a3 : A3) (a4 : A4) (a5 : A5) (a6 : A6), ok a1 a2 a3 a4 a5 a6 → post (val a1 a2 a3 a4 a5 a6) → (∀ (post' : ρ → Prop) (b1 : A1) (b2 : A2) (b3 : A3) (b4 : A4) (b5 : A5) (b6 : A6), ok b1 b2 b3 b4 b5 b6 → μ b1 b2 b3 b4 b5 b6 < μ a1 a2 a3 a4 a5 a6 → post' (val b1 b2 b3 b4 b5 b6) → W d post' b1 b2 b3 b4 b5 b6) → W (d + 1) post a1 a2 a3 a4 a5 a6) :
    ∀ (d : Nat) (post : ρ → Prop) (a1 : A1) (a2 : A2) (a3 : A3) (a4 : A4) (a5 : A5) (a6 : A6), ok a1 a2 a3 a4 a5 a6 → μ a1 a2 a3 a4 a5 a6 < d → post (val a1 a2 a3 a4 a5 a6) → W d post a1 a2 a3 a4 a5 a6 := by
  intro d
  induction d with
  | zero => intro post a1 a2 a3 a4 a5 a6 _ h; omega
  | succ d ih =>
    intro post a1 a2 a3 a4 a5 a6 ho hm hp
    exact hs d post a1 a2 a3 a4 a5 a6 ho hp (fun post' b1 b2 b3 b4 b5 b6 ho' hm' hp' => ih post' b1 b2 b3 b4 b5 b6 ho' (by omega) hp')
theorem rec_p {σ ρ : Type} (W : Nat → (ρ → Prop) → σ → Prop) (ok : σ → Prop) (μ : σ → Nat) (val : σ → ρ)
    (hs : ∀ d s post, ok s → post (val s) → (∀ s' post', ok s' → μ s' < μ s → post' (val s') → W d post' s') → W (d + 1) post s) :
    ∀ d s post, ok s → μ s < d → post (val s) → W d post s := by
  intro d
  induction d with
  | zero => intro s post _ h; omega
  | succ d ih =>
    intro s post ho hm hp
    exact hs d s post ho hp (fun s' post' ho' hm' hp' => ih s' post' ho' (by omega) hp')
theorem rec_q {σ ρ : Type} (W : Nat → (ρ → Prop) → σ → Prop) (ok : σ → Prop) (μ : σ → Nat) (Q : σ → ρ → Prop)
    (hs : ∀ d s post, ok s → (∀ r, Q s r → post r) → (∀ s' post', ok s' → μ s' < μ s → (∀ r, Q s' r → post' r) → W d post' s') → W (d + 1) post s) :
    ∀ d s post, ok s → μ s < d → (∀ r, Q s r → post r) → W d post s := by
  intro d
  induction d with
  | zero => intro s post _ h; omega
  | succ d ih =>
    intro s post ho hm hp
    exact hs d s post ho hp (fun s' post' ho' hm' hp' => ih s' post' ho' (by omega) hp')
def bx_sum (f : Nat → Int32) : Nat → Int32
  | 0 => 0
  | n + 1 => bx_sum f n + f n
theorem ek_u {A : Prop} {B : Nat → Prop} {k N : Nat} (hk : k < N) (h : B k) : (some k = none → A) ∧ (∀ y : Nat, some k = some y → (y < N ∧ B y)) :=
  ⟨fun z => absurd z (Option.some_ne_none k), fun _ e => (by cases e; exact ⟨hk, h⟩)⟩
theorem ek_nu {A : Prop} {B : Nat → Prop} (h : A) : ((none : Option Nat) = none → A) ∧ (∀ y : Nat, (none : Option Nat) = some y → B y) :=
  ⟨fun _ => h, fun _ e => (by cases e)⟩
theorem ek_if {c d A B : Prop} (e : c ↔ d) (f : d → A) (g : ¬ d → B) : (c → A) ∧ (¬ c → B) :=
  ⟨fun z => f (e.mp z), fun z => g (fun y => z (e.mpr y))⟩
theorem ek_v {α : Sort _} {P : α → Prop} {a b : α} (e : a = b) (h : P b) : P a := e ▸ h
theorem co_some {x : Option Nat} {A : Prop} {B : Nat → Prop} (i : Nat) (h : B i) (hx : x = some i := by rfl) : (x = none → A) ∧ (∀ y : Nat, x = some y → B y) := by
  subst hx
  exact ⟨fun e => (nomatch e), fun y e => Option.some.inj e ▸ h⟩
theorem co_none {x : Option Nat} {A : Prop} {B : Nat → Prop} (h : A) (hx : x = none := by rfl) : (x = none → A) ∧ (∀ y : Nat, x = some y → B y) := by
  subst hx
  exact ⟨fun _ => h, fun y e => (nomatch e)⟩
theorem co_any {x : Option Nat} {A : Prop} {B : Nat → Prop} (hn : x = none → A) (hs : ∀ i : Nat, x = some i → B i) : (x = none → A) ∧ (∀ y : Nat, x = some y → B y) := ⟨hn, hs⟩
theorem co_2 {P : Nat → Prop} (h0 : P 0) (h1 : P 1) {i : Nat} (hi : i < 2) : P i :=
  match i, hi with
  | 0, _ => h0
  | 1, _ => h1
theorem co_3 {P : Nat → Prop} (h0 : P 0) (h1 : P 1) (h2 : P 2) {i : Nat} (hi : i < 3) : P i :=
  match i, hi with
  | 0, _ => h0
  | 1, _ => h1
  | 2, _ => h2
theorem co_4 {P : Nat → Prop} (h0 : P 0) (h1 : P 1) (h2 : P 2) (h3 : P 3) {i : Nat} (hi : i < 4) : P i :=
  match i, hi with
  | 0, _ => h0
  | 1, _ => h1
  | 2, _ => h2
  | 3, _ => h3
theorem co_dec {N : Nat} {P : Nat → Prop} [DecidablePred P] (h : (List.range N).all (fun i => decide (P i)) = true) {i : Nat} (hi : i < N) : P i := by
  have := List.all_eq_true.mp h i (List.mem_range.mpr hi)
  exact of_decide_eq_true this
theorem co_tab {α : Type} {l : List α} {d : α} {P : α → Prop} (h : ∀ a, a ∈ l → P a) {i : Nat} (hi : i < l.length) : P (l.getD i d) := by
  rw [List.getD_eq_getElem?_getD, List.getElem?_eq_getElem hi]
  exact h _ (List.getElem_mem hi)
theorem pk_mu {x : Int32} {L : Nat} (h0 : ¬ x < 0) (h : ¬ nI L ≤ x) (hL : L < 2 ^ 31) : ∃ j : Nat, j < L ∧ x = nI j ∧ x + 1 = nI (j + 1) ∧ x.toNatClampNeg = j ∧ L - (x + 1).toNatClampNeg < L - x.toNatClampNeg := by
  obtain ⟨j, hj, rfl⟩ := nI_of h0
  have hl : j < L := Nat.not_le.mp fun q => h (nI_le q hj)
  refine ⟨j, hl, rfl, nI_1 j, nI_clamp hj, ?_⟩
  rw [nI_1, nI_clamp (by omega), nI_clamp hj]
  omega
theorem op_s {α : Type} {r : Option α} {A : Prop} {B : α → Prop} {y : α} (h : r = some y) (b : B y) : (r = none → A) ∧ ∀ z, r = some z → B z :=
  ⟨fun e => (by rw [h] at e; cases e), fun z e => (by rw [h] at e; cases e; exact b)⟩
def l_holds {α : Type} (a : Nat → Option Nat) (LP : List Nat) (p : Nat → α) (c : Nat) (b : Nat → α) : Prop :=
  ∀ j, j < c → ∃ y, a j = some y ∧ y ∈ LP ∧ p y = b j
theorem l_holds_0 {α : Type} {a : Nat → Option Nat} {LP : List Nat} {p b : Nat → α} : l_holds a LP p 0 b := fun j h => absurd h (Nat.not_lt_zero j)
theorem l_in_new (LP : List Nat) (q : Nat) : q ∈ LP ++ [q] := List.mem_append.mpr (Or.inr (List.mem_singleton.mpr rfl))
def l_sum (b : Nat → Int32) : Nat → Int32
  | 0 => 0
  | k + 1 => l_sum b k + b k
theorem sb_shr0 (x : Int32) : x >>> ((0 : Int32) &&& 31) = x := by
  rw [show ((0 : Int32) &&& 31) = 0 by decide]
  simp
theorem sb_shl0 (x : Int32) : x <<< ((0 : Int32) &&& 31) = x := by
  rw [show ((0 : Int32) &&& 31) = 0 by decide]
  simp
theorem sb_cl0 : (0 : Int32).toNatClampNeg = 0 := by decide
theorem sb_m1 {p : Nat} (h : 0 < p) : nI p + (-1) = nI (p - 1) := by
  obtain ⟨q, rfl⟩ : ∃ q, p = q + 1 := ⟨p - 1, by omega⟩
  exact pk_m1 q
def sb_b (c : Nat) : Int32 := (nI c).toInt8.toInt32
theorem sb_byte : ∀ c, c < 256 → sb_b c &&& 255 = nI c ∧ ((nI c).toUInt32 % 65536).toInt32 = nI c ∧ nI c ≤ 255 := by decide +kernel
def sb_Fit (a : Nat → Int32) : Prop := ∀ j, fits .byte (.int (a j)) = true
def sb_Lat (t : Nat → Nat) (n : Nat) (a : Nat → Int32) : Prop := ∀ j, j < n → t j < 256 ∧ a j = sb_b (t j)
theorem sb_fitB (c : Nat) : fits .byte (.int (sb_b c)) = true := pk_fb _
theorem sb_fit0 : sb_Fit (fun _ => 0) := fun _ => by
  show fits .byte (.int 0) = true
  decide
theorem sb_fitU {a : Nat → Int32} {k : Nat} {x : Int32} (h : sb_Fit a) (hx : fits .byte (.int x) = true) : sb_Fit (upd a k x) := by
  intro j
  by_cases e : j = k
  · subst e
    rw [pk_us]
    exact hx
  · rw [pk_un e]
    exact h j
def sb_cat (t : Nat → Nat) (n : Nat) (s : Nat → Nat) : Nat → Nat := fun j => if j < n then t j else s (j - n)
theorem sb_cat_lo {t s : Nat → Nat} {n j : Nat} (h : j < n) : sb_cat t n s j = t j := if_pos h
theorem sb_cat_hi {t s : Nat → Nat} {n j : Nat} : sb_cat t n s (n + j) = s j := by
  show (if n + j < n then t (n + j) else s (n + j - n)) = s j
  rw [if_neg (by omega), Nat.add_sub_cancel_left]
theorem sb_latPut {t s : Nat → Nat} {n w : Nat} {a a' : Nat → Int32} (h : sb_Lat t n a) (hk : ∀ j, j < n → a' j = a j) (hs : ∀ i, i < w → s i < 256 ∧ a' (n + i) = sb_b (s i)) : sb_Lat (sb_cat t n s) (n + w) a' := by
  intro j hj
  by_cases e : j < n
  · rw [sb_cat_lo e, hk j e]
    exact h j e
  · obtain ⟨i, rfl⟩ : ∃ i, j = n + i := ⟨j - n, by omega⟩
    rw [sb_cat_hi]
    exact hs i (by omega)
theorem sb_latKeep {t : Nat → Nat} {n : Nat} {a a' : Nat → Int32} (h : sb_Lat t n a) (hk : ∀ j, j < n → a' j = a j) : sb_Lat t n a' := fun j hj => by
  rw [hk j hj]
  exact h j hj
def sb_cap (q m : Nat) : Nat := if q ≤ m then m else if 2 * m + 2 < q then q else 2 * m + 2
def sb_Room (q m mc ms : Nat) : Prop := q ≤ m ∨ (1 ≤ mc ∧ sb_cap q m ≤ ms ∧ sb_cap q m ≤ 65536)
theorem sb_cap_ge (q m : Nat) : q ≤ sb_cap q m := by
  unfold sb_cap
  split
  · omega
  · split <;> omega
theorem sb_cap_gem (q m : Nat) : m ≤ sb_cap q m := by
  unfold sb_cap
  split
  · omega
  · split <;> omega
theorem sb_cap_le {q m mc ms : Nat} (hm : m ≤ 65536) (hr : sb_Room q m mc ms) : sb_cap q m ≤ 65536 := by
  rcases hr with h | h
  · rw [sb_cap, if_pos h]
    exact hm
  · exact h.2.2
theorem sb_at {P : Int32 → Prop} {x y : Int32} (e : x = y) (h : P y) : P x := e ▸ h
def sb_dg (w : Nat) : Nat := if w < 10 then 1 else if w < 100 then 2 else if w < 1000 then 3 else if w < 10000 then 4 else if w < 100000 then 5 else if w < 1000000 then 6 else if w < 10000000 then 7 else if w < 100000000 then 8 else if w < 1000000000 then 9 else 10
def sb_dec (v : Nat) : Nat → Nat := fun i => 48 + v / 10 ^ (sb_dg v - 1 - i) % 10
theorem sb_dg_in (w : Nat) : 1 ≤ sb_dg w ∧ sb_dg w ≤ 10 := by
  unfold sb_dg
  constructor <;> (repeat' split) <;> omega
theorem sb_dg100 {w : Nat} (h : 100 ≤ w) (hw : w < 2 ^ 31) : sb_dg w = sb_dg (w / 100) + 2 := by
  rw [sb_dg, sb_dg, if_neg (show ¬ w < 10 by omega), if_neg (show ¬ w < 100 by omega)]
  by_cases h3 : w < 1000
  · rw [if_pos h3, if_pos (show w / 100 < 10 by omega)]
  rw [if_neg h3, if_neg (show ¬ w / 100 < 10 by omega)]
  by_cases h4 : w < 10000
  · rw [if_pos h4, if_pos (show w / 100 < 100 by omega)]
  rw [if_neg h4, if_neg (show ¬ w / 100 < 100 by omega)]
  by_cases h5 : w < 100000
  · rw [if_pos h5, if_pos (show w / 100 < 1000 by omega)]
  rw [if_neg h5, if_neg (show ¬ w / 100 < 1000 by omega)]
  by_cases h6 : w < 1000000
  · rw [if_pos h6, if_pos (show w / 100 < 10000 by omega)]
  rw [if_neg h6, if_neg (show ¬ w / 100 < 10000 by omega)]
  by_cases h7 : w < 10000000
  · rw [if_pos h7, if_pos (show w / 100 < 100000 by omega)]
  rw [if_neg h7, if_neg (show ¬ w / 100 < 100000 by omega)]
  by_cases h8 : w < 100000000
  · rw [if_pos h8, if_pos (show w / 100 < 1000000 by omega)]
  rw [if_neg h8, if_neg (show ¬ w / 100 < 1000000 by omega)]
  by_cases h9 : w < 1000000000
  · rw [if_pos h9, if_pos (show w / 100 < 10000000 by omega)]
  rw [if_neg h9, if_neg (show ¬ w / 100 < 10000000 by omega)]
  rw [if_pos (show w / 100 < 100000000 by omega)]
theorem sb_negT {w : Nat} (h : w < 2 ^ 31) : (-nI w).toInt = -(w : Int) := by
  rw [Int32.toInt_neg, nI_toInt h]
  exact Int.bmod_eq_of_le (by omega) (by omega)
theorem sb_nle {a b : Nat} (ha : a < 2 ^ 31) (hb : b < 2 ^ 31) : -nI a ≤ -nI b ↔ b ≤ a := by
  rw [Int32.le_iff_toInt_le, sb_negT ha, sb_negT hb]
  omega
theorem sb_nlt {a b : Nat} (ha : a < 2 ^ 31) (hb : b < 2 ^ 31) : -nI a < -nI b ↔ b < a := by
  rw [Int32.lt_iff_toInt_lt, sb_negT ha, sb_negT hb]
  omega
theorem sb_cmp {A B : Prop} {x : Int32} (v c : Nat) (f : c ≤ v → A) (g : v < c → B) (hv : v < 2 ^ 31) (hx : x = -nI c := by rfl) (hc : c < 2 ^ 31 := by omega) : (-nI v ≤ x → A) ∧ (¬ -nI v ≤ x → B) := by
  subst hx
  rw [sb_nle hv hc]
  exact ⟨f, fun z => g (by omega)⟩
theorem sb_ndiv {w : Nat} (hw : w < 2 ^ 31) : (-nI w) / 100 = -nI (w / 100) := by
  apply Int32.toInt_inj.mp
  have h100 : (100 : Int32).toInt = 100 := by decide
  rw [Int32.toInt_div, sb_negT hw, h100, sb_negT (by omega), Int.neg_tdiv, Int.tdiv_eq_ediv_of_nonneg (by omega), Int.bmod_eq_of_le (by omega) (by omega)]
  omega
theorem sb_nrem {w : Nat} (hw : w < 2 ^ 31) : (-nI (w / 100)) * 100 - (-nI w) = nI (w % 100) := by
  have h := pk_rem (a := w) (d := 100) hw (by decide) (by decide)
  rw [pk_div hw (by decide) (by decide)] at h
  rw [← h]
  show (-nI (w / 100)) * nI 100 - (-nI w) = nI w - nI (w / 100) * nI 100
  rw [Int32.neg_mul, Int32.sub_neg, Int32.add_comm, ← Int32.sub_eq_add_neg]
end
section
/-! ===== lN n to 2^64: shifts, and, or, masks, one bit ===== -/
theorem wb_tb (n : Nat) : (lN n).toBitVec = BitVec.ofNat 64 n := rfl
theorem wb_inj {a b : Int64} (h : a.toBitVec = b.toBitVec) : a = b := Int64.toBitVec_inj.mp h
theorem wb_tn {n : Nat} (h : n < 2 ^ 64) : (lN n).toBitVec.toNat = n := by rw [wb_tb, BitVec.toNat_ofNat, Nat.mod_eq_of_lt h]
theorem wb_of (x : Int64) : ∃ n, n < 2 ^ 64 ∧ x = lN n := ⟨x.toBitVec.toNat, x.toBitVec.isLt, wb_inj (by rw [wb_tb]; simp)⟩
theorem wb_of32 (x : Int32) : ∃ n, n < 2 ^ 32 ∧ x = nI n := ⟨x.toBitVec.toNat, x.toBitVec.isLt, Int32.toBitVec_inj.mp (by show _ = BitVec.ofNat 32 _; simp)⟩
theorem wb_c : ∀ k, k < 64 → ((nI k).toInt64 &&& 63) = lN k := by decide +kernel
theorem wb_cu : ∀ k, k < 64 → ((nI k).toInt64.toUInt64 &&& Int64.toUInt64 63) = UInt64.ofNat k := by decide +kernel
theorem wb_sm : ∀ k, k < 64 → (BitVec.ofNat 64 k).smod 64 = BitVec.ofNat 64 k := by decide +kernel
theorem wb_pw {a b : Nat} (h : a ≤ b) : 2 ^ b = 2 ^ a * 2 ^ (b - a) := by rw [← Nat.pow_add]; congr 1; omega
theorem wb_lt2 {a b : Nat} (h : a < b) : 2 ^ a < 2 ^ b := Nat.pow_lt_pow_right (by decide) h
theorem wb_mod (n : Nat) : lN n = lN (n % 2 ^ 64) := wb_inj (by rw [wb_tb, wb_tb]; apply BitVec.eq_of_toNat_eq; rw [BitVec.toNat_ofNat, BitVec.toNat_ofNat, Nat.mod_mod])
theorem wb_shr {n k : Nat} (hn : n < 2 ^ 64) (hk : k < 64) : ((lN n).toUInt64 >>> ((nI k).toInt64.toUInt64 &&& Int64.toUInt64 63)).toInt64 = lN (n / 2 ^ k) := by
  rw [wb_cu k hk]
  apply wb_inj
  apply BitVec.eq_of_toNat_eq
  show ((lN n).toUInt64 >>> UInt64.ofNat k).toNat = (BitVec.ofNat 64 _).toNat
  have h1 : (UInt64.ofNat k).toNat = k := by
    show (BitVec.ofNat 64 k).toNat = k
    rw [BitVec.toNat_ofNat, Nat.mod_eq_of_lt (by omega)]
  have h2 : (lN n).toUInt64.toNat = n := wb_tn hn
  rw [UInt64.toNat_shiftRight, h1, h2, Nat.mod_eq_of_lt hk, Nat.shiftRight_eq_div_pow, BitVec.toNat_ofNat, Nat.mod_eq_of_lt (Nat.lt_of_le_of_lt (Nat.div_le_self _ _) hn)]
theorem wb_shl (n : Nat) {k : Nat} (hk : k < 64) : lN n <<< ((nI k).toInt64 &&& 63) = lN (n * 2 ^ k) := by
  rw [wb_c k hk]
  apply wb_inj
  rw [Int64.toBitVec_shiftLeft, wb_tb, wb_tb, wb_tb, wb_sm k hk]
  apply BitVec.eq_of_toNat_eq
  rw [BitVec.shiftLeft_eq', BitVec.toNat_shiftLeft, BitVec.toNat_ofNat, BitVec.toNat_ofNat, BitVec.toNat_ofNat, Nat.mod_eq_of_lt (show k < 2 ^ 64 by omega), Nat.shiftLeft_eq, Nat.mul_mod, Nat.mod_mod, ← Nat.mul_mod]
theorem wb_and {a b : Nat} (ha : a < 2 ^ 64) (hb : b < 2 ^ 64) : lN a &&& lN b = lN (a &&& b) := by
  apply wb_inj
  rw [Int64.toBitVec_and, wb_tb, wb_tb, wb_tb]
  apply BitVec.eq_of_toNat_eq
  rw [BitVec.toNat_and, BitVec.toNat_ofNat, BitVec.toNat_ofNat, BitVec.toNat_ofNat, Nat.mod_eq_of_lt ha, Nat.mod_eq_of_lt hb, Nat.mod_eq_of_lt (Nat.and_lt_two_pow _ hb)]
theorem wb_or {a b : Nat} (ha : a < 2 ^ 64) (hb : b < 2 ^ 64) : lN a ||| lN b = lN (a ||| b) := by
  apply wb_inj
  rw [Int64.toBitVec_or, wb_tb, wb_tb, wb_tb]
  apply BitVec.eq_of_toNat_eq
  rw [BitVec.toNat_or, BitVec.toNat_ofNat, BitVec.toNat_ofNat, BitVec.toNat_ofNat, Nat.mod_eq_of_lt ha, Nat.mod_eq_of_lt hb, Nat.mod_eq_of_lt (Nat.or_lt_two_pow ha hb)]
theorem wb_mask {n k : Nat} (hn : n < 2 ^ 64) (hk : k < 64) : lN n &&& lN (2 ^ k - 1) = lN (n % 2 ^ k) := by
  rw [wb_and hn (by have := wb_lt2 hk; omega), Nat.and_two_pow_sub_one_eq_mod]
theorem wb_a1 {n : Nat} (hn : n < 2 ^ 64) : lN n &&& 1 = lN (n % 2) := wb_mask (k := 1) hn (by decide)
theorem wb_bit {n k : Nat} (hn : n < 2 ^ 64) (hk : k < 64) : ((lN n).toUInt64 >>> ((nI k).toInt64.toUInt64 &&& Int64.toUInt64 63)).toInt64 &&& 1 = lN (n / 2 ^ k % 2) := by
  rw [wb_shr hn hk, wb_a1 (Nat.lt_of_le_of_lt (Nat.div_le_self _ _) hn)]
theorem wb_xor {q k : Nat} (hk : k < 63) (h : 2 ^ k ≤ q) (h2 : q < 2 ^ (k + 1)) : lN q ^^^ lN (2 ^ k) = lN (q - 2 ^ k) := by
  obtain ⟨r, rfl⟩ : ∃ r, q = 2 ^ k + r := ⟨q - 2 ^ k, by omega⟩
  have hr : r < 2 ^ k := by rw [Nat.pow_succ] at h2; omega
  have hx : (2 ^ k + r) ^^^ 2 ^ k = r := by
    apply Nat.eq_of_testBit_eq
    intro i
    rw [Nat.testBit_xor, Nat.testBit_two_pow]
    rcases Nat.lt_trichotomy i k with h | h | h
    · rw [Nat.testBit_two_pow_add_gt h]
      simp [show ¬ k = i by omega]
    · subst h
      rw [Nat.testBit_two_pow_add_eq]
      simp
    · have a1 : 2 ^ (k + 1) ≤ 2 ^ i := Nat.pow_le_pow_right (by decide) h
      rw [Nat.testBit_lt_two_pow (show 2 ^ k + r < 2 ^ i by omega), Nat.testBit_lt_two_pow (show r < 2 ^ i by omega)]
      simp [show ¬ k = i by omega]
  have b1 := wb_lt2 (show k + 1 < 64 by omega)
  have b2 := wb_lt2 (show k < 64 by omega)
  apply wb_inj
  rw [Int64.toBitVec_xor, wb_tb, wb_tb, wb_tb]
  apply BitVec.eq_of_toNat_eq
  rw [BitVec.toNat_xor, BitVec.toNat_ofNat, BitVec.toNat_ofNat, BitVec.toNat_ofNat, Nat.mod_eq_of_lt (by omega : 2 ^ k + r < 2 ^ 64), Nat.mod_eq_of_lt b2, hx, Nat.add_sub_cancel_left, Nat.mod_eq_of_lt (by omega)]
/-! ===== lN: masks, 'or' of parts that don't overlap is a sum ===== -/
theorem u_tn {n : Nat} (h : n < 2 ^ 64) : (UInt64.ofNat n).toNat = n := Nat.mod_eq_of_lt h
theorem g_and {a b c : Nat} (ha : a < 2 ^ 64) (hb : b < 2 ^ 64) (hc : a &&& b = c) : lN a &&& lN b = lN c := by
  subst hc
  have h : UInt64.ofNat a &&& UInt64.ofNat b = UInt64.ofNat (a &&& b) := UInt64.toNat_inj.mp (by rw [UInt64.toNat_and, u_tn ha, u_tn hb, u_tn (Nat.and_lt_two_pow a hb)])
  have h2 := congrArg UInt64.toInt64 h
  exact h2
theorem g_and1 {a : Nat} (ha : a < 2 ^ 64) : lN a &&& 1 = lN (a % 2) := g_and (b := 1) ha (by decide) (Nat.and_two_pow_sub_one_eq_mod a 1)
theorem g_mask {a s p : Nat} (hp : 2 ^ s = p) (hs : s < 64) (ha : a < 2 ^ 64) : lN a &&& lN (p - 1) = lN (a % p) := by
  subst hp
  have := Nat.pow_lt_pow_right (show 1 < 2 by decide) hs
  exact g_and ha (by omega) (Nat.and_two_pow_sub_one_eq_mod a s)
theorem g_or {k p a b : Nat} (hp : 2 ^ k = p) (ha : a < p) (h : b * p + a < 2 ^ 64) : lN (b * p) ||| lN a = lN (b * p + a) := by
  subst hp
  have h1 : b * 2 ^ k ||| a = b * 2 ^ k + a := by rw [← Nat.shiftLeft_eq, Nat.shiftLeft_add_eq_or_of_lt ha]
  have h3 : UInt64.ofNat (b * 2 ^ k) ||| UInt64.ofNat a = UInt64.ofNat (b * 2 ^ k + a) := UInt64.toNat_inj.mp (by rw [UInt64.toNat_or, u_tn (by omega), u_tn (by omega), u_tn h, h1])
  have h2 := congrArg UInt64.toInt64 h3
  exact h2
theorem g_or' {k p a b : Nat} (hp : 2 ^ k = p) (ha : a < p) (h : a + b * p < 2 ^ 64) : lN a ||| lN (b * p) = lN (a + b * p) := by
  rw [Int64.or_comm, g_or hp ha (by omega), Nat.add_comm]
theorem g_ushr {a k p : Nat} {y : UInt64} (hy : y = UInt64.ofNat k) (hk : k < 64) (hp : 2 ^ k = p) (ha : a < 2 ^ 64) : ((lN a).toUInt64 >>> y).toInt64 = lN (a / p) := by
  subst hy hp
  have h : UInt64.ofNat a >>> UInt64.ofNat k = UInt64.ofNat (a / 2 ^ k) := UInt64.toNat_inj.mp (by rw [UInt64.toNat_shiftRight, u_tn ha, u_tn (by omega), u_tn (Nat.lt_of_le_of_lt (Nat.div_le_self _ _) ha), Nat.mod_eq_of_lt hk, Nat.shiftRight_eq_div_pow])
  have h2 := congrArg UInt64.toInt64 h
  exact h2
theorem g_shl {a k p : Nat} {y : Int64} (hy : y.toBitVec.smod 64 = BitVec.ofNat 64 k) (hk : k < 64) (hp : 2 ^ k = p) (ha : a < 2 ^ 64) : lN a <<< y = lN (a * p) := by
  subst hp
  apply Int64.toBitVec_inj.mp
  rw [Int64.toBitVec_shiftLeft, hy]
  apply BitVec.eq_of_toNat_eq
  have hb : (lN a).toBitVec.toNat = a := Nat.mod_eq_of_lt ha
  have hk' : (BitVec.ofNat 64 k).toNat = k := Nat.mod_eq_of_lt (by omega)
  have h : ((lN a).toBitVec <<< BitVec.ofNat 64 k).toNat = (a * 2 ^ k) % 2 ^ 64 := by simp only [BitVec.shiftLeft_eq', BitVec.toNat_shiftLeft, hb, hk', Nat.shiftLeft_eq]
  exact h
/-! ===== lN to 2^62 under >> and >>> ===== -/
theorem pf_lI {a : Nat} (h : a < 2 ^ 63) : (lN a).toInt = (a : Int) := lg_ofNat_toInt h
theorem pf_shr {a d : Nat} {D : Int64} (hD : (D.toBitVec.smod 64).toNat = d) (h : a < 2 ^ 62) : lN a >>> D = lN (a / 2 ^ d) := by
  have hd : a / 2 ^ d ≤ a := Nat.div_le_self _ _
  apply Int64.toInt_inj.mp
  have e : (lN a >>> D).toInt = (lN a).toInt >>> d := by
    rw [← hD]
    exact BitVec.toInt_sshiftRight ..
  rw [e, Int.shiftRight_eq_div_pow, pf_lI (by omega), pf_lI (by omega)]
  rfl
theorem pf_ushr {a d : Nat} {D : UInt64} (hD : D.toNat % 64 = d) (h : a < 2 ^ 62) : ((lN a).toUInt64 >>> D).toInt64 = lN (a / 2 ^ d) := by
  have hd : a / 2 ^ d ≤ a := Nat.div_le_self _ _
  have e : (lN a).toUInt64 >>> D = UInt64.ofNat (a / 2 ^ d) := UInt64.toNat_inj.mp (by
    rw [UInt64.toNat_shiftRight, hD, Nat.shiftRight_eq_div_pow, UInt64.toNat_ofNat']
    show (UInt64.ofNat a).toNat / 2 ^ d = _
    rw [UInt64.toNat_ofNat', Nat.mod_eq_of_lt (by omega), Nat.mod_eq_of_lt (by omega)])
  rw [e]
  rfl
theorem pf_andw (x : Int64) : ∃ m, m < 2 ^ 32 ∧ x &&& 4294967295 = lN m := ⟨x.toBitVec.toNat % 2 ^ 32, Nat.mod_lt _ (by decide), Int64.toBitVec_inj.mp (BitVec.eq_of_toNat_eq (by
  show (x.toBitVec &&& 4294967295#64).toNat = (BitVec.ofNat 64 (x.toBitVec.toNat % 2 ^ 32)).toNat
  rw [BitVec.toNat_and, show (4294967295#64).toNat = 2 ^ 32 - 1 from by decide, Nat.and_two_pow_sub_one_eq_mod, BitVec.toNat_ofNat]
  omega))⟩
end
section
/-! ===== words: entries of the lists as words over 0..7 (row signs), 8 (^), 9 ($) ===== -/
def wd_sg (w : List Nat) : List Nat := w.filter (fun c => decide (c < 8))
def wd_sz (w : List Nat) : Nat := (wd_sg w).length
def wd_join (n : Nat) (P Q : List (List Nat)) : List (List Nat) :=
  P.flatMap (fun a => (Q.filter (fun b => decide (wd_sz a + wd_sz b ≤ n))).map (fun b => a ++ b))
def wd_rows (P : List (List Nat)) : List (List Nat) := P.filter (fun w => decide (0 < wd_sz w))
def wd_R (n m M : Nat) (lz : Bool) (B : List (List Nat)) : Nat → List (List Nat)
  | 0 => [[]]
  | d + 1 => if M - (d + 1) < m then wd_join n B (wd_R n m M lz B d)
      else if lz then [] :: wd_join n (wd_rows B) (wd_R n m M lz B d)
      else wd_join n (wd_rows B) (wd_R n m M lz B d) ++ [[]]
def wd_ec (c : Nat) : Nat := if c < 8 then c % 4 + 4 else c
def wd_ex (w : List Nat) : List Nat := w.map wd_ec
/-- the check of a word: ok: a sign may be bound behind these labels; fi, la: the two anchors hold there -/
def wd_v (ok : List Nat → Nat → Bool) (fi la : List Nat → Bool) : List Nat → List Nat → Bool
  | _, [] => true
  | l, c :: w => if c < 8 then ok l c && wd_v ok fi la (l ++ [c]) w
      else if c = 8 then fi l && wd_v ok fi la l w else la l && wd_v ok fi la l w
theorem wd_sg_nil : wd_sg [] = [] := rfl
theorem wd_sz_nil : wd_sz [] = 0 := rfl
theorem wd_sg_app (a b : List Nat) : wd_sg (a ++ b) = wd_sg a ++ wd_sg b := by unfold wd_sg; rw [List.filter_append]
theorem wd_sz_app (a b : List Nat) : wd_sz (a ++ b) = wd_sz a + wd_sz b := by unfold wd_sz; rw [wd_sg_app, List.length_append]
theorem wd_sg_cons (c : Nat) (w : List Nat) : wd_sg (c :: w) = if c < 8 then c :: wd_sg w else wd_sg w := by
  unfold wd_sg
  by_cases h : c < 8
  · rw [List.filter_cons_of_pos (by simpa using h), if_pos h]
  · rw [List.filter_cons_of_neg (by simpa using h), if_neg h]
theorem wd_v_app (ok : List Nat → Nat → Bool) (fi la : List Nat → Bool) (b : List Nat) : ∀ (a l : List Nat), wd_v ok fi la l (a ++ b) = (wd_v ok fi la l a && wd_v ok fi la (l ++ wd_sg a) b) := by
  intro a
  induction a with
  | nil => intro l; simp [wd_v, wd_sg_nil]
  | cons c a ih =>
    intro l
    rw [List.cons_append, wd_v, wd_v, wd_sg_cons]
    by_cases h : c < 8
    · rw [if_pos h, if_pos h, if_pos h, ih, Bool.and_assoc, List.append_assoc]; rfl
    · rw [if_neg h, if_neg h, if_neg h]
      by_cases h8 : c = 8
      · rw [if_pos h8, if_pos h8, ih, Bool.and_assoc]
      · rw [if_neg h8, if_neg h8, ih, Bool.and_assoc]
theorem wd_v_len {ok : List Nat → Nat → Bool} {fi la : List Nat → Bool} {N : Nat} (hok : ∀ l c, ok l c = true → l.length < N) : ∀ (w l : List Nat), l.length ≤ N → wd_v ok fi la l w = true → l.length + wd_sz w ≤ N := by
  intro w
  induction w with
  | nil => intro l hl _; rw [wd_sz_nil]; exact hl
  | cons c w ih =>
    intro l hl h
    rw [wd_v] at h
    by_cases hc : c < 8
    · rw [if_pos hc, Bool.and_eq_true] at h
      have h1 := hok l c h.1
      have h2 := ih (l ++ [c]) (by rw [List.length_append]; simp; omega) h.2
      have e : wd_sz (c :: w) = wd_sz w + 1 := by unfold wd_sz; rw [wd_sg_cons, if_pos hc]; rfl
      rw [List.length_append] at h2
      simp at h2
      omega
    · have e : wd_sz (c :: w) = wd_sz w := by unfold wd_sz; rw [wd_sg_cons, if_neg hc]
      rw [if_neg hc] at h
      rw [e]
      by_cases h8 : c = 8
      · rw [if_pos h8, Bool.and_eq_true] at h; exact ih l hl h.2
      · rw [if_neg h8, Bool.and_eq_true] at h; exact ih l hl h.2
theorem wd_flt_ext {α : Type} {p q : α → Bool} {l : List α} (h : ∀ a ∈ l, p a = q a) : l.filter p = l.filter q := List.filter_congr h
/-- the valid words of a join -/
theorem wd_join_v {ok : List Nat → Nat → Bool} {fi la : List Nat → Bool} {N n : Nat} (hok : ∀ l c, ok l c = true → l.length < N) (hN : N ≤ n) {l : List Nat} (hl : l.length ≤ N) (P Q : List (List Nat)) :
    (wd_join n P Q).filter (wd_v ok fi la l) = (P.filter (wd_v ok fi la l)).flatMap (fun a => (Q.filter (wd_v ok fi la (l ++ wd_sg a))).map (fun b => a ++ b)) := by
  unfold wd_join
  induction P with
  | nil => rfl
  | cons a P ih =>
    rw [List.flatMap_cons, List.filter_append, ih, List.filter_map]
    by_cases ha : wd_v ok fi la l a = true
    · rw [List.filter_cons_of_pos ha, List.flatMap_cons]
      congr 1
      congr 1
      rw [List.filter_filter]
      apply wd_flt_ext
      intro b _
      show (wd_v ok fi la l (a ++ b) && decide (wd_sz a + wd_sz b ≤ n)) = _
      rw [wd_v_app, ha, Bool.true_and]
      cases hb : wd_v ok fi la (l ++ wd_sg a) b with
      | false => rfl
      | true =>
        have h1 := wd_v_len hok a l hl ha
        have h2 := wd_v_len hok b (l ++ wd_sg a) (by rw [List.length_append]; exact h1) hb
        rw [List.length_append] at h2
        have e : (wd_sg a).length = wd_sz a := rfl
        rw [Bool.true_and]
        exact decide_eq_true (by omega)
    · rw [List.filter_cons_of_neg ha]
      have e : ((Q.filter (fun b => decide (wd_sz a + wd_sz b ≤ n))).filter (wd_v ok fi la l ∘ fun b => a ++ b)) = [] := by
        apply List.filter_eq_nil_iff.mpr
        intro b _ h
        have h' : wd_v ok fi la l (a ++ b) = true := h
        rw [wd_v_app, Bool.and_eq_true] at h'
        exact ha h'.1
      rw [e]
      rfl
end
section
/-! ===== the search machine by its step rules, and blocks of code against lists of words ===== -/
abbrev bk_K : Type := List (Nat × (Nat → Nat) × List Nat)
abbrev bk_I : Type := Int32 × Int32 × Int32 × Int32 × Int32 × Int32
def bk_u (f : Nat → Nat) (k x : Nat) : Nat → Nat := fun j => if j = k then x else f j
theorem bk_us (f : Nat → Nat) (k x : Nat) : bk_u f k x k = x := if_pos rfl
theorem bk_un {f : Nat → Nat} {k x j : Nat} (h : j ≠ k) : bk_u f k x j = f j := if_neg h
def bk_B (Ok : Nat → Nat → (Nat → Nat) → List Nat → bk_K → Prop) (Fl : Nat → Prop) (n : Nat) : bk_K → Prop
  | [] => Fl n
  | (pc, f, l) :: K => Ok n pc f l K
/-- the rules of one instruction -/
def bk_M (ok : List Nat → Nat → Bool) (fi la : List Nat → Bool) (Ok : Nat → Nat → (Nat → Nat) → List Nat → bk_K → Prop) (Fl : Nat → Prop) (pc : Nat) (i : bk_I) : Prop :=
  (∀ (c n : Nat) (f : Nat → Nat) (l : List Nat) (K : bk_K), i.1 = 0 → i.2.1 = nI c → c < 8 → (ok l c = true → Ok n (pc + 1) f (l ++ [c]) K) → (ok l c = false → bk_B Ok Fl n K) → Ok (n + 1) pc f l K) ∧
  (∀ (n : Nat) (f : Nat → Nat) (l : List Nat) (K : bk_K), i.1 = 1 → (fi l = true → Ok n (pc + 1) f l K) → (fi l = false → bk_B Ok Fl n K) → Ok (n + 1) pc f l K) ∧
  (∀ (n : Nat) (f : Nat → Nat) (l : List Nat) (K : bk_K), i.1 = 2 → (la l = true → Ok n (pc + 1) f l K) → (la l = false → bk_B Ok Fl n K) → Ok (n + 1) pc f l K) ∧
  (∀ (n : Nat) (f : Nat → Nat) (l : List Nat) (K : bk_K), i.1 = 3 → i.2.1 = -1 → Ok n (pc + 1) f l K → Ok (n + 1) pc f l K) ∧
  (∀ (t n : Nat) (f : Nat → Nat) (l : List Nat) (K : bk_K), i.1 = 3 → i.2.1 = nI t → t < 64 → K.length < 4096 → Ok n (pc + 1) f l ((t, f, l) :: K) → Ok (n + 1) pc f l K) ∧
  (∀ (t n : Nat) (f : Nat → Nat) (l : List Nat) (K : bk_K), i.1 = 4 → i.2.1 = nI t → t < 64 → Ok n t f l K → Ok (n + 1) pc f l K) ∧
  (∀ (t v n : Nat) (f : Nat → Nat) (l : List Nat) (K : bk_K), i.1 = 5 → i.2.1 = nI t → t < 64 → i.2.2.1 = nI v → v < 4 → Ok n t (bk_u f (2 * v) 0) l K → Ok (n + 1) pc f l K) ∧
  (∀ (v m n : Nat) (f : Nat → Nat) (l : List Nat) (K : bk_K), i.1 = 6 → i.2.2.1 = nI v → v < 4 → i.2.2.2.1 = nI m → m < 8 →
    (¬ (m ≤ f (2 * v) ∧ f (2 * v + 1) = l.length) → f (2 * v) < 7 ∧ Ok n (pc + 1) (bk_u f (2 * v) (f (2 * v) + 1)) l K) → (m ≤ f (2 * v) ∧ f (2 * v + 1) = l.length → bk_B Ok Fl n K) → Ok (n + 1) pc f l K) ∧
  (∀ (v m h t z n : Nat) (f : Nat → Nat) (l : List Nat) (K : bk_K), i.1 = 7 → i.2.1 = nI t → t < 64 → i.2.2.1 = nI v → v < 4 → i.2.2.2.1 = nI m → m < 8 → i.2.2.2.2.1 = nI h → h < 8 → i.2.2.2.2.2 = nI z → z < 2 →
    (f (2 * v) < m → Ok n t (bk_u f (2 * v + 1) l.length) l K) →
    (m ≤ f (2 * v) → h ≤ f (2 * v) → Ok n (pc + 1) (bk_u f (2 * v + 1) l.length) l K) →
    (m ≤ f (2 * v) → f (2 * v) < h → K.length < 4096 ∧ (z = 0 → Ok n t (bk_u f (2 * v + 1) l.length) l ((pc + 1, bk_u f (2 * v + 1) l.length, l) :: K)) ∧ (z = 1 → Ok n (pc + 1) (bk_u f (2 * v + 1) l.length) l ((t, bk_u f (2 * v + 1) l.length, l) :: K))) → Ok (n + 1) pc f l K)
def bk_Env (n N : Nat) (ok : List Nat → Nat → Bool) (Ok : Nat → Nat → (Nat → Nat) → List Nat → bk_K → Prop) (Fl : Nat → Prop) : Prop :=
  N ≤ n ∧ N ≤ 6 ∧ (∀ l c, ok l c = true → l.length < N) ∧ (∀ (a b pc : Nat) (f : Nat → Nat) (l : List Nat) (K : bk_K), a ≤ b → Ok a pc f l K → Ok b pc f l K) ∧ (∀ a b : Nat, a ≤ b → Fl a → Fl b)
/-- from pc the machine comes to b with each word of F in order, and then goes back into K -/
def bk_Run (Ok : Nat → Nat → (Nat → Nat) → List Nat → bk_K → Prop) (Fl : Nat → Prop) (b sl S D c pc : Nat) (F : List (List Nat)) (f : Nat → Nat) (l : List Nat) (K : bk_K) : Prop :=
  ∀ (Y : List (List Nat) → Prop) (H : List (List Nat) → Nat), (Y [] → bk_B Ok Fl (H []) K) →
    (∀ (w : List Nat) (ws : List (List Nat)) (r : Nat) (f' : Nat → Nat) (K' : bk_K), w ∈ F → (∀ j, j < sl → f' j = f j) → K'.length ≤ K.length + S + D * wd_sz w → (Y ws → bk_B Ok Fl (H ws + r) K') → Y (w :: ws) → Ok (H (w :: ws) + r) b f' (l ++ wd_sg w) K') →
    Y F → Ok (H F + c) pc f l K
def bk_Blk (C : Nat → bk_I) (n a b : Nat) (E : List (List Nat)) (k : Nat → Nat) (S D sl : Nat) : Prop :=
  ∀ (N : Nat) (ok : List Nat → Nat → Bool) (fi la : List Nat → Bool) (Ok : Nat → Nat → (Nat → Nat) → List Nat → bk_K → Prop) (Fl : Nat → Prop), bk_Env n N ok Ok Fl → (∀ pc, a ≤ pc → pc < b → bk_M ok fi la Ok Fl pc (C pc)) →
    ∀ (f : Nat → Nat) (l : List Nat) (K : bk_K), l.length ≤ N → K.length + S + D * (N - l.length) ≤ 4096 → bk_Run Ok Fl b sl S D (k (N - l.length)) a (E.filter (wd_v ok fi la l)) f l K
theorem bk_Bmono {Ok : Nat → Nat → (Nat → Nat) → List Nat → bk_K → Prop} {Fl : Nat → Prop} {n N : Nat} {ok : List Nat → Nat → Bool} (e : bk_Env n N ok Ok Fl) {a b : Nat} (h : a ≤ b) : ∀ {K : bk_K}, bk_B Ok Fl a K → bk_B Ok Fl b K := by
  intro K
  cases K with
  | nil => exact e.2.2.2.2 a b h
  | cons s K => obtain ⟨pc, f, l⟩ := s; exact e.2.2.2.1 a b pc f l K h
theorem bk_loc {C C' : Nat → bk_I} {n a b : Nat} {E : List (List Nat)} {k : Nat → Nat} {S D sl : Nat} (h : bk_Blk C n a b E k S D sl) (hc : ∀ pc, a ≤ pc → pc < b → C' pc = C pc) : bk_Blk C' n a b E k S D sl := by
  intro N ok fi la Ok Fl e hM
  exact h N ok fi la Ok Fl e (fun pc h1 h2 => by rw [← hc pc h1 h2]; exact hM pc h1 h2)
theorem bk_weak {C : Nat → bk_I} {n a b : Nat} {E : List (List Nat)} {k k' : Nat → Nat} {S S' D D' sl sl' : Nat} (h : bk_Blk C n a b E k S D sl) (hk : ∀ r, r ≤ 6 → k r ≤ k' r) (hS : S ≤ S') (hD : D ≤ D') (hsl : sl' ≤ sl) : bk_Blk C n a b E k' S' D' sl' := by
  intro N ok fi la Ok Fl e hM f l K hl hb Y H h0 hx hY
  have hd : D * (N - l.length) ≤ D' * (N - l.length) := Nat.mul_le_mul_right _ hD
  have hN : N ≤ 6 := e.2.1
  refine e.2.2.2.1 _ _ _ _ _ _ (Nat.add_le_add_left (hk _ (by omega)) _) (h N ok fi la Ok Fl e hM f l K hl (by omega) Y H h0 ?_ hY)
  intro w ws r f' K' hw ha hK
  have hd' : D * wd_sz w ≤ D' * wd_sz w := Nat.mul_le_mul_right _ hD
  exact hx w ws r f' K' hw (fun j hj => ha j (by omega)) (by omega)
theorem bk_bind {Ok : Nat → Nat → (Nat → Nat) → List Nat → bk_K → Prop} {Fl : Nat → Prop} {mid sl S D c pc : Nat} {F : List (List Nat)} {f : Nat → Nat} {l : List Nat} {K : bk_K} (hP : bk_Run Ok Fl mid sl S D c pc F f l K)
    (g : List Nat → List (List Nat)) (cg : List Nat → Nat) (Y : List (List Nat) → Prop) (H : List (List Nat) → Nat) (T : List (List Nat)) (r0 : Nat)
    (base : Y T → bk_B Ok Fl (H T + r0) K)
    (ex : ∀ (w : List Nat) (f' : Nat → Nat) (K' : bk_K) (rest : List (List Nat)) (r : Nat), w ∈ F → (∀ j, j < sl → f' j = f j) → K'.length ≤ K.length + S + D * wd_sz w → (Y rest → bk_B Ok Fl (H rest + r) K') → Y (g w ++ rest) → Ok (H (g w ++ rest) + r + cg w) mid f' (l ++ wd_sg w) K')
    (hY : Y (F.flatMap g ++ T)) : Ok (H (F.flatMap g ++ T) + r0 + c + (F.map cg).sum) pc f l K := by
  have h := hP (fun ws => Y (ws.flatMap g ++ T)) (fun ws => H (ws.flatMap g ++ T) + r0 + (ws.map cg).sum) ?_ ?_ hY
  · have e : H (F.flatMap g ++ T) + r0 + c + (F.map cg).sum = H (F.flatMap g ++ T) + r0 + (F.map cg).sum + c := by omega
    rw [e]; exact h
  · intro h0
    have := base h0
    exact this
  · intro w ws r f' K' hw ha hK hB hy
    have hy' : Y (g w ++ (ws.flatMap g ++ T)) := by
      have hy2 : Y ((w :: ws).flatMap g ++ T) := hy
      rw [List.flatMap_cons, List.append_assoc] at hy2
      exact hy2
    have := ex w f' K' (ws.flatMap g ++ T) (r0 + (ws.map cg).sum + r) hw ha hK (fun h1 => by
      have := hB h1
      have e : H (ws.flatMap g ++ T) + (r0 + (ws.map cg).sum + r) = H (ws.flatMap g ++ T) + r0 + (ws.map cg).sum + r := by omega
      rw [e]; exact this) hy'
    have e : H ((w :: ws).flatMap g ++ T) + r0 + ((w :: ws).map cg).sum + r = H (g w ++ (ws.flatMap g ++ T)) + (r0 + (ws.map cg).sum + r) + cg w := by
      rw [List.flatMap_cons, List.append_assoc, List.map_cons, List.sum_cons]; omega
    show Ok (H ((w :: ws).flatMap g ++ T) + r0 + ((w :: ws).map cg).sum + r) mid f' (l ++ wd_sg w) K'
    rw [e]; exact this
/-- sums over the words that fit -/
def bk_ks (P : List (List Nat)) (k : Nat → Nat) (r : Nat) : Nat := ((P.filter (fun w => decide (wd_sz w ≤ r))).map (fun w => k (r - wd_sz w))).sum
def bk_ct (P : List (List Nat)) (r : Nat) : Nat := (P.filter (fun w => decide (wd_sz w ≤ r))).length
theorem bk_sum_le {α : Type} (P : List α) (p q : α → Bool) (g : α → Nat) (h : ∀ a ∈ P, p a = true → q a = true) : ((P.filter p).map g).sum ≤ ((P.filter q).map g).sum := by
  induction P with
  | nil => exact Nat.le_refl _
  | cons a P ih =>
    have ih' := ih (fun b hb => h b (List.mem_cons_of_mem _ hb))
    by_cases hp : p a = true
    · rw [List.filter_cons_of_pos hp, List.filter_cons_of_pos (h a List.mem_cons_self hp), List.map_cons, List.map_cons, List.sum_cons, List.sum_cons]; omega
    · rw [List.filter_cons_of_neg hp]
      by_cases hq : q a = true
      · rw [List.filter_cons_of_pos hq, List.map_cons, List.sum_cons]; omega
      · rw [List.filter_cons_of_neg hq]; exact ih'
theorem bk_ks_le {ok : List Nat → Nat → Bool} {fi la : List Nat → Bool} {N : Nat} (hok : ∀ l c, ok l c = true → l.length < N) {l : List Nat} (hl : l.length ≤ N) (P : List (List Nat)) (k : Nat → Nat) : ((P.filter (wd_v ok fi la l)).map (fun w => k (N - l.length - wd_sz w))).sum ≤ bk_ks P k (N - l.length) := by
  unfold bk_ks
  apply bk_sum_le
  intro a _ h
  have := wd_v_len hok a l hl h
  exact decide_eq_true (by omega)
theorem bk_len_le {α : Type} (P : List α) (p q : α → Bool) (h : ∀ a ∈ P, p a = true → q a = true) : (P.filter p).length ≤ (P.filter q).length := by
  induction P with
  | nil => exact Nat.le_refl _
  | cons a P ih =>
    have ih' := ih (fun b hb => h b (List.mem_cons_of_mem _ hb))
    by_cases hp : p a = true
    · rw [List.filter_cons_of_pos hp, List.filter_cons_of_pos (h a List.mem_cons_self hp), List.length_cons, List.length_cons]; omega
    · rw [List.filter_cons_of_neg hp]
      by_cases hq : q a = true
      · rw [List.filter_cons_of_pos hq, List.length_cons]; omega
      · rw [List.filter_cons_of_neg hq]; exact ih'
theorem bk_ct_le {ok : List Nat → Nat → Bool} {fi la : List Nat → Bool} {N : Nat} (hok : ∀ l c, ok l c = true → l.length < N) {l : List Nat} (hl : l.length ≤ N) (P : List (List Nat)) : (P.filter (wd_v ok fi la l)).length ≤ bk_ct P (N - l.length) := by
  unfold bk_ct
  apply bk_len_le
  intro a _ h
  have := wd_v_len hok a l hl h
  exact decide_eq_true (by omega)
theorem bk_unit {C : Nat → bk_I} {n a sl : Nat} : bk_Blk C n a a [[]] (fun _ => 0) 0 0 sl := by
  intro N ok fi la Ok Fl e hM f l K hl hb Y H h0 hx hY
  have hY' : Y [[]] := hY
  have := hx [] [] 0 f K (by show ([] : List Nat) ∈ [[]]; exact List.mem_singleton.mpr rfl) (fun _ _ => rfl) (by omega) (fun h => h0 h) hY'
  rw [wd_sg_nil, List.append_nil] at this
  exact this
theorem bk_cat {C : Nat → bk_I} {n a m b : Nat} {P Q : List (List Nat)} {k1 k2 : Nat → Nat} {S1 S2 D sl : Nat} (hab : a ≤ m) (hbm : m ≤ b) (h1 : bk_Blk C n a m P k1 S1 D sl) (h2 : bk_Blk C n m b Q k2 S2 D sl) :
    bk_Blk C n a b (wd_join n P Q) (fun r => k1 r + bk_ks P k2 r) (S1 + S2) D sl := by
  intro N ok fi la Ok Fl e hM f l K hl hb Y H h0 hx hY
  have hok := e.2.2.1
  rw [wd_join_v hok e.1 hl] at hY hx ⊢
  have hP := h1 N ok fi la Ok Fl e (fun pc x y => hM pc x (by omega)) f l K hl (by omega)
  have := bk_bind hP (fun w => (Q.filter (wd_v ok fi la (l ++ wd_sg w))).map (fun b => w ++ b)) (fun w => k2 (N - l.length - wd_sz w)) Y H [] 0 (by intro h; exact h0 h) ?_ (by rw [List.append_nil]; exact hY)
  · rw [List.append_nil] at this
    refine e.2.2.2.1 _ _ _ _ _ _ ?_ this
    have := bk_ks_le (fi := fi) (la := la) hok hl P k2
    show _ ≤ _ + (k1 (N - l.length) + bk_ks P k2 (N - l.length))
    omega
  · intro w f' K' rest r hw ha hK hB hy
    have hv : wd_v ok fi la l w = true := (List.mem_filter.mp hw).2
    have hlen := wd_v_len hok w l hl hv
    have hl2 : (l ++ wd_sg w).length = l.length + wd_sz w := by rw [List.length_append]; rfl
    have hmul : D * (N - l.length) = D * wd_sz w + D * (N - (l ++ wd_sg w).length) := by
      rw [← Nat.mul_add]; congr 1; omega
    have hQ := h2 N ok fi la Ok Fl e (fun pc x y => hM pc (by omega) y) f' (l ++ wd_sg w) K' (by omega) (by omega)
    have := hQ (fun fs => Y (fs.map (fun b => w ++ b) ++ rest)) (fun fs => H (fs.map (fun b => w ++ b) ++ rest) + r) (by intro h; exact hB h) ?_ hy
    · have e1 : N - (l ++ wd_sg w).length = N - l.length - wd_sz w := by omega
      rw [e1] at this
      exact this
    · intro w2 ws r2 f2 K2 hw2 ha2 hK2 hB2 hy2
      have hw2' : w ++ w2 ∈ (P.filter (wd_v ok fi la l)).flatMap (fun a => (Q.filter (wd_v ok fi la (l ++ wd_sg a))).map (fun b => a ++ b)) :=
        List.mem_flatMap.mpr ⟨w, hw, List.mem_map.mpr ⟨w2, hw2, rfl⟩⟩
      have hmul2 : D * wd_sz (w ++ w2) = D * wd_sz w + D * wd_sz w2 := by rw [wd_sz_app, Nat.mul_add]
      have := hx (w ++ w2) (ws.map (fun b => w ++ b) ++ rest) (r + r2) f2 K2 hw2' (fun j hj => by rw [ha2 j hj, ha j hj]) (by omega) (fun h => by
        have := hB2 h
        have e3 : H (ws.map (fun b => w ++ b) ++ rest) + (r + r2) = H (ws.map (fun b => w ++ b) ++ rest) + r + r2 := by omega
        rw [e3]; exact this) hy2
      have e4 : H ((w2 :: ws).map (fun b => w ++ b) ++ rest) + r + r2 = H ((w ++ w2) :: (ws.map (fun b => w ++ b) ++ rest)) + (r + r2) := by
        rw [List.map_cons, List.cons_append]; omega
      show Ok (H ((w2 :: ws).map (fun b => w ++ b) ++ rest) + r + r2) b f2 ((l ++ wd_sg w) ++ wd_sg w2) K2
      rw [e4, List.append_assoc, ← wd_sg_app]
      exact this
end
section
/-! ===== blocks: atoms, branches, loops ===== -/
theorem bk_row {C : Nat → bk_I} {n a c sl : Nat} (hc : c < 8) (h1 : (C a).1 = 0) (h2 : (C a).2.1 = nI c) : bk_Blk C n a (a + 1) [[c]] (fun _ => 1) 0 0 sl := by
  intro N ok fi la Ok Fl e hM f l K hl hb Y H h0 hx hY
  have hr := (hM a (Nat.le_refl _) (by omega)).1
  have hv : wd_v ok fi la l [c] = ok l c := by rw [wd_v, if_pos hc, wd_v, Bool.and_true]
  have hs : wd_sg [c] = [c] := by rw [wd_sg_cons, if_pos hc, wd_sg_nil]
  refine hr c _ f l K h1 h2 hc ?_ ?_
  · intro ho
    rw [List.filter_cons_of_pos (by rw [hv]; exact ho), List.filter_nil] at hY hx ⊢
    have := hx [c] [] 0 f K (List.mem_singleton.mpr rfl) (fun _ _ => rfl) (by omega) (fun h => h0 h) hY
    rw [hs] at this
    exact this
  · intro ho
    rw [List.filter_cons_of_neg (by rw [hv, ho]; exact Bool.false_ne_true), List.filter_nil] at hY ⊢
    exact h0 hY
theorem bk_fi {C : Nat → bk_I} {n a sl : Nat} (h1 : (C a).1 = 1) : bk_Blk C n a (a + 1) [[8]] (fun _ => 1) 0 0 sl := by
  intro N ok fi la Ok Fl e hM f l K hl hb Y H h0 hx hY
  have hr := (hM a (Nat.le_refl _) (by omega)).2.1
  have hv : wd_v ok fi la l [8] = fi l := by rw [wd_v, if_neg (by omega), if_pos rfl, wd_v, Bool.and_true]
  have hs : wd_sg [8] = [] := by rw [wd_sg_cons, if_neg (by omega), wd_sg_nil]
  refine hr _ f l K h1 ?_ ?_
  · intro ho
    rw [List.filter_cons_of_pos (by rw [hv]; exact ho), List.filter_nil] at hY hx ⊢
    have := hx [8] [] 0 f K (List.mem_singleton.mpr rfl) (fun _ _ => rfl) (by omega) (fun h => h0 h) hY
    rw [hs, List.append_nil] at this
    exact this
  · intro ho
    rw [List.filter_cons_of_neg (by rw [hv, ho]; exact Bool.false_ne_true), List.filter_nil] at hY ⊢
    exact h0 hY
theorem bk_la {C : Nat → bk_I} {n a sl : Nat} (h1 : (C a).1 = 2) : bk_Blk C n a (a + 1) [[9]] (fun _ => 1) 0 0 sl := by
  intro N ok fi la Ok Fl e hM f l K hl hb Y H h0 hx hY
  have hr := (hM a (Nat.le_refl _) (by omega)).2.2.1
  have hv : wd_v ok fi la l [9] = la l := by rw [wd_v, if_neg (by omega), if_neg (by omega), wd_v, Bool.and_true]
  have hs : wd_sg [9] = [] := by rw [wd_sg_cons, if_neg (by omega), wd_sg_nil]
  refine hr _ f l K h1 ?_ ?_
  · intro ho
    rw [List.filter_cons_of_pos (by rw [hv]; exact ho), List.filter_nil] at hY hx ⊢
    have := hx [9] [] 0 f K (List.mem_singleton.mpr rfl) (fun _ _ => rfl) (by omega) (fun h => h0 h) hY
    rw [hs, List.append_nil] at this
    exact this
  · intro ho
    rw [List.filter_cons_of_neg (by rw [hv, ho]; exact Bool.false_ne_true), List.filter_nil] at hY ⊢
    exact h0 hY
/-- the last branch of a group -/
theorem bk_last {C : Nat → bk_I} {n a b : Nat} {E : List (List Nat)} {k : Nat → Nat} {S D sl : Nat} (hab : a + 1 ≤ b) (h1 : (C a).1 = 3) (h2 : (C a).2.1 = -1) (hB : bk_Blk C n (a + 1) b E k S D sl) : bk_Blk C n a b E (fun r => k r + 1) S D sl := by
  intro N ok fi la Ok Fl e hM f l K hl hb Y H h0 hx hY
  have hr := (hM a (Nat.le_refl _) (by omega)).2.2.2.1
  exact hr _ f l K h1 h2 (hB N ok fi la Ok Fl e (fun pc x y => hM pc (by omega) y) f l K hl hb Y H h0 hx hY)
/-- a branch with another behind it -/
theorem bk_alt {C : Nat → bk_I} {n a j b : Nat} {E1 E2 : List (List Nat)} {k1 k2 : Nat → Nat} {S1 S2 D sl : Nat} (haj : a + 1 ≤ j) (hjb : j + 1 ≤ b) (hb64 : b < 64) (h1 : (C a).1 = 3) (h2 : (C a).2.1 = nI (j + 1)) (h3 : (C j).1 = 4) (h4 : (C j).2.1 = nI b)
    (hA : bk_Blk C n (a + 1) j E1 k1 S1 D sl) (hB : bk_Blk C n (j + 1) b E2 k2 S2 D sl) : bk_Blk C n a b (E1 ++ E2) (fun r => 1 + k1 r + bk_ct E1 r + k2 r) (1 + S1 + S2) D sl := by
  intro N ok fi la Ok Fl e hM f l K hl hb Y H h0 hx hY
  have hok := e.2.2.1
  have hr := (hM a (Nat.le_refl _) (by omega)).2.2.2.2.1
  have hj := (hM j (by omega) (by omega)).2.2.2.2.2.1
  rw [List.filter_append] at hY hx ⊢
  have hRA := hA N ok fi la Ok Fl e (fun pc x y => hM pc (by omega) (by omega)) f l ((j + 1, f, l) :: K) hl (by rw [List.length_cons]; omega)
  have key := bk_bind hRA (fun w => [w]) (fun _ => 1) Y H (E2.filter (wd_v ok fi la l)) (k2 (N - l.length)) ?_ ?_ (by
    have e1 : (E1.filter (wd_v ok fi la l)).flatMap (fun w => [w]) = E1.filter (wd_v ok fi la l) := by
      induction E1.filter (wd_v ok fi la l) with
      | nil => rfl
      | cons x xs ih => rw [List.flatMap_cons, ih]; rfl
    rw [e1]; exact hY)
  · have e1 : (E1.filter (wd_v ok fi la l)).flatMap (fun w => [w]) = E1.filter (wd_v ok fi la l) := by
      induction E1.filter (wd_v ok fi la l) with
      | nil => rfl
      | cons x xs ih => rw [List.flatMap_cons, ih]; rfl
    rw [e1] at key
    have e2 : ((E1.filter (wd_v ok fi la l)).map (fun _ => 1)).sum = (E1.filter (wd_v ok fi la l)).length := by
      induction E1.filter (wd_v ok fi la l) with
      | nil => rfl
      | cons x xs ih => rw [List.map_cons, List.sum_cons, ih, List.length_cons]; omega
    have e3 := bk_ct_le (fi := fi) (la := la) hok hl E1
    have := hr (j + 1) _ f l K h1 h2 (by omega) (by omega) key
    refine e.2.2.2.1 _ _ _ _ _ _ ?_ this
    show _ ≤ _ + (1 + k1 (N - l.length) + bk_ct E1 (N - l.length) + k2 (N - l.length))
    omega
  · intro hy
    show Ok _ (j + 1) f l K
    have hRB := hB N ok fi la Ok Fl e (fun pc x y => hM pc (by omega) (by omega)) f l K hl (by omega)
    exact hRB Y H h0 (fun w ws r f' K' hw ha hK => hx w ws r f' K' (List.mem_append.mpr (Or.inr hw)) ha (by omega)) hy
  · intro w f' K' rest r hw ha hK hB2 hy
    have := hx w rest r f' K' (List.mem_append.mpr (Or.inl hw)) ha (by rw [List.length_cons] at hK; omega) hB2 hy
    exact hj b _ f' (l ++ wd_sg w) K' h3 h4 hb64 this
/-- the alternatives so far, with a hole behind them -/
def bk_Pre (C : Nat → bk_I) (n a x : Nat) (js : List Nat) (F : List (List Nat)) (k : Nat → Nat) (S D sl : Nat) : Prop :=
  ∀ (C' : Nat → bk_I) (e : Nat) (E' : List (List Nat)) (k' : Nat → Nat) (S' : Nat), (∀ pc, a ≤ pc → pc < x → pc ∉ js → C' pc = C pc) → (∀ j, j ∈ js → (C' j).1 = 4 ∧ (C' j).2.1 = nI e) → x + 1 ≤ e → e < 64 →
    bk_Blk C' n x e E' k' S' D sl → bk_Blk C' n a e (F ++ E') (fun r => k r + k' r) (S + S') D sl
theorem bk_pre0 {C : Nat → bk_I} {n a D sl : Nat} : bk_Pre C n a a [] [] (fun _ => 0) 0 D sl := by
  intro C' e E' k' S' _ _ _ _ h
  have e1 : (fun r => 0 + k' r) = k' := by funext r; omega
  rw [List.nil_append, Nat.zero_add, e1]
  exact h
theorem bk_preLoc {C C1 : Nat → bk_I} {n a x : Nat} {js : List Nat} {F : List (List Nat)} {k : Nat → Nat} {S D sl : Nat} (h : bk_Pre C n a x js F k S D sl) (hc : ∀ pc, a ≤ pc → pc < x → pc ∉ js → C1 pc = C pc) : bk_Pre C1 n a x js F k S D sl := by
  intro C' e E' k' S' h1
  exact h C' e E' k' S' (fun pc p1 p2 p3 => (h1 pc p1 p2 p3).trans (hc pc p1 p2 p3))
theorem bk_preBar {C C1 : Nat → bk_I} {n a x j : Nat} {js : List Nat} {F E : List (List Nat)} {k k1 : Nat → Nat} {S S1 D sl : Nat} (hax : a ≤ x) (hxj : x + 1 ≤ j) (h : bk_Pre C n a x js F k S D sl) (hjs : ∀ q, q ∈ js → q < x)
    (hc : ∀ pc, a ≤ pc → pc < j → pc ≠ x → C1 pc = C pc) (h1 : (C1 x).1 = 3) (h2 : (C1 x).2.1 = nI (j + 1)) (hB : bk_Blk C n (x + 1) j E k1 S1 D sl) :
    bk_Pre C1 n a (j + 1) (j :: js) (F ++ E) (fun r => k r + (1 + k1 r + bk_ct E r)) (S + (1 + S1)) D sl := by
  intro C' e E' k' S' g1 g2 g3 g4 g5
  have hx : C' x = C1 x := g1 x hax (by omega) (by
    intro hm
    rcases List.mem_cons.mp hm with e1 | e1
    · omega
    · have := hjs x e1; omega)
  have hBx : bk_Blk C' n (x + 1) j E k1 S1 D sl := bk_loc hB (fun pc p1 p2 => by
    rw [g1 pc (by omega) (by omega) (by
      intro hm
      rcases List.mem_cons.mp hm with e1 | e1
      · omega
      · have := hjs pc e1; omega), hc pc (by omega) p2 (by omega)])
  have hj := g2 j List.mem_cons_self
  have hA := bk_alt hxj (by omega) g4 (by rw [hx]; exact h1) (by rw [hx]; exact h2) hj.1 hj.2 hBx g5
  have := h C' e (E ++ E') (fun r => 1 + k1 r + bk_ct E r + k' r) (1 + S1 + S') (fun pc p1 p2 p3 => by
    rw [g1 pc p1 (by omega) (by
      intro hm
      rcases List.mem_cons.mp hm with e1 | e1
      · omega
      · exact p3 e1), hc pc p1 (by omega) (by omega)]) (fun q hq => g2 q (List.mem_cons_of_mem _ hq)) (by omega) g4 hA
  have e1 : (fun r => k r + (1 + k1 r + bk_ct E r) + k' r) = (fun r => k r + (1 + k1 r + bk_ct E r + k' r)) := by funext r; omega
  rw [List.append_assoc, e1, show S + (1 + S1) + S' = S + (1 + S1 + S') by omega]
  exact this
/-- a group is closed -/
theorem bk_preEnd {C C' : Nat → bk_I} {n a x e : Nat} {js : List Nat} {F E : List (List Nat)} {k k1 : Nat → Nat} {S S1 D sl : Nat} (hxe : x + 1 ≤ e) (he : e < 64) (h : bk_Pre C n a x js F k S D sl) (hjs : ∀ q, q ∈ js → q < x)
    (hc : ∀ pc, a ≤ pc → pc < e → pc ∉ js → C' pc = C pc) (hax : a ≤ x) (hj : ∀ j, j ∈ js → (C' j).1 = 4 ∧ (C' j).2.1 = nI e) (h1 : (C x).1 = 3) (h2 : (C x).2.1 = -1) (hB : bk_Blk C n (x + 1) e E k1 S1 D sl) :
    bk_Blk C' n a e (F ++ E) (fun r => k r + (k1 r + 1)) (S + S1) D sl := by
  have hx : C' x = C x := hc x hax (by omega) (fun hm => by have := hjs x hm; omega)
  have hBx : bk_Blk C' n (x + 1) e E k1 S1 D sl := bk_loc hB (fun pc p1 p2 => hc pc (by omega) p2 (fun hm => by have := hjs pc hm; omega))
  exact h C' e E (fun r => k1 r + 1) S1 (fun pc p1 p2 p3 => hc pc p1 (by omega) p3) hj hxe he (bk_last hxe (by rw [hx]; exact h1) (by rw [hx]; exact h2) hBx)
end
section
/-! ===== blocks: the quantified item ===== -/
def bk_L (B : List (List Nat)) (kB : Nat → Nat) (m M : Nat) : Nat → Nat → Nat
  | 0, _ => 1
  | d + 1, r => 1 + kB r + (if M - (d + 1) < m then bk_ks B (fun r' => 1 + bk_L B kB m M d r') r else bk_ct B r + bk_ks (wd_rows B) (bk_L B kB m M d) r)
theorem bk_fm {α β : Type} (F : List α) (p : α → Bool) (g : α → List β) : F.flatMap (fun w => if p w = true then g w else []) = (F.filter p).flatMap g := by
  induction F with
  | nil => rfl
  | cons a F ih =>
    rw [List.flatMap_cons, ih]
    by_cases h : p a = true
    · rw [List.filter_cons_of_pos h, List.flatMap_cons, if_pos h]
    · rw [List.filter_cons_of_neg h, if_neg h, List.nil_append]
theorem bk_sm {α : Type} (F : List α) (p : α → Bool) (g : α → Nat) : (F.map (fun w => 1 + if p w = true then g w else 0)).sum = F.length + ((F.filter p).map g).sum := by
  induction F with
  | nil => rfl
  | cons a F ih =>
    rw [List.map_cons, List.sum_cons, ih, List.length_cons]
    by_cases h : p a = true
    · rw [List.filter_cons_of_pos h, List.map_cons, List.sum_cons, if_pos h]; omega
    · rw [List.filter_cons_of_neg h, if_neg h]; omega
section
variable {C : Nat → bk_I} {n N a x v m M h z : Nat} {B : List (List Nat)} {kB : Nat → Nat} {SB D : Nat} {ok : List Nat → Nat → Bool} {fi la : List Nat → Bool} {Ok : Nat → Nat → (Nat → Nat) → List Nat → bk_K → Prop} {Fl : Nat → Prop}
theorem bk_iter (e : bk_Env n N ok Ok Fl) (hM : ∀ pc, a ≤ pc → pc < x + 2 → bk_M ok fi la Ok Fl pc (C pc)) (hax : a + 1 ≤ x) (hx64 : x + 2 < 64) (hv : v < 4) (hm6 : m ≤ 6) (hM6 : M ≤ 6)
    (hB : bk_Blk C n (a + 1) x B kB SB D (2 * v + 2)) (n1 : (C x).1 = 6) (n2 : (C x).2.2.1 = nI v) (n3 : (C x).2.2.2.1 = nI m)
    (R : List (List Nat)) (lc : Nat → Nat) (d j : Nat) (hj : j < M)
    (IH : ∀ (f : Nat → Nat) (l : List Nat) (K : bk_K), f (2 * v) = j + 1 → l.length ≤ N → K.length + d * SB + 1 + (D + 1) * (N - l.length) ≤ 4096 → bk_Run Ok Fl (x + 2) (2 * v) (d * SB + 1) (D + 1) (lc (N - l.length)) (x + 1) (R.filter (wd_v ok fi la l)) f l K)
    (f : Nat → Nat) (l : List Nat) (K : bk_K) (k0 q : Nat) (p : List Nat → Bool) (hf : f (2 * v) = j) (hf1 : f (2 * v + 1) = l.length) (hl : l.length ≤ N) (hp : ∀ w, p w = true ↔ ¬ (m ≤ j ∧ wd_sz w = 0)) (hq1 : q ≤ 1) (hq : ∀ w, p w = true → q ≤ wd_sz w) (hK : K.length ≤ k0 + q) (hbud : k0 + (d + 1) * SB + 1 + (D + 1) * (N - l.length) ≤ 4096)
    (Y : List (List Nat) → Prop) (H : List (List Nat) → Nat) (T : List (List Nat)) (r0 : Nat) (base : Y T → bk_B Ok Fl (H T + r0) K)
    (hx : ∀ (w : List Nat) (ws : List (List Nat)) (r : Nat) (f' : Nat → Nat) (K' : bk_K), w ∈ ((B.filter (wd_v ok fi la l)).filter p).flatMap (fun w => (R.filter (wd_v ok fi la (l ++ wd_sg w))).map (fun b => w ++ b)) → (∀ i, i < 2 * v → f' i = f i) → K'.length ≤ k0 + ((d + 1) * SB + 1) + (D + 1) * wd_sz w → (Y ws → bk_B Ok Fl (H ws + r) K') → Y (w :: ws) → Ok (H (w :: ws) + r) (x + 2) f' (l ++ wd_sg w) K')
    (hY : Y (((B.filter (wd_v ok fi la l)).filter p).flatMap (fun w => (R.filter (wd_v ok fi la (l ++ wd_sg w))).map (fun b => w ++ b)) ++ T)) :
    Ok (H (((B.filter (wd_v ok fi la l)).filter p).flatMap (fun w => (R.filter (wd_v ok fi la (l ++ wd_sg w))).map (fun b => w ++ b)) ++ T) + r0 + kB (N - l.length) + ((B.filter (wd_v ok fi la l)).length + (((B.filter (wd_v ok fi la l)).filter p).map (fun w => lc (N - l.length - wd_sz w))).sum)) (a + 1) f l K := by
  have hok := e.2.2.1
  have hmulD : (D + 1) * (N - l.length) = D * (N - l.length) + (N - l.length) := by rw [Nat.add_mul, Nat.one_mul]
  have hmulS : (d + 1) * SB = d * SB + SB := by rw [Nat.add_mul, Nat.one_mul]
  have hRB := hB N ok fi la Ok Fl e (fun pc y1 y2 => hM pc (by omega) (by omega)) f l K hl (by omega)
  rw [← bk_fm] at hY hx ⊢
  rw [← bk_sm]
  refine bk_bind hRB (fun w => if p w = true then (R.filter (wd_v ok fi la (l ++ wd_sg w))).map (fun b => w ++ b) else []) (fun w => 1 + if p w = true then lc (N - l.length - wd_sz w) else 0) Y H T r0 base ?_ hY
  intro w f' K' rest r hw ha hK' hB2 hy
  have hvw : wd_v ok fi la l w = true := (List.mem_filter.mp hw).2
  have hlen := wd_v_len hok w l hl hvw
  have hl2 : (l ++ wd_sg w).length = l.length + wd_sz w := by rw [List.length_append]; rfl
  have hn := (hM x (by omega) (by omega)).2.2.2.2.2.2.2.1
  have f0 : f' (2 * v) = j := by rw [ha _ (by omega), hf]
  have f1 : f' (2 * v + 1) = l.length := by rw [ha _ (by omega), hf1]
  have e1 : ∀ y : Nat, H rest + r + (1 + y) = (H rest + r + y) + 1 := by intro y; omega
  by_cases hpw : p w = true
  · have hnot : ¬ (m ≤ j ∧ wd_sz w = 0) := (hp w).mp hpw
    rw [if_pos hpw] at hy ⊢
    rw [if_pos hpw]
    have e2 : H ((R.filter (wd_v ok fi la (l ++ wd_sg w))).map (fun b => w ++ b) ++ rest) + r + (1 + lc (N - l.length - wd_sz w)) = H ((R.filter (wd_v ok fi la (l ++ wd_sg w))).map (fun b => w ++ b) ++ rest) + r + lc (N - l.length - wd_sz w) + 1 := by omega
    rw [e2]
    refine hn v m _ f' (l ++ wd_sg w) K' n1 n2 hv n3 (by omega) (fun _ => ⟨by omega, ?_⟩) ?_
    · have hqw := hq w hpw
      have e3 : N - (l ++ wd_sg w).length = N - l.length - wd_sz w := by omega
      have hs1 : (D + 1) * (N - l.length) = (D + 1) * wd_sz w + (D + 1) * (N - (l ++ wd_sg w).length) := by rw [← Nat.mul_add]; congr 1; omega
      have hs2 : (D + 1) * wd_sz w = D * wd_sz w + wd_sz w := by rw [Nat.add_mul, Nat.one_mul]
      have hI := IH (bk_u f' (2 * v) (f' (2 * v) + 1)) (l ++ wd_sg w) K' (by rw [bk_us, f0]) (by omega) (by omega)
      rw [e3] at hI
      refine hI (fun fs => Y (fs.map (fun b => w ++ b) ++ rest)) (fun fs => H (fs.map (fun b => w ++ b) ++ rest) + r) (fun hh => hB2 hh) ?_ hy
      intro w2 ws r2 f2 K2 hw2 ha2 hK2 hB3 hy3
      have hw2' : w ++ w2 ∈ (B.filter (wd_v ok fi la l)).flatMap (fun w => if p w = true then (R.filter (wd_v ok fi la (l ++ wd_sg w))).map (fun b => w ++ b) else []) :=
        List.mem_flatMap.mpr ⟨w, hw, by rw [if_pos hpw]; exact List.mem_map.mpr ⟨w2, hw2, rfl⟩⟩
      have hs3 : (D + 1) * wd_sz (w ++ w2) = (D + 1) * wd_sz w + (D + 1) * wd_sz w2 := by rw [wd_sz_app, Nat.mul_add]
      have := hx (w ++ w2) (ws.map (fun b => w ++ b) ++ rest) (r + r2) f2 K2 hw2' (fun i hi => by rw [ha2 i hi, bk_un (by omega), ha i (by omega)]) (by omega) (fun h5 => by
        have := hB3 h5
        have e3 : H (ws.map (fun b => w ++ b) ++ rest) + (r + r2) = H (ws.map (fun b => w ++ b) ++ rest) + r + r2 := by omega
        rw [e3]; exact this) hy3
      have e4 : H ((w2 :: ws).map (fun b => w ++ b) ++ rest) + r + r2 = H ((w ++ w2) :: (ws.map (fun b => w ++ b) ++ rest)) + (r + r2) := by
        rw [List.map_cons, List.cons_append]; omega
      show Ok (H ((w2 :: ws).map (fun b => w ++ b) ++ rest) + r + r2) (x + 2) f2 ((l ++ wd_sg w) ++ wd_sg w2) K2
      rw [e4, List.append_assoc, ← wd_sg_app]
      exact this
    · intro hh
      exfalso
      apply hnot
      rw [f0, f1] at hh
      exact ⟨hh.1, by omega⟩
  · have hyes : m ≤ j ∧ wd_sz w = 0 := by
      have := mt (hp w).mpr hpw
      exact Decidable.not_not.mp this
    rw [if_neg hpw] at hy ⊢
    rw [if_neg hpw]
    rw [List.nil_append] at hy ⊢
    rw [e1]
    refine hn v m _ f' (l ++ wd_sg w) K' n1 n2 hv n3 (by omega) ?_ ?_
    · intro hh
      exfalso
      apply hh
      rw [f0, f1]
      exact ⟨hyes.1, by omega⟩
    · intro _
      exact hB2 hy
theorem bk_dec (e : bk_Env n N ok Ok Fl) (hM : ∀ pc, a ≤ pc → pc < x + 2 → bk_M ok fi la Ok Fl pc (C pc)) (hax : a + 1 ≤ x) (hx64 : x + 2 < 64) (hv : v < 4) (hmM : m ≤ M) (hM6 : M ≤ 6) (hz : z < 2)
    (hB : bk_Blk C n (a + 1) x B kB SB D (2 * v + 2)) (n1 : (C x).1 = 6) (n2 : (C x).2.2.1 = nI v) (n3 : (C x).2.2.2.1 = nI m)
    (d1 : (C (x + 1)).1 = 7) (d2 : (C (x + 1)).2.1 = nI (a + 1)) (d3 : (C (x + 1)).2.2.1 = nI v) (d4 : (C (x + 1)).2.2.2.1 = nI m) (d5 : (C (x + 1)).2.2.2.2.1 = nI h) (d6 : (C (x + 1)).2.2.2.2.2 = nI z) (hh : h = if wd_rows B = [] then m else M) :
    ∀ d, d ≤ M → ∀ (f : Nat → Nat) (l : List Nat) (K : bk_K), f (2 * v) = M - d → l.length ≤ N → K.length + d * SB + 1 + (D + 1) * (N - l.length) ≤ 4096 →
      bk_Run Ok Fl (x + 2) (2 * v) (d * SB + 1) (D + 1) (bk_L B kB m M d (N - l.length)) (x + 1) ((wd_R n m M (decide (z = 1)) B d).filter (wd_v ok fi la l)) f l K := by
  have hok := e.2.2.1
  have hhM : h ≤ M := by rw [hh]; split <;> omega
  have hmh : m ≤ h := by rw [hh]; split <;> omega
  have hfnil : ∀ l : List Nat, ([[]] : List (List Nat)).filter (wd_v ok fi la l) = [[]] := fun l => rfl
  intro d
  induction d with
  | zero =>
    intro _ f l K hf hl hb Y H h0 hx hY
    have hd := (hM (x + 1) (by omega) (by omega)).2.2.2.2.2.2.2.2
    have hY' : Y [[]] := hY
    refine hd v m h (a + 1) z _ f l K d1 d2 (by omega) d3 hv d4 (by omega) d5 (by omega) d6 hz (fun h1 => by exfalso; omega) (fun _ _ => ?_) (fun _ h2 => by exfalso; omega)
    have := hx [] [] 0 (bk_u f (2 * v + 1) l.length) K (by show ([] : List Nat) ∈ [[]]; exact List.mem_singleton.mpr rfl) (fun i hi => bk_un (by omega)) (by omega) (fun h => h0 h) hY'
    rw [wd_sg_nil, List.append_nil] at this
    exact this
  | succ d ih =>
    intro hdM f l K hf hl hb Y H h0 hx hY
    have hd := (hM (x + 1) (by omega) (by omega)).2.2.2.2.2.2.2.2
    have hmulS : (d + 1) * SB = d * SB + SB := by rw [Nat.add_mul, Nat.one_mul]
    have hfa : ∀ i, i < 2 * v → bk_u f (2 * v + 1) l.length i = f i := fun i hi => bk_un (by omega)
    by_cases hj : M - (d + 1) < m
    · have hR : wd_R n m M (decide (z = 1)) B (d + 1) = wd_join n B (wd_R n m M (decide (z = 1)) B d) := by rw [wd_R, if_pos hj]
      rw [hR, wd_join_v hok e.1 hl] at hY hx ⊢
      have hflt : (B.filter (wd_v ok fi la l)).filter (fun _ => true) = B.filter (wd_v ok fi la l) := List.filter_eq_self.mpr (fun _ _ => rfl)
      have key := bk_iter e hM hax hx64 hv (by omega) hM6 hB n1 n2 n3 (wd_R n m M (decide (z = 1)) B d) (bk_L B kB m M d) d (M - (d + 1)) (by omega) (fun f l K hf => ih (by omega) f l K (by omega)) (bk_u f (2 * v + 1) l.length) l K K.length 0 (fun _ => true) (by rw [bk_un (by omega)]; exact hf) (bk_us _ _ _) hl (fun w => by constructor <;> intro _; omega; rfl) (by omega) (fun w _ => by omega) (by omega) hb Y H [] 0 (fun hh => h0 hh) (by
          rw [hflt]
          intro w ws r f' K' hw ha hK
          exact hx w ws r f' K' hw (fun i hi => by rw [ha i hi, hfa i hi]) (by omega)) (by rw [hflt, List.append_nil]; exact hY)
      rw [hflt, List.append_nil] at key
      have hcost := bk_ks_le (fi := fi) (la := la) hok hl B (fun r' => 1 + bk_L B kB m M d r')
      have hsum : ((B.filter (wd_v ok fi la l)).map (fun w => 1 + bk_L B kB m M d (N - l.length - wd_sz w))).sum = (B.filter (wd_v ok fi la l)).length + ((B.filter (wd_v ok fi la l)).map (fun w => bk_L B kB m M d (N - l.length - wd_sz w))).sum := by
        have := bk_sm (B.filter (wd_v ok fi la l)) (fun _ => true) (fun w => bk_L B kB m M d (N - l.length - wd_sz w))
        rw [hflt] at this
        exact this
      have step := hd v m h (a + 1) z _ f l K d1 d2 (by omega) d3 hv d4 (by omega) d5 (by omega) d6 hz (fun _ => key) (fun h1 _ => by exfalso; omega) (fun h1 _ => by exfalso; omega)
      refine e.2.2.2.1 _ _ _ _ _ _ ?_ step
      rw [bk_L, if_pos hj]
      omega
    · have hRz : wd_R n m M (decide (z = 1)) B (d + 1) = if decide (z = 1) = true then [] :: wd_join n (wd_rows B) (wd_R n m M (decide (z = 1)) B d) else wd_join n (wd_rows B) (wd_R n m M (decide (z = 1)) B d) ++ [[]] := by rw [wd_R, if_neg hj]
      by_cases hrow : wd_rows B = []
      · have hR : wd_R n m M (decide (z = 1)) B (d + 1) = [[]] := by
          rw [hRz, hrow]; split <;> rfl
        rw [hR] at hY hx ⊢
        have hY' : Y [[]] := hY
        have hhm : h = m := by rw [hh, if_pos hrow]
        have step := hd v m h (a + 1) z (H [[]] + 0) f l K d1 d2 (by omega) d3 hv d4 (by omega) d5 (by omega) d6 hz (fun h1 => by exfalso; omega) (fun _ _ => by
          have := hx [] [] 0 (bk_u f (2 * v + 1) l.length) K (by show ([] : List Nat) ∈ [[]]; exact List.mem_singleton.mpr rfl) hfa (by omega) (fun h => h0 h) hY'
          rw [wd_sg_nil, List.append_nil] at this
          exact this) (fun _ h2 => by exfalso; omega)
        refine e.2.2.2.1 _ _ _ _ _ _ ?_ step
        rw [bk_L]
        show H [[]] + 0 + 1 ≤ H [[]] + _
        omega
      · have hhM2 : h = M := by rw [hh, if_neg hrow]
        have hflt : (wd_rows B).filter (wd_v ok fi la l) = (B.filter (wd_v ok fi la l)).filter (fun w => decide (0 < wd_sz w)) := by
          unfold wd_rows; rw [List.filter_filter, List.filter_filter]; apply wd_flt_ext; intro w _; exact Bool.and_comm _ _
        have hpp : ∀ w : List Nat, decide (0 < wd_sz w) = true ↔ ¬ (m ≤ M - (d + 1) ∧ wd_sz w = 0) := by
          intro w
          constructor
          · intro h1 h2; have := of_decide_eq_true h1; omega
          · intro h1; exact decide_eq_true (by omega)
        have hct := bk_ct_le (fi := fi) (la := la) hok hl B
        have hcost := bk_ks_le (fi := fi) (la := la) hok hl (wd_rows B) (bk_L B kB m M d)
        rw [hflt] at hcost
        have hjoin := wd_join_v (fi := fi) (la := la) hok e.1 hl (wd_rows B) (wd_R n m M (decide (z = 1)) B d)
        rw [hflt] at hjoin
        by_cases hz1 : z = 1
        · have hR : wd_R n m M (decide (z = 1)) B (d + 1) = [] :: wd_join n (wd_rows B) (wd_R n m M (decide (z = 1)) B d) := by rw [hRz, if_pos (decide_eq_true hz1)]
          rw [hR, List.filter_cons_of_pos (by rfl), hjoin] at hY hx ⊢
          have key := fun (hy : Y (List.flatMap (fun a => List.map (fun b => a ++ b) (List.filter (wd_v ok fi la (l ++ wd_sg a)) (wd_R n m M (decide (z = 1)) B d))) (List.filter (fun w => decide (0 < wd_sz w)) (List.filter (wd_v ok fi la l) B)))) => bk_iter e hM hax hx64 hv (by omega) hM6 hB n1 n2 n3 (wd_R n m M (decide (z = 1)) B d) (bk_L B kB m M d) d (M - (d + 1)) (by omega) (fun f l K hf => ih (by omega) f l K (by omega)) (bk_u f (2 * v + 1) l.length) l K K.length 0 (fun w => decide (0 < wd_sz w)) (by rw [bk_un (by omega)]; exact hf) (bk_us _ _ _) hl hpp (by omega) (fun w _ => by omega) (by omega) hb Y H [] 0 (fun hh => h0 hh) (by
              intro w ws r f' K' hw ha hK
              exact hx w ws r f' K' (List.mem_cons_of_mem _ hw) (fun i hi => by rw [ha i hi, hfa i hi]) (by omega)) (by rw [List.append_nil]; exact hy)
          have step := hd v m h (a + 1) z _ f l K d1 d2 (by omega) d3 hv d4 (by omega) d5 (by omega) d6 hz (fun h1 => by exfalso; omega) (fun _ h2 => by exfalso; omega) (fun _ _ => ⟨by omega, fun h2 => by exfalso; omega, fun _ => by
            have := hx [] _ _ (bk_u f (2 * v + 1) l.length) ((a + 1, bk_u f (2 * v + 1) l.length, l) :: K) List.mem_cons_self hfa (by rw [List.length_cons]; omega) (fun hy => by
              have k2 := key hy
              rw [List.append_nil, Nat.add_assoc, Nat.add_assoc] at k2
              exact k2) hY
            rw [wd_sg_nil, List.append_nil] at this
            exact this⟩)
          refine e.2.2.2.1 _ _ _ _ _ _ ?_ step
          rw [bk_L, if_neg hj]
          omega
        · have hz0 : z = 0 := by omega
          have hR : wd_R n m M (decide (z = 1)) B (d + 1) = wd_join n (wd_rows B) (wd_R n m M (decide (z = 1)) B d) ++ [[]] := by rw [hRz, if_neg (by intro hc; exact hz1 (of_decide_eq_true hc))]
          rw [hR, List.filter_append, hfnil, hjoin] at hY hx ⊢
          have key := bk_iter e hM hax hx64 hv (by omega) hM6 hB n1 n2 n3 (wd_R n m M (decide (z = 1)) B d) (bk_L B kB m M d) d (M - (d + 1)) (by omega) (fun f l K hf => ih (by omega) f l K (by omega)) (bk_u f (2 * v + 1) l.length) l ((x + 2, bk_u f (2 * v + 1) l.length, l) :: K) K.length 1 (fun w => decide (0 < wd_sz w)) (by rw [bk_un (by omega)]; exact hf) (bk_us _ _ _) hl hpp (by omega) (fun w hw => by have := of_decide_eq_true hw; omega) (by rw [List.length_cons]; omega) hb Y H [[]] 0 (fun hy => by
              show Ok _ (x + 2) (bk_u f (2 * v + 1) l.length) l K
              have := hx [] [] 0 (bk_u f (2 * v + 1) l.length) K (List.mem_append.mpr (Or.inr (List.mem_singleton.mpr rfl))) hfa (by omega) (fun h => h0 h) hy
              rw [wd_sg_nil, List.append_nil] at this
              exact this) (by
              intro w ws r f' K' hw ha hK
              exact hx w ws r f' K' (List.mem_append.mpr (Or.inl hw)) (fun i hi => by rw [ha i hi, hfa i hi]) (by omega)) hY
          have step := hd v m h (a + 1) z _ f l K d1 d2 (by omega) d3 hv d4 (by omega) d5 (by omega) d6 hz (fun h1 => by exfalso; omega) (fun _ h2 => by exfalso; omega) (fun _ _ => ⟨by omega, fun _ => key, fun h2 => by exfalso; omega⟩)
          refine e.2.2.2.1 _ _ _ _ _ _ ?_ step
          rw [bk_L, if_neg hj]
          omega
end
/-- the quantified item -/
theorem bk_loop {C : Nat → bk_I} {n a x v m M h z : Nat} {B : List (List Nat)} {kB : Nat → Nat} {SB D : Nat} (hax : a + 1 ≤ x) (hx64 : x + 2 < 64) (hv : v < 4) (hmM : m ≤ M) (hM6 : M ≤ 6) (hz : z < 2)
    (e1 : (C a).1 = 5) (e2 : (C a).2.1 = nI (x + 1)) (e3 : (C a).2.2.1 = nI v)
    (hB : bk_Blk C n (a + 1) x B kB SB D (2 * v + 2)) (n1 : (C x).1 = 6) (n2 : (C x).2.2.1 = nI v) (n3 : (C x).2.2.2.1 = nI m)
    (d1 : (C (x + 1)).1 = 7) (d2 : (C (x + 1)).2.1 = nI (a + 1)) (d3 : (C (x + 1)).2.2.1 = nI v) (d4 : (C (x + 1)).2.2.2.1 = nI m) (d5 : (C (x + 1)).2.2.2.2.1 = nI h) (d6 : (C (x + 1)).2.2.2.2.2 = nI z) (hh : h = if wd_rows B = [] then m else M) :
    bk_Blk C n a (x + 2) (wd_R n m M (decide (z = 1)) B M) (fun r => 1 + bk_L B kB m M M r) (M * SB + 1) (D + 1) (2 * v) := by
  intro N ok fi la Ok Fl e hM f l K hl hb Y H h0 hx hY
  have he := (hM a (by omega) (by omega)).2.2.2.2.2.2.1
  have hd := bk_dec e hM hax hx64 hv hmM hM6 hz hB n1 n2 n3 d1 d2 d3 d4 d5 d6 hh M (Nat.le_refl _) (bk_u f (2 * v) 0) l K (by rw [bk_us]; omega) hl (by omega)
  have hfa : ∀ i, i < 2 * v → bk_u f (2 * v) 0 i = f i := fun i hi => bk_un (by omega)
  have := he (x + 1) v _ f l K e1 e2 (by omega) e3 hv (hd Y H h0 (fun w ws r f' K' hw ha hK => hx w ws r f' K' hw (fun i hi => by rw [ha i hi, hfa i hi]) hK) hY)
  refine e.2.2.2.1 _ _ _ _ _ _ ?_ this
  show _ ≤ _ + (1 + bk_L B kB m M M (N - l.length))
  omega
end
section
/-! ===== summaries and terms: one value for both sides ===== -/
def hv_step (kind : Int32) (t : Nat) (r v : Int64) : Int64 :=
  if t = 0 then v else if kind = 2 then v else if kind = 3 then r + v else if kind = 6 then (if r ≤ v then r else v) else if kind = 7 then (if v ≤ r then r else v) else r
def hv_tk (ref : Nat) (c : Nat) : Prop := 8 ≤ ref ∨ c % 4 = ref / 2
def hv_s (kind : Int32) (ref : Nat) (ce : Nat → Int32) (cb : Nat) (lab : Nat → Nat) : Nat → Nat × Int64
  | 0 => (0, 0)
  | i + 1 => if 8 ≤ ref ∨ lab i % 4 = ref / 2 then ((hv_s kind ref ce cb lab i).1 + 1, hv_step kind (hv_s kind ref ce cb lab i).1 (hv_s kind ref ce cb lab i).2 (ce (cb + 2 * i + ref % 2)).toInt64) else hv_s kind ref ce cb lab i
def hv_sum (kind : Int32) (ref : Nat) (ce : Nat → Int32) (cb : Nat) (lab : Nat → Nat) (n : Nat) : Int64 :=
  if kind = 5 then lN (hv_s kind ref ce cb lab n).1 else if (hv_s kind ref ce cb lab n).1 = 0 then 1099511627776 else (hv_s kind ref ce cb lab n).2
theorem hv_s_le (kind : Int32) (ref : Nat) (ce : Nat → Int32) (cb : Nat) (lab : Nat → Nat) : ∀ i, (hv_s kind ref ce cb lab i).1 ≤ i := by
  intro i
  induction i with
  | zero => exact Nat.le_refl _
  | succ i ih => rw [hv_s]; split <;> (try simp only) <;> omega
theorem hv_ix {cb i ref : Nat} (hr : ref ≤ 9) : ((nI cb + (2 * nI i)) + (nI ref - nI ref / 2 * 2)) = nI (cb + 2 * i + ref % 2) := by
  have h := pk_rem (a := ref) (d := 2) (by omega) (by omega) (by omega)
  have h2 : nI ref - nI ref / 2 * 2 = nI (ref % 2) := h
  have h3 : (2 : Int32) * nI i = nI (2 * i) := pk_mul 2 i
  rw [h2, h3, nI_add, nI_add]
theorem hv_lab {c : Nat} (hc : c < 8) : nI c - nI c / 4 * 4 = nI (c % 4) := pk_rem (a := c) (d := 4) (by omega) (by omega) (by omega)
theorem hv_half {ref : Nat} (hr : ref ≤ 9) : nI ref / 2 = nI (ref / 2) := pk_div (a := ref) (d := 2) (by omega) (by omega) (by omega)
section
variable {f_opRow f_opFirst f_opFinal f_opBranch f_opJump f_opEnter f_opNext f_opDecide f_opDone f_catSlot f_itemSlot f_rowsSlot f_timesSlot f_scratchSlot f_size f_bufLen f_openCount f_patLen f_codeLen f_depth f_excluded f_termCount f_skipMode f_skipVar f_resPart f_resRows f_resCount f_top f_pc f_pos f_from : Int32} {a_vec a_buf a_opened a_pat a_reads a_op a_arg a_lev a_lo a_hi a_lazy a_useMax a_branchAt a_jumpAt a_enterAt a_terms a_cells a_rowCount a_startOf a_lengthOf a_labels a_outcome a_loop : Nat → Int32} {a_stack : Nat → Int64}
theorem hx_combine {post : Int64 → Prop} {kind : Int32} {t : Nat} {r v : Int64} (ht : t ≠ 0) (h : post (hv_step kind t r v)) : wpX_combine post (f_opRow, f_opFirst, f_opFinal, f_opBranch, f_opJump, f_opEnter, f_opNext, f_opDecide, f_opDone, f_catSlot, f_itemSlot, f_rowsSlot, f_timesSlot, f_scratchSlot, f_size, f_bufLen, f_openCount, f_patLen, f_codeLen, f_depth, f_excluded, f_termCount, f_skipMode, f_skipVar, f_resPart, f_resRows, f_resCount, f_top, f_pc, f_pos, f_from, a_vec, a_buf, a_opened, a_pat, a_reads, a_op, a_arg, a_lev, a_lo, a_hi, a_lazy, a_useMax, a_branchAt, a_jumpAt, a_enterAt, a_terms, a_cells, a_rowCount, a_startOf, a_lengthOf, a_labels, a_outcome, a_loop, a_stack) kind r v := by
  unfold hv_step at h
  rw [if_neg ht] at h
  refine br_c (fun h2 => ?_) (fun h2 => br_c (fun h3 => ?_) (fun h3 => br_c (fun h6 => br_c (fun q => ?_) (fun q => ?_)) (fun h6 => br_c (fun h7 => br_c (fun q => ?_) (fun q => ?_)) (fun h7 => ?_))))
  · rw [if_pos h2] at h; exact h
  · rw [if_neg h2, if_pos h3] at h; exact h
  · rw [if_neg h2, if_neg h3, if_pos h6, if_pos q] at h; exact h
  · rw [if_neg h2, if_neg h3, if_pos h6, if_neg q] at h; exact h
  · rw [if_neg h2, if_neg h3, if_neg h6, if_pos h7, if_pos q] at h; exact h
  · rw [if_neg h2, if_neg h3, if_neg h6, if_pos h7, if_neg q] at h; exact h
  · rw [if_neg h2, if_neg h3, if_neg h6, if_neg h7] at h; exact h
theorem hx_sum40 {post : Int64 → Prop} {J : Int32 → Int64 → Int32 → Prop} {cb lb n ref t i : Nat} {kind : Int32} {r : Int64} (hr : ref ≤ 9) (h36 : cb + 2 * i + ref % 2 < 36) (ht : t < 100) (h : J (nI (t + 1)) (hv_step kind t r (a_cells (cb + 2 * i + ref % 2)).toInt64) (nI (i + 1))) :
    wX_summary_40 post J (nI cb) (nI lb) (nI n) kind (nI ref) (nI t) r (nI i) f_opRow f_opFirst f_opFinal f_opBranch f_opJump f_opEnter f_opNext f_opDecide f_opDone f_catSlot f_itemSlot f_rowsSlot f_timesSlot f_scratchSlot f_size f_bufLen f_openCount f_patLen f_codeLen f_depth f_excluded f_termCount f_skipMode f_skipVar f_resPart f_resRows f_resCount f_top f_pc f_pos f_from a_vec a_buf a_opened a_pat a_reads a_op a_arg a_lev a_lo a_hi a_lazy a_useMax a_branchAt a_jumpAt a_enterAt a_terms a_cells a_rowCount a_startOf a_lengthOf a_labels a_outcome a_loop a_stack := by
  unfold wX_summary_40
  rw [hv_ix hr, nI_clamp (by omega)]
  refine ⟨by decide, vp_in_nI h36 (by omega), nm_e ?_⟩
  by_cases ht0 : t = 0
  · subst ht0
    refine br_t rfl (nm_r (nI_1 0) (nm_r (nI_1 i) ?_))
    exact h
  · refine br_f (nI_ne0 (by omega) (by omega)) ?_
    refine hx_combine ht0 ?_
    exact nm_r (nI_1 t) (nm_r (nI_1 i) h)
theorem hx_sumL {post : Int64 → Prop} {cb lb n ref : Nat} {kind : Int32} {lab : Nat → Nat} (hlab : ∀ i, i < n → a_labels (lb + i) = nI (lab i) ∧ lab i < 8) (h36 : cb + 2 * n ≤ 36) (hl36 : lb + n ≤ 36) (hr : ref ≤ 9) (hp : post (hv_sum kind ref a_cells cb lab n)) :
    ∀ d i, i + d = n → wX_summary_9 post (nI cb) (nI lb) (nI n) kind (nI ref) f_opRow f_opFirst f_opFinal f_opBranch f_opJump f_opEnter f_opNext f_opDecide f_opDone f_catSlot f_itemSlot f_rowsSlot f_timesSlot f_scratchSlot f_size f_bufLen f_openCount f_patLen f_codeLen f_depth f_excluded f_termCount f_skipMode f_skipVar f_resPart f_resRows f_resCount f_top f_pc f_pos f_from a_vec a_buf a_opened a_pat a_reads a_op a_arg a_lev a_lo a_hi a_lazy a_useMax a_branchAt a_jumpAt a_enterAt a_terms a_cells a_rowCount a_startOf a_lengthOf a_labels a_outcome a_loop a_stack (d + 1) (nI (hv_s kind ref a_cells cb lab i).1) (hv_s kind ref a_cells cb lab i).2 (nI i) := by
  intro d
  induction d with
  | zero =>
    intro i hi
    have hi' : i = n := by omega
    subst hi'
    have hle := hv_s_le kind ref a_cells cb lab i
    unfold hv_sum at hp
    refine br_t (nI_le (Nat.le_refl _) (by omega)) (br_c (fun h5 => ?_) (fun h5 => br_c (fun h0 => ?_) (fun h0 => ?_)))
    · rw [if_pos h5] at hp; rw [nI_l (by omega)]; exact hp
    · rw [if_neg h5, if_pos] at hp
      · exact hp
      · exact (nI_eq (by omega) (by omega)).mp (h0.trans nI_0.symm)
    · rw [if_neg h5, if_neg] at hp
      · exact hp
      · intro hz; apply h0; rw [hz]; exact nI_0
  | succ d ih =>
    intro i hi
    have hle := hv_s_le kind ref a_cells cb lab i
    have nx := ih (i + 1) (by omega)
    have hl := hlab i (by omega)
    refine br_f (nI_ge (by omega) (by omega)) (br_c (fun h8 => ?_) (fun h8 => ?_))
    · have h8' : 8 ≤ ref := (nI_leI (a := 8) (by omega) (by omega)).mp h8
      rw [hv_s, if_pos (Or.inl h8')] at nx
      exact hx_sum40 hr (by omega) (by omega) nx
    · have h8' : ¬ 8 ≤ ref := fun q => h8 (nI_le (a := 8) q (by omega))
      have e1 : nI lb + nI i = nI (lb + i) := nI_add lb i
      rw [e1, nI_clamp (by omega), hl.1, hv_lab hl.2, hv_half hr]
      refine ⟨vp_in_nI (by omega) (by omega), by decide, by decide, br_c (fun q => ?_) (fun q => ?_)⟩
      · have q' : lab i % 4 = ref / 2 := (nI_eq (by omega) (by omega)).mp q
        rw [hv_s, if_pos (Or.inr q')] at nx
        exact hx_sum40 hr (by omega) (by omega) nx
      · have q' : ¬ (8 ≤ ref ∨ lab i % 4 = ref / 2) := by
          intro hh
          rcases hh with hh | hh
          · exact h8' hh
          · exact q (by rw [hh])
        rw [hv_s, if_neg q'] at nx
        exact nm_r (nI_1 i) nx
theorem hx_sum {post : Int64 → Prop} {cb lb n ref : Nat} {kind : Int32} {lab : Nat → Nat} (hlab : ∀ i, i < n → a_labels (lb + i) = nI (lab i) ∧ lab i < 8) (h36 : cb + 2 * n ≤ 36) (hl36 : lb + n ≤ 36) (hr : ref ≤ 9) (hp : post (hv_sum kind ref a_cells cb lab n)) :
    wpX_summary post (f_opRow, f_opFirst, f_opFinal, f_opBranch, f_opJump, f_opEnter, f_opNext, f_opDecide, f_opDone, f_catSlot, f_itemSlot, f_rowsSlot, f_timesSlot, f_scratchSlot, f_size, f_bufLen, f_openCount, f_patLen, f_codeLen, f_depth, f_excluded, f_termCount, f_skipMode, f_skipVar, f_resPart, f_resRows, f_resCount, f_top, f_pc, f_pos, f_from, a_vec, a_buf, a_opened, a_pat, a_reads, a_op, a_arg, a_lev, a_lo, a_hi, a_lazy, a_useMax, a_branchAt, a_jumpAt, a_enterAt, a_terms, a_cells, a_rowCount, a_startOf, a_lengthOf, a_labels, a_outcome, a_loop, a_stack) (nI cb) (nI lb) (nI n) kind (nI ref) :=
  ⟨n + 1, hx_sumL hlab h36 hl36 hr hp n 0 (by omega)⟩
end
end
section
/-! ===== summaries and terms on the reference's side ===== -/
def hv_yr (t : Nat) (r : Int64) : Int64 := if t = 0 then 1099511627776 else r
theorem hv_iy {part s i ref : Nat} (hr : ref ≤ 9) : ((2 * (((6 * nI part) + nI s) + nI i)) + (nI ref - nI ref / 2 * 2)) = nI (12 * part + 2 * s + 2 * i + ref % 2) := by
  have h := pk_rem (a := ref) (d := 2) (by omega) (by omega) (by omega)
  have h2 : nI ref - nI ref / 2 * 2 = nI (ref % 2) := h
  have h3 : (6 : Int32) * nI part = nI (6 * part) := pk_mul 6 part
  have h4 : (2 : Int32) * nI (6 * part + s + i) = nI (2 * (6 * part + s + i)) := pk_mul 2 _
  rw [h2, h3, nI_add, nI_add, h4, nI_add]
  exact congrArg nI (by omega)
section
variable {yf_n yf_count yf_patternCount yf_termCount yf_mode yf_skipVar yf_resPart yf_resRows yf_matchCount yf_tooBig : Int32} {ya_buffer ya_pattern ya_terms ya_cells ya_rowCount ya_len ya_matchStart ya_tried : Nat → Int32} {ya_lists ya_matchEntry : Nat → Int64}
theorem hy_s125 {post : Int64 → Prop} {J : Int64 → Int64 → Int32 → Prop} {kind x2 x5 x6 x7 : Int32} {x3 x8 r v : Int64} {i : Nat} (h : J x8 (if kind = 7 then (if v ≤ r then r else v) else r) (nI (i + 1))) :
    wY_summary_125 post J kind x2 x3 x5 x6 x7 x8 r (nI i) v yf_n yf_count yf_patternCount yf_termCount yf_mode yf_skipVar yf_resPart yf_resRows yf_matchCount yf_tooBig ya_buffer ya_pattern ya_terms ya_cells ya_rowCount ya_lists ya_len ya_matchStart ya_matchEntry ya_tried := by
  refine br_c (fun h7 => br_c (fun q => ?_) (fun q => ?_)) (fun h7 => ?_)
  · rw [if_pos h7, if_pos q] at h; exact nm_r (nI_1 i) h
  · rw [if_pos h7, if_neg q] at h; exact nm_r (nI_1 i) h
  · rw [if_neg h7] at h; exact nm_r (nI_1 i) h
theorem hy_s64 {post : Int64 → Prop} {J : Int64 → Int64 → Int32 → Prop} {kind x2 x5 x6 x7 : Int32} {x3 r v : Int64} {t i : Nat} (ht : t < 100) (h : J (lN (t + 1)) (hv_step kind t r v) (nI (i + 1))) :
    wY_summary_64 post J kind x2 x3 x5 x6 x7 (lN t) (hv_yr t r) (nI i) v yf_n yf_count yf_patternCount yf_termCount yf_mode yf_skipVar yf_resPart yf_resRows yf_matchCount yf_tooBig ya_buffer ya_pattern ya_terms ya_cells ya_rowCount ya_lists ya_len ya_matchStart ya_matchEntry ya_tried := by
  refine nm_r (lN_1 t) ?_
  unfold hv_step at h
  by_cases ht0 : t = 0
  · subst ht0
    rw [if_pos rfl] at h
    exact br_t rfl (nm_r (nI_1 i) h)
  · have hyr : hv_yr t r = r := if_neg ht0
    rw [if_neg ht0] at h
    rw [hyr]
    have h1 : ¬ lN (t + 1) = 1 := by
      intro hh
      have := (lN_eq (a := t + 1) (b := 1) (by omega) (by omega)).mp hh
      omega
    refine br_f h1 (br_c (fun h2 => ?_) (fun h2 => br_c (fun h3 => ?_) (fun h3 => br_c (fun h6 => br_c (fun q => ?_) (fun q => ?_)) (fun h6 => ?_))))
    · rw [if_pos h2] at h; exact nm_r (nI_1 i) h
    · rw [if_neg h2, if_pos h3] at h; exact nm_e (nm_r (nI_1 i) h)
    · rw [if_neg h2, if_neg h3, if_pos h6, if_pos q] at h
      have h7 : ¬ kind = 7 := by rw [h6]; decide
      exact hy_s125 (by rw [if_neg h7]; exact h)
    · rw [if_neg h2, if_neg h3, if_pos h6, if_neg q] at h; exact nm_r (nI_1 i) h
    · rw [if_neg h2, if_neg h3, if_neg h6] at h; exact hy_s125 h
theorem hy_sumL {post : Int64 → Prop} {part s n ref : Nat} {kind : Int32} {e : Int64} {lab : Nat → Nat} (hlab : ∀ i, i < n → ((e >>> ((8 + (3 * nI i)).toInt64 &&& 63)) &&& 7).toInt32 = nI (lab i) ∧ lab i < 8) (h36 : 12 * part + 2 * s + 2 * n ≤ 36) (hr : ref ≤ 9) (hp : post (hv_sum kind ref ya_cells (12 * part + 2 * s) lab n)) :
    ∀ d i, i + d = n → wY_summary_11 post kind (nI ref) e (nI part) (nI s) (nI n) yf_n yf_count yf_patternCount yf_termCount yf_mode yf_skipVar yf_resPart yf_resRows yf_matchCount yf_tooBig ya_buffer ya_pattern ya_terms ya_cells ya_rowCount ya_lists ya_len ya_matchStart ya_matchEntry ya_tried (d + 1) (lN (hv_s kind ref ya_cells (12 * part + 2 * s) lab i).1) (hv_yr (hv_s kind ref ya_cells (12 * part + 2 * s) lab i).1 (hv_s kind ref ya_cells (12 * part + 2 * s) lab i).2) (nI i) := by
  intro d
  induction d with
  | zero =>
    intro i hi
    have hi' : i = n := by omega
    subst hi'
    unfold hv_sum at hp
    refine br_t (nI_le (Nat.le_refl _) (by omega)) (br_c (fun h5 => ?_) (fun h5 => ?_))
    · rw [if_pos h5] at hp; exact hp
    · rw [if_neg h5] at hp; exact hp
  | succ d ih =>
    intro i hi
    have hle := hv_s_le kind ref ya_cells (12 * part + 2 * s) lab i
    have nx := ih (i + 1) (by omega)
    have hl := hlab i (by omega)
    refine br_f (nI_ge (by omega) (by omega)) ?_
    rw [hv_iy hr, nI_clamp (by omega)]
    refine ⟨by decide, vp_in_nI (by omega) (by omega), nm_e (br_c (fun h8 => ?_) (fun h8 => ?_))⟩
    · have h8' : 8 ≤ ref := (nI_leI (a := 8) (by omega) (by omega)).mp h8
      rw [hv_s, if_pos (Or.inl h8')] at nx
      have hyr : ∀ z, hv_yr ((hv_s kind ref ya_cells (12 * part + 2 * s) lab i).1 + 1) z = z := fun z => if_neg (by omega)
      rw [hyr] at nx
      exact hy_s64 (by omega) nx
    · have h8' : ¬ 8 ≤ ref := fun q => h8 (nI_le (a := 8) q (by omega))
      unfold wpY_sign
      dsimp only
      rw [hl.1, hv_lab hl.2, hv_half hr]
      refine ⟨by decide, by decide, br_c (fun q => ?_) (fun q => ?_)⟩
      · have q' : lab i % 4 = ref / 2 := (nI_eq (by omega) (by omega)).mp q
        rw [hv_s, if_pos (Or.inr q')] at nx
        have hyr : ∀ z, hv_yr ((hv_s kind ref ya_cells (12 * part + 2 * s) lab i).1 + 1) z = z := fun z => if_neg (by omega)
        rw [hyr] at nx
        exact hy_s64 (by omega) nx
      · have q' : ¬ (8 ≤ ref ∨ lab i % 4 = ref / 2) := by
          intro hh
          rcases hh with hh | hh
          · exact h8' hh
          · exact q (by rw [hh])
        rw [hv_s, if_neg q'] at nx
        exact nm_r (nI_1 i) nx
theorem hy_sum {post : Int64 → Prop} {part s n ref : Nat} {kind : Int32} {e : Int64} {lab : Nat → Nat} (hlab : ∀ i, i < n → ((e >>> ((8 + (3 * nI i)).toInt64 &&& 63)) &&& 7).toInt32 = nI (lab i) ∧ lab i < 8) (h36 : 12 * part + 2 * s + 2 * n ≤ 36) (hr : ref ≤ 9) (hp : post (hv_sum kind ref ya_cells (12 * part + 2 * s) lab n)) :
    wpY_summary post (yf_n, yf_count, yf_patternCount, yf_termCount, yf_mode, yf_skipVar, yf_resPart, yf_resRows, yf_matchCount, yf_tooBig, ya_buffer, ya_pattern, ya_terms, ya_cells, ya_rowCount, ya_lists, ya_len, ya_matchStart, ya_matchEntry, ya_tried) kind (nI ref) e (nI part) (nI s) (nI n) :=
  ⟨n + 1, hy_sumL hlab h36 hr hp n 0 (by omega)⟩
end
/-! ===== one term at one row ===== -/
def hv_cmp (c : Nat) (a b : Int64) : Bool :=
  if c = 0 then !decide (b ≤ a) else if c = 1 then !decide (b < a) else if c = 2 then decide (a = b) else if c = 3 then !decide (a = b) else if c = 4 then !decide (a ≤ b) else !decide (a < b)
def hv_val (kind arg : Int32) (ce : Nat → Int32) (part s : Nat) (lab : Nat → Nat) (i : Nat) : Int64 :=
  if kind = 0 then arg.toInt64 else if kind = 1 then (if s + i = 0 then 1099511627776 else (ce (12 * part + 2 * (s + i - 1) + arg.toNatClampNeg)).toInt64) else hv_sum kind arg.toNatClampNeg ce (12 * part + 2 * s) lab i
def hv_hold (tm ce : Nat → Int32) (part s : Nat) (lab : Nat → Nat) (i k : Nat) : Bool :=
  if hv_val (tm (4 * k + 2)) (tm (4 * k + 3)) ce part s lab i = 1099511627776 then false
  else hv_cmp ((tm (4 * k + 1)).toNatClampNeg % 6) (ce (12 * part + 2 * (s + i) + (tm (4 * k + 1)).toNatClampNeg / 6)).toInt64 (hv_val (tm (4 * k + 2)) (tm (4 * k + 3)) ce part s lab i)
/-- the terms' fields are in range -/
def hv_T (tm : Nat → Int32) (tc : Nat) : Prop := tc ≤ 8 ∧ ∀ k, k < tc → (∃ v t kd : Nat, tm (4 * k) = nI v ∧ v < 4 ∧ tm (4 * k + 1) = nI t ∧ t < 12 ∧ tm (4 * k + 2) = nI kd ∧ kd < 8 ∧ (kd = 0 ∨ ∃ r : Nat, tm (4 * k + 3) = nI r ∧ r ≤ 9 ∧ (kd = 1 → r ≤ 1)))
def hv_b (b : Bool) : Int32 := if b = true then 1 else 0
theorem hv_b_dec {p : Prop} [Decidable p] {post : Int32 → Prop} (h : post (hv_b (decide p))) : (p → post 1) ∧ (¬ p → post 0) := by
  constructor
  · intro hp; rw [decide_eq_true hp] at h; exact h
  · intro hp; rw [decide_eq_false hp] at h; exact h
theorem hv_b_ndec {p : Prop} [Decidable p] {post : Int32 → Prop} (h : post (hv_b (!decide p))) : (p → post 0) ∧ (¬ p → post 1) := by
  constructor
  · intro hp; rw [decide_eq_true hp] at h; exact h
  · intro hp; rw [decide_eq_false hp] at h; exact h
section
variable {f_opRow f_opFirst f_opFinal f_opBranch f_opJump f_opEnter f_opNext f_opDecide f_opDone f_catSlot f_itemSlot f_rowsSlot f_timesSlot f_scratchSlot f_size f_bufLen f_openCount f_patLen f_codeLen f_depth f_excluded f_termCount f_skipMode f_skipVar f_resPart f_resRows f_resCount f_top f_pc f_pos f_from : Int32} {a_vec a_buf a_opened a_pat a_reads a_op a_arg a_lev a_lo a_hi a_lazy a_useMax a_branchAt a_jumpAt a_enterAt a_terms a_cells a_rowCount a_startOf a_lengthOf a_labels a_outcome a_loop : Nat → Int32} {a_stack : Nat → Int64}
theorem hx_cmp {post : Int32 → Prop} {c : Nat} {a b : Int64} (hc : c < 6) (h : post (hv_b (hv_cmp c a b))) : wpX_compare post (f_opRow, f_opFirst, f_opFinal, f_opBranch, f_opJump, f_opEnter, f_opNext, f_opDecide, f_opDone, f_catSlot, f_itemSlot, f_rowsSlot, f_timesSlot, f_scratchSlot, f_size, f_bufLen, f_openCount, f_patLen, f_codeLen, f_depth, f_excluded, f_termCount, f_skipMode, f_skipVar, f_resPart, f_resRows, f_resCount, f_top, f_pc, f_pos, f_from, a_vec, a_buf, a_opened, a_pat, a_reads, a_op, a_arg, a_lev, a_lo, a_hi, a_lazy, a_useMax, a_branchAt, a_jumpAt, a_enterAt, a_terms, a_cells, a_rowCount, a_startOf, a_lengthOf, a_labels, a_outcome, a_loop, a_stack) (nI c) a b := by
  unfold hv_cmp at h
  refine pk_eq c 0 (fun q => ?_) (fun q => pk_eq c 1 (fun q1 => ?_) (fun q1 => pk_eq c 2 (fun q2 => ?_) (fun q2 => pk_eq c 3 (fun q3 => ?_) (fun q3 => pk_eq c 4 (fun q4 => ?_) (fun q4 => ?_)))))
  · rw [if_pos q] at h; exact hv_b_ndec h
  · rw [if_neg q, if_pos q1] at h; exact hv_b_ndec h
  · rw [if_neg q, if_neg q1, if_pos q2] at h; exact hv_b_dec h
  · rw [if_neg q, if_neg q1, if_neg q2, if_pos q3] at h; exact hv_b_ndec h
  · rw [if_neg q, if_neg q1, if_neg q2, if_neg q3, if_pos q4] at h; exact hv_b_ndec h
  · rw [if_neg q, if_neg q1, if_neg q2, if_neg q3, if_neg q4] at h; exact hv_b_ndec h
end
section
variable {yf_n yf_count yf_patternCount yf_termCount yf_mode yf_skipVar yf_resPart yf_resRows yf_matchCount yf_tooBig : Int32} {ya_buffer ya_pattern ya_terms ya_cells ya_rowCount ya_len ya_matchStart ya_tried : Nat → Int32} {ya_lists ya_matchEntry : Nat → Int64}
theorem hy_cmp {post : Int32 → Prop} {c : Nat} {a b : Int64} (hc : c < 6) (h0 : b = 1099511627776 → post 0) (h : ¬ b = 1099511627776 → post (hv_b (hv_cmp c a b))) : wY_holds_137 post (nI c) a b yf_n yf_count yf_patternCount yf_termCount yf_mode yf_skipVar yf_resPart yf_resRows yf_matchCount yf_tooBig ya_buffer ya_pattern ya_terms ya_cells ya_rowCount ya_lists ya_len ya_matchStart ya_matchEntry ya_tried := by
  refine br_c h0 (fun hn => ?_)
  have h := h hn
  unfold hv_cmp at h
  refine pk_le 2 c (fun q => pk_le 4 c (fun q' => pk_eq c 4 (fun q4 => ?_) (fun q4 => ?_)) (fun q' => pk_eq c 2 (fun q2 => ?_) (fun q2 => ?_))) (fun q => pk_eq c 0 (fun q0 => ?_) (fun q0 => ?_))
  · rw [if_neg (by omega), if_neg (by omega), if_neg (by omega), if_neg (by omega), if_pos q4] at h; exact hv_b_ndec h
  · rw [if_neg (by omega), if_neg (by omega), if_neg (by omega), if_neg (by omega), if_neg q4] at h; exact hv_b_ndec h
  · rw [if_neg (by omega), if_neg (by omega), if_pos q2] at h; exact hv_b_dec h
  · rw [if_neg (by omega), if_neg (by omega), if_neg q2, if_pos (by omega)] at h; exact hv_b_ndec h
  · rw [if_pos q0] at h; exact hv_b_ndec h
  · rw [if_neg q0, if_pos (by omega)] at h; exact hv_b_ndec h
end
end
section
/-! ===== a term at a row, both sides ===== -/
theorem hv_rd {t : Nat} (ht : t < 12) : nI t / 6 = nI (t / 6) := pk_div (a := t) (d := 6) (by omega) (by omega) (by omega)
theorem hv_rm {t : Nat} (ht : t < 12) : nI t - nI t / 6 * 6 = nI (t % 6) := pk_rem (a := t) (d := 6) (by omega) (by omega) (by omega)
theorem hv_4 (k j : Nat) (c : Int32) (hc : c = nI j) : (4 * nI k) + c = nI (4 * k + j) := by
  have h : (4 : Int32) * nI k = nI (4 * k) := pk_mul 4 k
  rw [hc, h, nI_add]
section
variable {f_opRow f_opFirst f_opFinal f_opBranch f_opJump f_opEnter f_opNext f_opDecide f_opDone f_catSlot f_itemSlot f_rowsSlot f_timesSlot f_scratchSlot f_size f_bufLen f_openCount f_patLen f_codeLen f_depth f_excluded f_termCount f_skipMode f_skipVar f_resPart f_resRows f_resCount f_top f_pc f_pos f_from : Int32} {a_vec a_buf a_opened a_pat a_reads a_op a_arg a_lev a_lo a_hi a_lazy a_useMax a_branchAt a_jumpAt a_enterAt a_terms a_cells a_rowCount a_startOf a_lengthOf a_labels a_outcome a_loop : Nat → Int32} {a_stack : Nat → Int64}
theorem hx_value {post : Int64 → Prop} {part s rc i kd : Nat} {arg : Int32} {lab : Nat → Nat} (hpart : part < 3) (hsi : s + i < 6) (hrc : rc < 6) (hkd : kd < 8) (harg : kd = 0 ∨ ∃ r : Nat, arg = nI r ∧ r ≤ 9 ∧ (kd = 1 → r ≤ 1)) (hlab : ∀ j, j < i → a_labels (6 * rc + j) = nI (lab j) ∧ lab j < 8)
    (h : post (hv_val (nI kd) arg a_cells part s lab i)) : wpX_valueOf post (f_opRow, f_opFirst, f_opFinal, f_opBranch, f_opJump, f_opEnter, f_opNext, f_opDecide, f_opDone, f_catSlot, f_itemSlot, f_rowsSlot, f_timesSlot, f_scratchSlot, f_size, f_bufLen, f_openCount, f_patLen, f_codeLen, f_depth, f_excluded, f_termCount, f_skipMode, f_skipVar, nI part, f_resRows, nI rc, f_top, f_pc, nI i, nI s, a_vec, a_buf, a_opened, a_pat, a_reads, a_op, a_arg, a_lev, a_lo, a_hi, a_lazy, a_useMax, a_branchAt, a_jumpAt, a_enterAt, a_terms, a_cells, a_rowCount, a_startOf, a_lengthOf, a_labels, a_outcome, a_loop, a_stack) (nI kd) arg (nI (s + i)) := by
  unfold hv_val at h
  refine br_c (fun q => ?_) (fun q => br_c (fun q1 => ?_) (fun q1 => ?_))
  · rw [if_pos q] at h; exact h
  · have hk1 : kd = 1 := (nI_eq (b := 1) (by omega) (by omega)).mp q1
    obtain ⟨r, hr, hr9, hr1⟩ := harg.resolve_left (by omega)
    rw [if_neg q, if_pos q1] at h
    refine br_c (fun z => ?_) (fun z => ?_)
    · have z' : s + i = 0 := (nI_eq (b := 0) (by omega) (by omega)).mp z
      rw [if_pos z'] at h; exact h
    · have z' : ¬ s + i = 0 := fun hh => z (by rw [hh]; exact nI_0)
      have hr1' := hr1 hk1
      have e1 : ((nI part * 12) + ((nI (s + i) - 1) * 2)) + arg = nI (12 * part + 2 * (s + i - 1) + r) := by
        have a1 : nI part * 12 = nI (part * 12) := pk_mul part 12
        have a2 : nI (s + i) - 1 = nI (s + i - 1) := pk_sub (a := s + i) (b := 1) (by omega)
        have a3 : nI (s + i - 1) * 2 = nI ((s + i - 1) * 2) := pk_mul _ 2
        rw [a1, a2, a3, hr, nI_add, nI_add]
        exact congrArg nI (by omega)
      rw [if_neg z', hr, nI_clamp (n := r) (by omega)] at h
      rw [e1, nI_clamp (by omega)]
      exact ⟨vp_in_nI (by omega) (by omega), h⟩
  · have hk0 : ¬ kd = 0 := fun hh => q (by rw [hh]; exact nI_0)
    obtain ⟨r, hr, hr9, hr1⟩ := harg.resolve_left hk0
    rw [if_neg q, if_neg q1, hr, nI_clamp (n := r) (by omega)] at h
    have a1 : nI part * 12 + nI s * 2 = nI (12 * part + 2 * s) := by
      have b1 : nI part * 12 = nI (part * 12) := pk_mul part 12
      have b2 : nI s * 2 = nI (s * 2) := pk_mul s 2
      rw [b1, b2, nI_add]; exact congrArg nI (by omega)
    have a2 : nI rc * 6 = nI (6 * rc) := by
      have b1 : nI rc * 6 = nI (rc * 6) := pk_mul rc 6
      rw [b1]; exact congrArg nI (by omega)
    rw [a1, a2, hr]
    exact hx_sum hlab (by omega) (by omega) hr9 h
theorem hx_hold {post : Int32 → Prop} {part s rc i k tc : Nat} {lab : Nat → Nat} (hpart : part < 3) (hsi : s + i < 6) (hrc : rc < 6) (hT : hv_T a_terms tc) (hk : k < tc) (hlab : ∀ j, j < i → a_labels (6 * rc + j) = nI (lab j) ∧ lab j < 8)
    (h : post (hv_b (hv_hold a_terms a_cells part s lab i k))) : wpX_holds post (f_opRow, f_opFirst, f_opFinal, f_opBranch, f_opJump, f_opEnter, f_opNext, f_opDecide, f_opDone, f_catSlot, f_itemSlot, f_rowsSlot, f_timesSlot, f_scratchSlot, f_size, f_bufLen, f_openCount, f_patLen, f_codeLen, f_depth, f_excluded, f_termCount, f_skipMode, f_skipVar, nI part, f_resRows, nI rc, f_top, f_pc, nI i, nI s, a_vec, a_buf, a_opened, a_pat, a_reads, a_op, a_arg, a_lev, a_lo, a_hi, a_lazy, a_useMax, a_branchAt, a_jumpAt, a_enterAt, a_terms, a_cells, a_rowCount, a_startOf, a_lengthOf, a_labels, a_outcome, a_loop, a_stack) (nI k) (nI (s + i)) := by
  obtain ⟨v, t, kd, hv, hv4, ht, ht12, hkd, hkd8, harg⟩ := hT.2 k hk
  have hk8 : k < 8 := by have := hT.1; omega
  unfold hv_hold at h
  rw [ht, nI_clamp (n := t) (by omega), hkd] at h
  unfold wpX_holds
  dsimp only
  rw [hv_4 k 1 1 rfl, hv_4 k 2 2 rfl, hv_4 k 3 3 rfl, nI_clamp (n := 4 * k + 1) (by omega), nI_clamp (n := 4 * k + 2) (by omega), nI_clamp (n := 4 * k + 3) (by omega), ht, hkd]
  have e1 : ∀ x3 : Int32, x3 = nI t → ((nI part * 12) + (nI (s + i) * 2)) + (x3 / 6) = nI (12 * part + 2 * (s + i) + t / 6) := by
    intro x3 hx
    have b1 : nI part * 12 = nI (part * 12) := pk_mul part 12
    have b2 : nI (s + i) * 2 = nI ((s + i) * 2) := pk_mul _ 2
    rw [hx, hv_rd ht12, b1, b2, nI_add, nI_add]; exact congrArg nI (by omega)
  refine ⟨vp_in_nI (by omega) (by omega), fun x3 hx3 => ⟨by decide, ?_⟩⟩
  rw [e1 x3 hx3, nI_clamp (n := 12 * part + 2 * (s + i) + t / 6) (by omega)]
  refine ⟨vp_in_nI (by omega) (by omega), nm_e ⟨vp_in_nI (by omega) (by omega), vp_in_nI (by omega) (by omega), ?_⟩⟩
  refine hx_value hpart hsi hrc hkd8 harg hlab ?_
  refine br_c (fun q => ?_) (fun q => ⟨by decide, ?_⟩)
  · rw [if_pos q] at h; exact h
  · rw [if_neg q] at h
    rw [hx3, hv_rm ht12]
    refine hx_cmp (by omega) ?_
    revert h
    cases hv_cmp (t % 6) (a_cells (12 * part + 2 * (s + i) + t / 6)).toInt64 (hv_val (nI kd) (a_terms (4 * k + 3)) a_cells part s lab i) with
    | false => intro h; exact br_t rfl h
    | true => intro h; exact br_f (by decide) h
end
section
variable {yf_n yf_count yf_patternCount yf_termCount yf_mode yf_skipVar yf_resPart yf_resRows yf_matchCount yf_tooBig : Int32} {ya_buffer ya_pattern ya_terms ya_cells ya_rowCount ya_len ya_matchStart ya_tried : Nat → Int32} {ya_lists ya_matchEntry : Nat → Int64}
theorem hy_hold {post : Int32 → Prop} {part s i k tc : Nat} {e : Int64} {lab : Nat → Nat} (hpart : part < 3) (hsi : s + i < 6) (hT : hv_T ya_terms tc) (hk : k < tc) (hlab : ∀ j, j < i → ((e >>> ((8 + (3 * nI j)).toInt64 &&& 63)) &&& 7).toInt32 = nI (lab j) ∧ lab j < 8)
    (h : post (hv_b (hv_hold ya_terms ya_cells part s lab i k))) : wpY_holds post (yf_n, yf_count, yf_patternCount, yf_termCount, yf_mode, yf_skipVar, yf_resPart, yf_resRows, yf_matchCount, yf_tooBig, ya_buffer, ya_pattern, ya_terms, ya_cells, ya_rowCount, ya_lists, ya_len, ya_matchStart, ya_matchEntry, ya_tried) (nI k) e (nI part) (nI s) (nI i) := by
  obtain ⟨v, t, kd, hv, hv4, ht, ht12, hkd, hkd8, harg⟩ := hT.2 k hk
  have hk8 : k < 8 := by have := hT.1; omega
  unfold hv_hold at h
  rw [ht, nI_clamp (n := t) (by omega), hkd] at h
  unfold wpY_holds
  dsimp only
  rw [hv_4 k 1 1 rfl, hv_4 k 2 2 rfl, hv_4 k 3 3 rfl, nI_clamp (n := 4 * k + 1) (by omega), nI_clamp (n := 4 * k + 2) (by omega), nI_clamp (n := 4 * k + 3) (by omega), ht, hkd]
  have e0 : 2 * (((6 * nI part) + nI s) + nI i) = nI (12 * part + 2 * (s + i)) := by
    have b1 : 6 * nI part = nI (6 * part) := pk_mul 6 part
    have b2 : 2 * nI (6 * part + s + i) = nI (2 * (6 * part + s + i)) := pk_mul 2 _
    rw [b1, nI_add, nI_add, b2]; exact congrArg nI (by omega)
  refine ⟨vp_in_nI (by omega) (by omega), nm_e ⟨vp_in_nI (by omega) (by omega), nm_e ⟨vp_in_nI (by omega) (by omega), nm_e (nm_r e0 ⟨by decide, nm_r (hv_rm ht12) ⟨by decide, ?_⟩⟩)⟩⟩⟩
  rw [hv_rd ht12, nI_add, nI_clamp (n := 12 * part + 2 * (s + i) + t / 6) (by omega)]
  refine ⟨vp_in_nI (by omega) (by omega), nm_e ?_⟩
  have fin : ∀ b : Int64, b = hv_val (nI kd) (ya_terms (4 * k + 3)) ya_cells part s lab i → wY_holds_137 post (nI (t % 6)) (ya_cells (12 * part + 2 * (s + i) + t / 6)).toInt64 b yf_n yf_count yf_patternCount yf_termCount yf_mode yf_skipVar yf_resPart yf_resRows yf_matchCount yf_tooBig ya_buffer ya_pattern ya_terms ya_cells ya_rowCount ya_lists ya_len ya_matchStart ya_matchEntry ya_tried := by
    intro b hb
    subst hb
    refine hy_cmp (by omega) (fun q => ?_) (fun q => ?_)
    · rw [if_pos q] at h; exact h
    · rw [if_neg q] at h; exact h
  refine br_c (fun q1 => ?_) (fun q1 => ?_)
  · have hk1 : kd = 1 := (nI_eq (b := 1) (by omega) (by omega)).mp q1
    have h2 : nI kd < 2 := by rw [hk1]; decide
    obtain ⟨r, hr, hr9, hr1⟩ := harg.resolve_left (by omega)
    have hr1' := hr1 hk1
    have esi : nI s + nI i = nI (s + i) := nI_add s i
    rw [esi]
    refine br_c (fun z => ?_) (fun z => ?_)
    · have z' : s + i = 0 := (nI_eq (b := 0) (by omega) (by omega)).mp z
      refine br_t h2 (fin _ ?_)
      unfold hv_val
      rw [if_neg (by rw [hk1]; decide), if_pos q1, if_pos z']
    · have z' : ¬ s + i = 0 := fun hh => z (by rw [hh]; exact nI_0)
      have e1 : (nI (12 * part + 2 * (s + i)) - 2) + ya_terms (4 * k + 3) = nI (12 * part + 2 * (s + i - 1) + r) := by
        have a2 : nI (12 * part + 2 * (s + i)) - 2 = nI (12 * part + 2 * (s + i) - 2) := pk_sub (b := 2) (by omega)
        rw [a2, hr, nI_add]
        exact congrArg nI (by omega)
      rw [e1, nI_clamp (n := 12 * part + 2 * (s + i - 1) + r) (by omega)]
      refine ⟨vp_in_nI (by omega) (by omega), br_t h2 (fin _ ?_)⟩
      unfold hv_val
      rw [if_neg (by rw [hk1]; decide), if_pos q1, if_neg z', hr, nI_clamp (n := r) (by omega)]
  · refine pk_lt kd 2 (fun q2 => ?_) (fun q2 => ?_)
    · have hk0 : kd = 0 := by
        have : ¬ kd = 1 := fun hh => q1 (by rw [hh]; rfl)
        omega
      refine fin _ ?_
      unfold hv_val
      rw [if_pos (by rw [hk0]; rfl)]
    · obtain ⟨r, hr, hr9, hr1⟩ := harg.resolve_left (by omega)
      have hv : hv_val (nI kd) (ya_terms (4 * k + 3)) ya_cells part s lab i = hv_sum (nI kd) r ya_cells (12 * part + 2 * s) lab i := by
        unfold hv_val
        rw [if_neg (nI_ne0 (by omega) (by omega)), if_neg q1, hr, nI_clamp (n := r) (by omega)]
      have fin2 := fin _ hv.symm
      rw [hr]
      exact hy_sum hlab (by omega) hr9 fin2
end
end
section
/-! ===== saved states ===== -/
def sr_g (f : Nat → Nat) : Nat → Nat
  | 0 => 0
  | k + 1 => sr_g f k * 8 + f k
def sr_enc (pc : Nat) (f : Nat → Nat) (p : Nat) : Nat := (sr_g f 8 * 8 + p) * 64 + pc
theorem sr_g_lt {f : Nat → Nat} : ∀ {k : Nat}, k ≤ 8 → (∀ j, j < 8 → f j < 8) → sr_g f k < 8 ^ k := by
  intro k
  induction k with
  | zero => intro _ _; exact Nat.one_pos
  | succ k ih =>
    intro hk hf
    have h1 := ih (by omega) hf
    have h2 := hf k (by omega)
    rw [sr_g, Nat.pow_succ]
    omega
theorem sr_g8 {f : Nat → Nat} (hf : ∀ j, j < 8 → f j < 8) : sr_g f 8 < 16777216 := sr_g_lt (Nat.le_refl _) hf
theorem sr_enc_lt {pc p : Nat} {f : Nat → Nat} (hf : ∀ j, j < 8 → f j < 8) (hp : p < 8) (hpc : pc < 64) : sr_enc pc f p < 2 ^ 40 := by
  have := sr_g8 hf
  unfold sr_enc
  omega
theorem sr_8 (n : Nat) : lN n * 8 = lN (n * 8) := lN_mul n 8
theorem sr_64 (n : Nat) : lN n * 64 = lN (n * 64) := lN_mul n 64
section
variable {f_opRow f_opFirst f_opFinal f_opBranch f_opJump f_opEnter f_opNext f_opDecide f_opDone f_catSlot f_itemSlot f_rowsSlot f_timesSlot f_scratchSlot f_size f_bufLen f_openCount f_patLen f_codeLen f_depth f_excluded f_termCount f_skipMode f_skipVar f_resPart f_resRows f_resCount f_top f_pc f_pos f_from : Int32} {a_vec a_buf a_opened a_pat a_reads a_op a_arg a_lev a_lo a_hi a_lazy a_useMax a_branchAt a_jumpAt a_enterAt a_terms a_cells a_rowCount a_startOf a_lengthOf a_labels a_outcome a_loop : Nat → Int32} {a_stack : Nat → Int64}
theorem sr_saveL {post : SX → Prop} {t p tp : Nat} {f : Nat → Nat} (hf : ∀ j, j < 8 → a_loop j = nI (f j) ∧ f j < 8) (hp : p < 8) (ht : t < 64) (htp : tp < 4096)
    (h : post (f_opRow, f_opFirst, f_opFinal, f_opBranch, f_opJump, f_opEnter, f_opNext, f_opDecide, f_opDone, f_catSlot, f_itemSlot, f_rowsSlot, f_timesSlot, f_scratchSlot, f_size, f_bufLen, f_openCount, f_patLen, f_codeLen, f_depth, f_excluded, f_termCount, f_skipMode, f_skipVar, f_resPart, f_resRows, f_resCount, nI (tp + 1), f_pc, nI p, f_from, a_vec, a_buf, a_opened, a_pat, a_reads, a_op, a_arg, a_lev, a_lo, a_hi, a_lazy, a_useMax, a_branchAt, a_jumpAt, a_enterAt, a_terms, a_cells, a_rowCount, a_startOf, a_lengthOf, a_labels, a_outcome, a_loop, vp_updL a_stack tp (lN (sr_enc t f p)))) :
    ∀ d k, k + d = 8 → wX_save_16 post (nI t) f_opRow f_opFirst f_opFinal f_opBranch f_opJump f_opEnter f_opNext f_opDecide f_opDone f_catSlot f_itemSlot f_rowsSlot f_timesSlot f_scratchSlot f_size f_bufLen f_openCount f_patLen f_codeLen f_depth f_excluded f_termCount f_skipMode f_skipVar f_resPart f_resRows f_resCount (nI tp) f_pc (nI p) f_from a_vec a_buf a_opened a_pat a_reads a_op a_arg a_lev a_lo a_hi a_lazy a_useMax a_branchAt a_jumpAt a_enterAt a_terms a_cells a_rowCount a_startOf a_lengthOf a_labels a_outcome a_loop a_stack (d + 1) (lN (sr_g f k)) (nI k) := by
  intro d
  induction d with
  | zero =>
    intro k hk
    have hk' : k = 8 := by omega
    subst hk'
    have e1 : (lN (sr_g f 8) * 8) + (nI p).toInt64 = lN (sr_g f 8 * 8 + p) := by rw [sr_8, nI_l (by omega), lN_add]
    have e2 : (lN (sr_g f 8 * 8 + p) * 64) + (nI t).toInt64 = lN (sr_enc t f p) := by rw [sr_64, nI_l (by omega), lN_add]; rfl
    refine br_t (by decide) (nm_r e1 ⟨vp_in_nI htp (by omega), ?_⟩)
    rw [e2, nI_clamp (n := tp) (by omega)]
    exact nm_e (nm_r (nI_1 tp) h)
  | succ d ih =>
    intro k hk
    have nx := ih (k + 1) (by omega)
    have hfk := hf k (by omega)
    have e1 : (lN (sr_g f k) * 8) + (nI (f k)).toInt64 = lN (sr_g f (k + 1)) := by rw [sr_8, nI_l (by omega), lN_add]; rfl
    refine br_f (nI_ge (b := 8) (by omega) (by omega)) ⟨vp_in_nI (by omega) (by omega), ?_⟩
    rw [nI_clamp (n := k) (by omega), hfk.1]
    exact nm_r e1 (nm_r (nI_1 k) nx)
theorem sr_save {post : SX → Prop} {t p tp : Nat} {f : Nat → Nat} (hf : ∀ j, j < 8 → a_loop j = nI (f j) ∧ f j < 8) (hp : p < 8) (ht : t < 64) (htp : tp < 4096)
    (h : post (f_opRow, f_opFirst, f_opFinal, f_opBranch, f_opJump, f_opEnter, f_opNext, f_opDecide, f_opDone, f_catSlot, f_itemSlot, f_rowsSlot, f_timesSlot, f_scratchSlot, f_size, f_bufLen, f_openCount, f_patLen, f_codeLen, f_depth, f_excluded, f_termCount, f_skipMode, f_skipVar, f_resPart, f_resRows, f_resCount, nI (tp + 1), f_pc, nI p, f_from, a_vec, a_buf, a_opened, a_pat, a_reads, a_op, a_arg, a_lev, a_lo, a_hi, a_lazy, a_useMax, a_branchAt, a_jumpAt, a_enterAt, a_terms, a_cells, a_rowCount, a_startOf, a_lengthOf, a_labels, a_outcome, a_loop, vp_updL a_stack tp (lN (sr_enc t f p)))) : wpX_save post (f_opRow, f_opFirst, f_opFinal, f_opBranch, f_opJump, f_opEnter, f_opNext, f_opDecide, f_opDone, f_catSlot, f_itemSlot, f_rowsSlot, f_timesSlot, f_scratchSlot, f_size, f_bufLen, f_openCount, f_patLen, f_codeLen, f_depth, f_excluded, f_termCount, f_skipMode, f_skipVar, f_resPart, f_resRows, f_resCount, nI tp, f_pc, nI p, f_from, a_vec, a_buf, a_opened, a_pat, a_reads, a_op, a_arg, a_lev, a_lo, a_hi, a_lazy, a_useMax, a_branchAt, a_jumpAt, a_enterAt, a_terms, a_cells, a_rowCount, a_startOf, a_lengthOf, a_labels, a_outcome, a_loop, a_stack) (nI t) :=
  br_t (nI_lt (b := 4096) htp (by omega)) ⟨9, sr_saveL hf hp ht htp h 8 0 rfl⟩
theorem sr_lt63 {n : Nat} (h : n < 2 ^ 40) : n < 2 ^ 63 := by omega
theorem sr_restL {post : SX → Prop} {f : Nat → Nat} (hf : ∀ j, j < 8 → f j < 8) :
    ∀ k, k ≤ 8 → ∀ (S : Nat) (lp : Nat → Int32), S / 8 = sr_g f k → S < 2 ^ 40 → (∀ j, k ≤ j → j < 8 → lp j = nI (f j)) → (∀ lp' : Nat → Int32, (∀ j, j < 8 → lp' j = nI (f j)) → post (f_opRow, f_opFirst, f_opFinal, f_opBranch, f_opJump, f_opEnter, f_opNext, f_opDecide, f_opDone, f_catSlot, f_itemSlot, f_rowsSlot, f_timesSlot, f_scratchSlot, f_size, f_bufLen, f_openCount, f_patLen, f_codeLen, f_depth, f_excluded, f_termCount, f_skipMode, f_skipVar, f_resPart, f_resRows, f_resCount, f_top, f_pc, f_pos, f_from, a_vec, a_buf, a_opened, a_pat, a_reads, a_op, a_arg, a_lev, a_lo, a_hi, a_lazy, a_useMax, a_branchAt, a_jumpAt, a_enterAt, a_terms, a_cells, a_rowCount, a_startOf, a_lengthOf, a_labels, a_outcome, lp', a_stack)) →
      wX_restore_49 post f_opRow f_opFirst f_opFinal f_opBranch f_opJump f_opEnter f_opNext f_opDecide f_opDone f_catSlot f_itemSlot f_rowsSlot f_timesSlot f_scratchSlot f_size f_bufLen f_openCount f_patLen f_codeLen f_depth f_excluded f_termCount f_skipMode f_skipVar f_resPart f_resRows f_resCount f_top f_pc f_pos f_from (k + 1) (lN S) (nI k + (-1)) a_vec a_buf a_opened a_pat a_reads a_op a_arg a_lev a_lo a_hi a_lazy a_useMax a_branchAt a_jumpAt a_enterAt a_terms a_cells a_rowCount a_startOf a_lengthOf a_labels a_outcome lp a_stack := by
  intro k
  induction k with
  | zero =>
    intro _ S lp hS hlt hlp h
    exact br_t (by decide) (h lp (fun j hj => hlp j (by omega) hj))
  | succ k ih =>
    intro hk S lp hS hlt hlp h
    have e0 : nI (k + 1) + (-1) = nI k := pk_m1 k
    rw [e0]
    have e1 : lN S / 8 = lN (sr_g f (k + 1)) := by
      have := pk_lDiv (a := S) (b := 8) (by omega) (by omega) (by omega)
      rw [← hS]; exact this
    have hg := sr_g_lt (f := f) (k := k + 1) hk hf
    have hp8 : 8 ^ (k + 1) ≤ 8 ^ 8 := Nat.pow_le_pow_right (by omega) hk
    have hp8' : (8 : Nat) ^ 8 = 16777216 := by decide
    have hfk := hf k (by omega)
    have e2 : (lN (sr_g f (k + 1)) - lN (sr_g f (k + 1)) / 8 * 8).toInt32 = nI (f k) := by
      have := pk_lRem (a := sr_g f (k + 1)) (b := 8) (by omega) (by omega) (by omega)
      have h2 : lN (sr_g f (k + 1)) - lN (sr_g f (k + 1)) / 8 * 8 = lN (sr_g f (k + 1) % 8) := this
      rw [h2, lN_i]
      rw [sr_g]
      exact congrArg nI (by omega)
    refine br_f (nI_pos (by omega)) ⟨by decide, nm_r e1 ⟨by decide, vp_in_nI (by omega) (by omega), ?_⟩⟩
    rw [e2, nI_clamp (n := k) (by omega)]
    refine nm_e (nm_e ?_)
    refine ih (by omega) (sr_g f (k + 1)) (upd lp k (nI (f k))) ?_ (by omega) ?_ h
    · rw [sr_g]; omega
    · intro j h1 h2
      by_cases hj : j = k
      · rw [hj, pk_us]
      · rw [pk_un hj]; exact hlp j (by omega) h2
theorem sr_rest {post : SX → Prop} {pc p tp : Nat} {f : Nat → Nat} (hf : ∀ j, j < 8 → f j < 8) (hp : p < 8) (hpc : pc < 64) (htp : tp < 4096) (hs : a_stack tp = lN (sr_enc pc f p))
    (h : ∀ lp' : Nat → Int32, (∀ j, j < 8 → lp' j = nI (f j)) → post (f_opRow, f_opFirst, f_opFinal, f_opBranch, f_opJump, f_opEnter, f_opNext, f_opDecide, f_opDone, f_catSlot, f_itemSlot, f_rowsSlot, f_timesSlot, f_scratchSlot, f_size, f_bufLen, f_openCount, f_patLen, f_codeLen, f_depth, f_excluded, f_termCount, f_skipMode, f_skipVar, f_resPart, f_resRows, f_resCount, nI tp, nI pc, nI p, f_from, a_vec, a_buf, a_opened, a_pat, a_reads, a_op, a_arg, a_lev, a_lo, a_hi, a_lazy, a_useMax, a_branchAt, a_jumpAt, a_enterAt, a_terms, a_cells, a_rowCount, a_startOf, a_lengthOf, a_labels, a_outcome, lp', a_stack)) : wpX_restore post (f_opRow, f_opFirst, f_opFinal, f_opBranch, f_opJump, f_opEnter, f_opNext, f_opDecide, f_opDone, f_catSlot, f_itemSlot, f_rowsSlot, f_timesSlot, f_scratchSlot, f_size, f_bufLen, f_openCount, f_patLen, f_codeLen, f_depth, f_excluded, f_termCount, f_skipMode, f_skipVar, f_resPart, f_resRows, f_resCount, nI (tp + 1), f_pc, f_pos, f_from, a_vec, a_buf, a_opened, a_pat, a_reads, a_op, a_arg, a_lev, a_lo, a_hi, a_lazy, a_useMax, a_branchAt, a_jumpAt, a_enterAt, a_terms, a_cells, a_rowCount, a_startOf, a_lengthOf, a_labels, a_outcome, a_loop, a_stack) := by
  have hlt := sr_enc_lt hf hp hpc
  have hg8 := sr_g8 hf
  have e0 : nI (tp + 1) - 1 = nI tp := nI_pred tp
  have e1 : (lN (sr_enc pc f p) - lN (sr_enc pc f p) / 64 * 64).toInt32 = nI pc := by
    have := pk_lRem (a := sr_enc pc f p) (b := 64) (by omega) (by omega) (by omega)
    have h2 : lN (sr_enc pc f p) - lN (sr_enc pc f p) / 64 * 64 = lN (sr_enc pc f p % 64) := this
    rw [h2, lN_i]
    exact congrArg nI (by unfold sr_enc; omega)
  have e2 : lN (sr_enc pc f p) / 64 = lN (sr_g f 8 * 8 + p) := by
    have := pk_lDiv (a := sr_enc pc f p) (b := 64) (by omega) (by omega) (by omega)
    have h2 : lN (sr_enc pc f p) / 64 = lN (sr_enc pc f p / 64) := this
    rw [h2]
    exact congrArg lN (by unfold sr_enc; omega)
  have e3 : (lN (sr_g f 8 * 8 + p) - lN (sr_g f 8 * 8 + p) / 8 * 8).toInt32 = nI p := by
    have := pk_lRem (a := sr_g f 8 * 8 + p) (b := 8) (by omega) (by omega) (by omega)
    have h2 : lN (sr_g f 8 * 8 + p) - lN (sr_g f 8 * 8 + p) / 8 * 8 = lN ((sr_g f 8 * 8 + p) % 8) := this
    rw [h2, lN_i]
    exact congrArg nI (by omega)
  refine nm_r e0 ⟨vp_in_nI htp (by omega), ?_⟩
  rw [nI_clamp (n := tp) (by omega), hs]
  refine nm_e ⟨by decide, nm_r e1 ⟨by decide, nm_r e2 ⟨by decide, nm_r e3 ⟨9, ?_⟩⟩⟩⟩
  have := sr_restL (post := post) hf 8 (Nat.le_refl _) (sr_g f 8 * 8 + p) a_loop (by omega) (by omega) (fun j h1 h2 => by omega) h
  exact this
end
end
section
/-! ===== binding a row ===== -/
def sr_lab (l : List Nat) : Nat → Nat := fun i => l.getD i 0
def sr_ok (tm ce : Nat → Int32) (tc part s R : Nat) (l : List Nat) (c : Nat) : Bool :=
  decide (s + l.length < R) && (List.range tc).all (fun k => !(decide (tm (4 * k) = nI (c % 4))) || hv_hold tm ce part s (sr_lab l) l.length k)
def sr_fi (s : Nat) (l : List Nat) : Bool := decide (s + l.length = 0)
def sr_la (s R : Nat) (l : List Nat) : Bool := decide (s + l.length = R)
theorem sr_ok_iff {tm ce : Nat → Int32} {tc part s R : Nat} {l : List Nat} {c : Nat} : sr_ok tm ce tc part s R l c = true ↔ s + l.length < R ∧ ∀ k, k < tc → tm (4 * k) = nI (c % 4) → hv_hold tm ce part s (sr_lab l) l.length k = true := by
  unfold sr_ok
  rw [Bool.and_eq_true, decide_eq_true_iff, List.all_eq_true]
  constructor
  · intro h
    refine ⟨h.1, fun k hk he => ?_⟩
    have := h.2 k (List.mem_range.mpr hk)
    rw [decide_eq_true he] at this
    exact this
  · intro h
    refine ⟨h.1, fun k hk => ?_⟩
    by_cases he : tm (4 * k) = nI (c % 4)
    · rw [h.2 k (List.mem_range.mp hk) he, Bool.or_true]
    · rw [decide_eq_false he]; rfl
section
variable {f_opRow f_opFirst f_opFinal f_opBranch f_opJump f_opEnter f_opNext f_opDecide f_opDone f_catSlot f_itemSlot f_rowsSlot f_timesSlot f_scratchSlot f_size f_bufLen f_openCount f_patLen f_codeLen f_depth f_excluded f_termCount f_skipMode f_skipVar f_resPart f_resRows f_resCount f_top f_pc f_pos f_from : Int32} {a_vec a_buf a_opened a_pat a_reads a_op a_arg a_lev a_lo a_hi a_lazy a_useMax a_branchAt a_jumpAt a_enterAt a_terms a_cells a_rowCount a_startOf a_lengthOf a_labels a_outcome a_loop : Nat → Int32} {a_stack : Nat → Int64}
theorem sr_bindL {post : Int32 → SX → Prop} {part s rc R tc i c : Nat} {lab : Nat → Nat} (hpart : part < 3) (hsi : s + i < 6) (hrc : rc < 6) (hc : c < 8) (hT : hv_T a_terms tc) (hlab : ∀ j, j < i → a_labels (6 * rc + j) = nI (lab j) ∧ lab j < 8)
    (h1 : (∀ k, k < tc → a_terms (4 * k) = nI (c % 4) → hv_hold a_terms a_cells part s lab i k = true) → post 1 (f_opRow, f_opFirst, f_opFinal, f_opBranch, f_opJump, f_opEnter, f_opNext, f_opDecide, f_opDone, f_catSlot, f_itemSlot, f_rowsSlot, f_timesSlot, f_scratchSlot, f_size, f_bufLen, f_openCount, f_patLen, f_codeLen, f_depth, f_excluded, nI tc, f_skipMode, f_skipVar, nI part, nI R, nI rc, f_top, f_pc, nI (i + 1), nI s, a_vec, a_buf, a_opened, a_pat, a_reads, a_op, a_arg, a_lev, a_lo, a_hi, a_lazy, a_useMax, a_branchAt, a_jumpAt, a_enterAt, a_terms, a_cells, a_rowCount, a_startOf, a_lengthOf, upd a_labels (6 * rc + i) (nI c), a_outcome, a_loop, a_stack))
    (h0 : (∃ k, k < tc ∧ a_terms (4 * k) = nI (c % 4) ∧ hv_hold a_terms a_cells part s lab i k = false) → post 0 (f_opRow, f_opFirst, f_opFinal, f_opBranch, f_opJump, f_opEnter, f_opNext, f_opDecide, f_opDone, f_catSlot, f_itemSlot, f_rowsSlot, f_timesSlot, f_scratchSlot, f_size, f_bufLen, f_openCount, f_patLen, f_codeLen, f_depth, f_excluded, nI tc, f_skipMode, f_skipVar, nI part, nI R, nI rc, f_top, f_pc, nI i, nI s, a_vec, a_buf, a_opened, a_pat, a_reads, a_op, a_arg, a_lev, a_lo, a_hi, a_lazy, a_useMax, a_branchAt, a_jumpAt, a_enterAt, a_terms, a_cells, a_rowCount, a_startOf, a_lengthOf, a_labels, a_outcome, a_loop, a_stack)) :
    ∀ d k, k + d = tc → (∀ q, q < k → a_terms (4 * q) = nI (c % 4) → hv_hold a_terms a_cells part s lab i q = true) → wX_bindRow_22 post (nI c) (nI (s + i)) f_opRow f_opFirst f_opFinal f_opBranch f_opJump f_opEnter f_opNext f_opDecide f_opDone f_catSlot f_itemSlot f_rowsSlot f_timesSlot f_scratchSlot f_size f_bufLen f_openCount f_patLen f_codeLen f_depth f_excluded (nI tc) f_skipMode f_skipVar (nI part) (nI R) (nI rc) f_top f_pc (nI i) (nI s) a_vec a_buf a_opened a_pat a_reads a_op a_arg a_lev a_lo a_hi a_lazy a_useMax a_branchAt a_jumpAt a_enterAt a_terms a_cells a_rowCount a_startOf a_lengthOf a_labels a_outcome a_loop a_stack (d + 1) (nI k) := by
  have htc := hT.1
  intro d
  induction d with
  | zero =>
    intro k hk hall
    have hk' : k = tc := by omega
    subst hk'
    have e1 : nI rc * 6 + nI i = nI (6 * rc + i) := by
      have b1 : nI rc * 6 = nI (rc * 6) := pk_mul rc 6
      rw [b1, nI_add]; exact congrArg nI (by omega)
    refine br_t (nI_le (Nat.le_refl _) (by omega)) ?_
    rw [e1, nI_clamp (n := 6 * rc + i) (by omega)]
    exact ⟨vp_in_nI (by omega) (by omega), nm_e (nm_r (nI_1 i) (h1 hall))⟩
  | succ d ih =>
    intro k hk hall
    have e4 : 4 * nI k = nI (4 * k) := pk_mul 4 k
    refine br_f (nI_ge (by omega) (by omega)) ?_
    rw [e4, nI_clamp (n := 4 * k) (by omega), hv_lab hc]
    refine ⟨vp_in_nI (by omega) (by omega), by decide, br_c (fun q => ?_) (fun q => ?_)⟩
    · refine hx_hold hpart hsi hrc hT (by omega) hlab ?_
      cases hh : hv_hold a_terms a_cells part s lab i k with
      | false => exact br_t rfl (h0 ⟨k, by omega, q, hh⟩)
      | true =>
        refine br_f (by decide) (nm_r (nI_1 k) (ih (k + 1) (by omega) (fun p hp he => ?_)))
        by_cases hpk : p = k
        · rw [hpk]; exact hh
        · exact hall p (by omega) he
    · refine nm_r (nI_1 k) (ih (k + 1) (by omega) (fun p hp he => ?_))
      by_cases hpk : p = k
      · rw [hpk] at he; exact absurd he q
      · exact hall p (by omega) he
theorem sr_bind {post : Int32 → SX → Prop} {part s rc R tc c : Nat} {l : List Nat} (hpart : part < 3) (hR : R ≤ 6) (hsl : s + l.length ≤ R) (hrc : rc < 6) (hc : c < 8) (hT : hv_T a_terms tc) (hlab : ∀ j, j < l.length → a_labels (6 * rc + j) = nI (l.getD j 0) ∧ l.getD j 0 < 8)
    (h1 : sr_ok a_terms a_cells tc part s R l c = true → post 1 (f_opRow, f_opFirst, f_opFinal, f_opBranch, f_opJump, f_opEnter, f_opNext, f_opDecide, f_opDone, f_catSlot, f_itemSlot, f_rowsSlot, f_timesSlot, f_scratchSlot, f_size, f_bufLen, f_openCount, f_patLen, f_codeLen, f_depth, f_excluded, nI tc, f_skipMode, f_skipVar, nI part, nI R, nI rc, f_top, f_pc, nI (l.length + 1), nI s, a_vec, a_buf, a_opened, a_pat, a_reads, a_op, a_arg, a_lev, a_lo, a_hi, a_lazy, a_useMax, a_branchAt, a_jumpAt, a_enterAt, a_terms, a_cells, a_rowCount, a_startOf, a_lengthOf, upd a_labels (6 * rc + l.length) (nI c), a_outcome, a_loop, a_stack))
    (h0 : sr_ok a_terms a_cells tc part s R l c = false → post 0 (f_opRow, f_opFirst, f_opFinal, f_opBranch, f_opJump, f_opEnter, f_opNext, f_opDecide, f_opDone, f_catSlot, f_itemSlot, f_rowsSlot, f_timesSlot, f_scratchSlot, f_size, f_bufLen, f_openCount, f_patLen, f_codeLen, f_depth, f_excluded, nI tc, f_skipMode, f_skipVar, nI part, nI R, nI rc, f_top, f_pc, nI l.length, nI s, a_vec, a_buf, a_opened, a_pat, a_reads, a_op, a_arg, a_lev, a_lo, a_hi, a_lazy, a_useMax, a_branchAt, a_jumpAt, a_enterAt, a_terms, a_cells, a_rowCount, a_startOf, a_lengthOf, a_labels, a_outcome, a_loop, a_stack)) : wpX_bindRow post (f_opRow, f_opFirst, f_opFinal, f_opBranch, f_opJump, f_opEnter, f_opNext, f_opDecide, f_opDone, f_catSlot, f_itemSlot, f_rowsSlot, f_timesSlot, f_scratchSlot, f_size, f_bufLen, f_openCount, f_patLen, f_codeLen, f_depth, f_excluded, nI tc, f_skipMode, f_skipVar, nI part, nI R, nI rc, f_top, f_pc, nI l.length, nI s, a_vec, a_buf, a_opened, a_pat, a_reads, a_op, a_arg, a_lev, a_lo, a_hi, a_lazy, a_useMax, a_branchAt, a_jumpAt, a_enterAt, a_terms, a_cells, a_rowCount, a_startOf, a_lengthOf, a_labels, a_outcome, a_loop, a_stack) (nI c) := by
  have htc := hT.1
  refine nm_r (nI_add s l.length) (br_c (fun q => ?_) (fun q => ?_))
  · have q' : s + l.length < R := (nI_ltI (by omega) (by omega)).mp q
    refine ⟨tc + 1, sr_bindL hpart (by omega) hrc hc hT hlab (fun hall => h1 (sr_ok_iff.mpr ⟨q', hall⟩)) (fun hex => h0 ?_) tc 0 (by omega) (fun q hq => by omega)⟩
    obtain ⟨k, hk, he, hf⟩ := hex
    cases hb : sr_ok a_terms a_cells tc part s R l c with
    | false => rfl
    | true =>
      have := (sr_ok_iff.mp hb).2 k hk he
      exact absurd (this.symm.trans hf) (by decide)
  · refine h0 ?_
    cases hb : sr_ok a_terms a_cells tc part s R l c with
    | false => rfl
    | true => exact absurd (nI_lt (sr_ok_iff.mp hb).1 (by omega)) q
end
end
section
/-! ===== the search's step rules ===== -/
def sr_St (st : Nat → Int64) : bk_K → Prop
  | [] => True
  | (pc, f, l) :: K => st K.length = lN (sr_enc pc f l.length) ∧ pc < 64 ∧ (∀ j, j < 8 → f j < 8) ∧ sr_St st K
def sr_Ch : List Nat → bk_K → Prop
  | _, [] => True
  | l, (_, _, l') :: K => l' <+: l ∧ sr_Ch l' K
def sr_RS (rc N : Nat) (lab0 : Nat → Int32) (f : Nat → Nat) (l : List Nat) (K : bk_K) (lab lp : Nat → Int32) (st : Nat → Int64) : Prop :=
  l.length ≤ N ∧ (∀ j, j < l.length → lab (6 * rc + j) = nI (l.getD j 0) ∧ l.getD j 0 < 8) ∧ (∀ j, j < 6 * rc → lab j = lab0 j) ∧ (∀ j, j < 8 → lp j = nI (f j) ∧ f j < 8) ∧ K.length ≤ 4096 ∧ sr_St st K ∧ sr_Ch l K
def sr_Ok (W : Nat → Int64 → Int32 → Int32 → Int32 → (Nat → Int32) → (Nat → Int32) → (Nat → Int64) → Prop) (rc N : Nat) (lab0 : Nat → Int32) (n pc : Nat) (f : Nat → Nat) (l : List Nat) (K : bk_K) : Prop :=
  ∀ (fuel x : Nat) (lab lp : Nat → Int32) (st : Nat → Int64), n < fuel → x + n < 1000000000000 → sr_RS rc N lab0 f l K lab lp st → W fuel (lN x) (nI K.length) (nI pc) (nI l.length) lab lp st
def sr_Fl (P : Int32 → Int32 → (Nat → Int32) → (Nat → Int32) → (Nat → Int64) → Prop) (rc : Nat) (lab0 : Nat → Int32) (_ : Nat) : Prop :=
  ∀ (pc pos : Int32) (lab lp : Nat → Int32) (st : Nat → Int64), (∀ j, j < 6 * rc → lab j = lab0 j) → (∀ j, j < 8 → ∃ q : Nat, lp j = nI q ∧ q < 8) → P pc pos lab lp st
def sr_C (op arg lev lo hi lz : Nat → Int32) : Nat → bk_I := fun pc => (op pc, arg pc, lev pc, lo pc, hi pc, lz pc)
theorem sr_St_upd {st : Nat → Int64} {x : Int64} {q : Nat} : ∀ {K : bk_K}, K.length ≤ q → sr_St st K → sr_St (vp_updL st q x) K := by
  intro K
  induction K with
  | nil => intro _ _; trivial
  | cons a K ih =>
    obtain ⟨pc, f, l⟩ := a
    intro hq h
    rw [List.length_cons] at hq
    exact ⟨by rw [pk_uLn (by omega)]; exact h.1, h.2.1, h.2.2.1, ih (by omega) h.2.2.2⟩
theorem sr_pre_get {l l' : List Nat} (h : l' <+: l) {j : Nat} (hj : j < l'.length) : l'.getD j 0 = l.getD j 0 := by
  obtain ⟨t, rfl⟩ := h
  rw [List.getD_eq_getElem?_getD, List.getD_eq_getElem?_getD, List.getElem?_append_left hj]
theorem sr_pre_ch {l l' : List Nat} (h : l <+: l') : ∀ {K : bk_K}, sr_Ch l K → sr_Ch l' K := by
  intro K
  cases K with
  | nil => intro _; trivial
  | cons a K => obtain ⟨pc, f, l2⟩ := a; intro hc; exact ⟨hc.1.trans h, hc.2⟩
theorem sr_mono {W : Nat → Int64 → Int32 → Int32 → Int32 → (Nat → Int32) → (Nat → Int32) → (Nat → Int64) → Prop} {rc N : Nat} {lab0 : Nat → Int32} (a b pc : Nat) (f : Nat → Nat) (l : List Nat) (K : bk_K) (h : a ≤ b) (ho : sr_Ok W rc N lab0 a pc f l K) : sr_Ok W rc N lab0 b pc f l K :=
  fun fuel x lab lp st h1 h2 h3 => ho fuel x lab lp st (by omega) (by omega) h3
theorem sr_RSlp {rc N : Nat} {lab0 : Nat → Int32} {f : Nat → Nat} {l : List Nat} {K : bk_K} {lab lp : Nat → Int32} {st : Nat → Int64} (h : sr_RS rc N lab0 f l K lab lp st) {q x : Nat} (hx : x < 8) : sr_RS rc N lab0 (bk_u f q x) l K lab (upd lp q (nI x)) st := by
  refine ⟨h.1, h.2.1, h.2.2.1, fun j hj => ?_, h.2.2.2.2⟩
  by_cases hq : j = q
  · rw [hq, pk_us, bk_us]; exact ⟨rfl, hx⟩
  · rw [pk_un hq, bk_un hq]; exact h.2.2.2.1 j hj
theorem sr_RSpush {rc N : Nat} {lab0 : Nat → Int32} {f : Nat → Nat} {l : List Nat} {K : bk_K} {lab lp : Nat → Int32} {st : Nat → Int64} (h : sr_RS rc N lab0 f l K lab lp st) {t : Nat} (ht : t < 64) (hK : K.length < 4096) : sr_RS rc N lab0 f l ((t, f, l) :: K) lab lp (vp_updL st K.length (lN (sr_enc t f l.length))) := by
  refine ⟨h.1, h.2.1, h.2.2.1, h.2.2.2.1, by rw [List.length_cons]; omega, ⟨pk_uLs, ht, fun j hj => (h.2.2.2.1 j hj).2, sr_St_upd (Nat.le_refl _) h.2.2.2.2.2.1⟩, ⟨List.prefix_refl l, h.2.2.2.2.2.2⟩⟩
section
variable {f_opRow f_opFirst f_opFinal f_opBranch f_opJump f_opEnter f_opNext f_opDecide f_opDone f_catSlot f_itemSlot f_rowsSlot f_timesSlot f_scratchSlot f_size f_bufLen f_openCount f_patLen f_codeLen f_depth f_excluded f_termCount f_skipMode f_skipVar f_resPart f_resRows f_resCount f_top f_pc f_pos f_from : Int32} {a_vec a_buf a_opened a_pat a_reads a_op a_arg a_lev a_lo a_hi a_lazy a_useMax a_branchAt a_jumpAt a_enterAt a_terms a_cells a_rowCount a_startOf a_lengthOf a_labels a_outcome a_loop : Nat → Int32} {a_stack : Nat → Int64}
variable {post : Int32 → SX → Prop} {part s rc R tc : Nat} {lab0 : Nat → Int32}
/-- execute, by operation -/
theorem sx_fi {P : Int32 → SX → Prop} {pc : Nat} {l : List Nat} (hpc : pc < 63) (hs : s + l.length < 100) (h0 : a_op pc = 1) (h1 : sr_fi s l = true → P 1 (f_opRow, f_opFirst, f_opFinal, f_opBranch, f_opJump, f_opEnter, f_opNext, f_opDecide, f_opDone, f_catSlot, f_itemSlot, f_rowsSlot, f_timesSlot, f_scratchSlot, f_size, f_bufLen, f_openCount, f_patLen, f_codeLen, f_depth, f_excluded, f_termCount, f_skipMode, f_skipVar, f_resPart, f_resRows, f_resCount, f_top, nI (pc + 1), nI l.length, nI s, a_vec, a_buf, a_opened, a_pat, a_reads, a_op, a_arg, a_lev, a_lo, a_hi, a_lazy, a_useMax, a_branchAt, a_jumpAt, a_enterAt, a_terms, a_cells, a_rowCount, a_startOf, a_lengthOf, a_labels, a_outcome, a_loop, a_stack)) (h2 : sr_fi s l = false → P 0 (f_opRow, f_opFirst, f_opFinal, f_opBranch, f_opJump, f_opEnter, f_opNext, f_opDecide, f_opDone, f_catSlot, f_itemSlot, f_rowsSlot, f_timesSlot, f_scratchSlot, f_size, f_bufLen, f_openCount, f_patLen, f_codeLen, f_depth, f_excluded, f_termCount, f_skipMode, f_skipVar, f_resPart, f_resRows, f_resCount, f_top, nI (pc + 1), nI l.length, nI s, a_vec, a_buf, a_opened, a_pat, a_reads, a_op, a_arg, a_lev, a_lo, a_hi, a_lazy, a_useMax, a_branchAt, a_jumpAt, a_enterAt, a_terms, a_cells, a_rowCount, a_startOf, a_lengthOf, a_labels, a_outcome, a_loop, a_stack)) : wpX_execute P (f_opRow, f_opFirst, f_opFinal, f_opBranch, f_opJump, f_opEnter, f_opNext, f_opDecide, f_opDone, f_catSlot, f_itemSlot, f_rowsSlot, f_timesSlot, f_scratchSlot, f_size, f_bufLen, f_openCount, f_patLen, f_codeLen, f_depth, f_excluded, f_termCount, f_skipMode, f_skipVar, f_resPart, f_resRows, f_resCount, f_top, nI pc, nI l.length, nI s, a_vec, a_buf, a_opened, a_pat, a_reads, a_op, a_arg, a_lev, a_lo, a_hi, a_lazy, a_useMax, a_branchAt, a_jumpAt, a_enterAt, a_terms, a_cells, a_rowCount, a_startOf, a_lengthOf, a_labels, a_outcome, a_loop, a_stack) := by
  refine ⟨vp_in_nI (by omega) (by omega), ?_⟩
  rw [nI_clamp (n := pc) (by omega), h0, nI_add]
  refine nm_e (nm_r (nI_1 pc) (br_f (by decide) (br_t rfl (br_c (fun q => h1 ?_) (fun q => h2 ?_)))))
  · exact decide_eq_true ((nI_eq (b := 0) (by omega) (by omega)).mp q)
  · exact decide_eq_false (fun hh => q (by rw [hh]; exact nI_0))
theorem sx_la {P : Int32 → SX → Prop} {pc : Nat} {l : List Nat} (hpc : pc < 63) (hs : s + l.length < 100) (hR : R < 100) (h0 : a_op pc = 2) (h1 : sr_la s R l = true → P 1 (f_opRow, f_opFirst, f_opFinal, f_opBranch, f_opJump, f_opEnter, f_opNext, f_opDecide, f_opDone, f_catSlot, f_itemSlot, f_rowsSlot, f_timesSlot, f_scratchSlot, f_size, f_bufLen, f_openCount, f_patLen, f_codeLen, f_depth, f_excluded, f_termCount, f_skipMode, f_skipVar, f_resPart, nI R, f_resCount, f_top, nI (pc + 1), nI l.length, nI s, a_vec, a_buf, a_opened, a_pat, a_reads, a_op, a_arg, a_lev, a_lo, a_hi, a_lazy, a_useMax, a_branchAt, a_jumpAt, a_enterAt, a_terms, a_cells, a_rowCount, a_startOf, a_lengthOf, a_labels, a_outcome, a_loop, a_stack)) (h2 : sr_la s R l = false → P 0 (f_opRow, f_opFirst, f_opFinal, f_opBranch, f_opJump, f_opEnter, f_opNext, f_opDecide, f_opDone, f_catSlot, f_itemSlot, f_rowsSlot, f_timesSlot, f_scratchSlot, f_size, f_bufLen, f_openCount, f_patLen, f_codeLen, f_depth, f_excluded, f_termCount, f_skipMode, f_skipVar, f_resPart, nI R, f_resCount, f_top, nI (pc + 1), nI l.length, nI s, a_vec, a_buf, a_opened, a_pat, a_reads, a_op, a_arg, a_lev, a_lo, a_hi, a_lazy, a_useMax, a_branchAt, a_jumpAt, a_enterAt, a_terms, a_cells, a_rowCount, a_startOf, a_lengthOf, a_labels, a_outcome, a_loop, a_stack)) : wpX_execute P (f_opRow, f_opFirst, f_opFinal, f_opBranch, f_opJump, f_opEnter, f_opNext, f_opDecide, f_opDone, f_catSlot, f_itemSlot, f_rowsSlot, f_timesSlot, f_scratchSlot, f_size, f_bufLen, f_openCount, f_patLen, f_codeLen, f_depth, f_excluded, f_termCount, f_skipMode, f_skipVar, f_resPart, nI R, f_resCount, f_top, nI pc, nI l.length, nI s, a_vec, a_buf, a_opened, a_pat, a_reads, a_op, a_arg, a_lev, a_lo, a_hi, a_lazy, a_useMax, a_branchAt, a_jumpAt, a_enterAt, a_terms, a_cells, a_rowCount, a_startOf, a_lengthOf, a_labels, a_outcome, a_loop, a_stack) := by
  refine ⟨vp_in_nI (by omega) (by omega), ?_⟩
  rw [nI_clamp (n := pc) (by omega), h0, nI_add]
  refine nm_e (nm_r (nI_1 pc) (br_f (by decide) (br_f (by decide) (br_t rfl (br_c (fun q => h1 ?_) (fun q => h2 ?_))))))
  · exact decide_eq_true ((nI_eq (by omega) (by omega)).mp q)
  · exact decide_eq_false (fun hh => q (by rw [hh]))
theorem sx_brN {P : Int32 → SX → Prop} {pc : Nat} (hpc : pc < 63) (h0 : a_op pc = 3) (ha : a_arg pc = -1) (h : P 1 (f_opRow, f_opFirst, f_opFinal, f_opBranch, f_opJump, f_opEnter, f_opNext, f_opDecide, f_opDone, f_catSlot, f_itemSlot, f_rowsSlot, f_timesSlot, f_scratchSlot, f_size, f_bufLen, f_openCount, f_patLen, f_codeLen, f_depth, f_excluded, f_termCount, f_skipMode, f_skipVar, f_resPart, f_resRows, f_resCount, f_top, nI (pc + 1), f_pos, f_from, a_vec, a_buf, a_opened, a_pat, a_reads, a_op, a_arg, a_lev, a_lo, a_hi, a_lazy, a_useMax, a_branchAt, a_jumpAt, a_enterAt, a_terms, a_cells, a_rowCount, a_startOf, a_lengthOf, a_labels, a_outcome, a_loop, a_stack)) : wpX_execute P (f_opRow, f_opFirst, f_opFinal, f_opBranch, f_opJump, f_opEnter, f_opNext, f_opDecide, f_opDone, f_catSlot, f_itemSlot, f_rowsSlot, f_timesSlot, f_scratchSlot, f_size, f_bufLen, f_openCount, f_patLen, f_codeLen, f_depth, f_excluded, f_termCount, f_skipMode, f_skipVar, f_resPart, f_resRows, f_resCount, f_top, nI pc, f_pos, f_from, a_vec, a_buf, a_opened, a_pat, a_reads, a_op, a_arg, a_lev, a_lo, a_hi, a_lazy, a_useMax, a_branchAt, a_jumpAt, a_enterAt, a_terms, a_cells, a_rowCount, a_startOf, a_lengthOf, a_labels, a_outcome, a_loop, a_stack) := by
  refine ⟨vp_in_nI (by omega) (by omega), ?_⟩
  rw [nI_clamp (n := pc) (by omega), h0, ha]
  exact nm_e (nm_r (nI_1 pc) (br_f (by decide) (br_f (by decide) (br_f (by decide) (br_f (by decide) (br_t rfl ⟨vp_in_nI (by omega) (by omega), br_t (by decide) h⟩))))))
theorem sx_brS {P : Int32 → SX → Prop} {pc t : Nat} (hpc : pc < 63) (h0 : a_op pc = 3) (ha : a_arg pc = nI t) (ht : t < 64) (h : wpX_save (fun u => P 1 u) (f_opRow, f_opFirst, f_opFinal, f_opBranch, f_opJump, f_opEnter, f_opNext, f_opDecide, f_opDone, f_catSlot, f_itemSlot, f_rowsSlot, f_timesSlot, f_scratchSlot, f_size, f_bufLen, f_openCount, f_patLen, f_codeLen, f_depth, f_excluded, f_termCount, f_skipMode, f_skipVar, f_resPart, f_resRows, f_resCount, f_top, nI (pc + 1), f_pos, f_from, a_vec, a_buf, a_opened, a_pat, a_reads, a_op, a_arg, a_lev, a_lo, a_hi, a_lazy, a_useMax, a_branchAt, a_jumpAt, a_enterAt, a_terms, a_cells, a_rowCount, a_startOf, a_lengthOf, a_labels, a_outcome, a_loop, a_stack) (nI t)) : wpX_execute P (f_opRow, f_opFirst, f_opFinal, f_opBranch, f_opJump, f_opEnter, f_opNext, f_opDecide, f_opDone, f_catSlot, f_itemSlot, f_rowsSlot, f_timesSlot, f_scratchSlot, f_size, f_bufLen, f_openCount, f_patLen, f_codeLen, f_depth, f_excluded, f_termCount, f_skipMode, f_skipVar, f_resPart, f_resRows, f_resCount, f_top, nI pc, f_pos, f_from, a_vec, a_buf, a_opened, a_pat, a_reads, a_op, a_arg, a_lev, a_lo, a_hi, a_lazy, a_useMax, a_branchAt, a_jumpAt, a_enterAt, a_terms, a_cells, a_rowCount, a_startOf, a_lengthOf, a_labels, a_outcome, a_loop, a_stack) := by
  refine ⟨vp_in_nI (by omega) (by omega), ?_⟩
  rw [nI_clamp (n := pc) (by omega), h0, ha]
  exact nm_e (nm_r (nI_1 pc) (br_f (by decide) (br_f (by decide) (br_f (by decide) (br_f (by decide) (br_t rfl ⟨vp_in_nI (by omega) (by omega), br_f (nI_pos (by omega)) ⟨vp_in_nI (by omega) (by omega), h⟩⟩))))))
theorem sx_jmp {P : Int32 → SX → Prop} {pc : Nat} (hpc : pc < 63) (h0 : a_op pc = 4) (h : P 1 (f_opRow, f_opFirst, f_opFinal, f_opBranch, f_opJump, f_opEnter, f_opNext, f_opDecide, f_opDone, f_catSlot, f_itemSlot, f_rowsSlot, f_timesSlot, f_scratchSlot, f_size, f_bufLen, f_openCount, f_patLen, f_codeLen, f_depth, f_excluded, f_termCount, f_skipMode, f_skipVar, f_resPart, f_resRows, f_resCount, f_top, a_arg pc, f_pos, f_from, a_vec, a_buf, a_opened, a_pat, a_reads, a_op, a_arg, a_lev, a_lo, a_hi, a_lazy, a_useMax, a_branchAt, a_jumpAt, a_enterAt, a_terms, a_cells, a_rowCount, a_startOf, a_lengthOf, a_labels, a_outcome, a_loop, a_stack)) : wpX_execute P (f_opRow, f_opFirst, f_opFinal, f_opBranch, f_opJump, f_opEnter, f_opNext, f_opDecide, f_opDone, f_catSlot, f_itemSlot, f_rowsSlot, f_timesSlot, f_scratchSlot, f_size, f_bufLen, f_openCount, f_patLen, f_codeLen, f_depth, f_excluded, f_termCount, f_skipMode, f_skipVar, f_resPart, f_resRows, f_resCount, f_top, nI pc, f_pos, f_from, a_vec, a_buf, a_opened, a_pat, a_reads, a_op, a_arg, a_lev, a_lo, a_hi, a_lazy, a_useMax, a_branchAt, a_jumpAt, a_enterAt, a_terms, a_cells, a_rowCount, a_startOf, a_lengthOf, a_labels, a_outcome, a_loop, a_stack) := by
  refine ⟨vp_in_nI (by omega) (by omega), ?_⟩
  rw [nI_clamp (n := pc) (by omega), h0]
  refine nm_e (nm_r (nI_1 pc) (br_f (by decide) (br_f (by decide) (br_f (by decide) (br_f (by decide) (br_f (by decide) (br_f (by decide) (br_f (by decide) ?_))))))))
  refine ⟨vp_in_nI (by omega) (by omega), ?_⟩
  rw [nI_clamp (n := pc) (by omega)]
  exact nm_e h
theorem sx_ent {P : Int32 → SX → Prop} {pc v : Nat} (hpc : pc < 63) (h0 : a_op pc = 5) (hv : a_lev pc = nI v) (hv4 : v < 4) (h : P 1 (f_opRow, f_opFirst, f_opFinal, f_opBranch, f_opJump, f_opEnter, f_opNext, f_opDecide, f_opDone, f_catSlot, f_itemSlot, f_rowsSlot, f_timesSlot, f_scratchSlot, f_size, f_bufLen, f_openCount, f_patLen, f_codeLen, f_depth, f_excluded, f_termCount, f_skipMode, f_skipVar, f_resPart, f_resRows, f_resCount, f_top, a_arg pc, f_pos, f_from, a_vec, a_buf, a_opened, a_pat, a_reads, a_op, a_arg, a_lev, a_lo, a_hi, a_lazy, a_useMax, a_branchAt, a_jumpAt, a_enterAt, a_terms, a_cells, a_rowCount, a_startOf, a_lengthOf, a_labels, a_outcome, upd a_loop (2 * v) (nI 0), a_stack)) : wpX_execute P (f_opRow, f_opFirst, f_opFinal, f_opBranch, f_opJump, f_opEnter, f_opNext, f_opDecide, f_opDone, f_catSlot, f_itemSlot, f_rowsSlot, f_timesSlot, f_scratchSlot, f_size, f_bufLen, f_openCount, f_patLen, f_codeLen, f_depth, f_excluded, f_termCount, f_skipMode, f_skipVar, f_resPart, f_resRows, f_resCount, f_top, nI pc, f_pos, f_from, a_vec, a_buf, a_opened, a_pat, a_reads, a_op, a_arg, a_lev, a_lo, a_hi, a_lazy, a_useMax, a_branchAt, a_jumpAt, a_enterAt, a_terms, a_cells, a_rowCount, a_startOf, a_lengthOf, a_labels, a_outcome, a_loop, a_stack) := by
  have e1 : 2 * nI v = nI (2 * v) := pk_mul 2 v
  refine ⟨vp_in_nI (by omega) (by omega), ?_⟩
  rw [nI_clamp (n := pc) (by omega), h0, hv, e1, nI_clamp (n := 2 * v) (by omega)]
  refine nm_e (nm_r (nI_1 pc) (br_f (by decide) (br_f (by decide) (br_f (by decide) (br_f (by decide) (br_f (by decide) (br_f (by decide) (br_t rfl ?_))))))))
  refine ⟨vp_in_nI (by omega) (by omega), vp_in_nI (by omega) (by omega), nm_e ?_⟩
  refine ⟨vp_in_nI (by omega) (by omega), ?_⟩
  rw [nI_clamp (n := pc) (by omega)]
  exact nm_e h
theorem sx_nxt {P : Int32 → SX → Prop} {pc v m : Nat} {f : Nat → Nat} {l : List Nat} (hpc : pc < 63) (hl : l.length < 8) (h0 : a_op pc = 6) (hv : a_lev pc = nI v) (hv4 : v < 4) (hm : a_lo pc = nI m) (hm8 : m < 8) (hf : ∀ j, j < 8 → a_loop j = nI (f j) ∧ f j < 8)
    (h1 : ¬ (m ≤ f (2 * v) ∧ f (2 * v + 1) = l.length) → P 1 (f_opRow, f_opFirst, f_opFinal, f_opBranch, f_opJump, f_opEnter, f_opNext, f_opDecide, f_opDone, f_catSlot, f_itemSlot, f_rowsSlot, f_timesSlot, f_scratchSlot, f_size, f_bufLen, f_openCount, f_patLen, f_codeLen, f_depth, f_excluded, f_termCount, f_skipMode, f_skipVar, f_resPart, f_resRows, f_resCount, f_top, nI (pc + 1), nI l.length, f_from, a_vec, a_buf, a_opened, a_pat, a_reads, a_op, a_arg, a_lev, a_lo, a_hi, a_lazy, a_useMax, a_branchAt, a_jumpAt, a_enterAt, a_terms, a_cells, a_rowCount, a_startOf, a_lengthOf, a_labels, a_outcome, upd a_loop (2 * v) (nI (f (2 * v) + 1)), a_stack)) (h2 : m ≤ f (2 * v) ∧ f (2 * v + 1) = l.length → P 0 (f_opRow, f_opFirst, f_opFinal, f_opBranch, f_opJump, f_opEnter, f_opNext, f_opDecide, f_opDone, f_catSlot, f_itemSlot, f_rowsSlot, f_timesSlot, f_scratchSlot, f_size, f_bufLen, f_openCount, f_patLen, f_codeLen, f_depth, f_excluded, f_termCount, f_skipMode, f_skipVar, f_resPart, f_resRows, f_resCount, f_top, nI (pc + 1), nI l.length, f_from, a_vec, a_buf, a_opened, a_pat, a_reads, a_op, a_arg, a_lev, a_lo, a_hi, a_lazy, a_useMax, a_branchAt, a_jumpAt, a_enterAt, a_terms, a_cells, a_rowCount, a_startOf, a_lengthOf, a_labels, a_outcome, a_loop, a_stack)) : wpX_execute P (f_opRow, f_opFirst, f_opFinal, f_opBranch, f_opJump, f_opEnter, f_opNext, f_opDecide, f_opDone, f_catSlot, f_itemSlot, f_rowsSlot, f_timesSlot, f_scratchSlot, f_size, f_bufLen, f_openCount, f_patLen, f_codeLen, f_depth, f_excluded, f_termCount, f_skipMode, f_skipVar, f_resPart, f_resRows, f_resCount, f_top, nI pc, nI l.length, f_from, a_vec, a_buf, a_opened, a_pat, a_reads, a_op, a_arg, a_lev, a_lo, a_hi, a_lazy, a_useMax, a_branchAt, a_jumpAt, a_enterAt, a_terms, a_cells, a_rowCount, a_startOf, a_lengthOf, a_labels, a_outcome, a_loop, a_stack) := by
  have e1 : 2 * nI v = nI (2 * v) := pk_mul 2 v
  have f0 := hf (2 * v) (by omega)
  have f1 := hf (2 * v + 1) (by omega)
  refine ⟨vp_in_nI (by omega) (by omega), ?_⟩
  rw [nI_clamp (n := pc) (by omega), h0]
  refine nm_e (nm_r (nI_1 pc) (br_f (by decide) (br_f (by decide) (br_f (by decide) (br_t rfl ?_)))))
  refine ⟨vp_in_nI (by omega) (by omega), ?_⟩
  rw [nI_clamp (n := pc) (by omega), hv, hm]
  refine nm_r e1 ⟨vp_in_nI (by omega) (by omega), vp_in_nI (by omega) (by omega), ?_⟩
  rw [nI_clamp (n := 2 * v) (by omega), f0.1]
  have hk : ¬ (m ≤ f (2 * v) ∧ f (2 * v + 1) = l.length) → wX_endIteration_41 (fun r u => match u with | (f_opRow_9, f_opFirst_9, f_opFinal_9, f_opBranch_9, f_opJump_9, f_opEnter_9, f_opNext_9, f_opDecide_9, f_opDone_9, f_catSlot_9, f_itemSlot_9, f_rowsSlot_9, f_timesSlot_9, f_scratchSlot_9, f_size_9, f_bufLen_9, f_openCount_9, f_patLen_9, f_codeLen_9, f_depth_9, f_excluded_9, f_termCount_9, f_skipMode_9, f_skipVar_9, f_resPart_9, f_resRows_9, f_resCount_9, f_top_9, f_pc_9, f_pos_9, f_from_9, a_vec_9, a_buf_9, a_opened_9, a_pat_9, a_reads_9, a_op_9, a_arg_9, a_lev_9, a_lo_9, a_hi_9, a_lazy_9, a_useMax_9, a_branchAt_9, a_jumpAt_9, a_enterAt_9, a_terms_9, a_cells_9, a_rowCount_9, a_startOf_9, a_lengthOf_9, a_labels_9, a_outcome_9, a_loop_9, a_stack_9) => (narrow .boolean (.int r) = .int r ∧ (P r (f_opRow_9, f_opFirst_9, f_opFinal_9, f_opBranch_9, f_opJump_9, f_opEnter_9, f_opNext_9, f_opDecide_9, f_opDone_9, f_catSlot_9, f_itemSlot_9, f_rowsSlot_9, f_timesSlot_9, f_scratchSlot_9, f_size_9, f_bufLen_9, f_openCount_9, f_patLen_9, f_codeLen_9, f_depth_9, f_excluded_9, f_termCount_9, f_skipMode_9, f_skipVar_9, f_resPart_9, f_resRows_9, f_resCount_9, f_top_9, f_pc_9, f_pos_9, f_from_9, a_vec_9, a_buf_9, a_opened_9, a_pat_9, a_reads_9, a_op_9, a_arg_9, a_lev_9, a_lo_9, a_hi_9, a_lazy_9, a_useMax_9, a_branchAt_9, a_jumpAt_9, a_enterAt_9, a_terms_9, a_cells_9, a_rowCount_9, a_startOf_9, a_lengthOf_9, a_labels_9, a_outcome_9, a_loop_9, a_stack_9)))) (nI (2 * v)) f_opRow f_opFirst f_opFinal f_opBranch f_opJump f_opEnter f_opNext f_opDecide f_opDone f_catSlot f_itemSlot f_rowsSlot f_timesSlot f_scratchSlot f_size f_bufLen f_openCount f_patLen f_codeLen f_depth f_excluded f_termCount f_skipMode f_skipVar f_resPart f_resRows f_resCount f_top (nI (pc + 1)) (nI l.length) f_from a_vec a_buf a_opened a_pat a_reads a_op a_arg a_lev a_lo a_hi a_lazy a_useMax a_branchAt a_jumpAt a_enterAt a_terms a_cells a_rowCount a_startOf a_lengthOf a_labels a_outcome a_loop a_stack := by
    intro hn
    refine ⟨vp_in_nI (by omega) (by omega), vp_in_nI (by omega) (by omega), ?_⟩
    rw [nI_clamp (n := 2 * v) (by omega), f0.1]
    refine nm_e ⟨rfl, ?_⟩
    rw [nI_1]
    exact h1 hn
  refine pk_lt (f (2 * v)) m (fun q => hk (by omega)) (fun q => ?_)
  rw [nI_1, nI_clamp (n := 2 * v + 1) (by omega), f1.1]
  refine ⟨vp_in_nI (by omega) (by omega), pk_eq (f (2 * v + 1)) l.length (fun q' => ⟨rfl, h2 ⟨q, q'⟩⟩) (fun q' => hk (by omega))⟩
end
end
section
/-! ===== the search's step rules, whole ===== -/
section
variable {f_opRow f_opFirst f_opFinal f_opBranch f_opJump f_opEnter f_opNext f_opDecide f_opDone f_catSlot f_itemSlot f_rowsSlot f_timesSlot f_scratchSlot f_size f_bufLen f_openCount f_patLen f_codeLen f_depth f_excluded f_termCount f_skipMode f_skipVar f_resPart f_resRows f_resCount f_top f_pc f_pos f_from : Int32} {a_vec a_buf a_opened a_pat a_reads a_op a_arg a_lev a_lo a_hi a_lazy a_useMax a_branchAt a_jumpAt a_enterAt a_terms a_cells a_rowCount a_startOf a_lengthOf a_labels a_outcome a_loop : Nat → Int32} {a_stack : Nat → Int64}
variable {post : Int32 → SX → Prop} {part s rc R tc : Nat} {lab0 : Nat → Int32}
theorem sx_row {P : Int32 → SX → Prop} {pc c : Nat} {l : List Nat} (hpc : pc < 63) (hpart : part < 3) (hR : R ≤ 6) (hsl : s + l.length ≤ R) (hrc : rc < 6) (hc : c < 8) (hT : hv_T a_terms tc) (hlab : ∀ j, j < l.length → a_labels (6 * rc + j) = nI (l.getD j 0) ∧ l.getD j 0 < 8) (h0 : a_op pc = 0) (ha : a_arg pc = nI c)
    (h1 : sr_ok a_terms a_cells tc part s R l c = true → P 1 (f_opRow, f_opFirst, f_opFinal, f_opBranch, f_opJump, f_opEnter, f_opNext, f_opDecide, f_opDone, f_catSlot, f_itemSlot, f_rowsSlot, f_timesSlot, f_scratchSlot, f_size, f_bufLen, f_openCount, f_patLen, f_codeLen, f_depth, f_excluded, nI tc, f_skipMode, f_skipVar, nI part, nI R, nI rc, f_top, nI (pc + 1), nI (l.length + 1), nI s, a_vec, a_buf, a_opened, a_pat, a_reads, a_op, a_arg, a_lev, a_lo, a_hi, a_lazy, a_useMax, a_branchAt, a_jumpAt, a_enterAt, a_terms, a_cells, a_rowCount, a_startOf, a_lengthOf, upd a_labels (6 * rc + l.length) (nI c), a_outcome, a_loop, a_stack))
    (h2 : sr_ok a_terms a_cells tc part s R l c = false → P 0 (f_opRow, f_opFirst, f_opFinal, f_opBranch, f_opJump, f_opEnter, f_opNext, f_opDecide, f_opDone, f_catSlot, f_itemSlot, f_rowsSlot, f_timesSlot, f_scratchSlot, f_size, f_bufLen, f_openCount, f_patLen, f_codeLen, f_depth, f_excluded, nI tc, f_skipMode, f_skipVar, nI part, nI R, nI rc, f_top, nI (pc + 1), nI l.length, nI s, a_vec, a_buf, a_opened, a_pat, a_reads, a_op, a_arg, a_lev, a_lo, a_hi, a_lazy, a_useMax, a_branchAt, a_jumpAt, a_enterAt, a_terms, a_cells, a_rowCount, a_startOf, a_lengthOf, a_labels, a_outcome, a_loop, a_stack)) : wpX_execute P (f_opRow, f_opFirst, f_opFinal, f_opBranch, f_opJump, f_opEnter, f_opNext, f_opDecide, f_opDone, f_catSlot, f_itemSlot, f_rowsSlot, f_timesSlot, f_scratchSlot, f_size, f_bufLen, f_openCount, f_patLen, f_codeLen, f_depth, f_excluded, nI tc, f_skipMode, f_skipVar, nI part, nI R, nI rc, f_top, nI pc, nI l.length, nI s, a_vec, a_buf, a_opened, a_pat, a_reads, a_op, a_arg, a_lev, a_lo, a_hi, a_lazy, a_useMax, a_branchAt, a_jumpAt, a_enterAt, a_terms, a_cells, a_rowCount, a_startOf, a_lengthOf, a_labels, a_outcome, a_loop, a_stack) := by
  refine ⟨vp_in_nI (by omega) (by omega), ?_⟩
  rw [nI_clamp (n := pc) (by omega), h0, ha]
  refine nm_e (nm_r (nI_1 pc) (br_t rfl ⟨vp_in_nI (by omega) (by omega), ?_⟩))
  exact sr_bind hpart hR hsl hrc hc hT hlab (fun q => ⟨rfl, h1 q⟩) (fun q => ⟨rfl, h2 q⟩)
theorem sx_dec {P : Int32 → SX → Prop} {pc v m h t z tp : Nat} {f : Nat → Nat} {l : List Nat} (hpc : pc < 63) (hl : l.length < 8) (h0 : a_op pc = 7) (ha : a_arg pc = nI t) (ht : t < 64) (hv : a_lev pc = nI v) (hv4 : v < 4) (hm : a_lo pc = nI m) (hm8 : m < 8) (hh : a_hi pc = nI h) (hh8 : h < 8) (hz : a_lazy pc = nI z) (hz2 : z < 2) (hf : ∀ j, j < 8 → a_loop j = nI (f j) ∧ f j < 8)
    (h1 : f (2 * v) < m → P 1 (f_opRow, f_opFirst, f_opFinal, f_opBranch, f_opJump, f_opEnter, f_opNext, f_opDecide, f_opDone, f_catSlot, f_itemSlot, f_rowsSlot, f_timesSlot, f_scratchSlot, f_size, f_bufLen, f_openCount, f_patLen, f_codeLen, f_depth, f_excluded, f_termCount, f_skipMode, f_skipVar, f_resPart, f_resRows, f_resCount, nI tp, nI t, nI l.length, f_from, a_vec, a_buf, a_opened, a_pat, a_reads, a_op, a_arg, a_lev, a_lo, a_hi, a_lazy, a_useMax, a_branchAt, a_jumpAt, a_enterAt, a_terms, a_cells, a_rowCount, a_startOf, a_lengthOf, a_labels, a_outcome, upd a_loop (2 * v + 1) (nI l.length), a_stack))
    (h2 : m ≤ f (2 * v) → h ≤ f (2 * v) → P 1 (f_opRow, f_opFirst, f_opFinal, f_opBranch, f_opJump, f_opEnter, f_opNext, f_opDecide, f_opDone, f_catSlot, f_itemSlot, f_rowsSlot, f_timesSlot, f_scratchSlot, f_size, f_bufLen, f_openCount, f_patLen, f_codeLen, f_depth, f_excluded, f_termCount, f_skipMode, f_skipVar, f_resPart, f_resRows, f_resCount, nI tp, nI (pc + 1), nI l.length, f_from, a_vec, a_buf, a_opened, a_pat, a_reads, a_op, a_arg, a_lev, a_lo, a_hi, a_lazy, a_useMax, a_branchAt, a_jumpAt, a_enterAt, a_terms, a_cells, a_rowCount, a_startOf, a_lengthOf, a_labels, a_outcome, upd a_loop (2 * v + 1) (nI l.length), a_stack))
    (h3 : m ≤ f (2 * v) → f (2 * v) < h → tp < 4096 ∧ (z = 0 → P 1 (f_opRow, f_opFirst, f_opFinal, f_opBranch, f_opJump, f_opEnter, f_opNext, f_opDecide, f_opDone, f_catSlot, f_itemSlot, f_rowsSlot, f_timesSlot, f_scratchSlot, f_size, f_bufLen, f_openCount, f_patLen, f_codeLen, f_depth, f_excluded, f_termCount, f_skipMode, f_skipVar, f_resPart, f_resRows, f_resCount, nI (tp + 1), nI t, nI l.length, f_from, a_vec, a_buf, a_opened, a_pat, a_reads, a_op, a_arg, a_lev, a_lo, a_hi, a_lazy, a_useMax, a_branchAt, a_jumpAt, a_enterAt, a_terms, a_cells, a_rowCount, a_startOf, a_lengthOf, a_labels, a_outcome, upd a_loop (2 * v + 1) (nI l.length), vp_updL a_stack tp (lN (sr_enc (pc + 1) (bk_u f (2 * v + 1) l.length) l.length)))) ∧
      (z = 1 → P 1 (f_opRow, f_opFirst, f_opFinal, f_opBranch, f_opJump, f_opEnter, f_opNext, f_opDecide, f_opDone, f_catSlot, f_itemSlot, f_rowsSlot, f_timesSlot, f_scratchSlot, f_size, f_bufLen, f_openCount, f_patLen, f_codeLen, f_depth, f_excluded, f_termCount, f_skipMode, f_skipVar, f_resPart, f_resRows, f_resCount, nI (tp + 1), nI (pc + 1), nI l.length, f_from, a_vec, a_buf, a_opened, a_pat, a_reads, a_op, a_arg, a_lev, a_lo, a_hi, a_lazy, a_useMax, a_branchAt, a_jumpAt, a_enterAt, a_terms, a_cells, a_rowCount, a_startOf, a_lengthOf, a_labels, a_outcome, upd a_loop (2 * v + 1) (nI l.length), vp_updL a_stack tp (lN (sr_enc t (bk_u f (2 * v + 1) l.length) l.length))))) :
    wpX_execute P (f_opRow, f_opFirst, f_opFinal, f_opBranch, f_opJump, f_opEnter, f_opNext, f_opDecide, f_opDone, f_catSlot, f_itemSlot, f_rowsSlot, f_timesSlot, f_scratchSlot, f_size, f_bufLen, f_openCount, f_patLen, f_codeLen, f_depth, f_excluded, f_termCount, f_skipMode, f_skipVar, f_resPart, f_resRows, f_resCount, nI tp, nI pc, nI l.length, f_from, a_vec, a_buf, a_opened, a_pat, a_reads, a_op, a_arg, a_lev, a_lo, a_hi, a_lazy, a_useMax, a_branchAt, a_jumpAt, a_enterAt, a_terms, a_cells, a_rowCount, a_startOf, a_lengthOf, a_labels, a_outcome, a_loop, a_stack) := by
  have e1 : 2 * nI v = nI (2 * v) := pk_mul 2 v
  have f0 := hf (2 * v) (by omega)
  have hf' : ∀ j, j < 8 → upd a_loop (2 * v + 1) (nI l.length) j = nI (bk_u f (2 * v + 1) l.length j) ∧ bk_u f (2 * v + 1) l.length j < 8 := by
    intro j hj
    by_cases hq : j = 2 * v + 1
    · rw [hq, pk_us, bk_us]; exact ⟨rfl, hl⟩
    · rw [pk_un hq, bk_un hq]; exact hf j hj
  refine ⟨vp_in_nI (by omega) (by omega), ?_⟩
  rw [nI_clamp (n := pc) (by omega), h0]
  refine nm_e (nm_r (nI_1 pc) (br_f (by decide) (br_f (by decide) (br_f (by decide) (br_f (by decide) (br_f (by decide) (br_t rfl ?_)))))))
  refine ⟨vp_in_nI (by omega) (by omega), ?_⟩
  rw [nI_clamp (n := pc) (by omega), hv, hm, hh, hz, ha]
  refine nm_r e1 ⟨vp_in_nI (by omega) (by omega), ?_⟩
  rw [nI_clamp (n := 2 * v) (by omega), f0.1]
  refine nm_e ⟨vp_in_nI (by omega) (by omega), nm_e ?_⟩
  rw [nI_1, nI_clamp (n := 2 * v + 1) (by omega)]
  refine ⟨vp_in_nI (by omega) (by omega), nm_e ⟨vp_in_nI (by omega) (by omega), pk_le m (f (2 * v)) (fun q => ⟨vp_in_nI (by omega) (by omega), pk_le h (f (2 * v)) (fun q2 => h2 q q2) (fun q2 => ⟨vp_in_nI (by omega) (by omega), ?_⟩)⟩) (fun q => h1 q)⟩⟩
  have h3' := h3 q q2
  refine pk_eq z 0 (fun z0 => ?_) (fun z0 => ?_)
  · rw [nI_1 pc]
    refine sr_save (t := pc + 1) hf' hl (by omega) h3'.1 ?_
    refine ⟨vp_in_nI (by omega) (by omega), ?_⟩
    rw [nI_clamp (n := pc) (by omega), hz]
    exact br_t (by rw [z0]; rfl) (h3'.2.1 z0)
  · have z1 : z = 1 := by omega
    refine sr_save hf' hl (by omega) h3'.1 ?_
    refine ⟨vp_in_nI (by omega) (by omega), ?_⟩
    rw [nI_clamp (n := pc) (by omega), hz]
    exact br_f (by rw [z1]; decide) (nm_r (nI_1 pc) (h3'.2.2 z1))
end
end
section
/-! ===== the search is such a machine ===== -/
theorem sr_trl {x : Nat} (h : x < 1000000000000) : ¬ (1000000000000 : Int64) ≤ lN x := by
  intro hh
  have : (lN 1000000000000) ≤ lN x := hh
  have := (pk_lLE (by omega) (by omega)).mp this
  omega
section
variable {f_opRow f_opFirst f_opFinal f_opBranch f_opJump f_opEnter f_opNext f_opDecide f_opDone f_catSlot f_itemSlot f_rowsSlot f_timesSlot f_scratchSlot f_size f_bufLen f_openCount f_patLen f_codeLen f_depth f_excluded f_termCount f_skipMode f_skipVar f_resPart f_resRows f_resCount f_top f_pc f_pos f_from : Int32} {a_vec a_buf a_opened a_pat a_reads a_op a_arg a_lev a_lo a_hi a_lazy a_useMax a_branchAt a_jumpAt a_enterAt a_terms a_cells a_rowCount a_startOf a_lengthOf a_labels a_outcome a_loop : Nat → Int32} {a_stack : Nat → Int64}
variable {post : Int32 → SX → Prop} {part s rc R tc N : Nat} {lab0 : Nat → Int32}
theorem sr_fail {n x fuel : Nat} {f : Nat → Nat} {l : List Nat} {K : bk_K} {lab lp : Nat → Int32} {st : Nat → Int64} {pc : Int32} (hN : N ≤ 6) (hB : bk_B (sr_Ok (fun fuel x top pc pos lab lp st => wX_search_22 post fuel x f_opRow f_opFirst f_opFinal f_opBranch f_opJump f_opEnter f_opNext f_opDecide f_opDone f_catSlot f_itemSlot f_rowsSlot f_timesSlot f_scratchSlot f_size f_bufLen f_openCount f_patLen f_codeLen f_depth f_excluded (nI tc) f_skipMode f_skipVar (nI part) (nI R) (nI rc) top pc pos (nI s) a_vec a_buf a_opened a_pat a_reads a_op a_arg a_lev a_lo a_hi a_lazy a_useMax a_branchAt a_jumpAt a_enterAt a_terms a_cells a_rowCount a_startOf a_lengthOf lab a_outcome lp st) rc N lab0) (sr_Fl (fun pc pos lab lp st => post 0 (f_opRow, f_opFirst, f_opFinal, f_opBranch, f_opJump, f_opEnter, f_opNext, f_opDecide, f_opDone, f_catSlot, f_itemSlot, f_rowsSlot, f_timesSlot, f_scratchSlot, f_size, f_bufLen, f_openCount, f_patLen, f_codeLen, f_depth, f_excluded, nI tc, f_skipMode, f_skipVar, nI part, nI R, nI rc, 0, pc, pos, nI s, a_vec, a_buf, a_opened, a_pat, a_reads, a_op, a_arg, a_lev, a_lo, a_hi, a_lazy, a_useMax, a_branchAt, a_jumpAt, a_enterAt, a_terms, a_cells, a_rowCount, a_startOf, a_lengthOf, lab, a_outcome, lp, st)) rc lab0) n K) (hRS : sr_RS rc N lab0 f l K lab lp st) (hn : n < fuel) (hx : x + 1 + n < 1000000000000) :
    (nI K.length = 0 → post 0 (f_opRow, f_opFirst, f_opFinal, f_opBranch, f_opJump, f_opEnter, f_opNext, f_opDecide, f_opDone, f_catSlot, f_itemSlot, f_rowsSlot, f_timesSlot, f_scratchSlot, f_size, f_bufLen, f_openCount, f_patLen, f_codeLen, f_depth, f_excluded, nI tc, f_skipMode, f_skipVar, nI part, nI R, nI rc, nI K.length, pc, nI l.length, nI s, a_vec, a_buf, a_opened, a_pat, a_reads, a_op, a_arg, a_lev, a_lo, a_hi, a_lazy, a_useMax, a_branchAt, a_jumpAt, a_enterAt, a_terms, a_cells, a_rowCount, a_startOf, a_lengthOf, lab, a_outcome, lp, st)) ∧ (¬ nI K.length = 0 → wpX_restore (fun u => match u with | (f_opRow_9, f_opFirst_9, f_opFinal_9, f_opBranch_9, f_opJump_9, f_opEnter_9, f_opNext_9, f_opDecide_9, f_opDone_9, f_catSlot_9, f_itemSlot_9, f_rowsSlot_9, f_timesSlot_9, f_scratchSlot_9, f_size_9, f_bufLen_9, f_openCount_9, f_patLen_9, f_codeLen_9, f_depth_9, f_excluded_9, f_termCount_9, f_skipMode_9, f_skipVar_9, f_resPart_9, f_resRows_9, f_resCount_9, f_top_9, f_pc_9, f_pos_9, f_from_9, a_vec_9, a_buf_9, a_opened_9, a_pat_9, a_reads_9, a_op_9, a_arg_9, a_lev_9, a_lo_9, a_hi_9, a_lazy_9, a_useMax_9, a_branchAt_9, a_jumpAt_9, a_enterAt_9, a_terms_9, a_cells_9, a_rowCount_9, a_startOf_9, a_lengthOf_9, a_labels_9, a_outcome_9, a_loop_9, a_stack_9) => ∀ y : Int64, y = lN x + 1 → wX_search_22 post fuel y f_opRow_9 f_opFirst_9 f_opFinal_9 f_opBranch_9 f_opJump_9 f_opEnter_9 f_opNext_9 f_opDecide_9 f_opDone_9 f_catSlot_9 f_itemSlot_9 f_rowsSlot_9 f_timesSlot_9 f_scratchSlot_9 f_size_9 f_bufLen_9 f_openCount_9 f_patLen_9 f_codeLen_9 f_depth_9 f_excluded_9 f_termCount_9 f_skipMode_9 f_skipVar_9 f_resPart_9 f_resRows_9 f_resCount_9 f_top_9 f_pc_9 f_pos_9 f_from_9 a_vec_9 a_buf_9 a_opened_9 a_pat_9 a_reads_9 a_op_9 a_arg_9 a_lev_9 a_lo_9 a_hi_9 a_lazy_9 a_useMax_9 a_branchAt_9 a_jumpAt_9 a_enterAt_9 a_terms_9 a_cells_9 a_rowCount_9 a_startOf_9 a_lengthOf_9 a_labels_9 a_outcome_9 a_loop_9 a_stack_9) (f_opRow, f_opFirst, f_opFinal, f_opBranch, f_opJump, f_opEnter, f_opNext, f_opDecide, f_opDone, f_catSlot, f_itemSlot, f_rowsSlot, f_timesSlot, f_scratchSlot, f_size, f_bufLen, f_openCount, f_patLen, f_codeLen, f_depth, f_excluded, nI tc, f_skipMode, f_skipVar, nI part, nI R, nI rc, nI K.length, pc, nI l.length, nI s, a_vec, a_buf, a_opened, a_pat, a_reads, a_op, a_arg, a_lev, a_lo, a_hi, a_lazy, a_useMax, a_branchAt, a_jumpAt, a_enterAt, a_terms, a_cells, a_rowCount, a_startOf, a_lengthOf, lab, a_outcome, lp, st)) := by
  cases K with
  | nil =>
    exact br_t nI_0 (hB pc (nI l.length) lab lp st hRS.2.2.1 (fun j hj => ⟨f j, hRS.2.2.2.1 j hj⟩))
  | cons a K =>
    obtain ⟨pc2, f2, l2⟩ := a
    have hK : (List.length ((pc2, f2, l2) :: K)) = K.length + 1 := rfl
    have h4 := hRS.2.2.2.2.1
    rw [hK] at h4 ⊢
    have hst := hRS.2.2.2.2.2.1
    have hch := hRS.2.2.2.2.2.2
    have hl2 : l2.length ≤ l.length := hch.1.length_le
    have hlN := hRS.1
    refine br_f (nI_ne0 (by omega) (by omega)) (sr_rest (pc := pc2) (f := f2) (p := l2.length) hst.2.2.1 (by omega) hst.2.1 (by omega) hst.1 ?_)
    intro lp' hlp'
    refine nm_r (lN_1 x) ?_
    refine hB fuel (x + 1) lab lp' st hn hx ⟨by omega, fun j hj => ?_, hRS.2.2.1, fun j hj => ⟨hlp' j hj, hst.2.2.1 j hj⟩, by omega, hst.2.2.2, hch.2⟩
    rw [sr_pre_get hch.1 hj]
    exact hRS.2.1 j (by omega)
theorem sr_M (hN : N ≤ 6) (hRs : s + N = R) (hR : R ≤ 6) (hpart : part < 3) (hrc : rc < 6) (hT : hv_T a_terms tc) {pc : Nat} (hpc : pc < 63) :
    bk_M (sr_ok a_terms a_cells tc part s R) (sr_fi s) (sr_la s R) (sr_Ok (fun fuel x top pc pos lab lp st => wX_search_22 post fuel x f_opRow f_opFirst f_opFinal f_opBranch f_opJump f_opEnter f_opNext f_opDecide f_opDone f_catSlot f_itemSlot f_rowsSlot f_timesSlot f_scratchSlot f_size f_bufLen f_openCount f_patLen f_codeLen f_depth f_excluded (nI tc) f_skipMode f_skipVar (nI part) (nI R) (nI rc) top pc pos (nI s) a_vec a_buf a_opened a_pat a_reads a_op a_arg a_lev a_lo a_hi a_lazy a_useMax a_branchAt a_jumpAt a_enterAt a_terms a_cells a_rowCount a_startOf a_lengthOf lab a_outcome lp st) rc N lab0) (sr_Fl (fun pc pos lab lp st => post 0 (f_opRow, f_opFirst, f_opFinal, f_opBranch, f_opJump, f_opEnter, f_opNext, f_opDecide, f_opDone, f_catSlot, f_itemSlot, f_rowsSlot, f_timesSlot, f_scratchSlot, f_size, f_bufLen, f_openCount, f_patLen, f_codeLen, f_depth, f_excluded, nI tc, f_skipMode, f_skipVar, nI part, nI R, nI rc, 0, pc, pos, nI s, a_vec, a_buf, a_opened, a_pat, a_reads, a_op, a_arg, a_lev, a_lo, a_hi, a_lazy, a_useMax, a_branchAt, a_jumpAt, a_enterAt, a_terms, a_cells, a_rowCount, a_startOf, a_lengthOf, lab, a_outcome, lp, st)) rc lab0) pc (sr_C a_op a_arg a_lev a_lo a_hi a_lazy pc) := by
  refine ⟨?_, ?_, ?_, ?_, ?_, ?_, ?_, ?_, ?_⟩
  · intro c n f l K h0 ha hc h1 h2 fuel x lab lp st hn hx hRS
    obtain ⟨fuel, rfl⟩ : ∃ q, fuel = q + 1 := ⟨fuel - 1, by omega⟩
    have hlN := hRS.1
    have h0' : a_op pc = 0 := h0
    have ha' : a_arg pc = nI c := ha
    refine br_f (sr_trl (by omega)) ⟨vp_in_nI (by omega) (by omega), ?_⟩
    rw [nI_clamp (n := pc) (by omega), h0']
    refine br_f (by decide) ?_
    refine sx_row hpc hpart hR (by omega) hrc hc hT hRS.2.1 h0' ha' (fun q => ?_) (fun q => ?_)
    · refine br_f (by decide) (nm_r (lN_1 x) ?_)
      have ho := sr_ok_iff.mp q
      have hlen : (l ++ [c]).length = l.length + 1 := by rw [List.length_append]; rfl
      have := h1 q fuel (x + 1) (upd lab (6 * rc + l.length) (nI c)) lp st (by omega) (by omega) ⟨by omega, fun j hj => ?_, fun j hj => ?_, hRS.2.2.2.1, hRS.2.2.2.2.1, hRS.2.2.2.2.2.1, sr_pre_ch (List.prefix_append _ _) hRS.2.2.2.2.2.2⟩
      · rw [hlen] at this; exact this
      · by_cases hj2 : j = l.length
        · rw [hj2, pk_us, List.getD_eq_getElem?_getD, List.getElem?_append_right (Nat.le_refl _), Nat.sub_self]; exact ⟨rfl, hc⟩
        · rw [pk_un (by omega), List.getD_eq_getElem?_getD, List.getElem?_append_left (by omega), ← List.getD_eq_getElem?_getD]
          exact hRS.2.1 j (by omega)
      · rw [pk_un (by omega)]; exact hRS.2.2.1 j hj
    · exact br_t rfl (sr_fail hN (h2 q) hRS (by omega) (by omega))
  · intro n f l K h0 h1 h2 fuel x lab lp st hn hx hRS
    obtain ⟨fuel, rfl⟩ : ∃ q, fuel = q + 1 := ⟨fuel - 1, by omega⟩
    have hlN := hRS.1
    have h0' : a_op pc = 1 := h0
    refine br_f (sr_trl (by omega)) ⟨vp_in_nI (by omega) (by omega), ?_⟩
    rw [nI_clamp (n := pc) (by omega), h0']
    refine br_f (by decide) ?_
    refine sx_fi hpc (by omega) h0' (fun q => ?_) (fun q => ?_)
    · exact br_f (by decide) (nm_r (lN_1 x) (h1 q fuel (x + 1) lab lp st (by omega) (by omega) hRS))
    · exact br_t rfl (sr_fail hN (h2 q) hRS (by omega) (by omega))
  · intro n f l K h0 h1 h2 fuel x lab lp st hn hx hRS
    obtain ⟨fuel, rfl⟩ : ∃ q, fuel = q + 1 := ⟨fuel - 1, by omega⟩
    have hlN := hRS.1
    have h0' : a_op pc = 2 := h0
    refine br_f (sr_trl (by omega)) ⟨vp_in_nI (by omega) (by omega), ?_⟩
    rw [nI_clamp (n := pc) (by omega), h0']
    refine br_f (by decide) ?_
    refine sx_la hpc (by omega) (by omega) h0' (fun q => ?_) (fun q => ?_)
    · exact br_f (by decide) (nm_r (lN_1 x) (h1 q fuel (x + 1) lab lp st (by omega) (by omega) hRS))
    · exact br_t rfl (sr_fail hN (h2 q) hRS (by omega) (by omega))
  · intro n f l K h0 ha h1 fuel x lab lp st hn hx hRS
    obtain ⟨fuel, rfl⟩ : ∃ q, fuel = q + 1 := ⟨fuel - 1, by omega⟩
    have h0' : a_op pc = 3 := h0
    refine br_f (sr_trl (by omega)) ⟨vp_in_nI (by omega) (by omega), ?_⟩
    rw [nI_clamp (n := pc) (by omega), h0']
    refine br_f (by decide) ?_
    exact sx_brN hpc h0' ha (br_f (by decide) (nm_r (lN_1 x) (h1 fuel (x + 1) lab lp st (by omega) (by omega) hRS)))
  · intro t n f l K h0 ha ht hK h1 fuel x lab lp st hn hx hRS
    obtain ⟨fuel, rfl⟩ : ∃ q, fuel = q + 1 := ⟨fuel - 1, by omega⟩
    have hlN := hRS.1
    have h0' : a_op pc = 3 := h0
    refine br_f (sr_trl (by omega)) ⟨vp_in_nI (by omega) (by omega), ?_⟩
    rw [nI_clamp (n := pc) (by omega), h0']
    refine br_f (by decide) ?_
    refine sx_brS hpc h0' ha ht (sr_save hRS.2.2.2.1 (by omega) ht hK ?_)
    exact br_f (by decide) (nm_r (lN_1 x) (h1 fuel (x + 1) lab lp _ (by omega) (by omega) (sr_RSpush hRS ht hK)))
  · intro t n f l K h0 ha ht h1 fuel x lab lp st hn hx hRS
    obtain ⟨fuel, rfl⟩ : ∃ q, fuel = q + 1 := ⟨fuel - 1, by omega⟩
    have h0' : a_op pc = 4 := h0
    have ha' : a_arg pc = nI t := ha
    refine br_f (sr_trl (by omega)) ⟨vp_in_nI (by omega) (by omega), ?_⟩
    rw [nI_clamp (n := pc) (by omega), h0']
    refine br_f (by decide) ?_
    refine sx_jmp hpc h0' ?_
    rw [ha']
    exact br_f (by decide) (nm_r (lN_1 x) (h1 fuel (x + 1) lab lp st (by omega) (by omega) hRS))
  · intro t v n f l K h0 ha ht hv hv4 h1 fuel x lab lp st hn hx hRS
    obtain ⟨fuel, rfl⟩ : ∃ q, fuel = q + 1 := ⟨fuel - 1, by omega⟩
    have h0' : a_op pc = 5 := h0
    have ha' : a_arg pc = nI t := ha
    refine br_f (sr_trl (by omega)) ⟨vp_in_nI (by omega) (by omega), ?_⟩
    rw [nI_clamp (n := pc) (by omega), h0']
    refine br_f (by decide) ?_
    refine sx_ent hpc h0' hv hv4 ?_
    rw [ha']
    exact br_f (by decide) (nm_r (lN_1 x) (h1 fuel (x + 1) lab _ st (by omega) (by omega) (sr_RSlp hRS (by omega))))
  · intro v m n f l K h0 hv hv4 hm hm8 h1 h2 fuel x lab lp st hn hx hRS
    obtain ⟨fuel, rfl⟩ : ∃ q, fuel = q + 1 := ⟨fuel - 1, by omega⟩
    have hlN := hRS.1
    have h0' : a_op pc = 6 := h0
    refine br_f (sr_trl (by omega)) ⟨vp_in_nI (by omega) (by omega), ?_⟩
    rw [nI_clamp (n := pc) (by omega), h0']
    refine br_f (by decide) ?_
    refine sx_nxt hpc (by omega) h0' hv hv4 hm hm8 hRS.2.2.2.1 (fun q => ?_) (fun q => ?_)
    · have hq := h1 q
      exact br_f (by decide) (nm_r (lN_1 x) (hq.2 fuel (x + 1) lab _ st (by omega) (by omega) (sr_RSlp hRS (by omega))))
    · exact br_t rfl (sr_fail hN (h2 q) hRS (by omega) (by omega))
  · intro v m h t z n f l K h0 ha ht hv hv4 hm hm8 hh hh8 hz hz2 h1 h2 h3 fuel x lab lp st hn hx hRS
    obtain ⟨fuel, rfl⟩ : ∃ q, fuel = q + 1 := ⟨fuel - 1, by omega⟩
    have hlN := hRS.1
    have h0' : a_op pc = 7 := h0
    refine br_f (sr_trl (by omega)) ⟨vp_in_nI (by omega) (by omega), ?_⟩
    rw [nI_clamp (n := pc) (by omega), h0']
    refine br_f (by decide) ?_
    have hRS' := sr_RSlp hRS (q := 2 * v + 1) (x := l.length) (by omega)
    refine sx_dec hpc (by omega) h0' ha ht hv hv4 hm hm8 hh hh8 hz hz2 hRS.2.2.2.1 (fun q => ?_) (fun q q2 => ?_) (fun q q2 => ⟨(h3 q q2).1, fun z0 => ?_, fun z1 => ?_⟩)
    · exact br_f (by decide) (nm_r (lN_1 x) (h1 q fuel (x + 1) lab _ st (by omega) (by omega) hRS'))
    · exact br_f (by decide) (nm_r (lN_1 x) (h2 q q2 fuel (x + 1) lab _ st (by omega) (by omega) hRS'))
    · exact br_f (by decide) (nm_r (lN_1 x) ((h3 q q2).2.1 z0 fuel (x + 1) lab _ _ (by omega) (by omega) (sr_RSpush hRS' (by omega) (h3 q q2).1)))
    · exact br_f (by decide) (nm_r (lN_1 x) ((h3 q q2).2.2 z1 fuel (x + 1) lab _ _ (by omega) (by omega) (sr_RSpush hRS' (by omega) (h3 q q2).1)))
/-- the whole search -/
theorem sr_search {n e S : Nat} {W : List (List Nat)} {k : Nat → Nat} {D : Nat} (hn6 : n ≤ 6) (hN : N ≤ n) (hRs : s + N = R) (hR : R ≤ 6) (hpart : part < 3) (hrc : rc < 6) (hT : hv_T a_terms tc) (he : e < 63) (hop : a_op e = 8)
    (hB : bk_Blk (sr_C a_op a_arg a_lev a_lo a_hi a_lazy) n 0 e W k S D 0) (hS : S + D * 6 ≤ 4096) (hk : ∀ r, r ≤ 6 → k r < 999999999999) (hlp : ∀ j, j < 8 → ∃ q : Nat, a_loop j = nI q ∧ q < 8)
    (h1 : ∀ (w : List Nat) (top : Int32) (lab lp : Nat → Int32) (st : Nat → Int64), W.find? (wd_v (sr_ok a_terms a_cells tc part s R) (sr_fi s) (sr_la s R) []) = some w → (∀ j, j < wd_sz w → lab (6 * rc + j) = nI ((wd_sg w).getD j 0) ∧ (wd_sg w).getD j 0 < 8) → (∀ j, j < 6 * rc → lab j = a_labels j) → (∀ j, j < 8 → ∃ q : Nat, lp j = nI q ∧ q < 8) → wd_sz w ≤ N → post 1 (f_opRow, f_opFirst, f_opFinal, f_opBranch, f_opJump, f_opEnter, f_opNext, f_opDecide, f_opDone, f_catSlot, f_itemSlot, f_rowsSlot, f_timesSlot, f_scratchSlot, f_size, f_bufLen, f_openCount, f_patLen, f_codeLen, f_depth, f_excluded, nI tc, f_skipMode, f_skipVar, nI part, nI R, nI rc, top, nI e, nI (wd_sz w), nI s, a_vec, a_buf, a_opened, a_pat, a_reads, a_op, a_arg, a_lev, a_lo, a_hi, a_lazy, a_useMax, a_branchAt, a_jumpAt, a_enterAt, a_terms, a_cells, a_rowCount, a_startOf, a_lengthOf, lab, a_outcome, lp, st))
    (h0 : W.find? (wd_v (sr_ok a_terms a_cells tc part s R) (sr_fi s) (sr_la s R) []) = none → ∀ (pc pos : Int32) (lab lp : Nat → Int32) (st : Nat → Int64), (∀ j, j < 6 * rc → lab j = a_labels j) → (∀ j, j < 8 → ∃ q : Nat, lp j = nI q ∧ q < 8) → post 0 (f_opRow, f_opFirst, f_opFinal, f_opBranch, f_opJump, f_opEnter, f_opNext, f_opDecide, f_opDone, f_catSlot, f_itemSlot, f_rowsSlot, f_timesSlot, f_scratchSlot, f_size, f_bufLen, f_openCount, f_patLen, f_codeLen, f_depth, f_excluded, nI tc, f_skipMode, f_skipVar, nI part, nI R, nI rc, 0, pc, pos, nI s, a_vec, a_buf, a_opened, a_pat, a_reads, a_op, a_arg, a_lev, a_lo, a_hi, a_lazy, a_useMax, a_branchAt, a_jumpAt, a_enterAt, a_terms, a_cells, a_rowCount, a_startOf, a_lengthOf, lab, a_outcome, lp, st)) :
    wpX_search post (f_opRow, f_opFirst, f_opFinal, f_opBranch, f_opJump, f_opEnter, f_opNext, f_opDecide, f_opDone, f_catSlot, f_itemSlot, f_rowsSlot, f_timesSlot, f_scratchSlot, f_size, f_bufLen, f_openCount, f_patLen, f_codeLen, f_depth, f_excluded, nI tc, f_skipMode, f_skipVar, nI part, nI R, nI rc, f_top, f_pc, f_pos, f_from, a_vec, a_buf, a_opened, a_pat, a_reads, a_op, a_arg, a_lev, a_lo, a_hi, a_lazy, a_useMax, a_branchAt, a_jumpAt, a_enterAt, a_terms, a_cells, a_rowCount, a_startOf, a_lengthOf, a_labels, a_outcome, a_loop, a_stack) (nI s) := by
  have hsound : ∀ (l : List Nat) (c : Nat), sr_ok a_terms a_cells tc part s R l c = true → l.length < N := fun l c h => by have := (sr_ok_iff.mp h).1; omega
  have hrun := hB N (sr_ok a_terms a_cells tc part s R) (sr_fi s) (sr_la s R) (sr_Ok (fun fuel x top pc pos lab lp st => wX_search_22 post fuel x f_opRow f_opFirst f_opFinal f_opBranch f_opJump f_opEnter f_opNext f_opDecide f_opDone f_catSlot f_itemSlot f_rowsSlot f_timesSlot f_scratchSlot f_size f_bufLen f_openCount f_patLen f_codeLen f_depth f_excluded (nI tc) f_skipMode f_skipVar (nI part) (nI R) (nI rc) top pc pos (nI s) a_vec a_buf a_opened a_pat a_reads a_op a_arg a_lev a_lo a_hi a_lazy a_useMax a_branchAt a_jumpAt a_enterAt a_terms a_cells a_rowCount a_startOf a_lengthOf lab a_outcome lp st) rc N a_labels) (sr_Fl (fun pc pos lab lp st => post 0 (f_opRow, f_opFirst, f_opFinal, f_opBranch, f_opJump, f_opEnter, f_opNext, f_opDecide, f_opDone, f_catSlot, f_itemSlot, f_rowsSlot, f_timesSlot, f_scratchSlot, f_size, f_bufLen, f_openCount, f_patLen, f_codeLen, f_depth, f_excluded, nI tc, f_skipMode, f_skipVar, nI part, nI R, nI rc, 0, pc, pos, nI s, a_vec, a_buf, a_opened, a_pat, a_reads, a_op, a_arg, a_lev, a_lo, a_hi, a_lazy, a_useMax, a_branchAt, a_jumpAt, a_enterAt, a_terms, a_cells, a_rowCount, a_startOf, a_lengthOf, lab, a_outcome, lp, st)) rc a_labels) ⟨hN, by omega, hsound, sr_mono, fun _ _ _ h => h⟩ (fun pc _ h2 => sr_M (by omega) hRs hR hpart hrc hT (by omega)) (fun j => (a_loop j).toNatClampNeg) [] [] (Nat.zero_le _) (by
    have h6 : D * (N - ([] : List Nat).length) ≤ D * 6 := Nat.mul_le_mul_left _ (by show N - 0 ≤ 6; omega)
    show 0 + S + _ ≤ _
    omega)
  have key := hrun (fun ws => W.find? (wd_v (sr_ok a_terms a_cells tc part s R) (sr_fi s) (sr_la s R) []) = ws.head?) (fun _ => 0) (fun hy => h0 hy) ?_ (List.head?_filter).symm
  · have h := key (k (N - ([] : List Nat).length) + 1) 0 a_labels a_loop a_stack (by omega) (by have := hk (N - ([] : List Nat).length) (by show N - 0 ≤ 6; omega); omega) ⟨Nat.zero_le _, fun j hj => absurd hj (Nat.not_lt_zero _), fun _ _ => rfl, fun j hj => ?_, Nat.zero_le _, trivial, trivial⟩
    · exact ⟨_, h⟩
    · obtain ⟨q, h1, h2⟩ := hlp j hj
      show a_loop j = nI (a_loop j).toNatClampNeg ∧ (a_loop j).toNatClampNeg < 8
      rw [h1, nI_clamp (n := q) (by omega)]
      exact ⟨rfl, h2⟩
  · intro w ws r f' K' hw _ _ _ hy fuel x lab lp st hfu hx hRS
    obtain ⟨fuel, rfl⟩ : ∃ q, fuel = q + 1 := ⟨fuel - 1, by omega⟩
    have hlen : ([] ++ wd_sg w).length = wd_sz w := rfl
    refine br_f (sr_trl (by omega)) ⟨vp_in_nI (by omega) (by omega), ?_⟩
    rw [nI_clamp (n := e) (by omega), hop]
    refine br_t rfl ?_
    exact h1 w (nI K'.length) lab lp st hy (fun j hj => hRS.2.1 j hj) hRS.2.2.1 (fun j hj => ⟨f' j, hRS.2.2.2.1 j hj⟩) hRS.1
end
end
section
/-! ===== words as the reference packs them ===== -/
def cw_L : List Nat → Nat
  | [] => 0
  | c :: l => c + 8 * cw_L l
def cw_A (a : Nat) : List Nat → Nat
  | [] => 0
  | c :: w => if c < 8 then 2 * cw_A a w else if c = a then cw_A a w ||| 1 else cw_A a w
def cw (w : List Nat) : Nat := 2 ^ 8 * (2 ^ 24 * (2 ^ 8 * cw_A 9 w + cw_A 8 w) + cw_L (wd_sg w)) + wd_sz w
theorem cw_or2 {k x y X Y : Nat} (hx : x < 2 ^ k) (hy : y < 2 ^ k) : (2 ^ k * X + x) ||| (2 ^ k * Y + y) = 2 ^ k * (X ||| Y) + (x ||| y) := by
  have hm : 2 ^ k * (X ||| Y) = 2 ^ k * X ||| 2 ^ k * Y := by
    rw [Nat.mul_comm, ← Nat.shiftLeft_eq, Nat.shiftLeft_or_distrib, Nat.shiftLeft_eq, Nat.shiftLeft_eq, Nat.mul_comm X, Nat.mul_comm Y]
  rw [Nat.two_pow_add_eq_or_of_lt hx, Nat.two_pow_add_eq_or_of_lt hy, Nat.two_pow_add_eq_or_of_lt (Nat.or_lt_two_pow hx hy), hm]
  ac_rfl
theorem cw_or4 {x x' L L' A A' B B' : Nat} (hx : x < 2 ^ 8) (hx' : x' < 2 ^ 8) (hL : L < 2 ^ 24) (hL' : L' < 2 ^ 24) (hA : A < 2 ^ 8) (hA' : A' < 2 ^ 8) :
    (2 ^ 8 * (2 ^ 24 * (2 ^ 8 * B + A) + L) + x) ||| (2 ^ 8 * (2 ^ 24 * (2 ^ 8 * B' + A') + L') + x') = 2 ^ 8 * (2 ^ 24 * (2 ^ 8 * (B ||| B') + (A ||| A')) + (L ||| L')) + (x ||| x') := by
  rw [cw_or2 hx hx', cw_or2 hL hL', cw_or2 hA hA']
theorem cw_mulor (k X Y : Nat) : (X ||| Y) * 2 ^ k = X * 2 ^ k ||| Y * 2 ^ k := by
  rw [← Nat.shiftLeft_eq, Nat.shiftLeft_or_distrib, Nat.shiftLeft_eq, Nat.shiftLeft_eq]
theorem cw_L_app (b : List Nat) : ∀ a : List Nat, cw_L (a ++ b) = cw_L a + 8 ^ a.length * cw_L b := by
  intro a
  induction a with
  | nil => rw [List.nil_append, List.length_nil, Nat.pow_zero, Nat.one_mul]; exact (Nat.zero_add _).symm
  | cons c a ih =>
    rw [List.cons_append, cw_L, cw_L, ih, List.length_cons, Nat.pow_succ, Nat.mul_add, Nat.mul_comm (8 ^ a.length) 8, Nat.mul_assoc]
    omega
theorem cw_L_lt : ∀ {l : List Nat}, (∀ c, c ∈ l → c < 8) → cw_L l < 8 ^ l.length := by
  intro l
  induction l with
  | nil => intro _; exact Nat.one_pos
  | cons c l ih =>
    intro h
    have h1 := ih (fun x hx => h x (List.mem_cons_of_mem _ hx))
    have h2 := h c List.mem_cons_self
    rw [cw_L, List.length_cons, Nat.pow_succ]
    omega
theorem cw_L_get : ∀ {l : List Nat}, (∀ c, c ∈ l → c < 8) → ∀ i, i < l.length → cw_L l / 8 ^ i % 8 = l.getD i 0 := by
  intro l
  induction l with
  | nil => intro _ i hi; exact absurd hi (Nat.not_lt_zero _)
  | cons c l ih =>
    intro h i hi
    have h2 := h c List.mem_cons_self
    cases i with
    | zero => rw [cw_L, Nat.pow_zero, Nat.div_one]; show _ = c; omega
    | succ i =>
      have := ih (fun x hx => h x (List.mem_cons_of_mem _ hx)) i (by rw [List.length_cons] at hi; omega)
      rw [cw_L, Nat.pow_succ, Nat.mul_comm (8 ^ i) 8, ← Nat.div_div_eq_div_mul]
      have e : (c + 8 * cw_L l) / 8 = cw_L l := by omega
      rw [e, this]
      rfl
theorem wd_sg_lt (w : List Nat) : ∀ c, c ∈ wd_sg w → c < 8 := by
  intro c hc
  exact of_decide_eq_true (List.mem_filter.mp hc).2
theorem wd_sz_cons (c : Nat) (w : List Nat) : wd_sz (c :: w) = if c < 8 then wd_sz w + 1 else wd_sz w := by
  unfold wd_sz; rw [wd_sg_cons]; split <;> rfl
theorem cw_A_lt (a : Nat) : ∀ w : List Nat, cw_A a w < 2 ^ (wd_sz w + 1) := by
  intro w
  induction w with
  | nil => exact Nat.pow_pos (by omega)
  | cons c w ih =>
    rw [cw_A, wd_sz_cons]
    by_cases h : c < 8
    · rw [if_pos h, if_pos h, Nat.pow_succ]; omega
    · rw [if_neg h, if_neg h]
      by_cases h2 : c = a
      · rw [if_pos h2]
        exact Nat.or_lt_two_pow ih (Nat.one_lt_two_pow (by omega))
      · rw [if_neg h2]; exact ih
theorem cw_A_app (a : Nat) (b : List Nat) : ∀ w : List Nat, cw_A a (w ++ b) = cw_A a w ||| (cw_A a b * 2 ^ wd_sz w) := by
  intro w
  induction w with
  | nil => rw [List.nil_append, wd_sz_nil, Nat.pow_zero, Nat.mul_one]; exact (Nat.zero_or _).symm
  | cons c w ih =>
    rw [List.cons_append, cw_A, cw_A, wd_sz_cons]
    by_cases h : c < 8
    · rw [if_pos h, if_pos h, if_pos h, ih, Nat.pow_succ, ← Nat.mul_assoc]
      have := cw_mulor 1 (cw_A a w) (cw_A a b * 2 ^ wd_sz w)
      rw [Nat.pow_one] at this
      rw [Nat.mul_comm, this, Nat.mul_comm 2]
    · rw [if_neg h, if_neg h, if_neg h]
      by_cases h2 : c = a
      · rw [if_pos h2, if_pos h2, ih]; ac_rfl
      · rw [if_neg h2, if_neg h2, ih]
/-- bounds of the parts -/
theorem cw_bd {w : List Nat} (h : wd_sz w ≤ 6) : cw_L (wd_sg w) < 2 ^ 18 ∧ cw_A 8 w < 2 ^ 7 ∧ cw_A 9 w < 2 ^ 7 := by
  have h1 := cw_L_lt (wd_sg_lt w)
  have h2 : 8 ^ (wd_sg w).length ≤ 8 ^ 6 := Nat.pow_le_pow_right (by omega) h
  have h3 : (2 : Nat) ^ (wd_sz w + 1) ≤ 2 ^ 7 := Nat.pow_le_pow_right (by omega) (by omega)
  have e : (8 : Nat) ^ 6 = 2 ^ 18 := by decide
  exact ⟨by omega, Nat.lt_of_lt_of_le (cw_A_lt 8 w) h3, Nat.lt_of_lt_of_le (cw_A_lt 9 w) h3⟩
theorem cw_lt {w : List Nat} (h : wd_sz w ≤ 6) : cw w < 2 ^ 47 := by
  obtain ⟨h1, h2, h3⟩ := cw_bd h
  unfold cw
  omega
theorem cw_szm {w : List Nat} (h : wd_sz w ≤ 6) : cw w % 8 = wd_sz w := by unfold cw; omega
theorem cw_shr {a k : Nat} (hk : k < 64) (ha : a < 2 ^ 62) : lN a >>> ((nI k).toInt64 &&& 63) = lN (a / 2 ^ k) := by
  refine pf_shr ?_ ha
  rw [wb_c k hk, wb_tb, wb_sm k hk, BitVec.toNat_ofNat, Nat.mod_eq_of_lt (by omega)]
theorem cw_shl {a k : Nat} (hk : k < 64) : lN a <<< ((nI k).toInt64 &&& 63) = lN (a * 2 ^ k) := wb_shl a hk
theorem cw_size {w : List Nat} (h : wd_sz w ≤ 6) : (lN (cw w) &&& 7).toInt32 = nI (wd_sz w) := by
  have h1 := cw_lt h
  have := wb_mask (n := cw w) (k := 3) (by omega) (by omega)
  have h2 : lN (cw w) &&& 7 = lN (cw w % 8) := this
  rw [h2, lN_i, cw_szm h]
theorem cw_pw {i : Nat} (hi : i < 6) : (2 : Nat) ^ (8 + 3 * i) = 2 ^ 8 * 8 ^ i := by
  have : (8 : Nat) = 2 ^ 3 := by decide
  rw [Nat.pow_add, this, ← Nat.pow_mul]
theorem cw_sign {w : List Nat} (h : wd_sz w ≤ 6) {i : Nat} (hi : i < wd_sz w) : ((lN (cw w) >>> ((8 + (3 * nI i)).toInt64 &&& 63)) &&& 7).toInt32 = nI ((wd_sg w).getD i 0) ∧ (wd_sg w).getD i 0 < 8 := by
  have h1 := cw_lt h
  have e1 : (8 : Int32) + 3 * nI i = nI (8 + 3 * i) := by
    have a1 : (3 : Int32) * nI i = nI (3 * i) := pk_mul 3 i
    have a2 : (8 : Int32) + nI (3 * i) = nI (8 + 3 * i) := nI_add 8 (3 * i)
    rw [a1, a2]
  have hg := cw_L_get (wd_sg_lt w) i hi
  have hlt : (wd_sg w).getD i 0 < 8 := by rw [← hg]; exact Nat.mod_lt _ (by omega)
  refine ⟨?_, hlt⟩
  rw [e1, cw_shr (by omega) (by omega)]
  have hq : cw w / 2 ^ (8 + 3 * i) < 2 ^ 64 := Nat.lt_of_le_of_lt (Nat.div_le_self _ _) (by omega)
  have := wb_mask (n := cw w / 2 ^ (8 + 3 * i)) (k := 3) hq (by omega)
  have h2 : lN (cw w / 2 ^ (8 + 3 * i)) &&& 7 = lN (cw w / 2 ^ (8 + 3 * i) % 8) := this
  rw [h2, lN_i, cw_pw (by omega), ← Nat.div_div_eq_div_mul]
  have e3 : cw w / 2 ^ 8 = 2 ^ 24 * (2 ^ 8 * cw_A 9 w + cw_A 8 w) + cw_L (wd_sg w) := by unfold cw; omega
  rw [e3]
  have e4 : (2 : Nat) ^ 24 * (2 ^ 8 * cw_A 9 w + cw_A 8 w) = 8 ^ i * (8 * (8 ^ (7 - i) * (2 ^ 8 * cw_A 9 w + cw_A 8 w))) := by
    rw [← Nat.mul_assoc, ← Nat.mul_assoc]
    congr 1
    have : (2 : Nat) ^ 24 = 8 ^ 8 := by decide
    rw [this, Nat.mul_assoc, ← Nat.pow_succ', ← Nat.pow_add]
    congr 1
    omega
  rw [e4, Nat.mul_add_div (Nat.pow_pos (by omega)), Nat.mul_add_mod, hg]
theorem cw_anch8 {w : List Nat} (h : wd_sz w ≤ 6) {p : Nat} (hp : p ≤ 6) : cw w / 2 ^ (32 + p) % 2 = cw_A 8 w / 2 ^ p % 2 := by
  obtain ⟨h1, h2, h3⟩ := cw_bd h
  rw [Nat.pow_add, ← Nat.div_div_eq_div_mul]
  have e3 : cw w / 2 ^ 32 = 2 ^ 8 * cw_A 9 w + cw_A 8 w := by unfold cw; omega
  rw [e3]
  have e4 : (2 : Nat) ^ 8 * cw_A 9 w = 2 ^ p * (2 * (2 ^ (7 - p) * cw_A 9 w)) := by
    rw [← Nat.mul_assoc, ← Nat.mul_assoc]
    congr 1
    rw [Nat.mul_assoc, ← Nat.pow_succ', ← Nat.pow_add]
    congr 1
    omega
  rw [e4, Nat.mul_add_div (Nat.pow_pos (by omega)), Nat.mul_add_mod]
theorem cw_anch9 {w : List Nat} (h : wd_sz w ≤ 6) {p : Nat} : cw w / 2 ^ (40 + p) % 2 = cw_A 9 w / 2 ^ p % 2 := by
  obtain ⟨h1, h2, h3⟩ := cw_bd h
  rw [Nat.pow_add, ← Nat.div_div_eq_div_mul]
  have e3 : cw w / 2 ^ 40 = cw_A 9 w := by unfold cw; omega
  rw [e3]
theorem cw_glue {a b : List Nat} (h : wd_sz a + wd_sz b ≤ 6) : (cw a + wd_sz b) ||| (cw b / 2 ^ 8 % 2 ^ 18 * 2 ^ (8 + 3 * wd_sz a)) ||| ((cw b / 2 ^ 32 % 2 ^ 7 * 2 ^ (32 + wd_sz a)) ||| (cw b / 2 ^ 40 % 2 ^ 7 * 2 ^ (40 + wd_sz a))) = cw (a ++ b) := by
  obtain ⟨a1, a2, a3⟩ := cw_bd (w := a) (by omega)
  obtain ⟨b1, b2, b3⟩ := cw_bd (w := b) (by omega)
  have e1 : cw b / 2 ^ 8 % 2 ^ 18 = cw_L (wd_sg b) := by unfold cw; omega
  have e2 : cw b / 2 ^ 32 % 2 ^ 7 = cw_A 8 b := by unfold cw; omega
  have e3 : cw b / 2 ^ 40 % 2 ^ 7 = cw_A 9 b := by unfold cw; omega
  rw [e1, e2, e3]
  have hz8 : (2 : Nat) ^ (8 + 3 * wd_sz a) = 2 ^ 8 * 8 ^ wd_sz a := by
    have : (8 : Nat) = 2 ^ 3 := by decide
    rw [Nat.pow_add, this, ← Nat.pow_mul]
  have l1 := cw_L_lt (wd_sg_lt a)
  have l2 := cw_L_lt (wd_sg_lt b)
  have l1' : cw_L (wd_sg a) < 8 ^ wd_sz a := l1
  have l2' : cw_L (wd_sg b) < 8 ^ wd_sz b := l2
  have hLL : cw_L (wd_sg b) * 8 ^ wd_sz a < 2 ^ 24 := by
    have q1 : cw_L (wd_sg b) * 8 ^ wd_sz a < 8 ^ wd_sz b * 8 ^ wd_sz a := Nat.mul_lt_mul_of_pos_right l2' (Nat.pow_pos (by omega))
    rw [← Nat.pow_add] at q1
    have q2 : (8 : Nat) ^ (wd_sz b + wd_sz a) ≤ 8 ^ 6 := Nat.pow_le_pow_right (by omega) (by omega)
    have q3 : (8 : Nat) ^ 6 < 2 ^ 24 := by decide
    omega
  have hAA : ∀ x, cw_A x b * 2 ^ wd_sz a < 2 ^ 8 := by
    intro x
    have q1 : cw_A x b * 2 ^ wd_sz a < 2 ^ (wd_sz b + 1) * 2 ^ wd_sz a := Nat.mul_lt_mul_of_pos_right (cw_A_lt x b) (Nat.pow_pos (by omega))
    rw [← Nat.pow_add] at q1
    have q2 : (2 : Nat) ^ (wd_sz b + 1 + wd_sz a) ≤ 2 ^ 8 := Nat.pow_le_pow_right (by omega) (by omega)
    omega
  have hLor : cw_L (wd_sg a) ||| cw_L (wd_sg b) * 8 ^ wd_sz a = cw_L (wd_sg (a ++ b)) := by
    rw [wd_sg_app, cw_L_app]
    have e8 : (8 : Nat) ^ wd_sz a = 2 ^ (3 * wd_sz a) := by
      have : (8 : Nat) = 2 ^ 3 := by decide
      rw [this, ← Nat.pow_mul]
    have e9 : (8 : Nat) ^ (wd_sg a).length = 2 ^ (3 * wd_sz a) := e8
    rw [e8] at l1' ⊢
    rw [e9, Nat.add_comm (cw_L (wd_sg a)), Nat.two_pow_add_eq_or_of_lt l1', Nat.or_comm, Nat.mul_comm]
  have f1 : cw a + wd_sz b = 2 ^ 8 * (2 ^ 24 * (2 ^ 8 * cw_A 9 a + cw_A 8 a) + cw_L (wd_sg a)) + (wd_sz a + wd_sz b) := by unfold cw; omega
  have f2 : cw_L (wd_sg b) * 2 ^ (8 + 3 * wd_sz a) = 2 ^ 8 * (2 ^ 24 * (2 ^ 8 * 0 + 0) + cw_L (wd_sg b) * 8 ^ wd_sz a) + 0 := by
    rw [hz8, ← Nat.mul_assoc, Nat.mul_comm (cw_L (wd_sg b)), Nat.mul_assoc]; omega
  have f3 : cw_A 8 b * 2 ^ (32 + wd_sz a) = 2 ^ 8 * (2 ^ 24 * (2 ^ 8 * 0 + cw_A 8 b * 2 ^ wd_sz a) + 0) + 0 := by
    rw [Nat.pow_add, ← Nat.mul_assoc, Nat.mul_comm (cw_A 8 b), Nat.mul_assoc]; omega
  have f4 : cw_A 9 b * 2 ^ (40 + wd_sz a) = 2 ^ 8 * (2 ^ 24 * (2 ^ 8 * (cw_A 9 b * 2 ^ wd_sz a) + 0) + 0) + 0 := by
    rw [Nat.pow_add, ← Nat.mul_assoc, Nat.mul_comm (cw_A 9 b), Nat.mul_assoc]; omega
  rw [f1, f2, f3, f4]
  have z1 : wd_sz a + wd_sz b < 2 ^ 8 := by omega
  have z2 : cw_L (wd_sg a) < 2 ^ 24 := by omega
  have z3 : cw_A 8 a < 2 ^ 8 := by omega
  have y0 : (0 : Nat) < 2 ^ 8 := by omega
  have y1 : (0 : Nat) < 2 ^ 24 := by omega
  rw [cw_or4 (x := 0) (x' := 0) (L := 0) (L' := 0) (A := cw_A 8 b * 2 ^ wd_sz a) (A' := 0) (B := 0) (B' := cw_A 9 b * 2 ^ wd_sz a) y0 y0 y1 y1 (hAA 8) y0]
  rw [cw_or4 (B := cw_A 9 a) (B' := 0) z1 y0 z2 hLL z3 y0]
  simp only [Nat.or_zero, Nat.zero_or]
  rw [cw_or4 z1 y0 (Nat.or_lt_two_pow z2 hLL) y1 z3 (hAA 8)]
  unfold cw
  rw [cw_A_app, cw_A_app, wd_sz_app, ← hLor]
  simp only [Nat.or_zero, Nat.zero_or]
end
section
/-! ===== the reference's check of a packed word ===== -/
theorem cw_tb2 (x i : Nat) : (2 * x).testBit (i + 1) = x.testBit i := by
  rw [Nat.testBit_succ, Nat.mul_div_cancel_left _ (by omega)]
theorem cw_tb20 (x : Nat) : (2 * x).testBit 0 = false := by
  rw [Nat.testBit_zero]; exact decide_eq_false (by omega)
theorem cw_tb1 (i : Nat) : Nat.testBit 1 (i + 1) = false := by
  rw [Nat.testBit_succ]; exact Nat.zero_testBit i
theorem wd_v_iff {ok : List Nat → Nat → Bool} {fi la : List Nat → Bool} {F G : Nat → Prop} (hfi : ∀ l, fi l = true ↔ F l.length) (hla : ∀ l, la l = true ↔ G l.length) : ∀ (w l : List Nat), (∀ c, c ∈ w → c ≤ 9) →
    (wd_v ok fi la l w = true ↔ (∀ i, i < wd_sz w → ok (l ++ (wd_sg w).take i) ((wd_sg w).getD i 0) = true) ∧ (∀ p, (cw_A 8 w).testBit p = true → F (l.length + p)) ∧ (∀ p, (cw_A 9 w).testBit p = true → G (l.length + p))) := by
  intro w
  induction w with
  | nil =>
    intro l _
    refine ⟨fun _ => ⟨fun i hi => absurd hi (Nat.not_lt_zero _), fun p hp => ?_, fun p hp => ?_⟩, fun _ => rfl⟩
    · rw [cw_A, Nat.zero_testBit] at hp; exact absurd hp (by decide)
    · rw [cw_A, Nat.zero_testBit] at hp; exact absurd hp (by decide)
  | cons c w ih =>
    intro l hw
    have hw' : ∀ c, c ∈ w → c ≤ 9 := fun x hx => hw x (List.mem_cons_of_mem _ hx)
    have hc := hw c List.mem_cons_self
    rw [wd_v, cw_A, cw_A, wd_sz_cons, wd_sg_cons]
    by_cases h : c < 8
    · simp only [if_pos h]
      rw [Bool.and_eq_true, ih (l ++ [c]) hw']
      have hlen : (l ++ [c]).length = l.length + 1 := by rw [List.length_append]; rfl
      rw [hlen]
      constructor
      · intro ⟨h0, h1, h2, h3⟩
        refine ⟨fun i hi => ?_, fun p hp => ?_, fun p hp => ?_⟩
        · cases i with
          | zero => rw [List.take_zero, List.append_nil]; exact h0
          | succ i =>
            have := h1 i (by omega)
            rw [List.append_assoc] at this
            exact this
        · cases p with
          | zero => rw [cw_tb20] at hp; exact absurd hp (by decide)
          | succ p => rw [cw_tb2] at hp; have := h2 p hp; rw [Nat.add_assoc, Nat.add_comm 1 p] at this; exact this
        · cases p with
          | zero => rw [cw_tb20] at hp; exact absurd hp (by decide)
          | succ p => rw [cw_tb2] at hp; have := h3 p hp; rw [Nat.add_assoc, Nat.add_comm 1 p] at this; exact this
      · intro ⟨h1, h2, h3⟩
        refine ⟨?_, fun i hi => ?_, fun p hp => ?_, fun p hp => ?_⟩
        · have := h1 0 (by omega)
          rw [List.take_zero, List.append_nil] at this
          exact this
        · have := h1 (i + 1) (by omega)
          rw [List.append_assoc]
          exact this
        · rw [Nat.add_assoc, Nat.add_comm 1 p]; exact h2 (p + 1) (by rw [cw_tb2]; exact hp)
        · rw [Nat.add_assoc, Nat.add_comm 1 p]; exact h3 (p + 1) (by rw [cw_tb2]; exact hp)
    · simp only [if_neg h]
      by_cases h8 : c = 8
      · have h9 : ¬ c = 9 := by omega
        simp only [if_pos h8, if_neg h9]
        rw [Bool.and_eq_true, ih l hw', hfi]
        constructor
        · intro ⟨h0, h1, h2, h3⟩
          refine ⟨h1, fun p hp => ?_, h3⟩
          rw [Nat.testBit_or, Bool.or_eq_true] at hp
          rcases hp with hp | hp
          · exact h2 p hp
          · cases p with
            | zero => exact h0
            | succ p => rw [cw_tb1] at hp; exact absurd hp (by decide)
        · intro ⟨h1, h2, h3⟩
          refine ⟨?_, h1, fun p hp => h2 p (by rw [Nat.testBit_or, hp, Bool.true_or]), h3⟩
          exact h2 0 (by rw [Nat.testBit_or, Bool.or_eq_true]; exact Or.inr rfl)
      · have h9 : c = 9 := by omega
        simp only [if_neg h8, if_pos h9]
        rw [Bool.and_eq_true, ih l hw', hla]
        constructor
        · intro ⟨h0, h1, h2, h3⟩
          refine ⟨h1, h2, fun p hp => ?_⟩
          rw [Nat.testBit_or, Bool.or_eq_true] at hp
          rcases hp with hp | hp
          · exact h3 p hp
          · cases p with
            | zero => exact h0
            | succ p => rw [cw_tb1] at hp; exact absurd hp (by decide)
        · intro ⟨h1, h2, h3⟩
          refine ⟨?_, h1, h2, fun p hp => h3 p (by rw [Nat.testBit_or, hp, Bool.true_or])⟩
          exact h3 0 (by rw [Nat.testBit_or, Bool.or_eq_true]; exact Or.inr rfl)
theorem cw_bitY {w : List Nat} (h : wd_sz w ≤ 6) {p b : Nat} {c : Int32} {A : Nat} (hc : c = nI b) (hb : b + p < 47) (hA : cw w / 2 ^ (b + p) % 2 = A / 2 ^ p % 2) : ((lN (cw w) >>> ((c + nI p).toInt64 &&& 63)) &&& 1) = 1 ↔ A.testBit p = true := by
  have h1 := cw_lt h
  rw [hc, nI_add, cw_shr (by omega) (by omega)]
  have hq : cw w / 2 ^ (b + p) < 2 ^ 64 := Nat.lt_of_le_of_lt (Nat.div_le_self _ _) (by omega)
  rw [wb_a1 hq, hA, Nat.testBit_eq_decide_div_mod_eq]
  constructor
  · intro hh
    have := (lN_eq (a := A / 2 ^ p % 2) (b := 1) (by omega) (by omega)).mp hh
    exact decide_eq_true this
  · intro hh
    rw [of_decide_eq_true hh]; rfl
/-- a well-formed word -/
def wd_ok (n : Nat) (w : List Nat) : Prop := (∀ c, c ∈ w → c ≤ 9) ∧ wd_sz w ≤ n
section
variable {yf_n yf_count yf_patternCount yf_termCount yf_mode yf_skipVar yf_resPart yf_resRows yf_matchCount yf_tooBig : Int32} {ya_buffer ya_pattern ya_terms ya_cells ya_rowCount ya_len ya_matchStart ya_tried : Nat → Int32} {ya_lists ya_matchEntry : Nat → Int64}
variable {post : Int32 → Prop} {w : List Nat} {part s R tc : Nat}
theorem yv_106 {J : Int32 → Prop} {i : Nat} (hw : wd_sz w ≤ 6) (hpart : part < 3) (hsR : s + wd_sz w ≤ R) (hR : R ≤ 6) (hT : hv_T ya_terms tc) (hi : i < wd_sz w)
    (h1 : sr_ok ya_terms ya_cells tc part s R ((wd_sg w).take i) ((wd_sg w).getD i 0) = true → J (nI (i + 1))) (h0 : sr_ok ya_terms ya_cells tc part s R ((wd_sg w).take i) ((wd_sg w).getD i 0) = false → post 0) :
    ∀ d k, k + d = tc → (∀ q, q < k → ya_terms (4 * q) = nI ((wd_sg w).getD i 0 % 4) → hv_hold ya_terms ya_cells part s (sr_lab ((wd_sg w).take i)) i q = true) → wY_valid_106 post J (lN (cw w)) (nI part) (nI s) (nI (wd_sz w)) (nI i) yf_n yf_count yf_patternCount (nI tc) yf_mode yf_skipVar yf_resPart yf_resRows yf_matchCount yf_tooBig ya_buffer ya_pattern ya_terms ya_cells ya_rowCount ya_lists ya_len ya_matchStart ya_matchEntry ya_tried (d + 1) (nI k) := by
  have htc := hT.1
  have hlen : ((wd_sg w).take i).length = i := by rw [List.length_take]; have : (wd_sg w).length = wd_sz w := rfl; omega
  have hsg := cw_sign hw hi
  intro d
  induction d with
  | zero =>
    intro k hk hall
    have hk' : k = tc := by omega
    subst hk'
    refine br_t (nI_le (Nat.le_refl _) (by omega)) (nm_r (nI_1 i) (h1 (sr_ok_iff.mpr ⟨by omega, fun q hq he => ?_⟩)))
    rw [hlen]; exact hall q hq he
  | succ d ih =>
    intro k hk hall
    have e4 : 4 * nI k = nI (4 * k) := pk_mul 4 k
    refine br_f (nI_ge (by omega) (by omega)) ?_
    unfold wpY_sign
    dsimp only
    rw [e4, nI_clamp (n := 4 * k) (by omega), hsg.1, hv_lab hsg.2]
    refine ⟨vp_in_nI (by omega) (by omega), by decide, br_c (fun q => ?_) (fun q => ?_)⟩
    · refine hy_hold (lab := sr_lab ((wd_sg w).take i)) hpart (by omega) hT (by omega) (fun j hj => ?_) ?_
      · have hs2 := cw_sign hw (i := j) (by omega)
        have e : sr_lab ((wd_sg w).take i) j = (wd_sg w).getD j 0 := by
          unfold sr_lab
          rw [List.getD_eq_getElem?_getD, List.getD_eq_getElem?_getD, List.getElem?_take_of_lt hj]
        rw [e]; exact hs2
      · cases hh : hv_hold ya_terms ya_cells part s (sr_lab ((wd_sg w).take i)) i k with
        | false =>
          refine br_t rfl (h0 ?_)
          cases hb : sr_ok ya_terms ya_cells tc part s R ((wd_sg w).take i) ((wd_sg w).getD i 0) with
          | false => rfl
          | true =>
            have := (sr_ok_iff.mp hb).2 k (by omega) q
            rw [hlen, hh] at this
            exact absurd this (by decide)
        | true =>
          refine br_f (by decide) (nm_r (nI_1 k) (ih (k + 1) (by omega) (fun p hp he => ?_)))
          by_cases hpk : p = k
          · rw [hpk]; exact hh
          · exact hall p (by omega) he
    · refine nm_r (nI_1 k) (ih (k + 1) (by omega) (fun p hp he => ?_))
      by_cases hpk : p = k
      · rw [hpk] at he; exact absurd he q
      · exact hall p (by omega) he
theorem yv_96 (hw : wd_sz w ≤ 6) (hpart : part < 3) (hsR : s + wd_sz w ≤ R) (hR : R ≤ 6) (hT : hv_T ya_terms tc)
    (h1 : (∀ i, i < wd_sz w → sr_ok ya_terms ya_cells tc part s R ((wd_sg w).take i) ((wd_sg w).getD i 0) = true) → post 1) (h0 : (∃ i, i < wd_sz w ∧ sr_ok ya_terms ya_cells tc part s R ((wd_sg w).take i) ((wd_sg w).getD i 0) = false) → post 0) :
    ∀ d i, i + d = wd_sz w → (∀ q, q < i → sr_ok ya_terms ya_cells tc part s R ((wd_sg w).take q) ((wd_sg w).getD q 0) = true) → wY_valid_96 post (lN (cw w)) (nI part) (nI s) (nI (wd_sz w)) yf_n yf_count yf_patternCount (nI tc) yf_mode yf_skipVar yf_resPart yf_resRows yf_matchCount yf_tooBig ya_buffer ya_pattern ya_terms ya_cells ya_rowCount ya_lists ya_len ya_matchStart ya_matchEntry ya_tried (d + 1) (nI i) := by
  intro d
  induction d with
  | zero =>
    intro i hi hall
    exact br_t (nI_le (by omega) (by omega)) (h1 (fun q hq => hall q (by omega)))
  | succ d ih =>
    intro i hi hall
    refine br_f (nI_ge (by omega) (by omega)) ⟨tc + 1, yv_106 hw hpart hsR hR hT (by omega) (fun hk => ih (i + 1) (by omega) (fun q hq => ?_)) (fun hk => h0 ⟨i, by omega, hk⟩) tc 0 (by omega) (fun q hq => by omega)⟩
    by_cases hqi : q = i
    · rw [hqi]; exact hk
    · exact hall q (by omega)
theorem yv_26 (hw : wd_sz w ≤ 6) (hpart : part < 3) (hsR : s + wd_sz w ≤ R) (hR : R ≤ 6) (hT : hv_T ya_terms tc) (hrow : ya_rowCount part = nI R)
    (h1 : (∀ i, i < wd_sz w → sr_ok ya_terms ya_cells tc part s R ((wd_sg w).take i) ((wd_sg w).getD i 0) = true) → (∀ p, p ≤ wd_sz w → (cw_A 8 w).testBit p = true → s + p = 0) → (∀ p, p ≤ wd_sz w → (cw_A 9 w).testBit p = true → s + p = R) → post 1)
    (h0 : ((∃ i, i < wd_sz w ∧ sr_ok ya_terms ya_cells tc part s R ((wd_sg w).take i) ((wd_sg w).getD i 0) = false) ∨ (∃ p, (cw_A 8 w).testBit p = true ∧ s + p ≠ 0) ∨ (∃ p, (cw_A 9 w).testBit p = true ∧ s + p ≠ R)) → post 0) :
    ∀ d p, p + d = wd_sz w + 1 → (∀ q, q < p → (cw_A 8 w).testBit q = true → s + q = 0) → (∀ q, q < p → (cw_A 9 w).testBit q = true → s + q = R) → wY_valid_26 post (lN (cw w)) (nI part) (nI s) (nI (wd_sz w)) yf_n yf_count yf_patternCount (nI tc) yf_mode yf_skipVar yf_resPart yf_resRows yf_matchCount yf_tooBig ya_buffer ya_pattern ya_terms ya_cells ya_rowCount ya_lists ya_len ya_matchStart ya_matchEntry ya_tried (d + 1) (nI p) := by
  intro d
  induction d with
  | zero =>
    intro p hp h8 h9
    exact br_t (nI_lt (by omega) (by omega)) ⟨wd_sz w + 1, yv_96 hw hpart hsR hR hT (fun hh => h1 hh (fun q hq => h8 q (by omega)) (fun q hq => h9 q (by omega))) (fun hh => h0 (Or.inl hh)) (wd_sz w) 0 (by omega) (fun q hq => by omega)⟩
  | succ d ih =>
    intro p hp h8 h9
    have c8 := cw_bitY hw (p := p) (b := 32) (c := 32) (A := cw_A 8 w) rfl (by omega) (cw_anch8 hw (by omega))
    have c9 := cw_bitY hw (p := p) (b := 40) (c := 40) (A := cw_A 9 w) rfl (by omega) (cw_anch9 hw)
    have k57 : ((cw_A 8 w).testBit p = true → s + p = 0) → wY_valid_57 post (wY_valid_26 post (lN (cw w)) (nI part) (nI s) (nI (wd_sz w)) yf_n yf_count yf_patternCount (nI tc) yf_mode yf_skipVar yf_resPart yf_resRows yf_matchCount yf_tooBig ya_buffer ya_pattern ya_terms ya_cells ya_rowCount ya_lists ya_len ya_matchStart ya_matchEntry ya_tried (d + 1)) (lN (cw w)) (nI part) (nI s) (nI (wd_sz w)) (nI p) yf_n yf_count yf_patternCount (nI tc) yf_mode yf_skipVar yf_resPart yf_resRows yf_matchCount yf_tooBig ya_buffer ya_pattern ya_terms ya_cells ya_rowCount ya_lists ya_len ya_matchStart ya_matchEntry ya_tried := by
      intro g8
      have step : ((cw_A 9 w).testBit p = true → s + p = R) → wY_valid_26 post (lN (cw w)) (nI part) (nI s) (nI (wd_sz w)) yf_n yf_count yf_patternCount (nI tc) yf_mode yf_skipVar yf_resPart yf_resRows yf_matchCount yf_tooBig ya_buffer ya_pattern ya_terms ya_cells ya_rowCount ya_lists ya_len ya_matchStart ya_matchEntry ya_tried (d + 1) (nI (p + 1)) := by
        intro g9
        refine ih (p + 1) (by omega) (fun q hq => ?_) (fun q hq => ?_)
        · by_cases hqp : q = p
          · rw [hqp]; exact g8
          · exact h8 q (by omega)
        · by_cases hqp : q = p
          · rw [hqp]; exact g9
          · exact h9 q (by omega)
      refine br_c (fun q => ?_) (fun q => ?_)
      · have t9 := c9.mp q
        rw [nI_clamp (n := part) (by omega), hrow, nI_add]
        refine ⟨vp_in_nI hpart (by omega), br_c (fun r => ?_) (fun r => ?_)⟩
        · exact nm_r (nI_1 p) (step (fun _ => (nI_eq (by omega) (by omega)).mp r))
        · exact h0 (Or.inr (Or.inr ⟨p, t9, fun hh => r (by rw [hh])⟩))
      · exact nm_r (nI_1 p) (step (fun t9 => absurd (c9.mpr t9) q))
    refine br_f (nI_nlt (by omega) (by omega)) (br_c (fun q => ?_) (fun q => ?_))
    · have t8 := c8.mp q
      rw [nI_add]
      refine br_c (fun r => ?_) (fun r => ?_)
      · exact k57 (fun _ => (nI_eq (b := 0) (by omega) (by omega)).mp r)
      · exact h0 (Or.inr (Or.inl ⟨p, t8, fun hh => r (by rw [hh]; exact nI_0)⟩))
    · exact k57 (fun t8 => absurd (c8.mpr t8) q)
theorem yv_valid {n : Nat} (hw : wd_ok n w) (hn : n ≤ 6) (hpart : part < 3) (hs : s ≤ R) (hR : R ≤ 6) (hT : hv_T ya_terms tc) (hrow : ya_rowCount part = nI R)
    (h1 : wd_v (sr_ok ya_terms ya_cells tc part s R) (sr_fi s) (sr_la s R) [] w = true → post 1) (h0 : wd_v (sr_ok ya_terms ya_cells tc part s R) (sr_fi s) (sr_la s R) [] w = false → post 0) : wpY_valid post (yf_n, yf_count, yf_patternCount, nI tc, yf_mode, yf_skipVar, yf_resPart, yf_resRows, yf_matchCount, yf_tooBig, ya_buffer, ya_pattern, ya_terms, ya_cells, ya_rowCount, ya_lists, ya_len, ya_matchStart, ya_matchEntry, ya_tried) (lN (cw w)) (nI part) (nI s) := by
  have hz := hw.2
  have iff := wd_v_iff (ok := sr_ok ya_terms ya_cells tc part s R) (fi := sr_fi s) (la := sr_la s R) (F := fun p => s + p = 0) (G := fun p => s + p = R) (fun l => decide_eq_true_iff) (fun l => decide_eq_true_iff) w [] hw.1
  have hfalse : ¬ (wd_v (sr_ok ya_terms ya_cells tc part s R) (sr_fi s) (sr_la s R) [] w = true) → post 0 := fun hh => h0 (by cases hb : wd_v (sr_ok ya_terms ya_cells tc part s R) (sr_fi s) (sr_la s R) [] w with
    | false => rfl
    | true => exact absurd hb hh)
  unfold wpY_valid wpY_size
  dsimp only
  rw [cw_size (by omega), nI_clamp (n := part) (by omega), hrow, nI_add]
  refine ⟨vp_in_nI hpart (by omega), br_c (fun q => ?_) (fun q => ?_)⟩
  · have q' : s + wd_sz w ≤ R := (nI_leI (by omega) (by omega)).mp q
    refine ⟨wd_sz w + 2, yv_26 (by omega) hpart q' hR hT hrow (fun g1 g2 g3 => h1 (iff.mpr ⟨fun i hi => ?_, fun p hp => ?_, fun p hp => ?_⟩)) (fun hh => hfalse (fun ht => ?_)) (wd_sz w + 1) 0 (by omega) (fun q hq => by omega) (fun q hq => by omega)⟩
    · rw [List.nil_append]; exact g1 i hi
    · show s + (0 + p) = 0
      rw [Nat.zero_add]
      refine g2 p ?_ hp
      have := cw_A_lt 8 w
      rcases Nat.lt_or_ge (wd_sz w) p with hlt | hge
      · have h2 : cw_A 8 w < 2 ^ p := Nat.lt_of_lt_of_le this (Nat.pow_le_pow_right (by omega) hlt)
        rw [Nat.testBit_lt_two_pow h2] at hp; exact absurd hp (by decide)
      · exact hge
    · show s + (0 + p) = R
      rw [Nat.zero_add]
      refine g3 p ?_ hp
      have := cw_A_lt 9 w
      rcases Nat.lt_or_ge (wd_sz w) p with hlt | hge
      · have h2 : cw_A 9 w < 2 ^ p := Nat.lt_of_lt_of_le this (Nat.pow_le_pow_right (by omega) hlt)
        rw [Nat.testBit_lt_two_pow h2] at hp; exact absurd hp (by decide)
      · exact hge
    · have := iff.mp ht
      rcases hh with ⟨i, hi, hf⟩ | ⟨p, hp, hf⟩ | ⟨p, hp, hf⟩
      · have h5 := this.1 i hi
        rw [List.nil_append, hf] at h5
        exact absurd h5 (by decide)
      · have h5 : s + (0 + p) = 0 := this.2.1 p hp
        omega
      · have h5 : s + (0 + p) = R := this.2.2 p hp
        omega
  · have q' : ¬ s + wd_sz w ≤ R := fun hh => q (nI_le hh (by omega))
    refine hfalse (fun ht => ?_)
    have := (iff.mp ht).1 (wd_sz w - 1) (by omega)
    have h5 := (sr_ok_iff.mp this).1
    rw [List.nil_append, List.length_take] at h5
    have : (wd_sg w).length = wd_sz w := rfl
    omega
end
end
section
/-! ===== the relation ===== -/
/-- the open groups' openers, the innermost first; the tokens come with the last one first -/
def tk_S : List Nat → List Nat
  | [] => []
  | t :: r => if t = 6 ∨ t = 8 then t :: tk_S r else if t = 7 ∨ t = 9 then (tk_S r).tail else tk_S r
def tk_ae : List Nat → Prop
  | [] => False
  | t :: _ => t ≤ 5 ∨ t = 7 ∨ t = 9
def tk_ie : List Nat → Prop
  | [] => False
  | t :: _ => t ≤ 5 ∨ t = 7 ∨ t = 9 ∨ 100 ≤ t
def tk_q (n t : Nat) : Prop := ∃ mn mx z : Nat, t = 100 + 20 * mn + 2 * mx + z ∧ mn ≤ mx ∧ 1 ≤ mx ∧ mx ≤ n ∧ z < 2
def tk_c (n t : Nat) (r : List Nat) : Prop := t ≤ 5 ∨ ((t = 6 ∨ t = 8) ∧ (tk_S r).length < 3) ∨ ((t = 7 ∨ t = 9) ∧ tk_ie r ∧ (tk_S r).head? = some (t - 1)) ∨ (t = 10 ∧ tk_ie r) ∨ (tk_q n t ∧ tk_ae r)
def tk_V (n : Nat) : List Nat → Prop
  | [] => True
  | t :: r => tk_c n t r ∧ tk_V n r
def rl_B (n bl oc : Nat) (T : List Nat) (buf opened : Nat → Int32) : Prop :=
  T.length = bl ∧ bl ≤ 24 ∧ tk_V n T ∧ (∀ i, i < bl → buf i = nI (T.getD (bl - 1 - i) 0)) ∧ (tk_S T).length = oc ∧ (∀ i, i < oc → opened i = nI ((tk_S T).getD (oc - 1 - i) 0))
def rl_P (n pl : Nat) (reads op arg lev lo hi lz : Nat → Int32) (lists : Nat → Int64) (len : Nat → Int32) : Prop :=
  pl = 0 ∨ ∃ (W : List (List Nat)) (k : Nat → Nat) (S D e : Nat), W.length ≤ 64 ∧ (∀ w, w ∈ W → wd_ok n w) ∧ len 11 = nI W.length ∧ (∀ i, i < W.length → lists (704 + i) = lN (cw (W.getD i []))) ∧ (∀ z, z ≤ n → reads z = nI (W.filter (fun w => decide (wd_sz w = z))).length) ∧ e < 63 ∧ op e = 8 ∧ bk_Blk (sr_C op arg lev lo hi lz) n 0 e W k S D 0 ∧ S + D * 6 ≤ 4096 ∧ (∀ r, r ≤ 6 → k r < 999999999999)
def rl_om (r : Nat) (Ms : List (Nat × List Nat)) (t : Nat) : Nat → Nat
  | 0 => t
  | m + 1 => if (Ms.getD m (0, [])).1 = r then (if wd_sz (Ms.getD m (0, [])).2 = 0 then 2 else 3) else rl_om r Ms t m
def rl_R (n R rc : Nat) (part yp : Int32) (Ms : List (Nat × List Nat)) (st ln lab out lp : Nat → Int32) (me : Nat → Int64) (tr : Nat → Int32) : Prop :=
  R ≤ n ∧ Ms.length = rc ∧ rc ≤ 6 ∧ ((part = -1 ∧ R = 0 ∧ rc = 0) ∨ ∃ p : Nat, p < 3 ∧ part = nI p ∧ yp = nI p) ∧
  (∀ m, m < rc → st m = nI (Ms.getD m (0, [])).1 ∧ ln m = nI (wd_sz (Ms.getD m (0, [])).2) ∧ me m = lN (cw (Ms.getD m (0, [])).2) ∧ wd_ok n (Ms.getD m (0, [])).2 ∧ (Ms.getD m (0, [])).1 + wd_sz (Ms.getD m (0, [])).2 ≤ R ∧ (∀ j, j < wd_sz (Ms.getD m (0, [])).2 → lab (6 * m + j) = nI ((wd_sg (Ms.getD m (0, [])).2).getD j 0))) ∧
  (∀ r, r < R → ∃ t : Nat, t < 2 ∧ tr r = nI t ∧ out r = nI (rl_om r Ms t rc)) ∧ (∀ j, j < 8 → ∃ q : Nat, lp j = nI q ∧ q < 8)
def rl_C (n : Nat) (row : Nat → Int32) : Prop := ∀ p, p < 3 → ∃ q : Nat, row p = nI q ∧ q ≤ n
section
variable {f_opRow f_opFirst f_opFinal f_opBranch f_opJump f_opEnter f_opNext f_opDecide f_opDone f_catSlot f_itemSlot f_rowsSlot f_timesSlot f_scratchSlot f_size f_bufLen f_openCount f_patLen f_codeLen f_depth f_excluded f_termCount f_skipMode f_skipVar f_resPart f_resRows f_resCount f_top f_pc f_pos f_from : Int32} {a_vec a_buf a_opened a_pat a_reads a_op a_arg a_lev a_lo a_hi a_lazy a_useMax a_branchAt a_jumpAt a_enterAt a_terms a_cells a_rowCount a_startOf a_lengthOf a_labels a_outcome a_loop : Nat → Int32} {a_stack : Nat → Int64}
variable {yf_n yf_count yf_patternCount yf_termCount yf_mode yf_skipVar yf_resPart yf_resRows yf_matchCount yf_tooBig : Int32} {ya_buffer ya_pattern ya_terms ya_cells ya_rowCount ya_len ya_matchStart ya_tried : Nat → Int32} {ya_lists ya_matchEntry : Nat → Int64}
def rl_F (n bl oc pl tc sm sv R rc : Nat) (T : List Nat) (Ms : List (Nat × List Nat)) (f_resPart yf_resPart : Int32) (a_buf a_opened a_reads a_op a_arg a_lev a_lo a_hi a_lazy a_terms a_rowCount a_startOf a_lengthOf a_labels a_outcome a_loop ya_len ya_tried : Nat → Int32) (ya_lists ya_matchEntry : Nat → Int64) : Prop :=
  (2 ≤ n ∧ n ≤ 6) ∧ (sm < 4 ∧ sv < 4) ∧ rl_B n bl oc T a_buf a_opened ∧ (pl ≤ 24 ∧ rl_P n pl a_reads a_op a_arg a_lev a_lo a_hi a_lazy ya_lists ya_len) ∧ hv_T a_terms tc ∧ rl_C n a_rowCount ∧ rl_R n R rc f_resPart yf_resPart Ms a_startOf a_lengthOf a_labels a_outcome a_loop ya_matchEntry ya_tried
end
def i_Rel (_ : Nat) (u : SX) (v : SY) : Prop := ∀ P : SX → SY → Prop, (∀ (n bl oc pl tc sm sv R rc : Nat) (T : List Nat) (Ms : List (Nat × List Nat)) (f_opRow f_opFirst f_opFinal f_opBranch f_opJump f_opEnter f_opNext f_opDecide f_opDone f_catSlot f_itemSlot f_rowsSlot f_timesSlot f_scratchSlot f_codeLen f_depth f_excluded f_resPart f_top f_pc f_pos f_from yf_resPart yf_tooBig : Int32) (a_vec a_buf a_opened a_pat a_reads a_op a_arg a_lev a_lo a_hi a_lazy a_useMax a_branchAt a_jumpAt a_enterAt a_terms a_cells a_rowCount a_startOf a_lengthOf a_labels a_outcome a_loop ya_len ya_tried : Nat → Int32) (a_stack ya_lists ya_matchEntry : Nat → Int64), rl_F n bl oc pl tc sm sv R rc T Ms f_resPart yf_resPart a_buf a_opened a_reads a_op a_arg a_lev a_lo a_hi a_lazy a_terms a_rowCount a_startOf a_lengthOf a_labels a_outcome a_loop ya_len ya_tried ya_lists ya_matchEntry → P (f_opRow, f_opFirst, f_opFinal, f_opBranch, f_opJump, f_opEnter, f_opNext, f_opDecide, f_opDone, f_catSlot, f_itemSlot, f_rowsSlot, f_timesSlot, f_scratchSlot, nI n, nI bl, nI oc, nI pl, f_codeLen, f_depth, f_excluded, nI tc, nI sm, nI sv, f_resPart, nI R, nI rc, f_top, f_pc, f_pos, f_from, a_vec, a_buf, a_opened, a_pat, a_reads, a_op, a_arg, a_lev, a_lo, a_hi, a_lazy, a_useMax, a_branchAt, a_jumpAt, a_enterAt, a_terms, a_cells, a_rowCount, a_startOf, a_lengthOf, a_labels, a_outcome, a_loop, a_stack) (nI n, nI bl, nI pl, nI tc, nI sm, nI sv, yf_resPart, nI R, nI rc, yf_tooBig, a_buf, a_pat, a_terms, a_cells, a_rowCount, ya_lists, ya_len, a_startOf, ya_matchEntry, ya_tried)) → P u v
theorem i_up {k : Nat} {u : SX} {v : SY} (h : i_Rel k u v) : i_Rel (k + 5) u v := h
section
variable {f_opRow f_opFirst f_opFinal f_opBranch f_opJump f_opEnter f_opNext f_opDecide f_opDone f_catSlot f_itemSlot f_rowsSlot f_timesSlot f_scratchSlot f_size f_bufLen f_openCount f_patLen f_codeLen f_depth f_excluded f_termCount f_skipMode f_skipVar f_resPart f_resRows f_resCount f_top f_pc f_pos f_from : Int32} {a_vec a_buf a_opened a_pat a_reads a_op a_arg a_lev a_lo a_hi a_lazy a_useMax a_branchAt a_jumpAt a_enterAt a_terms a_cells a_rowCount a_startOf a_lengthOf a_labels a_outcome a_loop : Nat → Int32} {a_stack : Nat → Int64}
variable {yf_n yf_count yf_patternCount yf_termCount yf_mode yf_skipVar yf_resPart yf_resRows yf_matchCount yf_tooBig : Int32} {ya_buffer ya_pattern ya_terms ya_cells ya_rowCount ya_len ya_matchStart ya_tried : Nat → Int32} {ya_lists ya_matchEntry : Nat → Int64}
variable {n bl oc pl tc sm sv R rc : Nat} {T : List Nat} {Ms : List (Nat × List Nat)}
theorem rl_mk {k : Nat} (h : rl_F n bl oc pl tc sm sv R rc T Ms f_resPart yf_resPart a_buf a_opened a_reads a_op a_arg a_lev a_lo a_hi a_lazy a_terms a_rowCount a_startOf a_lengthOf a_labels a_outcome a_loop ya_len ya_tried ya_lists ya_matchEntry) : i_Rel k (f_opRow, f_opFirst, f_opFinal, f_opBranch, f_opJump, f_opEnter, f_opNext, f_opDecide, f_opDone, f_catSlot, f_itemSlot, f_rowsSlot, f_timesSlot, f_scratchSlot, nI n, nI bl, nI oc, nI pl, f_codeLen, f_depth, f_excluded, nI tc, nI sm, nI sv, f_resPart, nI R, nI rc, f_top, f_pc, f_pos, f_from, a_vec, a_buf, a_opened, a_pat, a_reads, a_op, a_arg, a_lev, a_lo, a_hi, a_lazy, a_useMax, a_branchAt, a_jumpAt, a_enterAt, a_terms, a_cells, a_rowCount, a_startOf, a_lengthOf, a_labels, a_outcome, a_loop, a_stack) (nI n, nI bl, nI pl, nI tc, nI sm, nI sv, yf_resPart, nI R, nI rc, yf_tooBig, a_buf, a_pat, a_terms, a_cells, a_rowCount, ya_lists, ya_len, a_startOf, ya_matchEntry, ya_tried) :=
  fun P hP => hP n bl oc pl tc sm sv R rc T Ms f_opRow f_opFirst f_opFinal f_opBranch f_opJump f_opEnter f_opNext f_opDecide f_opDone f_catSlot f_itemSlot f_rowsSlot f_timesSlot f_scratchSlot f_codeLen f_depth f_excluded f_resPart f_top f_pc f_pos f_from yf_resPart yf_tooBig a_vec a_buf a_opened a_pat a_reads a_op a_arg a_lev a_lo a_hi a_lazy a_useMax a_branchAt a_jumpAt a_enterAt a_terms a_cells a_rowCount a_startOf a_lengthOf a_labels a_outcome a_loop ya_len ya_tried a_stack ya_lists ya_matchEntry h
end
end
section
/-! ===== the buffer ===== -/
theorem tk_S68 {n : Nat} : ∀ {T : List Nat}, tk_V n T → (∀ x, x ∈ tk_S T → x = 6 ∨ x = 8) ∧ (tk_S T).length ≤ 3 := by
  intro T
  induction T with
  | nil => intro _; exact ⟨(fun x hx => nomatch hx), Nat.zero_le _⟩
  | cons t r ih =>
    intro h
    have hr := ih h.2
    rw [tk_S]
    by_cases h1 : t = 6 ∨ t = 8
    · rw [if_pos h1]
      refine ⟨fun x hx => ?_, ?_⟩
      · rcases List.mem_cons.mp hx with e | e
        · rw [e]; exact h1
        · exact hr.1 x e
      · have := h.1
        unfold tk_c at this
        rw [List.length_cons]
        rcases this with c | c | c | c | c
        · omega
        · omega
        · omega
        · omega
        · obtain ⟨mn, mx, z, e, _⟩ := c.1; omega
    · rw [if_neg h1]
      by_cases h2 : t = 7 ∨ t = 9
      · rw [if_pos h2]
        refine ⟨fun x hx => hr.1 x (List.mem_of_mem_tail hx), ?_⟩
        rw [List.length_tail]; omega
      · rw [if_neg h2]; exact hr
theorem tk_tok {n : Nat} (hn : n ≤ 6) : ∀ {T : List Nat}, tk_V n T → ∀ t, t ∈ T → t < 240 := by
  intro T
  induction T with
  | nil => intro _ t ht; cases ht
  | cons a r ih =>
    intro h t ht
    rcases List.mem_cons.mp ht with e | e
    · subst e
      have := h.1
      unfold tk_c at this
      rcases this with c | c | c | c | c
      · omega
      · omega
      · omega
      · omega
      · obtain ⟨mn, mx, z, e, h1, h2, h3, h4⟩ := c.1; omega
    · exact ih h.2 t e
theorem tk_b0 {r : List Nat} {t : Nat} : (t :: r).getD ((t :: r).length - 1 - r.length) 0 = t := by
  have : (t :: r).length - 1 - r.length = 0 := by rw [List.length_cons]; omega
  rw [this]; rfl
theorem tk_bs {r : List Nat} {t i : Nat} (hi : i < r.length) : (t :: r).getD ((t :: r).length - 1 - i) 0 = r.getD (r.length - 1 - i) 0 := by
  have : (t :: r).length - 1 - i = (r.length - 1 - i) + 1 := by rw [List.length_cons]; omega
  rw [this]; rfl
section
variable {yf_n yf_count yf_patternCount yf_termCount yf_mode yf_skipVar yf_resPart yf_resRows yf_matchCount yf_tooBig : Int32} {ya_buffer ya_pattern ya_terms ya_cells ya_rowCount ya_len ya_matchStart ya_tried : Nat → Int32} {ya_lists ya_matchEntry : Nat → Int64}
variable {post : Int32 → Prop} {n : Nat}
theorem yo_61 {J : Int32 → Int32 → Int32 → Prop} {x2 x4 z0 z1 : Int32} {q : Nat} (h1 : z1 + z0 = 1 → x2 = 0 → J (z1 + z0) x4 (nI q + (-1))) (h2 : (¬ z1 + z0 = 1 ∨ ¬ x2 = 0) → J (z1 + z0) x2 (nI q + (-1))) : wY_openGroups_61 post J x2 (nI q) x4 z0 z1 yf_n yf_count yf_patternCount yf_termCount yf_mode yf_skipVar yf_resPart yf_resRows yf_matchCount yf_tooBig ya_buffer ya_pattern ya_terms ya_cells ya_rowCount ya_lists ya_len ya_matchStart ya_matchEntry ya_tried := by
  refine nm_e (br_c (fun a => br_c (fun b => ?_) (fun b => ?_)) (fun a => ?_))
  · exact nm_e (h1 a b)
  · exact nm_e (h2 (Or.inr b))
  · exact nm_e (h2 (Or.inl a))
theorem yo_step {f : Nat} {t : Nat} {r : List Nat} {x1 x2 : Int32} (ht : t < 240) (hlen : r.length < 24) (hb : ya_buffer r.length = nI t)
    (h : ∀ z : Int32, z = (if t = 6 ∨ t = 8 then 1 else if t = 7 ∨ t = 9 then -1 else 0) → wY_openGroups_61 post (wY_openGroups_11 post yf_n yf_count yf_patternCount yf_termCount yf_mode yf_skipVar yf_resPart yf_resRows yf_matchCount yf_tooBig ya_buffer ya_pattern ya_terms ya_cells ya_rowCount ya_lists ya_len ya_matchStart ya_matchEntry ya_tried f) x2 (nI r.length) (nI t) z x1 yf_n yf_count yf_patternCount yf_termCount yf_mode yf_skipVar yf_resPart yf_resRows yf_matchCount yf_tooBig ya_buffer ya_pattern ya_terms ya_cells ya_rowCount ya_lists ya_len ya_matchStart ya_matchEntry ya_tried) : wY_openGroups_11 post yf_n yf_count yf_patternCount yf_termCount yf_mode yf_skipVar yf_resPart yf_resRows yf_matchCount yf_tooBig ya_buffer ya_pattern ya_terms ya_cells ya_rowCount ya_lists ya_len ya_matchStart ya_matchEntry ya_tried (f + 1) x1 x2 (nI (t :: r).length + (-1)) := by
  have e0 : nI (t :: r).length + (-1) = nI r.length := pk_m1 r.length
  rw [e0]
  refine br_f (nI_pos (by omega)) ⟨vp_in_nI hlen (by omega), ?_⟩
  rw [nI_clamp (n := r.length) (by omega), hb]
  refine nm_e (pk_eq t 6 (fun q => ?_) (fun q => pk_eq t 8 (fun q8 => ?_) (fun q8 => pk_eq t 7 (fun q7 => ?_) (fun q7 => pk_eq t 9 (fun q9 => ?_) (fun q9 => ?_)))))
  · exact h 1 (by rw [if_pos (Or.inl q)])
  · exact h 1 (by rw [if_pos (Or.inr q8)])
  · exact h (-1) (by rw [if_neg (by omega), if_pos (Or.inl q7)])
  · exact h (-1) (by rw [if_neg (by omega), if_pos (Or.inr q9)])
  · exact h 0 (by rw [if_neg (by omega), if_neg (by omega)])
theorem yo_A {o : Int32} (ho : ¬ o = 0) (hn : n ≤ 6) : ∀ (r : List Nat), r.length ≤ 24 → tk_V n r → (∀ i, i < r.length → ya_buffer i = nI (r.getD (r.length - 1 - i) 0)) → ∀ x1 : Int32, post ((10 * (x1 + nI (tk_S r).length)) + o) → wY_openGroups_11 post yf_n yf_count yf_patternCount yf_termCount yf_mode yf_skipVar yf_resPart yf_resRows yf_matchCount yf_tooBig ya_buffer ya_pattern ya_terms ya_cells ya_rowCount ya_lists ya_len ya_matchStart ya_matchEntry ya_tried (r.length + 1) x1 o (nI r.length + (-1)) := by
  intro r
  induction r with
  | nil =>
    intro _ _ _ x1 hp
    refine br_t (by decide) ?_
    have e : x1 + nI (tk_S []).length = x1 := by show x1 + 0 = x1; exact Int32.add_zero x1
    rw [e] at hp
    exact hp
  | cons t r ih =>
    intro hl hV hb x1 hp
    have hb0 := hb r.length (by rw [List.length_cons]; omega)
    rw [tk_b0] at hb0
    rw [List.length_cons] at hl
    refine yo_step (tk_tok hn hV t List.mem_cons_self) (by omega) hb0 (fun z hz => ?_)
    have nx := ih (by omega) hV.2 (fun i hi => by rw [hb i (by rw [List.length_cons]; omega), tk_bs hi]) (x1 + z) (by
      have e : x1 + z + nI (tk_S r).length = x1 + nI (tk_S (t :: r)).length := by
        rw [hz, tk_S]
        by_cases h1 : t = 6 ∨ t = 8
        · rw [if_pos h1, if_pos h1, List.length_cons, nI_succ]
          rw [Int32.add_assoc, Int32.add_comm 1]
        · rw [if_neg h1, if_neg h1]
          by_cases h2 : t = 7 ∨ t = 9
          · rw [if_pos h2, if_pos h2, List.length_tail]
            have hne : 0 < (tk_S r).length := by
              have := hV.1
              unfold tk_c at this
              rcases this with c | c | c | c | c
              · omega
              · omega
              · have := c.2.2
                cases hS : tk_S r with
                | nil => rw [hS] at this; cases this
                | cons a b => exact Nat.succ_pos _
              · omega
              · obtain ⟨mn, mx, z, e, _⟩ := c.1; omega
            obtain ⟨q, hq⟩ : ∃ q, (tk_S r).length = q + 1 := ⟨(tk_S r).length - 1, by omega⟩
            rw [hq, Nat.add_sub_cancel, nI_succ, Int32.add_assoc]
            congr 1
            rw [Int32.add_comm (nI q) 1, ← Int32.add_assoc]
            have : (-1 : Int32) + 1 = 0 := by decide
            rw [this, Int32.zero_add]
          · rw [if_neg h2, if_neg h2, Int32.add_zero]
      rw [e]; exact hp)
    exact yo_61 (fun _ b => absurd b ho) (fun _ => nx)
theorem yo_0 (hn : n ≤ 6) : ∀ (r : List Nat), r.length ≤ 24 → tk_V n r → (∀ i, i < r.length → ya_buffer i = nI (r.getD (r.length - 1 - i) 0)) → ∀ c : Nat, c ≤ (tk_S r).length → c ≤ 24 - r.length → post ((10 * nI ((tk_S r).length - c)) + nI ((tk_S r).getD c 0)) → wY_openGroups_11 post yf_n yf_count yf_patternCount yf_termCount yf_mode yf_skipVar yf_resPart yf_resRows yf_matchCount yf_tooBig ya_buffer ya_pattern ya_terms ya_cells ya_rowCount ya_lists ya_len ya_matchStart ya_matchEntry ya_tried (r.length + 1) (-nI c) 0 (nI r.length + (-1)) := by
  intro r
  induction r with
  | nil =>
    intro _ _ _ c hc _ hp
    have hc0 : c = 0 := Nat.le_zero.mp hc
    subst hc0
    exact br_t (by decide) hp
  | cons t r ih =>
    intro hl hV hb c hc hc24 hp
    have hb0 := hb r.length (by rw [List.length_cons]; omega)
    rw [tk_b0] at hb0
    rw [List.length_cons] at hl hc24
    have hb' : ∀ i, i < r.length → ya_buffer i = nI (r.getD (r.length - 1 - i) 0) := fun i hi => by rw [hb i (by rw [List.length_cons]; omega), tk_bs hi]
    have htok := tk_tok hn hV t List.mem_cons_self
    have h68 := tk_S68 hV.2
    refine yo_step htok (by omega) hb0 (fun z hz => ?_)
    have nt : ∀ w : Nat, w < 100 → ¬ (-nI w = 1) := by
      intro w hw hh
      have h1 := sb_negT (w := w) (by omega)
      rw [hh] at h1
      have h2 : (1 : Int32).toInt = 1 := by decide
      omega
    rw [tk_S] at hc hp
    by_cases h1 : t = 6 ∨ t = 8
    · rw [if_pos h1] at hc hp hz
      subst hz
      cases c with
      | zero =>
        have e1 : -nI 0 + 1 = (1 : Int32) := by decide
        have ho : ¬ nI t = 0 := nI_ne0 (by omega) (by omega)
        have nx : wY_openGroups_11 post yf_n yf_count yf_patternCount yf_termCount yf_mode yf_skipVar yf_resPart yf_resRows yf_matchCount yf_tooBig ya_buffer ya_pattern ya_terms ya_cells ya_rowCount ya_lists ya_len ya_matchStart ya_matchEntry ya_tried (r.length + 1) 1 (nI t) (nI r.length + (-1)) := yo_A ho hn r (by omega) hV.2 hb' 1 (by
          have e2 : (1 : Int32) + nI (tk_S r).length = nI ((t :: tk_S r).length - 0) := by
            rw [Nat.sub_zero, List.length_cons, nI_succ, Int32.add_comm]
          rw [e2]; exact hp)
        refine yo_61 (fun _ _ => ?_) (fun hh => ?_)
        · rw [e1]; exact nx
        · rcases hh with hh | hh
          · exact absurd e1 hh
          · exact absurd rfl hh
      | succ c =>
        have e1 : -nI (c + 1) + 1 = -nI c := by rw [nI_succ]; grind
        have nx := ih (by omega) hV.2 hb' c (by rw [List.length_cons] at hc; omega) (by omega) (by
          have e2 : (t :: tk_S r).length - (c + 1) = (tk_S r).length - c := by rw [List.length_cons]; omega
          rw [e2] at hp; exact hp)
        refine yo_61 (fun hh _ => ?_) (fun _ => ?_)
        · rw [e1] at hh; exact absurd hh (nt c (by omega))
        · rw [e1]; exact nx
    · rw [if_neg h1] at hc hp hz
      by_cases h2 : t = 7 ∨ t = 9
      · rw [if_pos h2] at hc hp hz
        subst hz
        have e1 : -nI c + (-1) = -nI (c + 1) := by rw [nI_succ]; grind
        have nx := ih (by omega) hV.2 hb' (c + 1) (by
          have hne : 0 < (tk_S r).length := by
            have := hV.1
            unfold tk_c at this
            rcases this with c | c | c | c | c
            · omega
            · omega
            · have := c.2.2
              cases hS : tk_S r with
              | nil => rw [hS] at this; cases this
              | cons a b => exact Nat.succ_pos _
            · omega
            · obtain ⟨mn, mx, z, e, _⟩ := c.1; omega
          rw [List.length_tail] at hc; omega) (by omega) (by
          have e2 : (tk_S r).tail.length - c = (tk_S r).length - (c + 1) := by rw [List.length_tail]; omega
          have e3 : (tk_S r).tail.getD c 0 = (tk_S r).getD (c + 1) 0 := by
            rw [List.getD_eq_getElem?_getD, List.getD_eq_getElem?_getD, List.getElem?_tail]
          rw [e2, e3] at hp; exact hp)
        refine yo_61 (fun hh _ => ?_) (fun _ => ?_)
        · rw [e1] at hh; exact absurd hh (nt (c + 1) (by omega))
        · rw [e1]; exact nx
      · rw [if_neg h2] at hc hp hz
        subst hz
        have e1 : -nI c + 0 = -nI c := Int32.add_zero _
        have nx := ih (by omega) hV.2 hb' c hc (by omega) hp
        refine yo_61 (fun hh _ => ?_) (fun _ => ?_)
        · rw [e1] at hh; exact absurd hh (nt c (by omega))
        · rw [e1]; exact nx
theorem yo_open {T : List Nat} (hn : n ≤ 6) (hl : T.length ≤ 24) (hV : tk_V n T) (hb : ∀ i, i < T.length → ya_buffer i = nI (T.getD (T.length - 1 - i) 0)) (hp : post ((10 * nI (tk_S T).length) + nI ((tk_S T).getD 0 0))) : wpY_openGroups post (yf_n, nI T.length, yf_patternCount, yf_termCount, yf_mode, yf_skipVar, yf_resPart, yf_resRows, yf_matchCount, yf_tooBig, ya_buffer, ya_pattern, ya_terms, ya_cells, ya_rowCount, ya_lists, ya_len, ya_matchStart, ya_matchEntry, ya_tried) := by
  have e : nI T.length - 1 = nI T.length + (-1) := by grind
  refine nm_r e ⟨T.length + 1, ?_⟩
  exact yo_0 hn T hl hV hb 0 (Nat.zero_le _) (by omega) (by rw [Nat.sub_zero]; exact hp)
theorem yo_ends {T : List Nat} (hn : n ≤ 6) (hl : T.length ≤ 24) (hV : tk_V n T) (hb : ∀ i, i < T.length → ya_buffer i = nI (T.getD (T.length - 1 - i) 0)) (h1 : tk_ae T → post 1) (h0 : ¬ tk_ae T → post 0) : wpY_endsAtom post (yf_n, nI T.length, yf_patternCount, yf_termCount, yf_mode, yf_skipVar, yf_resPart, yf_resRows, yf_matchCount, yf_tooBig, ya_buffer, ya_pattern, ya_terms, ya_cells, ya_rowCount, ya_lists, ya_len, ya_matchStart, ya_matchEntry, ya_tried) := by
  cases T with
  | nil =>
    refine br_t nI_0 ?_
    exact br_f (by decide) (br_f (by decide) (br_f (by decide) (h0 (fun h => h))))
  | cons t r =>
    have hb0 := hb r.length (by rw [List.length_cons]; omega)
    rw [tk_b0] at hb0
    have htok := tk_tok hn hV t List.mem_cons_self
    rw [List.length_cons] at hl
    have e0 : nI (t :: r).length - 1 = nI r.length := nI_pred r.length
    refine br_f (nI_ne0 (by rw [List.length_cons]; omega) (by rw [List.length_cons]; omega)) ?_
    rw [e0, nI_clamp (n := r.length) (by omega), hb0]
    refine ⟨vp_in_nI (by omega) (by omega), pk_le t 5 (fun q => h1 (Or.inl q)) (fun q => pk_eq t 7 (fun q7 => h1 (Or.inr (Or.inl q7))) (fun q7 => pk_eq t 9 (fun q9 => h1 (Or.inr (Or.inr q9))) (fun q9 => h0 ?_)))⟩
    intro hh
    rcases hh with hh | hh | hh <;> omega
end
section
variable {f_opRow f_opFirst f_opFinal f_opBranch f_opJump f_opEnter f_opNext f_opDecide f_opDone f_catSlot f_itemSlot f_rowsSlot f_timesSlot f_scratchSlot f_size f_bufLen f_openCount f_patLen f_codeLen f_depth f_excluded f_termCount f_skipMode f_skipVar f_resPart f_resRows f_resCount f_top f_pc f_pos f_from : Int32} {a_vec a_buf a_opened a_pat a_reads a_op a_arg a_lev a_lo a_hi a_lazy a_useMax a_branchAt a_jumpAt a_enterAt a_terms a_cells a_rowCount a_startOf a_lengthOf a_labels a_outcome a_loop : Nat → Int32} {a_stack : Nat → Int64}
theorem xo_ends {post : Int32 → Prop} {n : Nat} {T : List Nat} (hn : n ≤ 6) (hl : T.length ≤ 24) (hV : tk_V n T) (hb : ∀ i, i < T.length → a_buf i = nI (T.getD (T.length - 1 - i) 0)) (h1 : tk_ie T → post 1) (h0 : ¬ tk_ie T → post 0) : wpX_itemEnds post (f_opRow, f_opFirst, f_opFinal, f_opBranch, f_opJump, f_opEnter, f_opNext, f_opDecide, f_opDone, f_catSlot, f_itemSlot, f_rowsSlot, f_timesSlot, f_scratchSlot, f_size, nI T.length, f_openCount, f_patLen, f_codeLen, f_depth, f_excluded, f_termCount, f_skipMode, f_skipVar, f_resPart, f_resRows, f_resCount, f_top, f_pc, f_pos, f_from, a_vec, a_buf, a_opened, a_pat, a_reads, a_op, a_arg, a_lev, a_lo, a_hi, a_lazy, a_useMax, a_branchAt, a_jumpAt, a_enterAt, a_terms, a_cells, a_rowCount, a_startOf, a_lengthOf, a_labels, a_outcome, a_loop, a_stack) := by
  cases T with
  | nil => exact br_t nI_0 (h0 (fun h => h))
  | cons t r =>
    have hb0 := hb r.length (by rw [List.length_cons]; omega)
    rw [tk_b0] at hb0
    have htok := tk_tok hn hV t List.mem_cons_self
    rw [List.length_cons] at hl
    have e0 : nI (t :: r).length - 1 = nI r.length := nI_pred r.length
    refine br_f (nI_ne0 (by rw [List.length_cons]; omega) (by rw [List.length_cons]; omega)) ?_
    rw [e0, nI_clamp (n := r.length) (by omega), hb0]
    refine ⟨vp_in_nI (by omega) (by omega), nm_e (pk_le t 5 (fun q => h1 (Or.inl q)) (fun q => pk_eq t 7 (fun q7 => h1 (Or.inr (Or.inl q7))) (fun q7 => pk_eq t 9 (fun q9 => h1 (Or.inr (Or.inr (Or.inl q9)))) (fun q9 => pk_lt t 100 (fun q => h0 ?_) (fun q => h1 (Or.inr (Or.inr (Or.inr q))))))))⟩
    intro hh
    rcases hh with hh | hh | hh | hh <;> omega
end
end
section
/-! ===== the short calls ===== -/
theorem ez_0 (n : Nat) (h2 : 2 ≤ n) (h6 : n ≤ 6) : rl_F n 0 0 0 0 0 0 0 0 [] [] (-1) 0 (fun _ => 0) (fun _ => 0) (fun _ => 0) (fun _ => 0) (fun _ => 0) (fun _ => 0) (fun _ => 0) (fun _ => 0) (fun _ => 0) (fun _ => 0) (fun _ => 0) (fun _ => 0) (fun _ => 0) (fun _ => 0) (fun _ => 0) (fun _ => 0) (fun _ => 0) (fun _ => 0) (fun _ => 0) (fun _ => 0) := by
  refine ⟨⟨h2, h6⟩, ⟨by omega, by omega⟩, ⟨rfl, by omega, trivial, fun i hi => by omega, rfl, fun i hi => by omega⟩, ⟨by omega, Or.inl rfl⟩, ⟨by omega, fun k hk => by omega⟩, fun p _ => ⟨0, rfl, by omega⟩, ⟨by omega, rfl, by omega, Or.inl ⟨rfl, rfl, rfl⟩, fun m hm => by omega, fun r hr => by omega, fun j _ => ⟨0, rfl, by omega⟩⟩⟩
theorem i_vc0 (k0 : Int32) : wpX_init (fun u => wpY_init (fun v => i_Rel 1 u v) k0) k0 := by
  have m : ∀ (z : Int32) (n : Nat), z = nI n → 2 ≤ n → n ≤ 6 → i_Rel 1 (0, 1, 2, 3, 4, 5, 6, 7, 8, 4, 8, 9, 10, 11, z, 0, 0, 0, 0, 0, 0, 0, 0, 0, (-1), 0, 0, 0, 0, 0, 0, (fun _ => 0), (fun _ => 0), (fun _ => 0), (fun _ => 0), (fun _ => 0), (fun _ => 0), (fun _ => 0), (fun _ => 0), (fun _ => 0), (fun _ => 0), (fun _ => 0), (fun _ => 0), (fun _ => 0), (fun _ => 0), (fun _ => 0), (fun _ => 0), (fun _ => 0), (fun _ => 0), (fun _ => 0), (fun _ => 0), (fun _ => 0), (fun _ => 0), (fun _ => 0), (fun _ => 0)) (z, 0, 0, 0, 0, 0, 0, 0, 0, 0, (fun _ => 0), (fun _ => 0), (fun _ => 0), (fun _ => 0), (fun _ => 0), (fun _ => 0), (fun _ => 0), (fun _ => 0), (fun _ => 0), (fun _ => 0)) := by
    intro z n hz h2 h6
    subst hz
    exact rl_mk (n := n) (bl := 0) (oc := 0) (pl := 0) (tc := 0) (sm := 0) (sv := 0) (R := 0) (rc := 0) (ez_0 n h2 h6)
  refine br_c (fun h => br_c (fun h2 => ?_) (fun h2 => ?_)) (fun h => ?_)
  · refine br_t h (br_t h2 ?_)
    have h0 : ¬ k0 < 0 := fun q => by
      have := Int32.lt_iff_toInt_lt.mp q
      have := Int32.le_iff_toInt_le.mp h
      have e1 : (2 : Int32).toInt = 2 := by decide
      have e2 : (0 : Int32).toInt = 0 := by decide
      omega
    obtain ⟨j, hj, rfl⟩ := nI_of h0
    exact m (nI j) j rfl ((nI_leI (a := 2) (by omega) (by omega)).mp h) ((nI_leI (b := 6) (by omega) (by omega)).mp h2)
  · exact br_t h (br_f h2 (m 6 6 rfl (by omega) (by omega)))
  · exact br_f h (m 2 2 rfl (by omega) (by omega))
theorem i_vc_skip {k : Nat} {u : SX} {v : SY} (I : i_Rel k u v) (hk : k + 5 ≤ 2561) (v1 : Int32) (v2 : Int32) : wpX_skip (fun r u' => wpY_skip (fun r' v' => r' = r ∧ i_Rel (k + 5) u' v') v v1 v2) u v1 v2 := by
  refine I (fun u v => wpX_skip (fun r u' => wpY_skip (fun r' v' => r' = r ∧ i_Rel (k + 5) u' v') v v1 v2) u v1 v2) ?_
  intro n bl oc pl tc sm sv R rc T Ms f_opRow f_opFirst f_opFinal f_opBranch f_opJump f_opEnter f_opNext f_opDecide f_opDone f_catSlot f_itemSlot f_rowsSlot f_timesSlot f_scratchSlot f_codeLen f_depth f_excluded f_resPart f_top f_pc f_pos f_from yf_resPart yf_tooBig a_vec a_buf a_opened a_pat a_reads a_op a_arg a_lev a_lo a_hi a_lazy a_useMax a_branchAt a_jumpAt a_enterAt a_terms a_cells a_rowCount a_startOf a_lengthOf a_labels a_outcome a_loop ya_len ya_tried a_stack ya_lists ya_matchEntry hF
  refine br_c (fun h1 => br_t h1 ⟨rfl, rl_mk hF⟩) (fun h1 => br_c (fun h2 => br_f h1 (br_t h2 ⟨rfl, rl_mk hF⟩)) (fun h2 => br_c (fun h3 => br_f h1 (br_f h2 (br_t h3 ⟨rfl, rl_mk hF⟩))) (fun h3 => br_c (fun h4 => br_f h1 (br_f h2 (br_f h3 (br_t h4 ⟨rfl, ?_⟩)))) (fun h4 => br_f h1 (br_f h2 (br_f h3 (br_f h4 ⟨rfl, rl_mk hF⟩)))))))
  obtain ⟨a, ha, rfl⟩ := nI_of2 (M := 3) (n := 3) (by decide) h1 (Int32.not_lt.mp h2)
  obtain ⟨b, hb, rfl⟩ := nI_of2 (M := 3) (n := 3) (by decide) h3 h4
  exact rl_mk ⟨hF.1, ⟨by omega, by omega⟩, hF.2.2⟩
theorem i_vc_matches {k : Nat} {u : SX} {v : SY} (I : i_Rel k u v) (hk : k + 5 ≤ 2561) : wpX_matches (fun r => wpY_matches (fun r' => r' = r ∧ i_Rel (k + 5) u v) v) u := by
  refine I (fun u v => wpX_matches (fun r => wpY_matches (fun r' => r' = r ∧ i_Rel (k + 5) u v) v) u) ?_
  intro n bl oc pl tc sm sv R rc T Ms f_opRow f_opFirst f_opFinal f_opBranch f_opJump f_opEnter f_opNext f_opDecide f_opDone f_catSlot f_itemSlot f_rowsSlot f_timesSlot f_scratchSlot f_codeLen f_depth f_excluded f_resPart f_top f_pc f_pos f_from yf_resPart yf_tooBig a_vec a_buf a_opened a_pat a_reads a_op a_arg a_lev a_lo a_hi a_lazy a_useMax a_branchAt a_jumpAt a_enterAt a_terms a_cells a_rowCount a_startOf a_lengthOf a_labels a_outcome a_loop ya_len ya_tried a_stack ya_lists ya_matchEntry hF
  exact ⟨rfl, rl_mk hF⟩
theorem i_vc_start {k : Nat} {u : SX} {v : SY} (I : i_Rel k u v) (hk : k + 5 ≤ 2561) (v1 : Int32) : wpX_start (fun r => wpY_start (fun r' => r' = r ∧ i_Rel (k + 5) u v) v v1) u v1 := by
  refine I (fun u v => wpX_start (fun r => wpY_start (fun r' => r' = r ∧ i_Rel (k + 5) u v) v v1) u v1) ?_
  intro n bl oc pl tc sm sv R rc T Ms f_opRow f_opFirst f_opFinal f_opBranch f_opJump f_opEnter f_opNext f_opDecide f_opDone f_catSlot f_itemSlot f_rowsSlot f_timesSlot f_scratchSlot f_codeLen f_depth f_excluded f_resPart f_top f_pc f_pos f_from yf_resPart yf_tooBig a_vec a_buf a_opened a_pat a_reads a_op a_arg a_lev a_lo a_hi a_lazy a_useMax a_branchAt a_jumpAt a_enterAt a_terms a_cells a_rowCount a_startOf a_lengthOf a_labels a_outcome a_loop ya_len ya_tried a_stack ya_lists ya_matchEntry hF
  have hrc : rc ≤ 6 := hF.2.2.2.2.2.2.2.2.1
  refine br_c (fun h1 => br_t h1 ⟨rfl, rl_mk hF⟩) (fun h1 => br_c (fun h2 => ?_) (fun h2 => ?_))
  · obtain ⟨j, hj, rfl⟩ := nI_of h1
    have hj2 : j < rc := (nI_ltI hj (by omega)).mp h2
    exact ⟨vp_in_nI (by omega) (by omega), br_f h1 (br_t h2 ⟨vp_in_nI (by omega) (by omega), rfl, rl_mk hF⟩)⟩
  · exact br_f h1 (br_f h2 ⟨rfl, rl_mk hF⟩)
/-- one length for both -/
theorem ez_len {n R rc : Nat} {part yp : Int32} {Ms : List (Nat × List Nat)} {st ln lab out lp : Nat → Int32} {me : Nat → Int64} {tr : Nat → Int32} (h6 : n ≤ 6) (hR : rl_R n R rc part yp Ms st ln lab out lp me tr) {m : Nat} (hm : m < rc) : (me m &&& 7).toInt32 = ln m := by
  have h := hR.2.2.2.2.1 m hm
  rw [h.2.2.1, h.2.1, cw_size (by have := h.2.2.2.1.2; omega)]
end
section
/-! ===== the calls that read results ===== -/
section
variable {yf_n yf_count yf_patternCount yf_termCount yf_mode yf_skipVar yf_resPart yf_resRows yf_matchCount yf_tooBig : Int32} {ya_buffer ya_pattern ya_terms ya_cells ya_rowCount ya_len ya_matchStart ya_tried : Nat → Int32} {ya_lists ya_matchEntry : Nat → Int64}
variable {n R rc : Nat} {part : Int32} {Ms : List (Nat × List Nat)} {st ln lab out lp : Nat → Int32}
theorem ez_ylen {post : Int32 → Prop} {m : Int32} (h6 : n ≤ 6) (hR : rl_R n R rc part yf_resPart Ms ya_matchStart ln lab out lp ya_matchEntry ya_tried) (h1 : m < 0 → post (-1)) (h2 : ¬ m < 0 → ¬ m < nI rc → post (-1)) (h3 : ∀ j : Nat, m = nI j → j < rc → post (ln j)) : wpY_length post (yf_n, yf_count, yf_patternCount, yf_termCount, yf_mode, yf_skipVar, yf_resPart, yf_resRows, nI rc, yf_tooBig, ya_buffer, ya_pattern, ya_terms, ya_cells, ya_rowCount, ya_lists, ya_len, ya_matchStart, ya_matchEntry, ya_tried) m := by
  have hrc := hR.2.2.1
  refine br_c h1 (fun q => br_c (fun q2 => ?_) (fun q2 => h2 q q2))
  obtain ⟨j, hj, rfl⟩ := nI_of q
  have hj2 : j < rc := (nI_ltI hj (by omega)).mp q2
  unfold wpY_size
  dsimp only
  rw [nI_clamp (n := j) (by omega), ez_len h6 hR hj2]
  exact ⟨vp_in_nI (by omega) (by omega), h3 j rfl hj2⟩
end
theorem i_vc_length {k : Nat} {u : SX} {v : SY} (I : i_Rel k u v) (hk : k + 5 ≤ 2561) (v1 : Int32) : wpX_length (fun r => wpY_length (fun r' => r' = r ∧ i_Rel (k + 5) u v) v v1) u v1 := by
  refine I (fun u v => wpX_length (fun r => wpY_length (fun r' => r' = r ∧ i_Rel (k + 5) u v) v v1) u v1) ?_
  intro n bl oc pl tc sm sv R rc T Ms f_opRow f_opFirst f_opFinal f_opBranch f_opJump f_opEnter f_opNext f_opDecide f_opDone f_catSlot f_itemSlot f_rowsSlot f_timesSlot f_scratchSlot f_codeLen f_depth f_excluded f_resPart f_top f_pc f_pos f_from yf_resPart yf_tooBig a_vec a_buf a_opened a_pat a_reads a_op a_arg a_lev a_lo a_hi a_lazy a_useMax a_branchAt a_jumpAt a_enterAt a_terms a_cells a_rowCount a_startOf a_lengthOf a_labels a_outcome a_loop ya_len ya_tried a_stack ya_lists ya_matchEntry hF
  have h6 := hF.1.2
  have hR := hF.2.2.2.2.2.2
  have hrc := hR.2.2.1
  refine br_c (fun h1 => ?_) (fun h1 => br_c (fun h2 => ?_) (fun h2 => ?_))
  · exact ez_ylen h6 hR (fun _ => ⟨rfl, rl_mk hF⟩) (fun q => absurd h1 q) (fun j hj hj2 => absurd h1 (by rw [hj]; exact nI_pos (by omega)))
  · obtain ⟨j, hj, rfl⟩ := nI_of h1
    have hj2 : j < rc := (nI_ltI hj (by omega)).mp h2
    refine ⟨vp_in_nI (by omega) (by omega), ?_⟩
    refine ez_ylen h6 hR (fun q => absurd q h1) (fun _ q => absurd h2 q) (fun i hi hi2 => ⟨?_, rl_mk hF⟩)
    rw [nI_clamp (n := j) (by omega), (nI_eq (by omega) (by omega)).mp hi]
  · refine ez_ylen h6 hR (fun q => absurd q h1) (fun _ _ => ⟨rfl, rl_mk hF⟩) (fun i hi hi2 => absurd (nI_lt hi2 (by omega)) (by rw [← hi]; exact h2))
section
variable {f_opRow f_opFirst f_opFinal f_opBranch f_opJump f_opEnter f_opNext f_opDecide f_opDone f_catSlot f_itemSlot f_rowsSlot f_timesSlot f_scratchSlot f_size f_bufLen f_openCount f_patLen f_codeLen f_depth f_excluded f_termCount f_skipMode f_skipVar f_resPart f_resRows f_resCount f_top f_pc f_pos f_from : Int32} {a_vec a_buf a_opened a_pat a_reads a_op a_arg a_lev a_lo a_hi a_lazy a_useMax a_branchAt a_jumpAt a_enterAt a_terms a_cells a_rowCount a_startOf a_lengthOf a_labels a_outcome a_loop : Nat → Int32} {a_stack : Nat → Int64}
theorem ez_has {post : Int32 → Prop} {n R rc : Nat} {yp : Int32} {Ms : List (Nat × List Nat)} {me : Nat → Int64} {tr : Nat → Int32} {m i : Int32} (h6 : n ≤ 6) (hR : rl_R n R rc f_resPart yp Ms a_startOf a_lengthOf a_labels a_outcome a_loop me tr)
    (h0 : (m < 0 ∨ ¬ m < nI rc ∨ i < 0 ∨ ∃ j : Nat, m = nI j ∧ j < rc ∧ a_lengthOf j ≤ i) → post 0) (h1 : ∀ a b : Nat, m = nI a → a < rc → i = nI b → b < wd_sz (Ms.getD a (0, [])).2 → post 1) : wpX_hasRow post (f_opRow, f_opFirst, f_opFinal, f_opBranch, f_opJump, f_opEnter, f_opNext, f_opDecide, f_opDone, f_catSlot, f_itemSlot, f_rowsSlot, f_timesSlot, f_scratchSlot, f_size, f_bufLen, f_openCount, f_patLen, f_codeLen, f_depth, f_excluded, f_termCount, f_skipMode, f_skipVar, f_resPart, f_resRows, nI rc, f_top, f_pc, f_pos, f_from, a_vec, a_buf, a_opened, a_pat, a_reads, a_op, a_arg, a_lev, a_lo, a_hi, a_lazy, a_useMax, a_branchAt, a_jumpAt, a_enterAt, a_terms, a_cells, a_rowCount, a_startOf, a_lengthOf, a_labels, a_outcome, a_loop, a_stack) m i := by
  have hrc := hR.2.2.1
  refine br_c (fun q => h0 (Or.inl q)) (fun q => br_c (fun q2 => h0 (Or.inr (Or.inl (Int32.not_lt.mpr q2)))) (fun q2 => br_c (fun q3 => h0 (Or.inr (Or.inr (Or.inl q3)))) (fun q3 => ?_)))
  obtain ⟨j, hj, rfl⟩ := nI_of q
  have hj2 : j < rc := by
    rcases Nat.lt_or_ge j rc with h | h
    · exact h
    · exact absurd (nI_le h hj) q2
  have hm := hR.2.2.2.2.1 j hj2
  rw [nI_clamp (n := j) (by omega)]
  refine ⟨vp_in_nI (by omega) (by omega), br_c (fun q4 => h0 (Or.inr (Or.inr (Or.inr ⟨j, rfl, hj2, q4⟩)))) (fun q4 => ?_)⟩
  obtain ⟨b, hb, rfl⟩ := nI_of q3
  refine h1 j b rfl hj2 rfl ?_
  rw [hm.2.1] at q4
  rcases Nat.lt_or_ge b (wd_sz (Ms.getD j (0, [])).2) with h | h
  · exact h
  · exact absurd (nI_le h hb) q4
end
theorem i_vc_label {k : Nat} {u : SX} {v : SY} (I : i_Rel k u v) (hk : k + 5 ≤ 2561) (v1 : Int32) (v2 : Int32) : wpX_label (fun r => wpY_label (fun r' => r' = r ∧ i_Rel (k + 5) u v) v v1 v2) u v1 v2 := by
  refine I (fun u v => wpX_label (fun r => wpY_label (fun r' => r' = r ∧ i_Rel (k + 5) u v) v v1 v2) u v1 v2) ?_
  intro n bl oc pl tc sm sv R rc T Ms f_opRow f_opFirst f_opFinal f_opBranch f_opJump f_opEnter f_opNext f_opDecide f_opDone f_catSlot f_itemSlot f_rowsSlot f_timesSlot f_scratchSlot f_codeLen f_depth f_excluded f_resPart f_top f_pc f_pos f_from yf_resPart yf_tooBig a_vec a_buf a_opened a_pat a_reads a_op a_arg a_lev a_lo a_hi a_lazy a_useMax a_branchAt a_jumpAt a_enterAt a_terms a_cells a_rowCount a_startOf a_lengthOf a_labels a_outcome a_loop ya_len ya_tried a_stack ya_lists ya_matchEntry hF
  have h6 := hF.1.2
  have hR := hF.2.2.2.2.2.2
  have hrc := hR.2.2.1
  unfold wpX_label
  dsimp only
  refine ez_has h6 hR ?_ ?_
  · intro hh
    refine br_t rfl ?_
    refine br_c (fun _ => ⟨rfl, rl_mk hF⟩) (fun q => ?_)
    refine ez_ylen h6 hR (fun _ => br_f ?_ ⟨rfl, rl_mk hF⟩) (fun _ _ => br_f ?_ ⟨rfl, rl_mk hF⟩) (fun j hj hj2 => br_f ?_ ⟨rfl, rl_mk hF⟩)
    · intro hx; have := Int32.lt_trans hx (by decide : (-1 : Int32) < 0); exact q this
    · intro hx; have := Int32.lt_trans hx (by decide : (-1 : Int32) < 0); exact q this
    · subst hj
      rcases hh with hh | hh | hh | ⟨i, hi, hi2, hh⟩
      · exact absurd hh (nI_pos (by omega))
      · exact absurd (nI_lt hj2 (by omega)) hh
      · exact absurd hh q
      · have : j = i := (nI_eq (by omega) (by omega)).mp hi
        subst this
        exact Int32.not_lt.mpr hh
  · intro a b ha ha2 hb hb2
    refine br_f (by decide) ?_
    subst ha hb
    have hm := hR.2.2.2.2.1 a ha2
    have hw := hm.2.2.2.1.2
    have e1 : nI a * 6 + nI b = nI (6 * a + b) := by
      have b1 : nI a * 6 = nI (a * 6) := pk_mul a 6
      rw [b1, nI_add]; exact congrArg nI (by omega)
    rw [e1, nI_clamp (n := 6 * a + b) (by omega)]
    refine ⟨vp_in_nI (by omega) (by omega), br_f (nI_pos (by omega)) ?_⟩
    refine ez_ylen h6 hR (fun q => absurd q (nI_pos (by omega))) (fun _ q => absurd (nI_lt ha2 (by omega)) q) (fun j hj hj2 => ?_)
    have : a = j := (nI_eq (by omega) (by omega)).mp hj
    subst this
    unfold wpY_sign
    dsimp only
    rw [nI_clamp (n := a) (by omega), hm.2.1, hm.2.2.1]
    refine br_t (nI_lt hb2 (by omega)) ⟨vp_in_nI (by omega) (by omega), ?_, rl_mk hF⟩
    rw [(cw_sign (by omega) hb2).1, hm.2.2.2.2.2 b hb2]
theorem i_vc_measure {k : Nat} {u : SX} {v : SY} (I : i_Rel k u v) (hk : k + 5 ≤ 2561) (v1 : Int32) (v2 : Int32) (v3 : Int32) (v4 : Int32) : wpX_measure (fun r => wpY_measure (fun r' => r' = r ∧ i_Rel (k + 5) u v) v v1 v2 v3 v4) u v1 v2 v3 v4 := by
  refine I (fun u v => wpX_measure (fun r => wpY_measure (fun r' => r' = r ∧ i_Rel (k + 5) u v) v v1 v2 v3 v4) u v1 v2 v3 v4) ?_
  intro n bl oc pl tc sm sv R rc T Ms f_opRow f_opFirst f_opFinal f_opBranch f_opJump f_opEnter f_opNext f_opDecide f_opDone f_catSlot f_itemSlot f_rowsSlot f_timesSlot f_scratchSlot f_codeLen f_depth f_excluded f_resPart f_top f_pc f_pos f_from yf_resPart yf_tooBig a_vec a_buf a_opened a_pat a_reads a_op a_arg a_lev a_lo a_hi a_lazy a_useMax a_branchAt a_jumpAt a_enterAt a_terms a_cells a_rowCount a_startOf a_lengthOf a_labels a_outcome a_loop ya_len ya_tried a_stack ya_lists ya_matchEntry hF
  have h6 := hF.1.2
  have hR := hF.2.2.2.2.2.2
  have hrc := hR.2.2.1
  unfold wpX_measure
  dsimp only
  refine ez_has h6 hR ?_ ?_
  · intro hh
    refine br_t rfl ?_
    refine br_c (fun _ => ⟨rfl, rl_mk hF⟩) (fun q => ?_)
    refine ez_ylen h6 hR (fun _ => br_t ?_ ⟨rfl, rl_mk hF⟩) (fun _ _ => br_t ?_ ⟨rfl, rl_mk hF⟩) (fun j hj hj2 => br_t ?_ ⟨rfl, rl_mk hF⟩)
    · exact Int32.le_trans (by decide : (-1 : Int32) ≤ 0) (Int32.not_lt.mp q)
    · exact Int32.le_trans (by decide : (-1 : Int32) ≤ 0) (Int32.not_lt.mp q)
    · subst hj
      rcases hh with hh | hh | hh | ⟨i, hi, hi2, hh⟩
      · exact absurd hh (nI_pos (by omega))
      · exact absurd (nI_lt hj2 (by omega)) hh
      · exact absurd hh q
      · have : j = i := (nI_eq (by omega) (by omega)).mp hi
        subst this
        exact hh
  · intro a b ha ha2 hb hb2
    refine br_f (by decide) ?_
    subst ha hb
    have hm := hR.2.2.2.2.1 a ha2
    have hw := hm.2.2.2.1.2
    obtain ⟨p, hp3, hp1, hp2⟩ : ∃ p : Nat, p < 3 ∧ f_resPart = nI p ∧ yf_resPart = nI p := by
      rcases hR.2.2.2.1 with h | h
      · omega
      · exact h
    subst hp1 hp2
    have hb1 : ¬ nI b < 0 := nI_pos (by omega)
    have hle : ¬ nI (wd_sz (Ms.getD a (0, [])).2) ≤ nI b := nI_ge hb2 (by omega)
    have yl : ∀ {post : Int32 → Prop}, post (nI (wd_sz (Ms.getD a (0, [])).2)) → wpY_length post (nI n, nI bl, nI pl, nI tc, nI sm, nI sv, nI p, nI R, nI rc, yf_tooBig, a_buf, a_pat, a_terms, a_cells, a_rowCount, ya_lists, ya_len, a_startOf, ya_matchEntry, ya_tried) (nI a) := by
      intro post hpost
      refine ez_ylen h6 hR (fun q => absurd q (nI_pos (by omega))) (fun _ q => absurd (nI_lt ha2 (by omega)) q) (fun j hj hj2 => ?_)
      have : a = j := (nI_eq (by omega) (by omega)).mp hj
      subst this
      rw [hm.2.1]
      exact hpost
    refine br_c (fun q => br_f hb1 (yl (br_f hle (br_t q ⟨rfl, rl_mk hF⟩)))) (fun q => br_c (fun q2 => br_f hb1 (yl (br_f hle (br_f q (br_t q2 ⟨rfl, rl_mk hF⟩))))) (fun q2 => br_c (fun q3 => br_f hb1 (yl (br_f hle (br_f q (br_f q2 (br_t q3 ⟨rfl, rl_mk hF⟩)))))) (fun q3 => br_c (fun q4 => ?_) (fun q4 => br_f hb1 (yl (br_f hle (br_f q (br_f q2 (br_f q3 (br_f q4 ⟨rfl, rl_mk hF⟩))))))))))
    obtain ⟨ref, href, rfl⟩ := nI_of2 (M := 9) (n := 9) (by decide) q3 q4
    refine ⟨vp_in_nI (by omega) (by omega), ?_⟩
    have a1 : nI p * 12 + a_startOf (nI a).toNatClampNeg * 2 = nI (12 * p + 2 * (Ms.getD a (0, [])).1) := by
      rw [nI_clamp (n := a) (by omega), hm.1]
      have b1 : nI p * 12 = nI (p * 12) := pk_mul p 12
      have b2 : nI (Ms.getD a (0, [])).1 * 2 = nI ((Ms.getD a (0, [])).1 * 2) := pk_mul _ 2
      rw [b1, b2, nI_add]; exact congrArg nI (by omega)
    have a2 : nI a * 6 = nI (6 * a) := by
      have b1 : nI a * 6 = nI (a * 6) := pk_mul a 6
      rw [b1]; exact congrArg nI (by omega)
    have a3 : nI b + 1 = nI (b + 1) := nI_1 b
    have hRn := hR.1
    have hs := hm.2.2.2.2.1
    rw [a1, a2, a3]
    refine hx_sum (lab := fun j => (wd_sg (Ms.getD a (0, [])).2).getD j 0) (fun j hj => ⟨hm.2.2.2.2.2 j (by omega), (cw_sign (by omega) (by omega)).2⟩) (by omega) (by omega) href ?_
    refine br_f hb1 (yl (br_f hle (br_f q (br_f q2 (br_f q3 (br_t q4 ⟨vp_in_nI (by omega) (by omega), vp_in_nI (by omega) (by omega), ?_⟩))))))
    rw [nI_clamp (n := a) (by omega), hm.1, hm.2.2.1, nI_1]
    exact hy_sum (lab := fun j => (wd_sg (Ms.getD a (0, [])).2).getD j 0) (fun j hj => cw_sign (by omega) (by omega)) (by omega) href ⟨rfl, rl_mk hF⟩
end
section
/-! ===== fate, readings, peek, clear, term, addRow ===== -/
def ez_cv (r : Nat) (Ms : List (Nat × List Nat)) : Nat → Nat
  | 0 => 0
  | m + 1 => if (Ms.getD m (0, [])).1 ≤ r ∧ r < (Ms.getD m (0, [])).1 + wd_sz (Ms.getD m (0, [])).2 then ez_cv r Ms m + 1 else ez_cv r Ms m
section
variable {f_opRow f_opFirst f_opFinal f_opBranch f_opJump f_opEnter f_opNext f_opDecide f_opDone f_catSlot f_itemSlot f_rowsSlot f_timesSlot f_scratchSlot f_size f_bufLen f_openCount f_patLen f_codeLen f_depth f_excluded f_termCount f_skipMode f_skipVar f_resPart f_resRows f_resCount f_top f_pc f_pos f_from : Int32} {a_vec a_buf a_opened a_pat a_reads a_op a_arg a_lev a_lo a_hi a_lazy a_useMax a_branchAt a_jumpAt a_enterAt a_terms a_cells a_rowCount a_startOf a_lengthOf a_labels a_outcome a_loop : Nat → Int32} {a_stack : Nat → Int64}
theorem ez_fx {post : Int32 → Prop} {n R rc r : Nat} {yp : Int32} {Ms : List (Nat × List Nat)} {me : Nat → Int64} {tr : Nat → Int32} (h6 : n ≤ 6) (hr : r < R) (hR : rl_R n R rc f_resPart yp Ms a_startOf a_lengthOf a_labels a_outcome a_loop me tr) (hp : post ((8 * a_outcome r) + nI (ez_cv r Ms rc))) :
    ∀ d m, m + d = rc → wX_fate_25 post (nI r) f_opRow f_opFirst f_opFinal f_opBranch f_opJump f_opEnter f_opNext f_opDecide f_opDone f_catSlot f_itemSlot f_rowsSlot f_timesSlot f_scratchSlot f_size f_bufLen f_openCount f_patLen f_codeLen f_depth f_excluded f_termCount f_skipMode f_skipVar f_resPart f_resRows (nI rc) f_top f_pc f_pos f_from a_vec a_buf a_opened a_pat a_reads a_op a_arg a_lev a_lo a_hi a_lazy a_useMax a_branchAt a_jumpAt a_enterAt a_terms a_cells a_rowCount a_startOf a_lengthOf a_labels a_outcome a_loop a_stack (d + 1) (nI (ez_cv r Ms m)) (nI m) := by
  have hrc := hR.2.2.1
  have hRn := hR.1
  intro d
  induction d with
  | zero =>
    intro m hm
    have : m = rc := by omega
    subst this
    refine br_t (nI_le (Nat.le_refl _) (by omega)) ?_
    rw [nI_clamp (n := r) (by omega)]
    exact ⟨vp_in_nI (by omega) (by omega), hp⟩
  | succ d ih =>
    intro m hm
    have nx := ih (m + 1) (by omega)
    have hM := hR.2.2.2.2.1 m (by omega)
    have hM5 := hM.2.2.2.2.1
    refine br_f (nI_ge (by omega) (by omega)) ?_
    rw [nI_clamp (n := m) (by omega), hM.1, hM.2.1]
    refine ⟨vp_in_nI (by omega) (by omega), pk_lt r (Ms.getD m (0, [])).1 (fun q => ?_) (fun q => ?_)⟩
    · rw [ez_cv, if_neg (by omega)] at nx
      exact nm_r (nI_1 m) nx
    · rw [nI_add]
      refine ⟨vp_in_nI (by omega) (by omega), vp_in_nI (by omega) (by omega), pk_le ((Ms.getD m (0, [])).1 + wd_sz (Ms.getD m (0, [])).2) r (fun q2 => ?_) (fun q2 => ?_)⟩
      · rw [ez_cv, if_neg (by omega)] at nx
        exact nm_r (nI_1 m) nx
      · rw [ez_cv, if_pos ⟨q, q2⟩] at nx
        exact nm_r (nI_1 _) (nm_r (nI_1 m) nx)
end
section
variable {yf_n yf_count yf_patternCount yf_termCount yf_mode yf_skipVar yf_resPart yf_resRows yf_matchCount yf_tooBig : Int32} {ya_buffer ya_pattern ya_terms ya_cells ya_rowCount ya_len ya_matchStart ya_tried : Nat → Int32} {ya_lists ya_matchEntry : Nat → Int64}
theorem ez_fy {post : Int32 → Prop} {n R rc r t : Nat} {part : Int32} {Ms : List (Nat × List Nat)} {ln lab out lp : Nat → Int32} (h6 : n ≤ 6) (hr : r < R) (hR : rl_R n R rc part yf_resPart Ms ya_matchStart ln lab out lp ya_matchEntry ya_tried) (hp : post ((8 * nI (rl_om r Ms t rc)) + nI (ez_cv r Ms rc))) :
    ∀ d m, m + d = rc → wY_fate_34 post (nI r) yf_n yf_count yf_patternCount yf_termCount yf_mode yf_skipVar yf_resPart yf_resRows (nI rc) yf_tooBig ya_buffer ya_pattern ya_terms ya_cells ya_rowCount ya_lists ya_len ya_matchStart ya_matchEntry ya_tried (d + 1) (nI (rl_om r Ms t m)) (nI (ez_cv r Ms m)) (nI m) := by
  have hrc := hR.2.2.1
  have hRn := hR.1
  intro d
  induction d with
  | zero =>
    intro m hm
    have : m = rc := by omega
    subst this
    exact br_t (nI_le (Nat.le_refl _) (by omega)) hp
  | succ d ih =>
    intro m hm
    have nx := ih (m + 1) (by omega)
    have hM := hR.2.2.2.2.1 m (by omega)
    have hM5 := hM.2.2.2.2.1
    have hsz := hM.2.2.2.1.2
    refine br_f (nI_ge (by omega) (by omega)) ?_
    unfold wpY_size
    dsimp only
    rw [nI_clamp (n := m) (by omega), hM.1, hM.2.2.1, cw_size (by omega)]
    have k78 : ∀ o : Nat, rl_om r Ms t (m + 1) = o → wY_fate_78 post (wY_fate_34 post (nI r) yf_n yf_count yf_patternCount yf_termCount yf_mode yf_skipVar yf_resPart yf_resRows (nI rc) yf_tooBig ya_buffer ya_pattern ya_terms ya_cells ya_rowCount ya_lists ya_len ya_matchStart ya_matchEntry ya_tried (d + 1)) (nI r) (nI o) (nI (ez_cv r Ms m)) (nI m) (nI (wd_sz (Ms.getD m (0, [])).2)) yf_n yf_count yf_patternCount yf_termCount yf_mode yf_skipVar yf_resPart yf_resRows (nI rc) yf_tooBig ya_buffer ya_pattern ya_terms ya_cells ya_rowCount ya_lists ya_len ya_matchStart ya_matchEntry ya_tried := by
      intro o ho
      rw [ho] at nx
      unfold wY_fate_78
      rw [nI_clamp (n := m) (by omega), hM.1]
      refine ⟨vp_in_nI (by omega) (by omega), pk_lt r (Ms.getD m (0, [])).1 (fun q => ?_) (fun q => ?_)⟩
      · rw [ez_cv, if_neg (by omega)] at nx
        exact nm_r (nI_1 m) nx
      · rw [nI_add]
        refine ⟨vp_in_nI (by omega) (by omega), pk_le ((Ms.getD m (0, [])).1 + wd_sz (Ms.getD m (0, [])).2) r (fun q2 => ?_) (fun q2 => ?_)⟩
        · rw [ez_cv, if_neg (by omega)] at nx
          exact nm_r (nI_1 m) nx
        · rw [ez_cv, if_pos ⟨q, q2⟩] at nx
          exact nm_r (nI_1 _) (nm_r (nI_1 m) nx)
    refine ⟨vp_in_nI (by omega) (by omega), vp_in_nI (by omega) (by omega), pk_eq (Ms.getD m (0, [])).1 r (fun q => pk_eq (wd_sz (Ms.getD m (0, [])).2) 0 (fun q0 => ?_) (fun q0 => ?_)) (fun q => ?_)⟩
    · exact k78 2 (by rw [rl_om, if_pos q, if_pos q0])
    · exact k78 3 (by rw [rl_om, if_pos q, if_neg q0])
    · exact k78 _ (by rw [rl_om, if_neg q])
end
theorem i_vc_fate {k : Nat} {u : SX} {v : SY} (I : i_Rel k u v) (hk : k + 5 ≤ 2561) (v1 : Int32) : wpX_fate (fun r => wpY_fate (fun r' => r' = r ∧ i_Rel (k + 5) u v) v v1) u v1 := by
  refine I (fun u v => wpX_fate (fun r => wpY_fate (fun r' => r' = r ∧ i_Rel (k + 5) u v) v v1) u v1) ?_
  intro n bl oc pl tc sm sv R rc T Ms f_opRow f_opFirst f_opFinal f_opBranch f_opJump f_opEnter f_opNext f_opDecide f_opDone f_catSlot f_itemSlot f_rowsSlot f_timesSlot f_scratchSlot f_codeLen f_depth f_excluded f_resPart f_top f_pc f_pos f_from yf_resPart yf_tooBig a_vec a_buf a_opened a_pat a_reads a_op a_arg a_lev a_lo a_hi a_lazy a_useMax a_branchAt a_jumpAt a_enterAt a_terms a_cells a_rowCount a_startOf a_lengthOf a_labels a_outcome a_loop ya_len ya_tried a_stack ya_lists ya_matchEntry hF
  have h6 := hF.1.2
  have hR := hF.2.2.2.2.2.2
  have hrc := hR.2.2.1
  have hRn := hR.1
  refine br_c (fun h1 => ?_) (fun h1 => br_c (fun h2 => br_t h2 ⟨rfl, rl_mk hF⟩) (fun h2 => br_c (fun h3 => ?_) (fun h3 => br_f h2 (br_f h3 ⟨rfl, rl_mk hF⟩))))
  · have hR0 : R = 0 := by
      rcases hR.2.2.2.1 with h | ⟨p, hp, e, _⟩
      · exact h.2.1
      · rw [e] at h1; exact absurd h1 (nI_pos (by omega))
    subst hR0
    refine br_c (fun q => ⟨rfl, rl_mk hF⟩) (fun q => br_f q ⟨rfl, rl_mk hF⟩)
  · obtain ⟨r, hr, rfl⟩ := nI_of h2
    have hr2 : r < R := (nI_ltI hr (by omega)).mp h3
    obtain ⟨t, ht, htr, hout⟩ := hR.2.2.2.2.2.1 r hr2
    refine ⟨rc + 1, ez_fx h6 hr2 hR ?_ rc 0 (by omega)⟩
    refine br_f h2 (br_t h3 ?_)
    rw [nI_clamp (n := r) (by omega), htr, hout]
    refine ⟨vp_in_nI (by omega) (by omega), pk_eq t 0 (fun q => ?_) (fun q => ?_)⟩
    · subst q
      exact ⟨rc + 1, ez_fy (t := 0) h6 hr2 hR ⟨rfl, rl_mk hF⟩ rc 0 (by omega)⟩
    · have : t = 1 := by omega
      subst this
      exact ⟨rc + 1, ez_fy (t := 1) h6 hr2 hR ⟨rfl, rl_mk hF⟩ rc 0 (by omega)⟩
section
variable {yf_n yf_count yf_patternCount yf_termCount yf_mode yf_skipVar yf_resPart yf_resRows yf_matchCount yf_tooBig : Int32} {ya_buffer ya_pattern ya_terms ya_cells ya_rowCount ya_len ya_matchStart ya_tried : Nat → Int32} {ya_lists ya_matchEntry : Nat → Int64}
theorem ez_rd {post : Int32 → Prop} {n z : Nat} {W : List (List Nat)} (h6 : n ≤ 6) (hz : z ≤ n) (hW : W.length ≤ 64) (hok : ∀ w, w ∈ W → wd_ok n w) (hlen : ya_len 11 = nI W.length) (hli : ∀ i, i < W.length → ya_lists (704 + i) = lN (cw (W.getD i []))) (hp : post (nI (W.filter (fun w => decide (wd_sz w = z))).length)) :
    ∀ d i, i + d = W.length → wY_readings_25 post (nI z) yf_n yf_count yf_patternCount yf_termCount yf_mode yf_skipVar yf_resPart yf_resRows yf_matchCount yf_tooBig ya_buffer ya_pattern ya_terms ya_cells ya_rowCount ya_lists ya_len ya_matchStart ya_matchEntry ya_tried (d + 1) (nI ((W.take i).filter (fun w => decide (wd_sz w = z))).length) (nI i) := by
  intro d
  induction d with
  | zero =>
    intro i hi
    have : i = W.length := by omega
    subst this
    rw [List.take_length]
    refine br_t ?_ hp
    rw [hlen]; exact nI_le (Nat.le_refl _) (by omega)
  | succ d ih =>
    intro i hi
    have nx := ih (i + 1) (by omega)
    have hiW : i < W.length := by omega
    have hget : W[i]? = some W[i] := List.getElem?_eq_getElem hiW
    have hgD : W.getD i [] = W[i] := by rw [List.getD_eq_getElem?_getD, hget]; rfl
    have hw := (hok W[i] (List.getElem_mem hiW)).2
    have e1 : (704 : Int32) + nI i = nI (704 + i) := nI_add 704 i
    rw [List.take_succ, hget, List.filter_append, List.length_append] at nx
    refine br_f (by rw [hlen]; exact nI_ge hiW (by omega)) ?_
    unfold wpY_size
    dsimp only
    rw [e1, nI_clamp (n := 704 + i) (by omega), hli i hiW, hgD, cw_size (by omega)]
    refine ⟨vp_in_nI (by omega) (by omega), pk_eq (wd_sz W[i]) z (fun q => ?_) (fun q => ?_)⟩
    · have e2 : (((some W[i]).toList).filter (fun w => decide (wd_sz w = z))).length = 1 := by
        show (([W[i]]).filter (fun w => decide (wd_sz w = z))).length = 1
        rw [List.filter_cons_of_pos (by rw [q]; exact decide_eq_true rfl)]; rfl
      rw [e2] at nx
      exact nm_r (nI_1 _) (nm_r (nI_1 i) nx)
    · have e2 : (((some W[i]).toList).filter (fun w => decide (wd_sz w = z))).length = 0 := by
        show (([W[i]]).filter (fun w => decide (wd_sz w = z))).length = 0
        rw [List.filter_cons_of_neg (by rw [decide_eq_false q]; decide)]; rfl
      rw [e2] at nx
      exact nm_r (nI_1 i) nx
end
theorem i_vc_readings {k : Nat} {u : SX} {v : SY} (I : i_Rel k u v) (hk : k + 5 ≤ 2561) (v1 : Int32) : wpX_readings (fun r => wpY_readings (fun r' => r' = r ∧ i_Rel (k + 5) u v) v v1) u v1 := by
  refine I (fun u v => wpX_readings (fun r => wpY_readings (fun r' => r' = r ∧ i_Rel (k + 5) u v) v v1) u v1) ?_
  intro n bl oc pl tc sm sv R rc T Ms f_opRow f_opFirst f_opFinal f_opBranch f_opJump f_opEnter f_opNext f_opDecide f_opDone f_catSlot f_itemSlot f_rowsSlot f_timesSlot f_scratchSlot f_codeLen f_depth f_excluded f_resPart f_top f_pc f_pos f_from yf_resPart yf_tooBig a_vec a_buf a_opened a_pat a_reads a_op a_arg a_lev a_lo a_hi a_lazy a_useMax a_branchAt a_jumpAt a_enterAt a_terms a_cells a_rowCount a_startOf a_lengthOf a_labels a_outcome a_loop ya_len ya_tried a_stack ya_lists ya_matchEntry hF
  have h6 := hF.1.2
  have hP := hF.2.2.2.1
  refine br_c (fun h1 => br_t h1 ⟨rfl, rl_mk hF⟩) (fun h1 => br_c (fun h2 => br_f h1 (br_t h2 ⟨rfl, rl_mk hF⟩)) (fun h2 => br_c (fun h3 => ?_) (fun h3 => br_f h1 (br_f h2 (br_f h3 ⟨rfl, rl_mk hF⟩)))))
  obtain ⟨z, hz, rfl⟩ := nI_of h2
  have hz2 : z ≤ n := (nI_leI hz (by omega)).mp h3
  obtain ⟨W, kk, S, D, e, hW, hok, hlen, hli, hrd, _⟩ := hP.2.resolve_left (fun q => h1 (by rw [q]; exact nI_0))
  rw [nI_clamp (n := z) (by omega), hrd z hz2]
  refine ⟨vp_in_nI (by omega) (by omega), br_f h1 (br_f h2 (br_t h3 ⟨W.length + 1, ?_⟩))⟩
  exact ez_rd h6 hz2 hW hok hlen hli ⟨rfl, rl_mk hF⟩ W.length 0 (by omega)
theorem i_vc_clear {k : Nat} {u : SX} {v : SY} (I : i_Rel k u v) (hk : k + 5 ≤ 2561) : wpX_clear (fun u' => wpY_clear (fun v' => i_Rel (k + 5) u' v') v) u := by
  refine I (fun u v => wpX_clear (fun u' => wpY_clear (fun v' => i_Rel (k + 5) u' v') v) u) ?_
  intro n bl oc pl tc sm sv R rc T Ms f_opRow f_opFirst f_opFinal f_opBranch f_opJump f_opEnter f_opNext f_opDecide f_opDone f_catSlot f_itemSlot f_rowsSlot f_timesSlot f_scratchSlot f_codeLen f_depth f_excluded f_resPart f_top f_pc f_pos f_from yf_resPart yf_tooBig a_vec a_buf a_opened a_pat a_reads a_op a_arg a_lev a_lo a_hi a_lazy a_useMax a_branchAt a_jumpAt a_enterAt a_terms a_cells a_rowCount a_startOf a_lengthOf a_labels a_outcome a_loop ya_len ya_tried a_stack ya_lists ya_matchEntry hF
  have i0 : vp_in (nI 0) 3 := vp_in_nI (by omega) (by omega)
  have i1 : vp_in (nI 1) 3 := vp_in_nI (by omega) (by omega)
  have i2 : vp_in (nI 2) 3 := vp_in_nI (by omega) (by omega)
  refine ⟨4, br_f (by decide) ⟨i0, nm_e (nm_r (nI_1 0) (br_f (by decide) ⟨i1, nm_e (nm_r (nI_1 1) (br_f (by decide) ⟨i2, nm_e (nm_r (nI_1 2) (br_t (by decide) ?_))⟩))⟩))⟩⟩
  refine ⟨4, br_f (by decide) ⟨i0, nm_e (nm_r (nI_1 0) (br_f (by decide) ⟨i1, nm_e (nm_r (nI_1 1) (br_f (by decide) ⟨i2, nm_e (nm_r (nI_1 2) (br_t (by decide) ?_))⟩))⟩))⟩⟩
  refine rl_mk (R := 0) (rc := 0) (tc := 0) (Ms := []) ⟨hF.1, hF.2.1, hF.2.2.1, hF.2.2.2.1, ⟨by omega, fun k hk => by omega⟩, ?_, ⟨by omega, rfl, by omega, Or.inl ⟨rfl, rfl, rfl⟩, fun m hm => by omega, fun r hr => by omega, hF.2.2.2.2.2.2.2.2.2.2.2.2⟩⟩
  intro p hp
  refine ⟨0, ?_, by omega⟩
  have e0 : (0 : Int32).toNatClampNeg = 0 := by decide
  have e1 : (nI (0 + 1)).toNatClampNeg = 1 := by decide
  have e2 : (nI (1 + 1)).toNatClampNeg = 2 := by decide
  show upd (upd (upd a_rowCount (0 : Int32).toNatClampNeg 0) (nI (0 + 1)).toNatClampNeg 0) (nI (1 + 1)).toNatClampNeg 0 p = nI 0
  rw [e0, e1, e2]
  by_cases h2 : p = 2
  · rw [h2, pk_us]; rfl
  · rw [pk_un h2]
    by_cases h1 : p = 1
    · rw [h1, pk_us]; rfl
    · rw [pk_un h1]
      have h0 : p = 0 := by omega
      rw [h0, pk_us]; rfl
end
section
/-! ===== term, addRow, peek ===== -/
section
variable {f_opRow f_opFirst f_opFinal f_opBranch f_opJump f_opEnter f_opNext f_opDecide f_opDone f_catSlot f_itemSlot f_rowsSlot f_timesSlot f_scratchSlot f_size f_bufLen f_openCount f_patLen f_codeLen f_depth f_excluded f_termCount f_skipMode f_skipVar f_resPart f_resRows f_resCount f_top f_pc f_pos f_from : Int32} {a_vec a_buf a_opened a_pat a_reads a_op a_arg a_lev a_lo a_hi a_lazy a_useMax a_branchAt a_jumpAt a_enterAt a_terms a_cells a_rowCount a_startOf a_lengthOf a_labels a_outcome a_loop : Nat → Int32} {a_stack : Nat → Int64}
theorem ez_c68 {P Q : Int32 → SX → Prop} {a b c d : Int32} (hPQ : ∀ r u, P r u → Q r u) (h : wX_term_68 P a b c d f_opRow f_opFirst f_opFinal f_opBranch f_opJump f_opEnter f_opNext f_opDecide f_opDone f_catSlot f_itemSlot f_rowsSlot f_timesSlot f_scratchSlot f_size f_bufLen f_openCount f_patLen f_codeLen f_depth f_excluded f_termCount f_skipMode f_skipVar f_resPart f_resRows f_resCount f_top f_pc f_pos f_from a_vec a_buf a_opened a_pat a_reads a_op a_arg a_lev a_lo a_hi a_lazy a_useMax a_branchAt a_jumpAt a_enterAt a_terms a_cells a_rowCount a_startOf a_lengthOf a_labels a_outcome a_loop a_stack) : wX_term_68 Q a b c d f_opRow f_opFirst f_opFinal f_opBranch f_opJump f_opEnter f_opNext f_opDecide f_opDone f_catSlot f_itemSlot f_rowsSlot f_timesSlot f_scratchSlot f_size f_bufLen f_openCount f_patLen f_codeLen f_depth f_excluded f_termCount f_skipMode f_skipVar f_resPart f_resRows f_resCount f_top f_pc f_pos f_from a_vec a_buf a_opened a_pat a_reads a_op a_arg a_lev a_lo a_hi a_lazy a_useMax a_branchAt a_jumpAt a_enterAt a_terms a_cells a_rowCount a_startOf a_lengthOf a_labels a_outcome a_loop a_stack := by
  refine ⟨fun q x hx => ?_, fun q => hPQ _ _ (h.2 q)⟩
  obtain ⟨v1, h1⟩ := h.1 q x hx
  refine ⟨v1, fun a1 e1 => ?_⟩
  obtain ⟨v2, h2⟩ := h1 a1 e1
  refine ⟨v2, fun a2 e2 => ?_⟩
  obtain ⟨v3, h3⟩ := h2 a2 e2
  refine ⟨v3, fun a3 e3 => ?_⟩
  obtain ⟨v4, h4⟩ := h3 a3 e3
  exact ⟨v4, fun a4 e4 t et => hPQ _ _ (h4 a4 e4 t et)⟩
theorem ez_c49 {P Q : Int32 → SX → Prop} {a b c d : Int32} (hPQ : ∀ r u, P r u → Q r u) (h : wX_term_49 P a b c d f_opRow f_opFirst f_opFinal f_opBranch f_opJump f_opEnter f_opNext f_opDecide f_opDone f_catSlot f_itemSlot f_rowsSlot f_timesSlot f_scratchSlot f_size f_bufLen f_openCount f_patLen f_codeLen f_depth f_excluded f_termCount f_skipMode f_skipVar f_resPart f_resRows f_resCount f_top f_pc f_pos f_from a_vec a_buf a_opened a_pat a_reads a_op a_arg a_lev a_lo a_hi a_lazy a_useMax a_branchAt a_jumpAt a_enterAt a_terms a_cells a_rowCount a_startOf a_lengthOf a_labels a_outcome a_loop a_stack) : wX_term_49 Q a b c d f_opRow f_opFirst f_opFinal f_opBranch f_opJump f_opEnter f_opNext f_opDecide f_opDone f_catSlot f_itemSlot f_rowsSlot f_timesSlot f_scratchSlot f_size f_bufLen f_openCount f_patLen f_codeLen f_depth f_excluded f_termCount f_skipMode f_skipVar f_resPart f_resRows f_resCount f_top f_pc f_pos f_from a_vec a_buf a_opened a_pat a_reads a_op a_arg a_lev a_lo a_hi a_lazy a_useMax a_branchAt a_jumpAt a_enterAt a_terms a_cells a_rowCount a_startOf a_lengthOf a_labels a_outcome a_loop a_stack :=
  ⟨fun q => ez_c68 hPQ (h.1 q), fun q => ⟨fun q2 => hPQ _ _ ((h.2 q).1 q2), fun q2 => ⟨fun q3 => ez_c68 hPQ (((h.2 q).2 q2).1 q3), fun q3 => hPQ _ _ (((h.2 q).2 q2).2 q3)⟩⟩⟩
end
section
variable {f_opRow f_opFirst f_opFinal f_opBranch f_opJump f_opEnter f_opNext f_opDecide f_opDone f_catSlot f_itemSlot f_rowsSlot f_timesSlot f_scratchSlot f_size f_bufLen f_openCount f_patLen f_codeLen f_depth f_excluded f_termCount f_skipMode f_skipVar f_resPart f_resRows f_resCount f_top f_pc f_pos f_from : Int32} {a_vec a_buf a_opened a_pat a_reads a_op a_arg a_lev a_lo a_hi a_lazy a_useMax a_branchAt a_jumpAt a_enterAt a_terms a_cells a_rowCount a_startOf a_lengthOf a_labels a_outcome a_loop : Nat → Int32} {a_stack : Nat → Int64}
variable {yf_n yf_count yf_patternCount yf_termCount yf_mode yf_skipVar yf_resPart yf_resRows yf_matchCount yf_tooBig : Int32} {ya_buffer ya_pattern ya_terms ya_cells ya_rowCount ya_len ya_matchStart ya_tried : Nat → Int32} {ya_lists ya_matchEntry : Nat → Int64}
variable {n bl oc pl tc sm sv R rc : Nat} {T : List Nat} {Ms : List (Nat × List Nat)}
theorem ez_t68 {k : Nat} {a b c : Nat} {d : Int32} (hF : rl_F n bl oc pl tc sm sv R rc T Ms f_resPart yf_resPart a_buf a_opened a_reads a_op a_arg a_lev a_lo a_hi a_lazy a_terms a_rowCount a_startOf a_lengthOf a_labels a_outcome a_loop ya_len ya_tried ya_lists ya_matchEntry) (ha : a ≤ 3) (hb : b ≤ 11) (hc : c ≤ 7) (hd : c = 0 ∨ ∃ r : Nat, d = nI r ∧ r ≤ 9 ∧ (c = 1 → r ≤ 1)) :
    wX_term_68 (fun r u' => wY_term_68 (fun r' v' => r' = r ∧ i_Rel (k + 5) u' v') (nI a) (nI b) (nI c) d (nI n) (nI bl) (nI pl) (nI tc) (nI sm) (nI sv) yf_resPart (nI R) (nI rc) yf_tooBig a_buf a_pat a_terms a_cells a_rowCount ya_lists ya_len a_startOf ya_matchEntry ya_tried) (nI a) (nI b) (nI c) d f_opRow f_opFirst f_opFinal f_opBranch f_opJump f_opEnter f_opNext f_opDecide f_opDone f_catSlot f_itemSlot f_rowsSlot f_timesSlot f_scratchSlot (nI n) (nI bl) (nI oc) (nI pl) f_codeLen f_depth f_excluded (nI tc) (nI sm) (nI sv) f_resPart (nI R) (nI rc) f_top f_pc f_pos f_from a_vec a_buf a_opened a_pat a_reads a_op a_arg a_lev a_lo a_hi a_lazy a_useMax a_branchAt a_jumpAt a_enterAt a_terms a_cells a_rowCount a_startOf a_lengthOf a_labels a_outcome a_loop a_stack := by
  have htc := hF.2.2.2.2.1.1
  refine pk_lt tc 8 (fun q => ?_) (fun q => ?_)
  · have e1 : nI tc * 4 = nI (4 * tc) := by
      have b1 : nI tc * 4 = nI (tc * 4) := pk_mul tc 4
      rw [b1]; exact congrArg nI (by omega)
    have e2 : 4 * nI tc = nI (4 * tc) := pk_mul 4 tc
    have i1 : nI (4 * tc) + 1 = nI (4 * tc + 1) := nI_add (4 * tc) 1
    have i2 : nI (4 * tc) + 2 = nI (4 * tc + 2) := nI_add (4 * tc) 2
    have i3 : nI (4 * tc) + 3 = nI (4 * tc + 3) := nI_add (4 * tc) 3
    have c0 := nI_clamp (n := 4 * tc) (by omega)
    have c1 := nI_clamp (n := 4 * tc + 1) (by omega)
    have c2 := nI_clamp (n := 4 * tc + 2) (by omega)
    have c3 := nI_clamp (n := 4 * tc + 3) (by omega)
    refine nm_r e1 ?_
    rw [i1, i2, i3, c0, c1, c2, c3]
    refine ⟨vp_in_nI (by omega) (by omega), nm_e ⟨vp_in_nI (by omega) (by omega), nm_e ⟨vp_in_nI (by omega) (by omega), nm_e ⟨vp_in_nI (by omega) (by omega), nm_e (nm_r (nI_1 tc) ?_)⟩⟩⟩⟩
    refine br_f (fun hh => by have := (nI_eq (b := 8) (by omega) (by omega)).mp hh; omega) (nm_r e2 ?_)
    rw [i1, i2, i3, c0, c1, c2, c3]
    refine ⟨vp_in_nI (by omega) (by omega), nm_e ⟨vp_in_nI (by omega) (by omega), nm_e ⟨vp_in_nI (by omega) (by omega), nm_e ⟨vp_in_nI (by omega) (by omega), nm_e (nm_r (nI_1 tc) ⟨(nI_pred tc).symm, ?_⟩)⟩⟩⟩⟩
    refine rl_mk (tc := tc + 1) ⟨hF.1, hF.2.1, hF.2.2.1, hF.2.2.2.1, ⟨by omega, fun p hp => ?_⟩, hF.2.2.2.2.2⟩
    by_cases hpt : p = tc
    · subst hpt
      refine ⟨a, b, c, ?_, by omega, ?_, by omega, ?_, by omega, ?_⟩
      · rw [pk_un (by omega), pk_un (by omega), pk_un (by omega), pk_us]
      · rw [pk_un (by omega), pk_un (by omega), pk_us]
      · rw [pk_un (by omega), pk_us]
      · rw [pk_us]; exact hd
    · have := hF.2.2.2.2.1.2 p (by omega)
      have un : ∀ j, j < 4 → upd (upd (upd (upd a_terms (4 * tc) (nI a)) (4 * tc + 1) (nI b)) (4 * tc + 2) (nI c)) (4 * tc + 3) d (4 * p + j) = a_terms (4 * p + j) := by
        intro j hj
        rw [pk_un (by omega), pk_un (by omega), pk_un (by omega), pk_un (by omega)]
      have un0 : upd (upd (upd (upd a_terms (4 * tc) (nI a)) (4 * tc + 1) (nI b)) (4 * tc + 2) (nI c)) (4 * tc + 3) d (4 * p) = a_terms (4 * p) := un 0 (by omega)
      rw [un0, un 1 (by omega), un 2 (by omega), un 3 (by omega)]
      exact this
  · have e : tc = 8 := by omega
    exact br_t (by rw [e]; rfl) ⟨rfl, rl_mk hF⟩
theorem ez_t49 {k : Nat} {a b c : Nat} {d : Int32} (hF : rl_F n bl oc pl tc sm sv R rc T Ms f_resPart yf_resPart a_buf a_opened a_reads a_op a_arg a_lev a_lo a_hi a_lazy a_terms a_rowCount a_startOf a_lengthOf a_labels a_outcome a_loop ya_len ya_tried ya_lists ya_matchEntry) (ha : a ≤ 3) (hb : b ≤ 11) (hc : c ≤ 7) (hd : c = 1 → ∃ r : Nat, d = nI r ∧ r ≤ 1) :
    wX_term_49 (fun r u' => wY_term_49 (fun r' v' => r' = r ∧ i_Rel (k + 5) u' v') (nI a) (nI b) (nI c) d (nI n) (nI bl) (nI pl) (nI tc) (nI sm) (nI sv) yf_resPart (nI R) (nI rc) yf_tooBig a_buf a_pat a_terms a_cells a_rowCount ya_lists ya_len a_startOf ya_matchEntry ya_tried) (nI a) (nI b) (nI c) d f_opRow f_opFirst f_opFinal f_opBranch f_opJump f_opEnter f_opNext f_opDecide f_opDone f_catSlot f_itemSlot f_rowsSlot f_timesSlot f_scratchSlot (nI n) (nI bl) (nI oc) (nI pl) f_codeLen f_depth f_excluded (nI tc) (nI sm) (nI sv) f_resPart (nI R) (nI rc) f_top f_pc f_pos f_from a_vec a_buf a_opened a_pat a_reads a_op a_arg a_lev a_lo a_hi a_lazy a_useMax a_branchAt a_jumpAt a_enterAt a_terms a_cells a_rowCount a_startOf a_lengthOf a_labels a_outcome a_loop a_stack := by
  refine pk_lt c 2 (fun q => ?_) (fun q => br_c (fun h0 => ?_) (fun h0 => br_c (fun h9 => ?_) (fun h9 => ?_)))
  · refine ez_c68 (fun r u h => br_t (nI_lt (b := 2) q (by omega)) h) (ez_t68 hF ha hb hc ?_)
    rcases Nat.eq_zero_or_pos c with hc0 | hc0
    · exact Or.inl hc0
    · obtain ⟨r, hr, hr1⟩ := hd (by omega)
      exact Or.inr ⟨r, hr, by omega, fun _ => hr1⟩
  · exact br_f (nI_nlt (b := 2) q (by omega)) (br_t h0 ⟨rfl, rl_mk hF⟩)
  · obtain ⟨r, hr, rfl⟩ := nI_of2 (M := 9) (n := 9) (by decide) h0 h9
    exact ez_c68 (fun r u h => br_f (nI_nlt (b := 2) q (by omega)) (br_f h0 (br_t h9 h))) (ez_t68 hF ha hb hc (Or.inr ⟨r, rfl, hr, fun hh => by omega⟩))
  · exact br_f (nI_nlt (b := 2) q (by omega)) (br_f h0 (br_f h9 ⟨rfl, rl_mk hF⟩))
end
theorem i_vc_term {k : Nat} {u : SX} {v : SY} (I : i_Rel k u v) (hk : k + 5 ≤ 2561) (v1 : Int32) (v2 : Int32) (v3 : Int32) (v4 : Int32) : wpX_term (fun r u' => wpY_term (fun r' v' => r' = r ∧ i_Rel (k + 5) u' v') v v1 v2 v3 v4) u v1 v2 v3 v4 := by
  refine I (fun u v => wpX_term (fun r u' => wpY_term (fun r' v' => r' = r ∧ i_Rel (k + 5) u' v') v v1 v2 v3 v4) u v1 v2 v3 v4) ?_
  intro n bl oc pl tc sm sv R rc T Ms f_opRow f_opFirst f_opFinal f_opBranch f_opJump f_opEnter f_opNext f_opDecide f_opDone f_catSlot f_itemSlot f_rowsSlot f_timesSlot f_scratchSlot f_codeLen f_depth f_excluded f_resPart f_top f_pc f_pos f_from yf_resPart yf_tooBig a_vec a_buf a_opened a_pat a_reads a_op a_arg a_lev a_lo a_hi a_lazy a_useMax a_branchAt a_jumpAt a_enterAt a_terms a_cells a_rowCount a_startOf a_lengthOf a_labels a_outcome a_loop ya_len ya_tried a_stack ya_lists ya_matchEntry hF
  refine br_c (fun h1 => br_t h1 ⟨rfl, rl_mk hF⟩) (fun h1 => br_c (fun h2 => br_f h1 (br_t h2 ⟨rfl, rl_mk hF⟩)) (fun h2 => br_c (fun h3 => br_f h1 (br_f h2 (br_t h3 ⟨rfl, rl_mk hF⟩))) (fun h3 => br_c (fun h4 => br_f h1 (br_f h2 (br_f h3 (br_t h4 ⟨rfl, rl_mk hF⟩)))) (fun h4 => br_c (fun h5 => br_f h1 (br_f h2 (br_f h3 (br_f h4 (br_t h5 ⟨rfl, rl_mk hF⟩))))) (fun h5 => br_c (fun h6 => ?_) (fun h6 => br_f h1 (br_f h2 (br_f h3 (br_f h4 (br_f h5 (br_f h6 ⟨rfl, rl_mk hF⟩)))))))))))
  obtain ⟨a, ha, rfl⟩ := nI_of2 (M := 3) (n := 3) (by decide) h1 (Int32.not_lt.mp h2)
  obtain ⟨b, hb, rfl⟩ := nI_of2 (M := 11) (n := 11) (by decide) h3 (Int32.not_lt.mp h4)
  obtain ⟨c, hc, rfl⟩ := nI_of2 (M := 7) (n := 7) (by decide) h5 h6
  refine br_c (fun h7 => br_c (fun h8 => ?_) (fun h8 => br_c (fun h9 => ?_) (fun h9 => ?_))) (fun h7 => ?_)
  · exact br_f h1 (br_f h2 (br_f h3 (br_f h4 (br_f h5 (br_t h6 (br_t h7 (br_t h8 ⟨rfl, rl_mk hF⟩)))))))
  · obtain ⟨r, hr, rfl⟩ := nI_of2 (M := 1) (n := 1) (by decide) h8 h9
    exact ez_c49 (fun r u h => br_f h1 (br_f h2 (br_f h3 (br_f h4 (br_f h5 (br_t h6 (br_t h7 (br_f h8 (br_t h9 h))))))))) (ez_t49 hF ha hb hc (fun _ => ⟨r, rfl, hr⟩))
  · exact br_f h1 (br_f h2 (br_f h3 (br_f h4 (br_f h5 (br_t h6 (br_t h7 (br_f h8 (br_f h9 ⟨rfl, rl_mk hF⟩))))))))
  · exact ez_c49 (fun r u h => br_f h1 (br_f h2 (br_f h3 (br_f h4 (br_f h5 (br_t h6 (br_f h7 h))))))) (ez_t49 hF ha hb hc (fun hh => absurd (by rw [hh]; rfl) h7))
theorem i_vc_addRow {k : Nat} {u : SX} {v : SY} (I : i_Rel k u v) (hk : k + 5 ≤ 2561) (v1 : Int32) (v2 : Int32) (v3 : Int32) : wpX_addRow (fun r u' => wpY_addRow (fun r' v' => r' = r ∧ i_Rel (k + 5) u' v') v v1 v2 v3) u v1 v2 v3 := by
  refine I (fun u v => wpX_addRow (fun r u' => wpY_addRow (fun r' v' => r' = r ∧ i_Rel (k + 5) u' v') v v1 v2 v3) u v1 v2 v3) ?_
  intro n bl oc pl tc sm sv R rc T Ms f_opRow f_opFirst f_opFinal f_opBranch f_opJump f_opEnter f_opNext f_opDecide f_opDone f_catSlot f_itemSlot f_rowsSlot f_timesSlot f_scratchSlot f_codeLen f_depth f_excluded f_resPart f_top f_pc f_pos f_from yf_resPart yf_tooBig a_vec a_buf a_opened a_pat a_reads a_op a_arg a_lev a_lo a_hi a_lazy a_useMax a_branchAt a_jumpAt a_enterAt a_terms a_cells a_rowCount a_startOf a_lengthOf a_labels a_outcome a_loop ya_len ya_tried a_stack ya_lists ya_matchEntry hF
  have h6 := hF.1.2
  refine br_c (fun h1 => br_t h1 ⟨rfl, rl_mk hF⟩) (fun h1 => br_c (fun h2 => ?_) (fun h2 => br_f h1 (br_f h2 ⟨rfl, rl_mk hF⟩)))
  obtain ⟨p, hp, rfl⟩ := nI_of2 (M := 2) (n := 2) (by decide) h1 h2
  obtain ⟨q, hq, hqn⟩ := hF.2.2.2.2.2.1 p (by omega)
  have vp : vp_in (nI p) 3 := vp_in_nI (by omega) (by omega)
  rw [nI_clamp (n := p) (by omega), hq]
  refine ⟨vp, nm_e (pk_lt q n (fun h => ?_) (fun h => ?_))⟩
  · have e1 : nI p * 12 + nI q * 2 = nI (12 * p + 2 * q) := by
      have b1 : nI p * 12 = nI (p * 12) := pk_mul p 12
      have b2 : nI q * 2 = nI (q * 2) := pk_mul q 2
      rw [b1, b2, nI_add]; exact congrArg nI (by omega)
    have e2 : 2 * ((6 * nI p) + nI q) = nI (12 * p + 2 * q) := by
      have b1 : 6 * nI p = nI (6 * p) := pk_mul 6 p
      have b2 : 2 * nI (6 * p + q) = nI (2 * (6 * p + q)) := pk_mul 2 _
      rw [b1, nI_add, b2]; exact congrArg nI (by omega)
    rw [e1, nI_1, nI_clamp (n := 12 * p + 2 * q) (by omega), nI_clamp (n := 12 * p + 2 * q + 1) (by omega), nI_1]
    refine ⟨vp_in_nI (by omega) (by omega), nm_e ⟨vp_in_nI (by omega) (by omega), nm_e ⟨vp, nm_e ?_⟩⟩⟩
    refine br_f h1 (br_t h2 ⟨vp, ?_⟩)
    rw [nI_clamp (n := p) (by omega), hq]
    refine br_f (fun hh => by have := (nI_eq (by omega) (by omega)).mp hh; omega) ⟨vp, nm_r e2 ?_⟩
    rw [nI_1, nI_clamp (n := 12 * p + 2 * q) (by omega), nI_clamp (n := 12 * p + 2 * q + 1) (by omega), nI_1]
    refine ⟨vp_in_nI (by omega) (by omega), nm_e ⟨vp_in_nI (by omega) (by omega), nm_e ⟨vp, vp, nm_e ⟨rfl, ?_⟩⟩⟩⟩
    refine rl_mk ⟨hF.1, hF.2.1, hF.2.2.1, hF.2.2.2.1, hF.2.2.2.2.1, fun j hj => ?_, hF.2.2.2.2.2.2⟩
    by_cases hjp : j = p
    · subst hjp; exact ⟨q + 1, pk_us, by omega⟩
    · rw [pk_un hjp]; exact hF.2.2.2.2.2.1 j hj
  · have e : q = n := by omega
    refine br_f h1 (br_t h2 ⟨vp, ?_⟩)
    rw [nI_clamp (n := p) (by omega), hq]
    exact br_t (by rw [e]) ⟨rfl, rl_mk hF⟩
theorem i_vc_peek {k : Nat} {u : SX} {v : SY} (I : i_Rel k u v) (hk : k + 5 ≤ 2561) (v1 : Int32) (v2 : Int32) (v3 : Int32) : wpX_peek (fun r => wpY_peek (fun r' => r' = r ∧ i_Rel (k + 5) u v) v v1 v2 v3) u v1 v2 v3 := by
  refine I (fun u v => wpX_peek (fun r => wpY_peek (fun r' => r' = r ∧ i_Rel (k + 5) u v) v v1 v2 v3) u v1 v2 v3) ?_
  intro n bl oc pl tc sm sv R rc T Ms f_opRow f_opFirst f_opFinal f_opBranch f_opJump f_opEnter f_opNext f_opDecide f_opDone f_catSlot f_itemSlot f_rowsSlot f_timesSlot f_scratchSlot f_codeLen f_depth f_excluded f_resPart f_top f_pc f_pos f_from yf_resPart yf_tooBig a_vec a_buf a_opened a_pat a_reads a_op a_arg a_lev a_lo a_hi a_lazy a_useMax a_branchAt a_jumpAt a_enterAt a_terms a_cells a_rowCount a_startOf a_lengthOf a_labels a_outcome a_loop ya_len ya_tried a_stack ya_lists ya_matchEntry hF
  have h6 := hF.1.2
  have hB := hF.2.2.1.2.1
  have hPl := hF.2.2.2.1.1
  have htc := hF.2.2.2.2.1.1
  have fin : ∀ {r : Int64}, r = r ∧ i_Rel (k + 5) (f_opRow, f_opFirst, f_opFinal, f_opBranch, f_opJump, f_opEnter, f_opNext, f_opDecide, f_opDone, f_catSlot, f_itemSlot, f_rowsSlot, f_timesSlot, f_scratchSlot, nI n, nI bl, nI oc, nI pl, f_codeLen, f_depth, f_excluded, nI tc, nI sm, nI sv, f_resPart, nI R, nI rc, f_top, f_pc, f_pos, f_from, a_vec, a_buf, a_opened, a_pat, a_reads, a_op, a_arg, a_lev, a_lo, a_hi, a_lazy, a_useMax, a_branchAt, a_jumpAt, a_enterAt, a_terms, a_cells, a_rowCount, a_startOf, a_lengthOf, a_labels, a_outcome, a_loop, a_stack) (nI n, nI bl, nI pl, nI tc, nI sm, nI sv, yf_resPart, nI R, nI rc, yf_tooBig, a_buf, a_pat, a_terms, a_cells, a_rowCount, ya_lists, ya_len, a_startOf, ya_matchEntry, ya_tried) := ⟨rfl, rl_mk hF⟩
  have n0 : ∀ {c : Int32} (d : Int32), v1 = c → ¬ c = d → ¬ v1 = d := fun d h1 h2 h3 => h2 (h1.symm.trans h3)
  refine br_c (fun h0 => ?_) (fun h0 => br_f h0 fin)
  obtain ⟨i, hi, rfl⟩ := nI_of (x := v2) (Int32.not_lt.mpr h0)
  refine br_c (fun q0 => br_c (fun a => ?_) (fun a => ?_)) (fun q0 => br_c (fun q1 => br_c (fun a => ?_) (fun a => ?_)) (fun q1 => br_c (fun q2 => ?_) (fun q2 => br_c (fun q3 => br_c (fun a => ?_) (fun a => br_c (fun b => ?_) (fun b => br_c (fun c => ?_) (fun c => ?_)))) (fun q3 => br_c (fun q4 => br_c (fun a => ?_) (fun a => ?_)) (fun q4 => ?_)))))
  · exact br_t h0 (br_t q0 (br_t a (br_f (n0 1 q0 (by decide)) (br_f (n0 2 q0 (by decide)) (br_f (n0 3 q0 (by decide)) (br_f (n0 4 q0 (by decide)) fin))))))
  · have hib : i < bl := by
      rcases Nat.lt_or_ge i bl with h | h
      · exact h
      · exact absurd (nI_le h hi) a
    exact ⟨vp_in_nI (by omega) (by omega), br_t h0 (br_t q0 (br_f a ⟨vp_in_nI (by omega) (by omega), fin⟩))⟩
  · exact br_t h0 (br_f q0 (br_t q1 (br_t a (br_f (n0 2 q1 (by decide)) (br_f (n0 3 q1 (by decide)) (br_f (n0 4 q1 (by decide)) fin))))))
  · have hib : i < pl := by
      rcases Nat.lt_or_ge i pl with h | h
      · exact h
      · exact absurd (nI_le h hi) a
    exact ⟨vp_in_nI (by omega) (by omega), br_t h0 (br_f q0 (br_t q1 (br_f a ⟨vp_in_nI (by omega) (by omega), fin⟩)))⟩
  · refine br_c (fun a => ?_) (fun a => br_c (fun b => ?_) (fun b => ?_))
    · exact br_t h0 (br_f q0 (br_f q1 (br_t q2 (br_t a (br_f (n0 3 q2 (by decide)) (br_f (n0 4 q2 (by decide)) fin))))))
    · exact br_t h0 (br_f q0 (br_f q1 (br_t q2 (br_f a (br_t b (br_f (n0 3 q2 (by decide)) (br_f (n0 4 q2 (by decide)) fin)))))))
    · obtain ⟨j, hj, rfl⟩ := nI_of2 (M := 5) (n := 5) (by decide) a (Int32.not_lt.mp b)
      have e1 : nI j / 2 = nI (j / 2) := pk_div (a := j) (d := 2) (by omega) (by omega) (by omega)
      have e2 : nI j - nI (j / 2) * 2 = nI (j % 2) := by rw [← e1]; exact pk_rem (a := j) (d := 2) (by omega) (by omega) (by omega)
      obtain ⟨q, hq, hqn⟩ := hF.2.2.2.2.2.1 (j / 2) (by omega)
      rw [e1, e2, nI_clamp (n := j / 2) (by omega), hq]
      refine ⟨by decide, vp_in_nI (by omega) (by omega), pk_lt i q (fun c => ?_) (fun c => ?_)⟩
      · have f1 : ((nI (j / 2) * 12) + (nI i * 2)) + nI (j % 2) = nI (12 * (j / 2) + 2 * i + j % 2) := by
          have b1 : nI (j / 2) * 12 = nI (j / 2 * 12) := pk_mul _ 12
          have b2 : nI i * 2 = nI (i * 2) := pk_mul i 2
          rw [b1, b2, nI_add, nI_add]; exact congrArg nI (by omega)
        have f2 : (2 * ((6 * nI (j / 2)) + nI i)) + nI (j % 2) = nI (12 * (j / 2) + 2 * i + j % 2) := by
          have b1 : 6 * nI (j / 2) = nI (6 * (j / 2)) := pk_mul 6 _
          have b2 : 2 * nI (6 * (j / 2) + i) = nI (2 * (6 * (j / 2) + i)) := pk_mul 2 _
          rw [b1, nI_add, b2, nI_add]; exact congrArg nI (by omega)
        rw [f1]
        refine ⟨by decide, by decide, vp_in_nI (by omega) (by omega), br_t h0 (br_f q0 (br_f q1 (br_t q2 (br_f a (br_f b ?_)))))⟩
        rw [e1, e2, nI_clamp (n := j / 2) (by omega), hq, f2]
        exact ⟨by decide, vp_in_nI (by omega) (by omega), br_f (nI_ge c (by omega)) ⟨by decide, by decide, vp_in_nI (by omega) (by omega), fin⟩⟩
      · refine br_t h0 (br_f q0 (br_f q1 (br_t q2 (br_f a (br_f b ?_)))))
        rw [e1, e2, nI_clamp (n := j / 2) (by omega), hq]
        exact ⟨by decide, vp_in_nI (by omega) (by omega), br_t (nI_le c (by omega)) (br_f (n0 3 q2 (by decide)) (br_f (n0 4 q2 (by decide)) fin))⟩
  · exact br_t h0 (br_f q0 (br_f q1 (br_f q2 (br_t q3 (br_t a (br_f (n0 4 q3 (by decide)) fin))))))
  · exact br_t h0 (br_f q0 (br_f q1 (br_f q2 (br_t q3 (br_f a (br_t b (br_f (n0 4 q3 (by decide)) fin)))))))
  · exact br_t h0 (br_f q0 (br_f q1 (br_f q2 (br_t q3 (br_f a (br_f b (br_t c (br_f (n0 4 q3 (by decide)) fin))))))))
  · obtain ⟨j, hj, rfl⟩ := nI_of2 (M := 3) (n := 3) (by decide) b (Int32.not_lt.mp c)
    have hib : i < tc := by
      rcases Nat.lt_or_ge i tc with h | h
      · exact h
      · exact absurd (nI_le h hi) a
    have f1 : (nI i * 4) + nI j = nI (4 * i + j) := by
      have b1 : nI i * 4 = nI (i * 4) := pk_mul i 4
      rw [b1, nI_add]; exact congrArg nI (by omega)
    have f2 : (4 * nI i) + nI j = nI (4 * i + j) := by
      have b1 : 4 * nI i = nI (4 * i) := pk_mul 4 i
      rw [b1, nI_add]
    rw [f1]
    refine ⟨vp_in_nI (by omega) (by omega), br_t h0 (br_f q0 (br_f q1 (br_f q2 (br_t q3 (br_f a (br_f b (br_f c ?_)))))))⟩
    rw [f2]
    exact ⟨vp_in_nI (by omega) (by omega), fin⟩
  · have hi2 : ¬ (2 : Int32) < nI i := Int32.not_lt.mpr a
    exact br_c (fun c => br_t h0 (br_f q0 (br_f q1 (br_f q2 (br_f q3 (br_t q4 (br_f hi2 (br_t c fin)))))))) (fun c => br_c (fun d => br_t h0 (br_f q0 (br_f q1 (br_f q2 (br_f q3 (br_t q4 (br_f hi2 (br_f c (br_t d fin))))))))) (fun d => br_t h0 (br_f q0 (br_f q1 (br_f q2 (br_f q3 (br_t q4 (br_f hi2 (br_f c (br_f d fin))))))))))
  · exact br_t h0 (br_f q0 (br_f q1 (br_f q2 (br_f q3 (br_t q4 (br_t (Int32.not_le.mp a) fin))))))
  · exact br_t h0 (br_f q0 (br_f q1 (br_f q2 (br_f q3 (br_f q4 fin)))))
end
section
/-! ===== put, quant ===== -/
theorem bu_new {n bl oc t : Nat} {T : List Nat} {buf opened opened' : Nat → Int32} (h : rl_B n bl oc T buf opened) (hbl : bl < 24) (hc : tk_c n t T) (ho : ∀ i, i < (tk_S (t :: T)).length → opened' i = nI ((tk_S (t :: T)).getD ((tk_S (t :: T)).length - 1 - i) 0)) :
    rl_B n (bl + 1) (tk_S (t :: T)).length (t :: T) (upd buf bl (nI t)) opened' := by
  obtain ⟨h1, h2, h3, h4, h5, h6⟩ := h
  refine ⟨by rw [List.length_cons, h1], by omega, ⟨hc, h3⟩, fun i hi => ?_, rfl, ho⟩
  by_cases hib : i = bl
  · subst hib
    rw [pk_us]
    have : i + 1 - 1 - i = 0 := by omega
    rw [this]; rfl
  · rw [pk_un hib, h4 i (by omega)]
    have : bl + 1 - 1 - i = (bl - 1 - i) + 1 := by omega
    rw [this]; rfl
theorem bu_same {n bl oc t : Nat} {T : List Nat} {buf opened : Nat → Int32} (h : rl_B n bl oc T buf opened) (hbl : bl < 24) (hc : tk_c n t T) (hs : tk_S (t :: T) = tk_S T) : rl_B n (bl + 1) oc (t :: T) (upd buf bl (nI t)) opened := by
  have := bu_new (opened' := opened) h hbl hc (by
    rw [hs]
    intro i hi
    have h5 := h.2.2.2.2.1
    have h6 := h.2.2.2.2.2
    rw [h5] at hi ⊢
    exact h6 i hi)
  rw [hs, h.2.2.2.2.1] at this
  exact this
theorem bu_open {n bl oc t : Nat} {T : List Nat} {buf opened : Nat → Int32} (h : rl_B n bl oc T buf opened) (hbl : bl < 24) (ht : t = 6 ∨ t = 8) (hoc : oc < 3) : rl_B n (bl + 1) (oc + 1) (t :: T) (upd buf bl (nI t)) (upd opened oc (nI t)) := by
  have h5 := h.2.2.2.2.1
  have hs : tk_S (t :: T) = t :: tk_S T := by rw [tk_S, if_pos ht]
  have hl : (tk_S (t :: T)).length = oc + 1 := by rw [hs, List.length_cons, h5]
  have := bu_new (opened' := upd opened oc (nI t)) h hbl (Or.inr (Or.inl ⟨ht, by omega⟩)) (by
    rw [hl, hs]
    intro i hi
    by_cases hio : i = oc
    · subst hio
      rw [pk_us]
      have : i + 1 - 1 - i = 0 := by omega
      rw [this]; rfl
    · rw [pk_un hio, h.2.2.2.2.2 i (by omega)]
      have : oc + 1 - 1 - i = (oc - 1 - i) + 1 := by omega
      rw [this]; rfl)
  rw [hl] at this
  exact this
theorem bu_close {n bl oc t : Nat} {T : List Nat} {buf opened : Nat → Int32} (h : rl_B n bl oc T buf opened) (hbl : bl < 24) (ht : t = 7 ∨ t = 9) (hie : tk_ie T) (hh : (tk_S T).head? = some (t - 1)) : rl_B n (bl + 1) (oc - 1) (t :: T) (upd buf bl (nI t)) opened := by
  have h5 := h.2.2.2.2.1
  have hs : tk_S (t :: T) = (tk_S T).tail := by rw [tk_S, if_neg (by omega), if_pos ht]
  have hl : (tk_S (t :: T)).length = oc - 1 := by rw [hs, List.length_tail, h5]
  have := bu_new (opened' := opened) h hbl (Or.inr (Or.inr (Or.inl ⟨ht, hie, hh⟩))) (by
    rw [hl, hs]
    intro i hi
    rw [h.2.2.2.2.2 i (by omega)]
    have e : (tk_S T).tail.getD (oc - 1 - 1 - i) 0 = (tk_S T).getD (oc - 1 - 1 - i + 1) 0 := by
      rw [List.getD_eq_getElem?_getD, List.getD_eq_getElem?_getD, List.getElem?_tail]
    rw [e]
    have : oc - 1 - i = oc - 1 - 1 - i + 1 := by omega
    rw [this])
  rw [hl] at this
  exact this
section
variable {f_opRow f_opFirst f_opFinal f_opBranch f_opJump f_opEnter f_opNext f_opDecide f_opDone f_catSlot f_itemSlot f_rowsSlot f_timesSlot f_scratchSlot f_size f_bufLen f_openCount f_patLen f_codeLen f_depth f_excluded f_termCount f_skipMode f_skipVar f_resPart f_resRows f_resCount f_top f_pc f_pos f_from : Int32} {a_vec a_buf a_opened a_pat a_reads a_op a_arg a_lev a_lo a_hi a_lazy a_useMax a_branchAt a_jumpAt a_enterAt a_terms a_cells a_rowCount a_startOf a_lengthOf a_labels a_outcome a_loop : Nat → Int32} {a_stack : Nat → Int64}
theorem xp_129 {post : Int32 → SX → Prop} {x : Int32} {bl : Nat} (h : bl < 24) (hp : post (nI (bl + 1)) (f_opRow, f_opFirst, f_opFinal, f_opBranch, f_opJump, f_opEnter, f_opNext, f_opDecide, f_opDone, f_catSlot, f_itemSlot, f_rowsSlot, f_timesSlot, f_scratchSlot, f_size, nI (bl + 1), f_openCount, f_patLen, f_codeLen, f_depth, f_excluded, f_termCount, f_skipMode, f_skipVar, f_resPart, f_resRows, f_resCount, f_top, f_pc, f_pos, f_from, a_vec, upd a_buf bl x, a_opened, a_pat, a_reads, a_op, a_arg, a_lev, a_lo, a_hi, a_lazy, a_useMax, a_branchAt, a_jumpAt, a_enterAt, a_terms, a_cells, a_rowCount, a_startOf, a_lengthOf, a_labels, a_outcome, a_loop, a_stack)) : wX_put_129 post x f_opRow f_opFirst f_opFinal f_opBranch f_opJump f_opEnter f_opNext f_opDecide f_opDone f_catSlot f_itemSlot f_rowsSlot f_timesSlot f_scratchSlot f_size (nI bl) f_openCount f_patLen f_codeLen f_depth f_excluded f_termCount f_skipMode f_skipVar f_resPart f_resRows f_resCount f_top f_pc f_pos f_from a_vec a_buf a_opened a_pat a_reads a_op a_arg a_lev a_lo a_hi a_lazy a_useMax a_branchAt a_jumpAt a_enterAt a_terms a_cells a_rowCount a_startOf a_lengthOf a_labels a_outcome a_loop a_stack := by
  refine ⟨vp_in_nI h (by omega), ?_⟩
  rw [nI_clamp (n := bl) (by omega)]
  exact nm_e (nm_r (nI_1 bl) hp)
theorem xp_83 {post : Int32 → SX → Prop} {x y : Int32} {bl : Nat} (h : bl < 24) (hp : post (nI (bl + 1)) (f_opRow, f_opFirst, f_opFinal, f_opBranch, f_opJump, f_opEnter, f_opNext, f_opDecide, f_opDone, f_catSlot, f_itemSlot, f_rowsSlot, f_timesSlot, f_scratchSlot, f_size, nI (bl + 1), f_openCount, f_patLen, f_codeLen, f_depth, f_excluded, f_termCount, f_skipMode, f_skipVar, f_resPart, f_resRows, f_resCount, f_top, f_pc, f_pos, f_from, a_vec, upd a_buf bl (y + x), a_opened, a_pat, a_reads, a_op, a_arg, a_lev, a_lo, a_hi, a_lazy, a_useMax, a_branchAt, a_jumpAt, a_enterAt, a_terms, a_cells, a_rowCount, a_startOf, a_lengthOf, a_labels, a_outcome, a_loop, a_stack)) : wX_quant_83 post x y f_opRow f_opFirst f_opFinal f_opBranch f_opJump f_opEnter f_opNext f_opDecide f_opDone f_catSlot f_itemSlot f_rowsSlot f_timesSlot f_scratchSlot f_size (nI bl) f_openCount f_patLen f_codeLen f_depth f_excluded f_termCount f_skipMode f_skipVar f_resPart f_resRows f_resCount f_top f_pc f_pos f_from a_vec a_buf a_opened a_pat a_reads a_op a_arg a_lev a_lo a_hi a_lazy a_useMax a_branchAt a_jumpAt a_enterAt a_terms a_cells a_rowCount a_startOf a_lengthOf a_labels a_outcome a_loop a_stack := by
  refine ⟨vp_in_nI h (by omega), ?_⟩
  rw [nI_clamp (n := bl) (by omega)]
  exact nm_e (nm_r (nI_1 bl) hp)
end
section
variable {yf_n yf_count yf_patternCount yf_termCount yf_mode yf_skipVar yf_resPart yf_resRows yf_matchCount yf_tooBig : Int32} {ya_buffer ya_pattern ya_terms ya_cells ya_rowCount ya_len ya_matchStart ya_tried : Nat → Int32} {ya_lists ya_matchEntry : Nat → Int64}
variable {post : Int32 → SY → Prop} {n : Nat} {T : List Nat}
theorem yp_138 {x : Int32} {bl : Nat} (h : bl < 24) (hp : post (nI (bl + 1)) (yf_n, nI (bl + 1), yf_patternCount, yf_termCount, yf_mode, yf_skipVar, yf_resPart, yf_resRows, yf_matchCount, yf_tooBig, upd ya_buffer bl x, ya_pattern, ya_terms, ya_cells, ya_rowCount, ya_lists, ya_len, ya_matchStart, ya_matchEntry, ya_tried)) : wY_put_138 post x yf_n (nI bl) yf_patternCount yf_termCount yf_mode yf_skipVar yf_resPart yf_resRows yf_matchCount yf_tooBig ya_buffer ya_pattern ya_terms ya_cells ya_rowCount ya_lists ya_len ya_matchStart ya_matchEntry ya_tried := by
  refine ⟨vp_in_nI h (by omega), ?_⟩
  rw [nI_clamp (n := bl) (by omega), nI_1]
  exact nm_e (nm_e hp)
theorem yp_74 {x y : Int32} {bl : Nat} (h : bl < 24) (hp : post (nI (bl + 1)) (yf_n, nI (bl + 1), yf_patternCount, yf_termCount, yf_mode, yf_skipVar, yf_resPart, yf_resRows, yf_matchCount, yf_tooBig, upd ya_buffer bl (y + x), ya_pattern, ya_terms, ya_cells, ya_rowCount, ya_lists, ya_len, ya_matchStart, ya_matchEntry, ya_tried)) : wY_quant_74 post x y (nI bl) yf_n (nI bl) yf_patternCount yf_termCount yf_mode yf_skipVar yf_resPart yf_resRows yf_matchCount yf_tooBig ya_buffer ya_pattern ya_terms ya_cells ya_rowCount ya_lists ya_len ya_matchStart ya_matchEntry ya_tried := by
  refine ⟨vp_in_nI h (by omega), ?_⟩
  rw [nI_clamp (n := bl) (by omega), nI_1]
  exact nm_e (nm_e hp)
theorem yp_52 {x1 x2 : Int32} (hn : n ≤ 6) (hl : T.length ≤ 24) (hV : tk_V n T) (hb : ∀ i, i < T.length → ya_buffer i = nI (T.getD (T.length - 1 - i) 0)) (h1 : tk_ie T → wY_put_87 post x1 x2 1 yf_n (nI T.length) yf_patternCount yf_termCount yf_mode yf_skipVar yf_resPart yf_resRows yf_matchCount yf_tooBig ya_buffer ya_pattern ya_terms ya_cells ya_rowCount ya_lists ya_len ya_matchStart ya_matchEntry ya_tried) (h0 : ¬ tk_ie T → wY_put_87 post x1 x2 0 yf_n (nI T.length) yf_patternCount yf_termCount yf_mode yf_skipVar yf_resPart yf_resRows yf_matchCount yf_tooBig ya_buffer ya_pattern ya_terms ya_cells ya_rowCount ya_lists ya_len ya_matchStart ya_matchEntry ya_tried) : wY_put_52 post x1 x2 yf_n (nI T.length) yf_patternCount yf_termCount yf_mode yf_skipVar yf_resPart yf_resRows yf_matchCount yf_tooBig ya_buffer ya_pattern ya_terms ya_cells ya_rowCount ya_lists ya_len ya_matchStart ya_matchEntry ya_tried := by
  refine yo_ends hn hl hV hb ?_ ?_
  · intro ha
    refine br_f (by decide) (h1 ?_)
    cases T with
    | nil => exact ha
    | cons t r => rcases ha with h | h | h
                  · exact Or.inl h
                  · exact Or.inr (Or.inl h)
                  · exact Or.inr (Or.inr (Or.inl h))
  · intro ha
    refine br_t rfl ?_
    cases T with
    | nil => exact br_t (by decide) (h0 (fun h => h))
    | cons t r =>
      have hb0 := hb r.length (by rw [List.length_cons]; omega)
      rw [tk_b0] at hb0
      have htok := tk_tok hn hV t List.mem_cons_self
      rw [List.length_cons] at hl
      have e0 : nI (t :: r).length - 1 = nI r.length := nI_pred r.length
      refine br_f (nI_nle (by rw [List.length_cons]; omega) (by rw [List.length_cons]; omega)) ?_
      rw [e0, nI_clamp (n := r.length) (by omega), hb0]
      refine ⟨vp_in_nI (by omega) (by omega), pk_lt t 100 (fun q => h0 (fun hh => ?_)) (fun q => h1 (Or.inr (Or.inr (Or.inr q))))⟩
      rcases hh with hh | hh | hh | hh
      · exact ha (Or.inl hh)
      · exact ha (Or.inr (Or.inl hh))
      · exact ha (Or.inr (Or.inr hh))
      · omega
end
theorem i_vc_put {k : Nat} {u : SX} {v : SY} (I : i_Rel k u v) (hk : k + 5 ≤ 2561) (v1 : Int32) : wpX_put (fun r u' => wpY_put (fun r' v' => r' = r ∧ i_Rel (k + 5) u' v') v v1) u v1 := by
  refine I (fun u v => wpX_put (fun r u' => wpY_put (fun r' v' => r' = r ∧ i_Rel (k + 5) u' v') v v1) u v1) ?_
  intro n bl oc pl tc sm sv R rc T Ms f_opRow f_opFirst f_opFinal f_opBranch f_opJump f_opEnter f_opNext f_opDecide f_opDone f_catSlot f_itemSlot f_rowsSlot f_timesSlot f_scratchSlot f_codeLen f_depth f_excluded f_resPart f_top f_pc f_pos f_from yf_resPart yf_tooBig a_vec a_buf a_opened a_pat a_reads a_op a_arg a_lev a_lo a_hi a_lazy a_useMax a_branchAt a_jumpAt a_enterAt a_terms a_cells a_rowCount a_startOf a_lengthOf a_labels a_outcome a_loop ya_len ya_tried a_stack ya_lists ya_matchEntry hF
  have h6 := hF.1.2
  have hB := hF.2.2.1
  obtain ⟨b1, b2, b3, b4, b5, b6⟩ := hF.2.2.1
  subst b1
  subst b5
  have h68 := tk_S68 b3
  have mk : ∀ {t oc' : Nat} {op' : Nat → Int32}, rl_B n (T.length + 1) oc' (t :: T) (upd a_buf T.length (nI t)) op' → i_Rel (k + 5) (f_opRow, f_opFirst, f_opFinal, f_opBranch, f_opJump, f_opEnter, f_opNext, f_opDecide, f_opDone, f_catSlot, f_itemSlot, f_rowsSlot, f_timesSlot, f_scratchSlot, nI n, nI (T.length + 1), nI oc', nI pl, f_codeLen, f_depth, f_excluded, nI tc, nI sm, nI sv, f_resPart, nI R, nI rc, f_top, f_pc, f_pos, f_from, a_vec, upd a_buf T.length (nI t), op', a_pat, a_reads, a_op, a_arg, a_lev, a_lo, a_hi, a_lazy, a_useMax, a_branchAt, a_jumpAt, a_enterAt, a_terms, a_cells, a_rowCount, a_startOf, a_lengthOf, a_labels, a_outcome, a_loop, a_stack) (nI n, nI (T.length + 1), nI pl, nI tc, nI sm, nI sv, yf_resPart, nI R, nI rc, yf_tooBig, upd a_buf T.length (nI t), a_pat, a_terms, a_cells, a_rowCount, ya_lists, ya_len, a_startOf, ya_matchEntry, ya_tried) :=
    fun hb => rl_mk ⟨hF.1, hF.2.1, hb, hF.2.2.2⟩
  refine br_c (fun h1 => br_t h1 ⟨rfl, rl_mk hF⟩) (fun h1 => br_c (fun h2 => ?_) (fun h2 => br_f h1 (br_f h2 ⟨rfl, rl_mk hF⟩)))
  obtain ⟨t, ht, rfl⟩ := nI_of2 (M := 10) (n := 10) (by decide) h1 h2
  refine pk_lt T.length 24 (fun hlt => ?_) (fun hge => ?_)
  · have n24 : ¬ nI T.length = 24 := fun hh => by have := (nI_eq (b := 24) (by omega) (by omega)).mp hh; omega
    have hg0 : (tk_S T).getD 0 0 ≤ 8 := by
      cases hS : tk_S T with
      | nil => exact Nat.zero_le _
      | cons a r =>
        have := h68.1 a (by rw [hS]; exact List.mem_cons_self)
        show a ≤ 8
        omega
    have eg : (10 * nI (tk_S T).length) + nI ((tk_S T).getD 0 0) = nI (10 * (tk_S T).length + (tk_S T).getD 0 0) := by
      have q1 : (10 : Int32) * nI (tk_S T).length = nI (10 * (tk_S T).length) := pk_mul 10 _
      rw [q1, nI_add]
    have ed : nI (10 * (tk_S T).length + (tk_S T).getD 0 0) / 10 = nI (tk_S T).length := by
      have := pk_div (a := 10 * (tk_S T).length + (tk_S T).getD 0 0) (d := 10) (by omega) (by omega) (by omega)
      refine this.trans (congrArg nI ?_)
      omega
    have er : nI (10 * (tk_S T).length + (tk_S T).getD 0 0) - nI (10 * (tk_S T).length + (tk_S T).getD 0 0) / 10 * 10 = nI ((tk_S T).getD 0 0) := by
      have := pk_rem (a := 10 * (tk_S T).length + (tk_S T).getD 0 0) (d := 10) (by omega) (by omega) (by omega)
      refine this.trans (congrArg nI ?_)
      omega
    have y0 : ∀ {P : Int32 → SY → Prop}, ((nI t = 6 → wY_put_41 P (nI t) (nI (10 * (tk_S T).length + (tk_S T).getD 0 0)) (nI n) (nI T.length) (nI pl) (nI tc) (nI sm) (nI sv) yf_resPart (nI R) (nI rc) yf_tooBig a_buf a_pat a_terms a_cells a_rowCount ya_lists ya_len a_startOf ya_matchEntry ya_tried) ∧ (¬ nI t = 6 → ((nI t = 8 → wY_put_41 P (nI t) (nI (10 * (tk_S T).length + (tk_S T).getD 0 0)) (nI n) (nI T.length) (nI pl) (nI tc) (nI sm) (nI sv) yf_resPart (nI R) (nI rc) yf_tooBig a_buf a_pat a_terms a_cells a_rowCount ya_lists ya_len a_startOf ya_matchEntry ya_tried) ∧ (¬ nI t = 8 → wY_put_52 P (nI t) (nI (10 * (tk_S T).length + (tk_S T).getD 0 0)) (nI n) (nI T.length) (nI pl) (nI tc) (nI sm) (nI sv) yf_resPart (nI R) (nI rc) yf_tooBig a_buf a_pat a_terms a_cells a_rowCount ya_lists ya_len a_startOf ya_matchEntry ya_tried)))) → wpY_put P (nI n, nI T.length, nI pl, nI tc, nI sm, nI sv, yf_resPart, nI R, nI rc, yf_tooBig, a_buf, a_pat, a_terms, a_cells, a_rowCount, ya_lists, ya_len, a_startOf, ya_matchEntry, ya_tried) (nI t) := by
      intro P hP
      refine br_f h1 (br_t h2 (br_f n24 ?_))
      refine yo_open h6 b2 b3 b4 ?_
      rw [eg]
      exact hP
    have lst : ∀ {P : Int32 → SY → Prop} {x2 z : Int32}, ¬ (t = 7 ∨ t = 9 ∨ t = 10) → wY_put_138 P (nI t) (nI n) (nI T.length) (nI pl) (nI tc) (nI sm) (nI sv) yf_resPart (nI R) (nI rc) yf_tooBig a_buf a_pat a_terms a_cells a_rowCount ya_lists ya_len a_startOf ya_matchEntry ya_tried → wY_put_87 P (nI t) x2 z (nI n) (nI T.length) (nI pl) (nI tc) (nI sm) (nI sv) yf_resPart (nI R) (nI rc) yf_tooBig a_buf a_pat a_terms a_cells a_rowCount ya_lists ya_len a_startOf ya_matchEntry ya_tried := by
      intro P x2 z hn3 h
      exact pk_eq t 7 (fun q => by omega) (fun q7 => pk_eq t 9 (fun q => by omega) (fun q9 => pk_eq t 10 (fun q => by omega) (fun q10 => pk_eq t 7 (fun q => by omega) (fun _ => pk_eq t 9 (fun q => by omega) (fun _ => h)))))
    have yapp : ∀ {oc' : Nat} {op' : Nat → Int32}, ¬ (t = 7 ∨ t = 9 ∨ t = 10) → rl_B n (T.length + 1) oc' (t :: T) (upd a_buf T.length (nI t)) op' → wY_put_52 (fun r' v' => r' = nI (T.length + 1) ∧ i_Rel (k + 5) (f_opRow, f_opFirst, f_opFinal, f_opBranch, f_opJump, f_opEnter, f_opNext, f_opDecide, f_opDone, f_catSlot, f_itemSlot, f_rowsSlot, f_timesSlot, f_scratchSlot, nI n, nI (T.length + 1), nI oc', nI pl, f_codeLen, f_depth, f_excluded, nI tc, nI sm, nI sv, f_resPart, nI R, nI rc, f_top, f_pc, f_pos, f_from, a_vec, upd a_buf T.length (nI t), op', a_pat, a_reads, a_op, a_arg, a_lev, a_lo, a_hi, a_lazy, a_useMax, a_branchAt, a_jumpAt, a_enterAt, a_terms, a_cells, a_rowCount, a_startOf, a_lengthOf, a_labels, a_outcome, a_loop, a_stack) v') (nI t) (nI (10 * (tk_S T).length + (tk_S T).getD 0 0)) (nI n) (nI T.length) (nI pl) (nI tc) (nI sm) (nI sv) yf_resPart (nI R) (nI rc) yf_tooBig a_buf a_pat a_terms a_cells a_rowCount ya_lists ya_len a_startOf ya_matchEntry ya_tried := by
      intro oc' op' hn3 hb
      exact yp_52 h6 b2 b3 b4 (fun _ => lst hn3 (yp_138 hlt ⟨rfl, mk hb⟩)) (fun _ => lst hn3 (yp_138 hlt ⟨rfl, mk hb⟩))
    have opn : t = 6 ∨ t = 8 → wX_put_36 (fun r u' => wpY_put (fun r' v' => r' = r ∧ i_Rel (k + 5) u' v') (nI n, nI T.length, nI pl, nI tc, nI sm, nI sv, yf_resPart, nI R, nI rc, yf_tooBig, a_buf, a_pat, a_terms, a_cells, a_rowCount, ya_lists, ya_len, a_startOf, ya_matchEntry, ya_tried) (nI t)) (nI t) f_opRow f_opFirst f_opFinal f_opBranch f_opJump f_opEnter f_opNext f_opDecide f_opDone f_catSlot f_itemSlot f_rowsSlot f_timesSlot f_scratchSlot (nI n) (nI T.length) (nI (tk_S T).length) (nI pl) f_codeLen f_depth f_excluded (nI tc) (nI sm) (nI sv) f_resPart (nI R) (nI rc) f_top f_pc f_pos f_from a_vec a_buf a_opened a_pat a_reads a_op a_arg a_lev a_lo a_hi a_lazy a_useMax a_branchAt a_jumpAt a_enterAt a_terms a_cells a_rowCount a_startOf a_lengthOf a_labels a_outcome a_loop a_stack := by
      intro ho
      refine pk_lt (tk_S T).length 3 (fun q => ?_) (fun q => ?_)
      · refine ⟨vp_in_nI q (by omega), ?_⟩
        rw [nI_clamp (n := (tk_S T).length) (by omega)]
        refine nm_e (nm_r (nI_1 _) (xp_129 hlt (y0 ?_)))
        have k41 : ∀ {P : Int32 → SY → Prop}, wY_put_52 P (nI t) (nI (10 * (tk_S T).length + (tk_S T).getD 0 0)) (nI n) (nI T.length) (nI pl) (nI tc) (nI sm) (nI sv) yf_resPart (nI R) (nI rc) yf_tooBig a_buf a_pat a_terms a_cells a_rowCount ya_lists ya_len a_startOf ya_matchEntry ya_tried → wY_put_41 P (nI t) (nI (10 * (tk_S T).length + (tk_S T).getD 0 0)) (nI n) (nI T.length) (nI pl) (nI tc) (nI sm) (nI sv) yf_resPart (nI R) (nI rc) yf_tooBig a_buf a_pat a_terms a_cells a_rowCount ya_lists ya_len a_startOf ya_matchEntry ya_tried := by
          intro P h
          refine ⟨by decide, ?_⟩
          rw [ed]
          exact br_f (fun hh => by have := (nI_eq (b := 3) (by omega) (by omega)).mp hh; omega) h
        have go := yapp (by omega) (bu_open hB hlt ho q)
        exact br_c (fun _ => k41 go) (fun _ => br_c (fun _ => k41 go) (fun _ => go))
      · have k41 : wY_put_41 (fun r' v' => r' = -3 ∧ i_Rel (k + 5) (f_opRow, f_opFirst, f_opFinal, f_opBranch, f_opJump, f_opEnter, f_opNext, f_opDecide, f_opDone, f_catSlot, f_itemSlot, f_rowsSlot, f_timesSlot, f_scratchSlot, nI n, nI T.length, nI (tk_S T).length, nI pl, f_codeLen, f_depth, f_excluded, nI tc, nI sm, nI sv, f_resPart, nI R, nI rc, f_top, f_pc, f_pos, f_from, a_vec, a_buf, a_opened, a_pat, a_reads, a_op, a_arg, a_lev, a_lo, a_hi, a_lazy, a_useMax, a_branchAt, a_jumpAt, a_enterAt, a_terms, a_cells, a_rowCount, a_startOf, a_lengthOf, a_labels, a_outcome, a_loop, a_stack) v') (nI t) (nI (10 * (tk_S T).length + (tk_S T).getD 0 0)) (nI n) (nI T.length) (nI pl) (nI tc) (nI sm) (nI sv) yf_resPart (nI R) (nI rc) yf_tooBig a_buf a_pat a_terms a_cells a_rowCount ya_lists ya_len a_startOf ya_matchEntry ya_tried := by
          refine ⟨by decide, ?_⟩
          rw [ed]
          have : (tk_S T).length = 3 := by omega
          exact br_t (by rw [this]; rfl) ⟨rfl, rl_mk hF⟩
        refine y0 (br_c (fun _ => k41) (fun a => br_c (fun _ => k41) (fun b => ?_)))
        rcases ho with ho | ho
        · exact absurd (by rw [ho]; rfl) a
        · exact absurd (by rw [ho]; rfl) b
    refine pk_eq t 6 (fun q6 => opn (Or.inl q6)) (fun q6 => pk_eq t 8 (fun q8 => opn (Or.inr q8)) (fun q8 => pk_lt t 7 (fun q7 => ?_) (fun q7 => ?_)))
    · have n6 : ¬ nI t = 6 := fun hh => q6 ((nI_eq (b := 6) (by omega) (by omega)).mp hh)
      have n8 : ¬ nI t = 8 := fun hh => q8 ((nI_eq (b := 8) (by omega) (by omega)).mp hh)
      exact xp_129 hlt (y0 (br_f n6 (br_f n8 (yapp (by omega) (bu_same hB hlt (Or.inl (by omega)) (by rw [tk_S, if_neg (by omega), if_neg (by omega)]))))))
    · have n6 : ¬ nI t = 6 := fun hh => q6 ((nI_eq (b := 6) (by omega) (by omega)).mp hh)
      have n8 : ¬ nI t = 8 := fun hh => q8 ((nI_eq (b := 8) (by omega) (by omega)).mp hh)
      have ybad : ∀ {P : Int32 → SY → Prop} {x2 : Int32}, P (-4) (nI n, nI T.length, nI pl, nI tc, nI sm, nI sv, yf_resPart, nI R, nI rc, yf_tooBig, a_buf, a_pat, a_terms, a_cells, a_rowCount, ya_lists, ya_len, a_startOf, ya_matchEntry, ya_tried) → wY_put_87 P (nI t) x2 0 (nI n) (nI T.length) (nI pl) (nI tc) (nI sm) (nI sv) yf_resPart (nI R) (nI rc) yf_tooBig a_buf a_pat a_terms a_cells a_rowCount ya_lists ya_len a_startOf ya_matchEntry ya_tried := by
        intro P x2 h
        exact pk_eq t 7 (fun _ => br_t rfl h) (fun q7 => pk_eq t 9 (fun _ => br_t rfl h) (fun q9 => pk_eq t 10 (fun _ => br_t rfl h) (fun q10 => by omega)))
      have ygood : ∀ {P : Int32 → SY → Prop} {x2 : Int32}, wY_put_113 P (nI t) x2 (nI n) (nI T.length) (nI pl) (nI tc) (nI sm) (nI sv) yf_resPart (nI R) (nI rc) yf_tooBig a_buf a_pat a_terms a_cells a_rowCount ya_lists ya_len a_startOf ya_matchEntry ya_tried → wY_put_87 P (nI t) x2 1 (nI n) (nI T.length) (nI pl) (nI tc) (nI sm) (nI sv) yf_resPart (nI R) (nI rc) yf_tooBig a_buf a_pat a_terms a_cells a_rowCount ya_lists ya_len a_startOf ya_matchEntry ya_tried := by
        intro P x2 h
        exact pk_eq t 7 (fun _ => br_f (by decide) h) (fun q7 => pk_eq t 9 (fun _ => br_f (by decide) h) (fun q9 => pk_eq t 10 (fun _ => br_f (by decide) h) (fun q10 => by omega)))
      refine xo_ends h6 b2 b3 b4 ?_ ?_
      · intro hie
        refine br_f (by decide) (pk_eq t 10 (fun q10 => ?_) (fun q10 => ?_))
        · refine xp_129 hlt (y0 (br_f n6 (br_f n8 (yp_52 h6 b2 b3 b4 (fun _ => ygood ?_) (fun hh => absurd hie hh)))))
          exact pk_eq t 7 (fun q => by omega) (fun _ => pk_eq t 9 (fun q => by omega) (fun _ => yp_138 hlt ⟨rfl, mk (bu_same hB hlt (Or.inr (Or.inr (Or.inr (Or.inl ⟨q10, hie⟩)))) (by rw [tk_S, if_neg (by omega), if_neg (by omega)]))⟩))
        · have ht79 : t = 7 ∨ t = 9 := by omega
          have y113 : ∀ {P : Int32 → SY → Prop}, ((nI ((tk_S T).getD 0 0) = nI t - 1 → wY_put_138 P (nI t) (nI n) (nI T.length) (nI pl) (nI tc) (nI sm) (nI sv) yf_resPart (nI R) (nI rc) yf_tooBig a_buf a_pat a_terms a_cells a_rowCount ya_lists ya_len a_startOf ya_matchEntry ya_tried) ∧ (¬ nI ((tk_S T).getD 0 0) = nI t - 1 → P (-4) (nI n, nI T.length, nI pl, nI tc, nI sm, nI sv, yf_resPart, nI R, nI rc, yf_tooBig, a_buf, a_pat, a_terms, a_cells, a_rowCount, ya_lists, ya_len, a_startOf, ya_matchEntry, ya_tried))) → wpY_put P (nI n, nI T.length, nI pl, nI tc, nI sm, nI sv, yf_resPart, nI R, nI rc, yf_tooBig, a_buf, a_pat, a_terms, a_cells, a_rowCount, ya_lists, ya_len, a_startOf, ya_matchEntry, ya_tried) (nI t) := by
            intro P h
            refine y0 (br_f n6 (br_f n8 (yp_52 h6 b2 b3 b4 (fun _ => ygood ?_) (fun hh => absurd hie hh))))
            have k125 : wY_put_125 P (nI t) (nI (10 * (tk_S T).length + (tk_S T).getD 0 0)) (nI n) (nI T.length) (nI pl) (nI tc) (nI sm) (nI sv) yf_resPart (nI R) (nI rc) yf_tooBig a_buf a_pat a_terms a_cells a_rowCount ya_lists ya_len a_startOf ya_matchEntry ya_tried := by
              refine ⟨by decide, ?_⟩
              rw [er]
              exact h
            exact pk_eq t 7 (fun _ => k125) (fun _ => pk_eq t 9 (fun _ => k125) (fun _ => by omega))
          have et1 : nI t - 1 = nI (t - 1) := pk_sub (b := 1) (by omega)
          refine pk_eq (tk_S T).length 0 (fun q0 => ?_) (fun q0 => ?_)
          · refine y113 (br_f ?_ ⟨rfl, rl_mk hF⟩)
            have e0 : (tk_S T).getD 0 0 = 0 := by
              cases hS : tk_S T with
              | nil => rfl
              | cons a r => rw [hS] at q0; exact absurd q0 (Nat.succ_ne_zero _)
            rw [e0, et1]
            intro hh
            have := (nI_eq (by omega) (by omega)).mp hh
            omega
          · have e1 : nI (tk_S T).length - 1 = nI ((tk_S T).length - 1) := pk_sub (b := 1) (by omega)
            have e2 := b6 ((tk_S T).length - 1) (by omega)
            rw [Nat.sub_self] at e2
            rw [e1, nI_clamp (n := (tk_S T).length - 1) (by omega), e2, et1]
            refine ⟨vp_in_nI (by omega) (by omega), pk_eq ((tk_S T).getD 0 0) (t - 1) (fun q => ?_) (fun q => ?_)⟩
            · have hh : (tk_S T).head? = some (t - 1) := by
                cases hS : tk_S T with
                | nil => rw [hS] at q0; exact absurd rfl q0
                | cons a r =>
                  rw [hS] at q
                  have : a = t - 1 := q
                  rw [this]; rfl
              refine nm_e (xp_129 hlt (y113 (br_t (by rw [q, et1]) (yp_138 hlt ⟨rfl, mk (bu_close hB hlt ht79 hie hh)⟩))))
            · refine y113 (br_f ?_ ⟨rfl, rl_mk hF⟩)
              rw [et1]
              intro hh
              exact q ((nI_eq (by omega) (by omega)).mp hh)
      · intro hie
        refine br_t rfl (y0 (br_f n6 (br_f n8 (yp_52 h6 b2 b3 b4 (fun hh => absurd hh hie) (fun _ => ybad ⟨rfl, rl_mk hF⟩)))))
  · have e : T.length = 24 := by omega
    exact br_f h1 (br_t h2 (br_t (by rw [e]; rfl) ⟨rfl, rl_mk hF⟩))
theorem i_vc_quant {k : Nat} {u : SX} {v : SY} (I : i_Rel k u v) (hk : k + 5 ≤ 2561) (v1 : Int32) (v2 : Int32) (v3 : Int32) : wpX_quant (fun r u' => wpY_quant (fun r' v' => r' = r ∧ i_Rel (k + 5) u' v') v v1 v2 (lw_bz v3)) u v1 v2 (lw_bz v3) := by
  refine I (fun u v => wpX_quant (fun r u' => wpY_quant (fun r' v' => r' = r ∧ i_Rel (k + 5) u' v') v v1 v2 (lw_bz v3)) u v1 v2 (lw_bz v3)) ?_
  intro n bl oc pl tc sm sv R rc T Ms f_opRow f_opFirst f_opFinal f_opBranch f_opJump f_opEnter f_opNext f_opDecide f_opDone f_catSlot f_itemSlot f_rowsSlot f_timesSlot f_scratchSlot f_codeLen f_depth f_excluded f_resPart f_top f_pc f_pos f_from yf_resPart yf_tooBig a_vec a_buf a_opened a_pat a_reads a_op a_arg a_lev a_lo a_hi a_lazy a_useMax a_branchAt a_jumpAt a_enterAt a_terms a_cells a_rowCount a_startOf a_lengthOf a_labels a_outcome a_loop ya_len ya_tried a_stack ya_lists ya_matchEntry hF
  have h6 := hF.1.2
  have hB := hF.2.2.1
  obtain ⟨b1, b2, b3, b4, b5, b6⟩ := hF.2.2.1
  subst b1
  refine br_c (fun h1 => br_t h1 ⟨rfl, rl_mk hF⟩) (fun h1 => br_c (fun h2 => br_f h1 (br_t h2 ⟨rfl, rl_mk hF⟩)) (fun h2 => br_c (fun h3 => br_f h1 (br_f h2 (br_t h3 ⟨rfl, rl_mk hF⟩))) (fun h3 => br_c (fun h4 => ?_) (fun h4 => br_f h1 (br_f h2 (br_f h3 (br_f h4 ⟨rfl, rl_mk hF⟩)))))))
  have h20 : ¬ v2 < 0 := fun q => h2 (Int32.lt_trans q (by decide))
  obtain ⟨mx, hmx, rfl⟩ := nI_of h20
  have hmx1 : 1 ≤ mx := by
    rcases Nat.eq_zero_or_pos mx with h | h
    · rw [h] at h2; exact absurd (by decide) h2
    · exact h
  have hmxn : mx ≤ n := by
    rcases Nat.lt_or_ge n mx with h | h
    · exact absurd (nI_lt h hmx) h3
    · exact h
  obtain ⟨mn, hmn, rfl⟩ := nI_of h1
  have hmm : mn ≤ mx := (nI_leI hmn hmx).mp h4
  refine pk_lt T.length 24 (fun hlt => ?_) (fun hge => ?_)
  · have n24 : ¬ nI T.length = 24 := fun hh => by have := (nI_eq (b := 24) (by omega) (by omega)).mp hh; omega
    have ym : ∀ {P : Int32 → SY → Prop}, (tk_ae T → ((lw_bz v3 = 0 → wY_quant_74 P 0 ((100 + (20 * nI mn)) + (2 * nI mx)) (nI T.length) (nI n) (nI T.length) (nI pl) (nI tc) (nI sm) (nI sv) yf_resPart (nI R) (nI rc) yf_tooBig a_buf a_pat a_terms a_cells a_rowCount ya_lists ya_len a_startOf ya_matchEntry ya_tried) ∧ (¬ lw_bz v3 = 0 → wY_quant_74 P 1 ((100 + (20 * nI mn)) + (2 * nI mx)) (nI T.length) (nI n) (nI T.length) (nI pl) (nI tc) (nI sm) (nI sv) yf_resPart (nI R) (nI rc) yf_tooBig a_buf a_pat a_terms a_cells a_rowCount ya_lists ya_len a_startOf ya_matchEntry ya_tried))) → (¬ tk_ae T → P (-4) (nI n, nI T.length, nI pl, nI tc, nI sm, nI sv, yf_resPart, nI R, nI rc, yf_tooBig, a_buf, a_pat, a_terms, a_cells, a_rowCount, ya_lists, ya_len, a_startOf, ya_matchEntry, ya_tried)) → wpY_quant P (nI n, nI T.length, nI pl, nI tc, nI sm, nI sv, yf_resPart, nI R, nI rc, yf_tooBig, a_buf, a_pat, a_terms, a_cells, a_rowCount, ya_lists, ya_len, a_startOf, ya_matchEntry, ya_tried) (nI mn) (nI mx) (lw_bz v3) := by
      intro P g1 g0
      refine br_f h1 (br_f h2 (br_f h3 (br_t h4 (br_f n24 ?_))))
      refine yo_ends h6 b2 b3 b4 ?_ ?_
      · intro ha; exact br_f (by decide) (g1 ha)
      · intro ha; exact br_t rfl (g0 ha)
    have ev : ∀ z : Nat, ((100 + (20 * nI mn)) + (2 * nI mx)) + nI z = nI (100 + 20 * mn + 2 * mx + z) := by
      intro z
      have q1 : (20 : Int32) * nI mn = nI (20 * mn) := pk_mul 20 mn
      have q2 : (2 : Int32) * nI mx = nI (2 * mx) := pk_mul 2 mx
      have q3 : (100 : Int32) + nI (20 * mn) = nI (100 + 20 * mn) := nI_add 100 _
      rw [q1, q2, q3, nI_add, nI_add]
    have ev0 : ((100 + (20 * nI mn)) + (2 * nI mx)) + 0 = nI (100 + 20 * mn + 2 * mx + 0) := ev 0
    have ev1 : ((100 + (20 * nI mn)) + (2 * nI mx)) + 1 = nI (100 + 20 * mn + 2 * mx + 1) := ev 1
    refine xo_ends h6 b2 b3 b4 ?_ ?_
    · intro hie
      refine br_f (by decide) ?_
      cases T with
      | nil => exact absurd hie (fun h => h)
      | cons t r =>
        have hb0 := b4 r.length (by rw [List.length_cons]; omega)
        rw [tk_b0] at hb0
        have htok := tk_tok h6 b3 t List.mem_cons_self
        have e0 : nI (t :: r).length - 1 = nI r.length := nI_pred r.length
        rw [List.length_cons] at hlt
        rw [e0, nI_clamp (n := r.length) (by omega), hb0]
        refine ⟨vp_in_nI (by omega) (by omega), pk_lt t 100 (fun q => ?_) (fun q => ?_)⟩
        · have hae : tk_ae (t :: r) := by
            rcases hie with h | h | h | h
            · exact Or.inl h
            · exact Or.inr (Or.inl h)
            · exact Or.inr (Or.inr h)
            · omega
          have nb : ∀ z, z < 2 → rl_B n ((t :: r).length + 1) oc ((100 + 20 * mn + 2 * mx + z) :: t :: r) (upd a_buf (t :: r).length (nI (100 + 20 * mn + 2 * mx + z))) a_opened := fun z hz =>
            bu_same hB (by rw [List.length_cons]; omega) (Or.inr (Or.inr (Or.inr (Or.inr ⟨⟨mn, mx, z, rfl, hmm, hmx1, hmxn, hz⟩, hae⟩)))) (by rw [tk_S, if_neg (by omega), if_neg (by omega)])
          refine br_c (fun z0 => xp_83 (by rw [List.length_cons]; omega) (ym (fun _ => br_t z0 (yp_74 (by rw [List.length_cons]; omega) ⟨rfl, ?_⟩)) (fun hh => absurd hae hh))) (fun z0 => xp_83 (by rw [List.length_cons]; omega) (ym (fun _ => br_f z0 (yp_74 (by rw [List.length_cons]; omega) ⟨rfl, ?_⟩)) (fun hh => absurd hae hh)))
          · rw [ev0]; exact rl_mk ⟨hF.1, hF.2.1, nb 0 (by omega), hF.2.2.2⟩
          · rw [ev1]; exact rl_mk ⟨hF.1, hF.2.1, nb 1 (by omega), hF.2.2.2⟩
        · refine ym (fun hh => ?_) (fun _ => ⟨rfl, rl_mk hF⟩)
          exfalso
          rcases hh with h | h | h <;> omega
    · intro hie
      refine br_t rfl (ym (fun hh => absurd ?_ hie) (fun _ => ⟨rfl, rl_mk hF⟩))
      cases T with
      | nil => exact hh
      | cons t r => rcases hh with h | h | h
                    · exact Or.inl h
                    · exact Or.inr (Or.inl h)
                    · exact Or.inr (Or.inr (Or.inl h))
  · have e : T.length = 24 := by omega
    exact br_f h1 (br_f h2 (br_f h3 (br_t h4 (br_t (by rw [e]; rfl) ⟨rfl, rl_mk hF⟩))))
end
section
/-! ===== one row of a run, the component's side ===== -/
def rn_f (sm sv : Nat) (g : Nat → Nat) : Nat → Option Nat
  | 0 => none
  | i + 1 => if g i % 4 = sv ∧ (rn_f sm sv g i = none ∨ sm = 3) then some i else rn_f sm sv g i
def rn_nx (sm sv s z : Nat) (g : Nat → Nat) : Option Nat :=
  if z = 0 then some (s + 1) else if sm = 0 then some (s + z) else if sm = 1 then some (s + 1) else match rn_f sm sv g z with
    | some (j + 1) => some (s + (j + 1))
    | _ => none
def rn_e (o : Option Nat) : Int32 := match o with
  | some j => nI j
  | none => -1
theorem rn_f_lt {sm sv : Nat} {g : Nat → Nat} : ∀ {i j : Nat}, rn_f sm sv g i = some j → j < i := by
  intro i
  induction i with
  | zero => intro j h; cases h
  | succ i ih =>
    intro j h
    rw [rn_f] at h
    split at h
    · have : i = j := Option.some.inj h
      omega
    · have := ih h; omega
section
variable {f_opRow f_opFirst f_opFinal f_opBranch f_opJump f_opEnter f_opNext f_opDecide f_opDone f_catSlot f_itemSlot f_rowsSlot f_timesSlot f_scratchSlot f_size f_bufLen f_openCount f_patLen f_codeLen f_depth f_excluded f_termCount f_skipMode f_skipVar f_resPart f_resRows f_resCount f_top f_pc f_pos f_from : Int32} {a_vec a_buf a_opened a_pat a_reads a_op a_arg a_lev a_lo a_hi a_lazy a_useMax a_branchAt a_jumpAt a_enterAt a_terms a_cells a_rowCount a_startOf a_lengthOf a_labels a_outcome a_loop : Nat → Int32} {a_stack : Nat → Int64}
theorem rn_nextL {post : Int32 → Prop} {m s z sm sv : Nat} {g : Nat → Nat} (hm : m < 6) (hz : z ≤ 6) (hs : s < 6) (hsm : sm < 4) (hsv : sv < 4) (hln : a_lengthOf m = nI z) (hlab : ∀ j, j < z → a_labels (6 * m + j) = nI (g j) ∧ g j < 8)
    (hp : post (match rn_f sm sv g z with | some (j + 1) => nI (s + (j + 1)) | _ => -1)) :
    ∀ d i, i + d = z → wX_nextStart_40 post (nI m) (nI s) f_opRow f_opFirst f_opFinal f_opBranch f_opJump f_opEnter f_opNext f_opDecide f_opDone f_catSlot f_itemSlot f_rowsSlot f_timesSlot f_scratchSlot f_size f_bufLen f_openCount f_patLen f_codeLen f_depth f_excluded f_termCount (nI sm) (nI sv) f_resPart f_resRows f_resCount f_top f_pc f_pos f_from a_vec a_buf a_opened a_pat a_reads a_op a_arg a_lev a_lo a_hi a_lazy a_useMax a_branchAt a_jumpAt a_enterAt a_terms a_cells a_rowCount a_startOf a_lengthOf a_labels a_outcome a_loop a_stack (d + 1) (rn_e (rn_f sm sv g i)) (nI i) := by
  intro d
  induction d with
  | zero =>
    intro i hi
    have : i = z := by omega
    subst this
    unfold wX_nextStart_40
    rw [nI_clamp (n := m) (by omega), hln]
    refine ⟨vp_in_nI hm (by omega), br_t (nI_le (Nat.le_refl _) (by omega)) ?_⟩
    cases hf : rn_f sm sv g i with
    | none => rw [hf] at hp; exact br_f (by decide) hp
    | some j =>
      rw [hf] at hp
      have hji := rn_f_lt hf
      cases j with
      | zero => exact br_f (by decide) hp
      | succ j =>
        refine br_t (nI_lt (a := 0) (by omega) (by omega)) ?_
        show post (nI s + nI (j + 1))
        rw [nI_add]; exact hp
  | succ d ih =>
    intro i hi
    have nx := ih (i + 1) (by omega)
    have hl := hlab i (by omega)
    have e1 : nI m * 6 + nI i = nI (6 * m + i) := by
      have b1 : nI m * 6 = nI (m * 6) := pk_mul m 6
      rw [b1, nI_add]; exact congrArg nI (by omega)
    unfold wX_nextStart_40
    rw [nI_clamp (n := m) (by omega), hln, e1, nI_clamp (n := 6 * m + i) (by omega), hl.1, hv_lab hl.2]
    refine ⟨vp_in_nI hm (by omega), br_f (nI_ge (by omega) (by omega)) ⟨vp_in_nI (by omega) (by omega), by decide, pk_eq (g i % 4) sv (fun q => br_f (by decide) ?_) (fun q => br_t rfl ?_)⟩⟩
    · rw [rn_f] at nx
      cases hf : rn_f sm sv g i with
      | none =>
        rw [if_pos ⟨q, Or.inl hf⟩] at nx
        exact br_t (by decide) (nm_r (nI_1 i) nx)
      | some j =>
        have hji := rn_f_lt hf
        refine br_f (nI_pos (n := j) (by omega)) (pk_eq sm 3 (fun q3 => ?_) (fun q3 => ?_))
        · rw [if_pos ⟨q, Or.inr q3⟩] at nx
          exact nm_r (nI_1 i) nx
        · rw [if_neg (by rw [hf]; intro hh; rcases hh.2 with h | h; exact absurd h (by simp); exact q3 h), hf] at nx
          exact nm_r (nI_1 i) nx
    · rw [rn_f, if_neg (fun hh => q hh.1)] at nx
      exact nm_r (nI_1 i) nx
theorem rn_next {post : Int32 → Prop} {m s z sm sv : Nat} {g : Nat → Nat} (hm : m < 6) (hz0 : z ≠ 0) (hz : z ≤ 6) (hs : s < 6) (hsm : sm < 4) (hsv : sv < 4) (hst : a_startOf m = nI s) (hln : a_lengthOf m = nI z) (hlab : ∀ j, j < z → a_labels (6 * m + j) = nI (g j) ∧ g j < 8)
    (hp : post (rn_e (rn_nx sm sv s z g))) : wpX_nextStart post (f_opRow, f_opFirst, f_opFinal, f_opBranch, f_opJump, f_opEnter, f_opNext, f_opDecide, f_opDone, f_catSlot, f_itemSlot, f_rowsSlot, f_timesSlot, f_scratchSlot, f_size, f_bufLen, f_openCount, f_patLen, f_codeLen, f_depth, f_excluded, f_termCount, nI sm, nI sv, f_resPart, f_resRows, f_resCount, f_top, f_pc, f_pos, f_from, a_vec, a_buf, a_opened, a_pat, a_reads, a_op, a_arg, a_lev, a_lo, a_hi, a_lazy, a_useMax, a_branchAt, a_jumpAt, a_enterAt, a_terms, a_cells, a_rowCount, a_startOf, a_lengthOf, a_labels, a_outcome, a_loop, a_stack) (nI m) := by
  unfold rn_nx at hp
  rw [if_neg hz0] at hp
  unfold wpX_nextStart
  dsimp only
  rw [nI_clamp (n := m) (by omega), hst, hln]
  refine ⟨vp_in_nI hm (by omega), nm_e (pk_eq sm 0 (fun q => ?_) (fun q => pk_eq sm 1 (fun q1 => ?_) (fun q1 => ?_)))⟩
  · rw [if_pos q] at hp
    refine ⟨vp_in_nI hm (by omega), ?_⟩
    rw [nI_add]; exact hp
  · rw [if_neg q, if_pos q1] at hp
    rw [nI_1]; exact hp
  · rw [if_neg q, if_neg q1] at hp
    refine ⟨z + 1, rn_nextL hm hz hs hsm hsv hln hlab ?_ z 0 (by omega)⟩
    revert hp
    cases rn_f sm sv g z with
    | none => intro hp; exact hp
    | some j => cases j with
      | zero => intro hp; exact hp
      | succ j => intro hp; exact hp
theorem rn_try {P : Int32 → SX → Prop} {part s rc R tc n e S D sm sv : Nat} {W : List (List Nat)} {k : Nat → Nat} (hn6 : n ≤ 6) (hRn : R ≤ n) (hsR : s < R) (hpart : part < 3) (hrc : rc ≤ s) (hsm : sm < 4) (hsv : sv < 4) (hT : hv_T a_terms tc) (he : e < 63) (hop : a_op e = 8)
    (hB : bk_Blk (sr_C a_op a_arg a_lev a_lo a_hi a_lazy) n 0 e W k S D 0) (hS : S + D * 6 ≤ 4096) (hk : ∀ r, r ≤ 6 → k r < 999999999999) (hlp : ∀ j, j < 8 → ∃ q : Nat, a_loop j = nI q ∧ q < 8)
    (h0 : W.find? (wd_v (sr_ok a_terms a_cells tc part s R) (sr_fi s) (sr_la s R) []) = none → ∀ (pc pos : Int32) (lab lp : Nat → Int32) (st : Nat → Int64), (∀ j, j < 6 * rc → lab j = a_labels j) → (∀ j, j < 8 → ∃ q : Nat, lp j = nI q ∧ q < 8) → P (nI (s + 1)) (f_opRow, f_opFirst, f_opFinal, f_opBranch, f_opJump, f_opEnter, f_opNext, f_opDecide, f_opDone, f_catSlot, f_itemSlot, f_rowsSlot, f_timesSlot, f_scratchSlot, f_size, f_bufLen, f_openCount, f_patLen, f_codeLen, f_depth, f_excluded, nI tc, nI sm, nI sv, nI part, nI R, nI rc, 0, pc, pos, nI s, a_vec, a_buf, a_opened, a_pat, a_reads, a_op, a_arg, a_lev, a_lo, a_hi, a_lazy, a_useMax, a_branchAt, a_jumpAt, a_enterAt, a_terms, a_cells, a_rowCount, a_startOf, a_lengthOf, lab, upd a_outcome s 1, lp, st))
    (h1 : ∀ (w : List Nat) (top pc : Int32) (lab lp : Nat → Int32) (st : Nat → Int64), W.find? (wd_v (sr_ok a_terms a_cells tc part s R) (sr_fi s) (sr_la s R) []) = some w → (∀ j, j < wd_sz w → lab (6 * rc + j) = nI ((wd_sg w).getD j 0)) → (∀ j, j < 6 * rc → lab j = a_labels j) → (∀ j, j < 8 → ∃ q : Nat, lp j = nI q ∧ q < 8) → s + wd_sz w ≤ R →
      P (rn_e (rn_nx sm sv s (wd_sz w) (fun j => (wd_sg w).getD j 0))) (f_opRow, f_opFirst, f_opFinal, f_opBranch, f_opJump, f_opEnter, f_opNext, f_opDecide, f_opDone, f_catSlot, f_itemSlot, f_rowsSlot, f_timesSlot, f_scratchSlot, f_size, f_bufLen, f_openCount, f_patLen, f_codeLen, f_depth, f_excluded, nI tc, nI sm, nI sv, nI part, nI R, nI (rc + 1), top, pc, nI (wd_sz w), nI s, a_vec, a_buf, a_opened, a_pat, a_reads, a_op, a_arg, a_lev, a_lo, a_hi, a_lazy, a_useMax, a_branchAt, a_jumpAt, a_enterAt, a_terms, a_cells, a_rowCount, upd a_startOf rc (nI s), upd a_lengthOf rc (nI (wd_sz w)), lab, upd a_outcome s (nI (if wd_sz w = 0 then 2 else 3)), lp, st)) :
    wpX_tryRow P (f_opRow, f_opFirst, f_opFinal, f_opBranch, f_opJump, f_opEnter, f_opNext, f_opDecide, f_opDone, f_catSlot, f_itemSlot, f_rowsSlot, f_timesSlot, f_scratchSlot, f_size, f_bufLen, f_openCount, f_patLen, f_codeLen, f_depth, f_excluded, nI tc, nI sm, nI sv, nI part, nI R, nI rc, f_top, f_pc, f_pos, f_from, a_vec, a_buf, a_opened, a_pat, a_reads, a_op, a_arg, a_lev, a_lo, a_hi, a_lazy, a_useMax, a_branchAt, a_jumpAt, a_enterAt, a_terms, a_cells, a_rowCount, a_startOf, a_lengthOf, a_labels, a_outcome, a_loop, a_stack) (nI s) := by
  unfold wpX_tryRow
  dsimp only
  refine sr_search (N := R - s) (n := n) (e := e) (S := S) (W := W) (k := k) (D := D) hn6 (by omega) (by omega) (by omega) hpart (by omega) hT he hop hB hS hk hlp ?_ ?_
  · intro w top lab lp st hf hl hlo hlp' hsz
    refine br_f (by decide) ?_
    rw [nI_clamp (n := rc) (by omega)]
    refine ⟨vp_in_nI (by omega) (by omega), nm_e ⟨vp_in_nI (by omega) (by omega), nm_e (nm_r (nI_1 rc) ?_)⟩⟩
    have hh := h1 w top (nI e) lab lp st hf (fun j hj => (hl j hj).1) hlo hlp' (by omega)
    have k65 : ∀ o : Nat, o = (if wd_sz w = 0 then 2 else 3) → wX_tryRow_65 P (nI s) (nI rc) (nI o) (nI s) f_opRow f_opFirst f_opFinal f_opBranch f_opJump f_opEnter f_opNext f_opDecide f_opDone f_catSlot f_itemSlot f_rowsSlot f_timesSlot f_scratchSlot f_size f_bufLen f_openCount f_patLen f_codeLen f_depth f_excluded (nI tc) (nI sm) (nI sv) (nI part) (nI R) (nI (rc + 1)) top (nI e) (nI (wd_sz w)) (nI s) a_vec a_buf a_opened a_pat a_reads a_op a_arg a_lev a_lo a_hi a_lazy a_useMax a_branchAt a_jumpAt a_enterAt a_terms a_cells a_rowCount (upd a_startOf rc (nI s)) (upd a_lengthOf rc (nI (wd_sz w))) lab a_outcome lp st := by
      intro o ho
      refine ⟨vp_in_nI (by omega) (by omega), ?_⟩
      rw [nI_clamp (n := s) (by omega), ho]
      refine nm_e (pk_eq (wd_sz w) 0 (fun q => ?_) (fun q => ?_))
      · have e1 : rn_nx sm sv s (wd_sz w) (fun j => (wd_sg w).getD j 0) = some (s + 1) := by unfold rn_nx; rw [if_pos q]
        rw [e1] at hh
        rw [nI_1]
        exact hh
      · exact rn_next (z := wd_sz w) (g := fun j => (wd_sg w).getD j 0) (by omega) q (by omega) (by omega) hsm hsv pk_us pk_us hl hh
    refine pk_eq (wd_sz w) 0 (fun q => ?_) (fun q => ?_)
    · exact k65 2 (by rw [if_pos q])
    · exact k65 3 (by rw [if_neg q])
  · intro hf pc pos lab lp st hlo hlp'
    refine br_t rfl ⟨vp_in_nI (by omega) (by omega), ?_⟩
    rw [nI_clamp (n := s) (by omega), nI_1]
    exact nm_e (h0 hf pc pos lab lp st hlo hlp')
end
end
section
/-! ===== one row of a run, the reference's side ===== -/
section
variable {yf_n yf_count yf_patternCount yf_termCount yf_mode yf_skipVar yf_resPart yf_resRows yf_matchCount yf_tooBig : Int32} {ya_buffer ya_pattern ya_terms ya_cells ya_rowCount ya_len ya_matchStart ya_tried : Nat → Int32} {ya_lists ya_matchEntry : Nat → Int64}
variable {post : Int32 → SY → Prop} {part s R tc n sm sv rc : Nat}
theorem ry_skipL {P : Int32 → Prop} {w : List Nat} (hw : wd_sz w ≤ 6) (hs : s < 6) (hsm : sm < 4) (hsv : sv < 4) (hp : P (match rn_f sm sv (fun j => (wd_sg w).getD j 0) (wd_sz w) with | some j => nI (s + j) | none => -1)) :
    ∀ d i, i + d = wd_sz w → wY_skipTarget_13 P (lN (cw w)) (nI s) (nI (wd_sz w)) yf_n yf_count yf_patternCount yf_termCount (nI sm) (nI sv) yf_resPart yf_resRows yf_matchCount yf_tooBig ya_buffer ya_pattern ya_terms ya_cells ya_rowCount ya_lists ya_len ya_matchStart ya_matchEntry ya_tried (d + 1) (match rn_f sm sv (fun j => (wd_sg w).getD j 0) i with | some j => nI (s + j) | none => -1) (nI i) := by
  intro d
  induction d with
  | zero =>
    intro i hi
    have : i = wd_sz w := by omega
    subst this
    exact br_t (nI_le (Nat.le_refl _) (by omega)) hp
  | succ d ih =>
    intro i hi
    have nx := ih (i + 1) (by omega)
    have hl := cw_sign hw (i := i) (by omega)
    refine br_f (nI_ge (by omega) (by omega)) ?_
    unfold wpY_sign
    dsimp only
    rw [hl.1, hv_lab hl.2]
    refine ⟨by decide, pk_eq ((wd_sg w).getD i 0 % 4) sv (fun q => pk_eq sm 3 (fun q3 => ?_) (fun q3 => ?_)) (fun q => ?_)⟩
    · rw [rn_f, if_pos ⟨q, Or.inr q3⟩] at nx
      exact nm_r (nI_add s i) (nm_r (nI_1 i) nx)
    · rw [rn_f] at nx
      cases hf : rn_f sm sv (fun j => (wd_sg w).getD j 0) i with
      | none =>
        rw [if_pos ⟨q, Or.inl hf⟩] at nx
        exact br_f (by show ¬ (0 : Int32) ≤ -1; decide) (nm_r (nI_add s i) (nm_r (nI_1 i) nx))
      | some j =>
        have hji := rn_f_lt hf
        rw [if_neg (by rw [hf]; intro hh; rcases hh.2 with h | h; exact absurd h (by simp); exact q3 h), hf] at nx
        exact br_t (nI_pos' (by omega)) (nm_r (nI_1 i) nx)
    · rw [rn_f, if_neg (fun hh => q hh.1)] at nx
      exact nm_r (nI_1 i) nx
theorem ry_skip {P : Int32 → Prop} {w : List Nat} (hw : wd_sz w ≤ 6) (hs : s < 6) (hsm : sm < 4) (hsv : sv < 4) (hp : P (match rn_f sm sv (fun j => (wd_sg w).getD j 0) (wd_sz w) with | some j => nI (s + j) | none => -1)) :
    wpY_skipTarget P (yf_n, yf_count, yf_patternCount, yf_termCount, nI sm, nI sv, yf_resPart, yf_resRows, yf_matchCount, yf_tooBig, ya_buffer, ya_pattern, ya_terms, ya_cells, ya_rowCount, ya_lists, ya_len, ya_matchStart, ya_matchEntry, ya_tried) (lN (cw w)) (nI s) := by
  unfold wpY_skipTarget wpY_size
  dsimp only
  rw [cw_size hw]
  exact ⟨wd_sz w + 1, ry_skipL hw hs hsm hsv hp (wd_sz w) 0 (by omega)⟩
/-- behind the choice of an entry -/
theorem ry_131 {J : Int32 → Int32 → Int32 → (Nat → Int32) → (Nat → Int32) → (Nat → Int32) → (Nat → Int32) → (Nat → Int32) → (Nat → Int64) → (Nat → Int32) → (Nat → Int32) → (Nat → Int64) → (Nat → Int32) → Prop} {w : List Nat} {kk L : Nat} (hL : L ≤ 64) (hkk : kk < L) (hlen : ya_len 11 = nI L) (hli : ya_lists (704 + kk) = lN (cw w)) (hw : wd_sz w ≤ 6) (hs : s < 6) (hrc : rc < 6) (hsm : sm < 4) (hsv : sv < 4)
    (h1 : ∀ q : Nat, rn_nx sm sv s (wd_sz w) (fun j => (wd_sg w).getD j 0) = some q → J (nI q) (nI (s + 1)) (nI (rc + 1)) ya_buffer ya_pattern ya_terms ya_cells ya_rowCount ya_lists ya_len (upd ya_matchStart rc (nI s)) (vp_updL ya_matchEntry rc (lN (cw w))) ya_tried)
    (h0 : rn_nx sm sv s (wd_sz w) (fun j => (wd_sg w).getD j 0) = none → post (-7) (yf_n, yf_count, yf_patternCount, nI tc, nI sm, nI sv, nI part, nI R, nI (rc + 1), yf_tooBig, ya_buffer, ya_pattern, ya_terms, ya_cells, ya_rowCount, ya_lists, ya_len, upd ya_matchStart rc (nI s), vp_updL ya_matchEntry rc (lN (cw w)), ya_tried)) :
    wY_run_131 post J (nI part) (nI (s + 1)) (nI s) (nI kk) yf_n yf_count yf_patternCount (nI tc) (nI sm) (nI sv) (nI part) (nI R) (nI rc) yf_tooBig ya_buffer ya_pattern ya_terms ya_cells ya_rowCount ya_lists ya_len ya_matchStart ya_matchEntry ya_tried := by
  have e1 : (704 : Int32) + nI kk = nI (704 + kk) := nI_add 704 kk
  unfold rn_nx at h1 h0
  refine br_f (by rw [hlen]; exact nI_ge hkk (by omega)) ?_
  unfold wpY_size
  dsimp only
  rw [e1, nI_clamp (n := 704 + kk) (by omega), hli]
  refine ⟨vp_in_nI (by omega) (by omega), nm_e ?_⟩
  rw [cw_size hw, nI_clamp (n := rc) (by omega)]
  refine ⟨vp_in_nI (by omega) (by omega), nm_e ⟨vp_in_nI (by omega) (by omega), nm_e (nm_r (nI_1 rc) ?_)⟩⟩
  refine pk_le (wd_sz w) 0 (fun q => ?_) (fun q => ?_)
  · have hz : wd_sz w = 0 := by omega
    rw [if_pos hz] at h1
    exact pk_le (wd_sz w) 0 (fun _ => br_t (nI_lt (by omega) (by omega)) (nm_r (nI_1 s) (h1 _ rfl))) (fun _ => by omega)
  · have hz : ¬ wd_sz w = 0 := by omega
    rw [if_neg hz] at h1 h0
    refine pk_eq sm 0 (fun q0 => ?_) (fun q0 => ?_)
    · rw [if_pos q0] at h1
      refine nm_r (nI_add s (wd_sz w)) ?_
      exact pk_le (wd_sz w) 0 (fun _ => by omega) (fun _ => pk_lt sm 2 (fun _ => br_t (nI_lt (by omega) (by omega)) (nm_r (nI_1 s) (h1 _ rfl))) (fun _ => by omega))
    · rw [if_neg q0] at h1 h0
      refine pk_le (wd_sz w) 0 (fun _ => by omega) (fun _ => pk_lt sm 2 (fun q2 => ?_) (fun q2 => ?_))
      · rw [if_pos (by omega)] at h1
        exact br_t (nI_lt (by omega) (by omega)) (nm_r (nI_1 s) (h1 _ rfl))
      · rw [if_neg (by omega)] at h1 h0
        refine ry_skip hw hs hsm hsv ?_
        cases hf : rn_f sm sv (fun j => (wd_sg w).getD j 0) (wd_sz w) with
        | none =>
          rw [hf] at h0
          exact br_f (Int32.not_lt.mpr (Int32.le_trans (by decide : (-1 : Int32) ≤ 0) (nI_pos' (by omega)))) (h0 rfl)
        | some j =>
          have hji := rn_f_lt hf
          rw [hf] at h0 h1
          cases j with
          | zero => exact br_f (by show ¬ nI s < nI (s + 0); rw [Nat.add_zero]; exact nI_nlt (Nat.le_refl _) (by omega)) (h0 rfl)
          | succ j => exact br_t (nI_lt (by omega) (by omega)) (nm_r (nI_1 s) (h1 _ rfl))
theorem ry_93 {J : Int32 → Int32 → Int32 → (Nat → Int32) → (Nat → Int32) → (Nat → Int32) → (Nat → Int32) → (Nat → Int32) → (Nat → Int64) → (Nat → Int32) → (Nat → Int32) → (Nat → Int64) → (Nat → Int32) → Prop} {W : List (List Nat)} (hW : W.length ≤ 64) (hok : ∀ w, w ∈ W → wd_ok n w) (hlen : ya_len 11 = nI W.length) (hli : ∀ i, i < W.length → ya_lists (704 + i) = lN (cw (W.getD i []))) (hn : n ≤ 6) (hpart : part < 3) (hsR : s < R) (hR : R ≤ 6) (hT : hv_T ya_terms tc) (hrow : ya_rowCount part = nI R) (hrc : rc < 6) (hsm : sm < 4) (hsv : sv < 4)
    (h0 : W.find? (wd_v (sr_ok ya_terms ya_cells tc part s R) (sr_fi s) (sr_la s R) []) = none → J (nI (s + 1)) (nI (s + 1)) (nI rc) ya_buffer ya_pattern ya_terms ya_cells ya_rowCount ya_lists ya_len ya_matchStart ya_matchEntry ya_tried)
    (h1 : ∀ (w : List Nat) (q : Nat), W.find? (wd_v (sr_ok ya_terms ya_cells tc part s R) (sr_fi s) (sr_la s R) []) = some w → rn_nx sm sv s (wd_sz w) (fun j => (wd_sg w).getD j 0) = some q → J (nI q) (nI (s + 1)) (nI (rc + 1)) ya_buffer ya_pattern ya_terms ya_cells ya_rowCount ya_lists ya_len (upd ya_matchStart rc (nI s)) (vp_updL ya_matchEntry rc (lN (cw w))) ya_tried)
    (h2 : ∀ w : List Nat, W.find? (wd_v (sr_ok ya_terms ya_cells tc part s R) (sr_fi s) (sr_la s R) []) = some w → rn_nx sm sv s (wd_sz w) (fun j => (wd_sg w).getD j 0) = none → post (-7) (yf_n, yf_count, yf_patternCount, nI tc, nI sm, nI sv, nI part, nI R, nI (rc + 1), yf_tooBig, ya_buffer, ya_pattern, ya_terms, ya_cells, ya_rowCount, ya_lists, ya_len, upd ya_matchStart rc (nI s), vp_updL ya_matchEntry rc (lN (cw w)), ya_tried)) :
    ∀ d i, i + d = W.length → W.find? (wd_v (sr_ok ya_terms ya_cells tc part s R) (sr_fi s) (sr_la s R) []) = (W.drop i).find? (wd_v (sr_ok ya_terms ya_cells tc part s R) (sr_fi s) (sr_la s R) []) → wY_run_93 post J (nI part) (nI (s + 1)) (nI s) yf_n yf_count yf_patternCount (nI tc) (nI sm) (nI sv) (nI part) (nI R) (nI rc) yf_tooBig ya_buffer ya_pattern ya_terms ya_cells ya_rowCount ya_lists ya_len ya_matchStart ya_matchEntry ya_tried (d + 1) (nI i) := by
  intro d
  induction d with
  | zero =>
    intro i hi hd
    have : i = W.length := by omega
    subst this
    rw [List.drop_length] at hd
    refine br_t (by rw [hlen]; exact nI_le (Nat.le_refl _) (by omega)) ?_
    exact br_t (by rw [hlen]; exact nI_le (Nat.le_refl _) (by omega)) (nm_r (nI_1 s) (h0 hd))
  | succ d ih =>
    intro i hi hd
    have hiW : i < W.length := by omega
    have hgD : W.getD i [] = W[i] := by rw [List.getD_eq_getElem?_getD, List.getElem?_eq_getElem hiW]; rfl
    have hw := hok W[i] (List.getElem_mem hiW)
    have e1 : (704 : Int32) + nI i = nI (704 + i) := nI_add 704 i
    have hl := hli i hiW
    rw [hgD] at hl
    rw [List.drop_eq_getElem_cons hiW, List.find?_cons] at hd
    refine br_f (by rw [hlen]; exact nI_ge hiW (by omega)) ?_
    rw [e1, nI_clamp (n := 704 + i) (by omega), hl]
    refine ⟨vp_in_nI (by omega) (by omega), ?_⟩
    refine yv_valid hw hn hpart (by omega) hR hT hrow ?_ ?_
    · intro hv
      rw [hv] at hd
      have hd' : W.find? (wd_v (sr_ok ya_terms ya_cells tc part s R) (sr_fi s) (sr_la s R) []) = some W[i] := hd
      exact br_f (by decide) (ry_131 hW hiW hlen hl (by have := hw.2; omega) (by omega) hrc hsm hsv (fun q hq => h1 W[i] q hd' hq) (fun hq => h2 W[i] hd' hq))
    · intro hv
      rw [hv] at hd
      exact br_t rfl (nm_r (nI_1 i) (ih (i + 1) (by omega) hd))
theorem ry_step {fu : Nat} {W : List (List Nat)} (hW : W.length ≤ 64) (hok : ∀ w, w ∈ W → wd_ok n w) (hlen : ya_len 11 = nI W.length) (hli : ∀ i, i < W.length → ya_lists (704 + i) = lN (cw (W.getD i []))) (hn : n ≤ 6) (hpart : part < 3) (hsR : s < R) (hR : R ≤ 6) (hT : hv_T ya_terms tc) (hrow : ya_rowCount part = nI R) (hrc : rc < 6) (hsm : sm < 4) (hsv : sv < 4)
    (h0 : W.find? (wd_v (sr_ok ya_terms ya_cells tc part s R) (sr_fi s) (sr_la s R) []) = none → wY_run_66 post (nI part) yf_n yf_count yf_patternCount (nI tc) (nI sm) (nI sv) (nI part) (nI R) yf_tooBig fu (nI (s + 1)) (nI (s + 1)) (nI rc) ya_buffer ya_pattern ya_terms ya_cells ya_rowCount ya_lists ya_len ya_matchStart ya_matchEntry (upd ya_tried s 1))
    (h1 : ∀ (w : List Nat) (q : Nat), W.find? (wd_v (sr_ok ya_terms ya_cells tc part s R) (sr_fi s) (sr_la s R) []) = some w → rn_nx sm sv s (wd_sz w) (fun j => (wd_sg w).getD j 0) = some q → wY_run_66 post (nI part) yf_n yf_count yf_patternCount (nI tc) (nI sm) (nI sv) (nI part) (nI R) yf_tooBig fu (nI q) (nI (s + 1)) (nI (rc + 1)) ya_buffer ya_pattern ya_terms ya_cells ya_rowCount ya_lists ya_len (upd ya_matchStart rc (nI s)) (vp_updL ya_matchEntry rc (lN (cw w))) (upd ya_tried s 1))
    (h2 : ∀ w : List Nat, W.find? (wd_v (sr_ok ya_terms ya_cells tc part s R) (sr_fi s) (sr_la s R) []) = some w → rn_nx sm sv s (wd_sz w) (fun j => (wd_sg w).getD j 0) = none → post (-7) (yf_n, yf_count, yf_patternCount, nI tc, nI sm, nI sv, nI part, nI R, nI (rc + 1), yf_tooBig, ya_buffer, ya_pattern, ya_terms, ya_cells, ya_rowCount, ya_lists, ya_len, upd ya_matchStart rc (nI s), vp_updL ya_matchEntry rc (lN (cw w)), upd ya_tried s 1)) :
    wY_run_66 post (nI part) yf_n yf_count yf_patternCount (nI tc) (nI sm) (nI sv) (nI part) (nI R) yf_tooBig (fu + 1) (nI s) (nI s) (nI rc) ya_buffer ya_pattern ya_terms ya_cells ya_rowCount ya_lists ya_len ya_matchStart ya_matchEntry ya_tried := by
  refine br_f (nI_ge hsR (by omega)) (br_t rfl ?_)
  rw [nI_clamp (n := s) (by omega)]
  refine ⟨vp_in_nI (by omega) (by omega), nm_e (nm_r (nI_1 s) ⟨W.length + 1, ?_⟩)⟩
  exact ry_93 (n := n) hW hok hlen hli hn hpart hsR hR hT hrow hrc hsm hsv h0 h1 h2 W.length 0 (by omega) rfl
end
end
section
/-! ===== run ===== -/
theorem rn_omP {r t : Nat} {Ms : List (Nat × List Nat)} {x : Nat × List Nat} : ∀ {m : Nat}, m ≤ Ms.length → rl_om r (Ms ++ [x]) t m = rl_om r Ms t m := by
  intro m
  induction m with
  | zero => intro _; rfl
  | succ m ih =>
    intro h
    have e : (Ms ++ [x]).getD m (0, []) = Ms.getD m (0, []) := by
      rw [List.getD_eq_getElem?_getD, List.getD_eq_getElem?_getD, List.getElem?_append_left (by omega)]
    rw [rl_om, rl_om, e, ih (by omega)]
theorem rn_omN {r t : Nat} {Ms : List (Nat × List Nat)} : ∀ {m : Nat}, (∀ i, i < m → (Ms.getD i (0, [])).1 ≠ r) → rl_om r Ms t m = t := by
  intro m
  induction m with
  | zero => intro _; rfl
  | succ m ih =>
    intro h
    rw [rl_om, if_neg (h m (by omega)), ih (fun i hi => h i (by omega))]
theorem rn_getL {Ms : List (Nat × List Nat)} {x : Nat × List Nat} {m : Nat} (h : m < Ms.length) : (Ms ++ [x]).getD m (0, []) = Ms.getD m (0, []) := by
  rw [List.getD_eq_getElem?_getD, List.getD_eq_getElem?_getD, List.getElem?_append_left h]
theorem rn_getN {Ms : List (Nat × List Nat)} {x : Nat × List Nat} : (Ms ++ [x]).getD Ms.length (0, []) = x := by
  rw [List.getD_eq_getElem?_getD, List.getElem?_append_right (Nat.le_refl _), Nat.sub_self]; rfl
section
variable {f_opRow f_opFirst f_opFinal f_opBranch f_opJump f_opEnter f_opNext f_opDecide f_opDone f_catSlot f_itemSlot f_rowsSlot f_timesSlot f_scratchSlot f_size f_bufLen f_openCount f_patLen f_codeLen f_depth f_excluded f_termCount f_skipMode f_skipVar f_resPart f_resRows f_resCount f_top f_pc f_pos f_from : Int32} {a_vec a_buf a_opened a_pat a_reads a_op a_arg a_lev a_lo a_hi a_lazy a_useMax a_branchAt a_jumpAt a_enterAt a_terms a_cells a_rowCount a_startOf a_lengthOf a_labels a_outcome a_loop : Nat → Int32} {a_stack : Nat → Int64}
variable {yf_n yf_count yf_patternCount yf_termCount yf_mode yf_skipVar yf_resPart yf_resRows yf_matchCount yf_tooBig : Int32} {ya_buffer ya_pattern ya_terms ya_cells ya_rowCount ya_len ya_matchStart ya_tried : Nat → Int32} {ya_lists ya_matchEntry : Nat → Int64}
variable {n bl oc pl tc sm sv R rc part : Nat} {T : List Nat} {Ms : List (Nat × List Nat)}
/-- what holds of the results between two rows -/
def rn_I (n R rc s : Nat) (Ms : List (Nat × List Nat)) (st ln lab out lp : Nat → Int32) (me : Nat → Int64) (tr : Nat → Int32) : Prop :=
  Ms.length = rc ∧ rc ≤ s ∧
  (∀ m, m < rc → (Ms.getD m (0, [])).1 < s ∧ st m = nI (Ms.getD m (0, [])).1 ∧ ln m = nI (wd_sz (Ms.getD m (0, [])).2) ∧ me m = lN (cw (Ms.getD m (0, [])).2) ∧ wd_ok n (Ms.getD m (0, [])).2 ∧ (Ms.getD m (0, [])).1 + wd_sz (Ms.getD m (0, [])).2 ≤ R ∧ (∀ j, j < wd_sz (Ms.getD m (0, [])).2 → lab (6 * m + j) = nI ((wd_sg (Ms.getD m (0, [])).2).getD j 0))) ∧
  (∀ r, r < 6 → ∃ t : Nat, t < 2 ∧ tr r = nI t ∧ out r = nI (rl_om r Ms t rc)) ∧ (∀ j, j < 8 → ∃ q : Nat, lp j = nI q ∧ q < 8)
theorem rn_R {s : Nat} {st ln lab out lp : Nat → Int32} {me : Nat → Int64} {tr : Nat → Int32} (hp : part < 3) (hR : R ≤ n) (hn : n ≤ 6) (hsR : s ≤ R) (h : rn_I n R rc s Ms st ln lab out lp me tr) : rl_R n R rc (nI part) (nI part) Ms st ln lab out lp me tr :=
  ⟨hR, h.1, by have := h.2.1; omega, Or.inr ⟨part, hp, rfl, rfl⟩, fun m hm => (h.2.2.1 m hm).2, fun r hr => h.2.2.2.1 r (by omega), h.2.2.2.2⟩
theorem rn_I0 {s : Nat} {st ln lab lab' out lp lp' : Nat → Int32} {me : Nat → Int64} {tr : Nat → Int32} (h : rn_I n R rc s Ms st ln lab out lp me tr) (hlab : ∀ j, j < 6 * rc → lab' j = lab j) (hn : n ≤ 6) (hlp : ∀ j, j < 8 → ∃ q : Nat, lp' j = nI q ∧ q < 8) : rn_I n R rc (s + 1) Ms st ln lab' (upd out s 1) lp' me (upd tr s 1) := by
  refine ⟨h.1, by have := h.2.1; omega, fun m hm => ?_, fun r hr => ?_, hlp⟩
  · obtain ⟨a1, a2, a3, a4, a5, a6, a7⟩ := h.2.2.1 m hm
    have := a5.2
    exact ⟨by omega, a2, a3, a4, a5, a6, fun j hj => by rw [hlab _ (by omega)]; exact a7 j hj⟩
  · by_cases hrs : r = s
    · subst hrs
      refine ⟨1, by omega, by rw [pk_us]; rfl, ?_⟩
      rw [pk_us, rn_omN (fun i hi => by have := (h.2.2.1 i hi).1; omega)]; rfl
    · rw [pk_un hrs, pk_un hrs]; exact h.2.2.2.1 r hr
theorem rn_I1 {s : Nat} {w : List Nat} {st ln lab lab' out lp lp' : Nat → Int32} {me : Nat → Int64} {tr : Nat → Int32} (h : rn_I n R rc s Ms st ln lab out lp me tr) (hlab : ∀ j, j < 6 * rc → lab' j = lab j) (hn : n ≤ 6) (hlp : ∀ j, j < 8 → ∃ q : Nat, lp' j = nI q ∧ q < 8) (hw : wd_ok n w) (hwR : s + wd_sz w ≤ R) (hlw : ∀ j, j < wd_sz w → lab' (6 * rc + j) = nI ((wd_sg w).getD j 0)) :
    rn_I n R (rc + 1) (s + 1) (Ms ++ [(s, w)]) (upd st rc (nI s)) (upd ln rc (nI (wd_sz w))) lab' (upd out s (nI (if wd_sz w = 0 then 2 else 3))) lp' (vp_updL me rc (lN (cw w))) (upd tr s 1) := by
  have hl := h.1
  subst hl
  refine ⟨by rw [List.length_append]; rfl, by have := h.2.1; omega, fun m hm => ?_, fun r hr => ?_, hlp⟩
  · by_cases hmr : m = Ms.length
    · subst hmr
      rw [rn_getN, pk_us, pk_us, pk_uLs]
      exact ⟨by show s < s + 1; omega, rfl, rfl, rfl, hw, hwR, hlw⟩
    · obtain ⟨a1, a2, a3, a4, a5, a6, a7⟩ := h.2.2.1 m (by omega)
      have := a5.2
      rw [rn_getL (by omega), pk_un hmr, pk_un hmr, pk_uLn hmr]
      exact ⟨by omega, a2, a3, a4, a5, a6, fun j hj => by rw [hlab _ (by omega)]; exact a7 j hj⟩
  · by_cases hrs : r = s
    · subst hrs
      refine ⟨1, by omega, by rw [pk_us]; rfl, ?_⟩
      rw [pk_us, rl_om, rn_getN, if_pos rfl]
    · obtain ⟨t, ht, htr, hout⟩ := h.2.2.2.1 r hr
      refine ⟨t, ht, by rw [pk_un hrs]; exact htr, ?_⟩
      rw [pk_un hrs, rl_om, rn_getN, if_neg (fun hh => hrs hh.symm), rn_omP (Nat.le_refl _), hout]
theorem rn_nxpos {s z : Nat} {g : Nat → Nat} {q : Nat} (h : rn_nx sm sv s z g = some q) : s < q ∧ q ≤ s + z + 1 := by
  unfold rn_nx at h
  split at h
  · have := Option.some.inj h; omega
  · split at h
    · have := Option.some.inj h; omega
    · split at h
      · have := Option.some.inj h; omega
      · split at h
        · rename_i j hf
          have h1 := Option.some.inj h
          have := rn_f_lt hf
          omega
        · cases h
end
section
variable {n bl oc pl tc sm sv R part : Nat} {T : List Nat}
theorem rn_loop {k kk S D e : Nat} {W : List (List Nat)} {kc : Nat → Nat} {PX : Int32 → SX → Prop} {f_opRow f_opFirst f_opFinal f_opBranch f_opJump f_opEnter f_opNext f_opDecide f_opDone f_catSlot f_itemSlot f_rowsSlot f_timesSlot f_scratchSlot f_codeLen f_depth f_excluded yf_tooBig : Int32} {a_vec a_buf a_opened a_pat a_reads a_op a_arg a_lev a_lo a_hi a_lazy a_useMax a_branchAt a_jumpAt a_enterAt a_terms a_cells a_rowCount ya_len : Nat → Int32} {ya_lists : Nat → Int64}
    (hn : 2 ≤ n ∧ n ≤ 6) (hsm : sm < 4 ∧ sv < 4) (hBu : rl_B n bl oc T a_buf a_opened) (hpl : pl ≤ 24) (hT : hv_T a_terms tc) (hC : rl_C n a_rowCount) (hp : part < 3) (hR : R ≤ n) (hrow : a_rowCount part = nI R)
    (hW : W.length ≤ 64) (hok : ∀ w, w ∈ W → wd_ok n w) (hlen : ya_len 11 = nI W.length) (hli : ∀ i, i < W.length → ya_lists (704 + i) = lN (cw (W.getD i []))) (hrd : ∀ z, z ≤ n → a_reads z = nI (W.filter (fun w => decide (wd_sz w = z))).length) (he : e < 63) (hop : a_op e = 8) (hB : bk_Blk (sr_C a_op a_arg a_lev a_lo a_hi a_lazy) n 0 e W kc S D 0) (hS : S + D * 6 ≤ 4096) (hk : ∀ r, r ≤ 6 → kc r < 999999999999) :
    ∀ d s nx rc (Ms : List (Nat × List Nat)) (f_top f_pc f_pos f_from : Int32) (a_startOf a_lengthOf a_labels a_outcome a_loop ya_tried : Nat → Int32) (a_stack ya_matchEntry : Nat → Int64), s + d = R → s ≤ nx → nx ≤ 20 → rn_I n R rc s Ms a_startOf a_lengthOf a_labels a_outcome a_loop ya_matchEntry ya_tried →
      (∀ (r : Int32) (u' : SX), (∀ PY : Int32 → SY → Prop, (∀ v', i_Rel (k + 5) u' v' → PY r v') → wY_run_66 PY (nI part) (nI n) (nI bl) (nI pl) (nI tc) (nI sm) (nI sv) (nI part) (nI R) yf_tooBig (d + 1) (nI nx) (nI s) (nI rc) a_buf a_pat a_terms a_cells a_rowCount ya_lists ya_len a_startOf ya_matchEntry ya_tried) → PX r u') → wX_run_66 PX (d + 1) (nI nx) (nI s) f_opRow f_opFirst f_opFinal f_opBranch f_opJump f_opEnter f_opNext f_opDecide f_opDone f_catSlot f_itemSlot f_rowsSlot f_timesSlot f_scratchSlot (nI n) (nI bl) (nI oc) (nI pl) f_codeLen f_depth f_excluded (nI tc) (nI sm) (nI sv) (nI part) (nI R) (nI rc) f_top f_pc f_pos f_from a_vec a_buf a_opened a_pat a_reads a_op a_arg a_lev a_lo a_hi a_lazy a_useMax a_branchAt a_jumpAt a_enterAt a_terms a_cells a_rowCount a_startOf a_lengthOf a_labels a_outcome a_loop a_stack := by
  have mkF : ∀ {s rc : Nat} {Ms : List (Nat × List Nat)} {st ln lab out lp : Nat → Int32} {me : Nat → Int64} {tr : Nat → Int32}, s ≤ R → rn_I n R rc s Ms st ln lab out lp me tr → rl_F n bl oc pl tc sm sv R rc T Ms (nI part) (nI part) a_buf a_opened a_reads a_op a_arg a_lev a_lo a_hi a_lazy a_terms a_rowCount st ln lab out lp ya_len tr ya_lists me := by
    intro s rc Ms st ln lab out lp me tr hs h
    exact ⟨hn, hsm, hBu, ⟨hpl, Or.inr ⟨W, kc, S, D, e, hW, hok, hlen, hli, hrd, he, hop, hB, hS, hk⟩⟩, hT, hC, rn_R hp hR hn.2 hs h⟩
  intro d
  induction d with
  | zero =>
    intro s nx rc Ms f_top f_pc f_pos f_from a_startOf a_lengthOf a_labels a_outcome a_loop ya_tried a_stack ya_matchEntry hs hnx hnx2 hI hPX
    have hsR : s = R := by omega
    subst hsR
    refine br_t (nI_le (Nat.le_refl _) (by omega)) (hPX _ _ (fun PY hPY => br_t (nI_le (Nat.le_refl _) (by omega)) (hPY _ (rl_mk (mkF (Nat.le_refl _) hI)))))
  | succ d ih =>
    intro s nx rc Ms f_top f_pc f_pos f_from a_startOf a_lengthOf a_labels a_outcome a_loop ya_tried a_stack ya_matchEntry hs hnx hnx2 hI hPX
    have hrcs := hI.2.1
    refine br_f (nI_ge (by omega) (by omega)) (pk_eq s nx (fun q => ?_) (fun q => ?_))
    · subst q
      refine rn_try (n := n) (e := e) (S := S) (D := D) (W := W) (k := kc) hn.2 hR (by omega) hp hrcs hsm.1 hsm.2 hT he hop hB hS hk hI.2.2.2.2 ?_ ?_
      · intro hf pc pos lab lp st hlab hlp
        refine br_t (nI_pos' (by omega)) (nm_r (nI_1 s) (ih (s + 1) (s + 1) rc Ms 0 pc pos (nI s) a_startOf a_lengthOf lab (upd a_outcome s 1) lp (upd ya_tried s 1) st ya_matchEntry (by omega) (by omega) (by omega) (rn_I0 hI hlab hn.2 hlp) (fun r u' hY => hPX r u' (fun PY hPY => ?_))))
        refine ry_step (n := n) hW hok hlen hli hn.2 hp (by omega) (by omega) hT hrow (by omega) hsm.1 hsm.2 (fun _ => hY PY hPY) (fun w q hw _ => ?_) (fun w hw _ => ?_)
        · exact absurd (hf.symm.trans hw) (by simp)
        · exact absurd (hf.symm.trans hw) (by simp)
      · intro w top pc lab lp st hf hlw hlab hlp hwR
        have hwok := hok w (List.mem_of_find?_eq_some hf)
        have hI1 := rn_I1 hI hlab hn.2 hlp hwok hwR hlw
        cases hnxt : rn_nx sm sv s (wd_sz w) (fun j => (wd_sg w).getD j 0) with
        | none =>
          refine br_f (by show ¬ (0 : Int32) ≤ -1; decide) (hPX _ _ (fun PY hPY => ?_))
          refine ry_step (n := n) hW hok hlen hli hn.2 hp (by omega) (by omega) hT hrow (by omega) hsm.1 hsm.2 (fun hh => absurd (hf.symm.trans hh) (by simp)) (fun w' q hw hq => ?_) (fun w' hw _ => ?_)
          · have : w = w' := Option.some.inj (hf.symm.trans hw)
            subst this
            exact absurd (hnxt.symm.trans hq) (by simp)
          · have : w = w' := Option.some.inj (hf.symm.trans hw)
            subst this
            exact hPY _ (rl_mk (mkF (s := s + 1) (by omega) hI1))
        | some q =>
          have hq2 := rn_nxpos hnxt
          refine br_t (nI_pos' (by omega)) (nm_r (nI_1 s) (ih (s + 1) q (rc + 1) (Ms ++ [(s, w)]) top pc (nI (wd_sz w)) (nI s) (upd a_startOf rc (nI s)) (upd a_lengthOf rc (nI (wd_sz w))) lab (upd a_outcome s (nI (if wd_sz w = 0 then 2 else 3))) lp (upd ya_tried s 1) st (vp_updL ya_matchEntry rc (lN (cw w))) (by omega) (by omega) (by omega) hI1 (fun r u' hY => hPX r u' (fun PY hPY => ?_))))
          refine ry_step (n := n) hW hok hlen hli hn.2 hp (by omega) (by omega) hT hrow (by omega) hsm.1 hsm.2 (fun hh => absurd (hf.symm.trans hh) (by simp)) (fun w' q' hw hq => ?_) (fun w' hw hq => ?_)
          · have : w = w' := Option.some.inj (hf.symm.trans hw)
            subst this
            have : q = q' := Option.some.inj (hnxt.symm.trans hq)
            subst this
            exact hY PY hPY
          · have : w = w' := Option.some.inj (hf.symm.trans hw)
            subst this
            exact absurd (hnxt.symm.trans hq) (by simp)
    · refine br_t (nI_pos' (by omega)) (nm_r (nI_1 s) (ih (s + 1) nx rc Ms f_top f_pc f_pos f_from a_startOf a_lengthOf a_labels a_outcome a_loop ya_tried a_stack ya_matchEntry (by omega) (by omega) hnx2 ⟨hI.1, by omega, fun m hm => ?_, hI.2.2.2⟩ (fun r u' hY => hPX r u' (fun PY hPY => ?_))))
      · have := hI.2.2.1 m hm
        exact ⟨by omega, this.2⟩
      · exact br_f (nI_ge (by omega) (by omega)) (br_f (fun hh => q ((nI_eq (by omega) (by omega)).mp hh)) (nm_r (nI_1 s) (hY PY hPY)))
end
end
section
/-! ===== run, the call ===== -/
section
variable {f_opRow f_opFirst f_opFinal f_opBranch f_opJump f_opEnter f_opNext f_opDecide f_opDone f_catSlot f_itemSlot f_rowsSlot f_timesSlot f_scratchSlot f_size f_bufLen f_openCount f_patLen f_codeLen f_depth f_excluded f_termCount f_skipMode f_skipVar f_resPart f_resRows f_resCount f_top f_pc f_pos f_from : Int32} {a_vec a_buf a_opened a_pat a_reads a_op a_arg a_lev a_lo a_hi a_lazy a_useMax a_branchAt a_jumpAt a_enterAt a_terms a_cells a_rowCount a_startOf a_lengthOf a_labels a_outcome a_loop : Nat → Int32} {a_stack : Nat → Int64}
theorem rn_clX {post : Int32 → SX → Prop} (h : ∀ out : Nat → Int32, (∀ q, q < 6 → out q = 0) → ∃ m : Nat, wX_run_66 post m 0 0 f_opRow f_opFirst f_opFinal f_opBranch f_opJump f_opEnter f_opNext f_opDecide f_opDone f_catSlot f_itemSlot f_rowsSlot f_timesSlot f_scratchSlot f_size f_bufLen f_openCount f_patLen f_codeLen f_depth f_excluded f_termCount f_skipMode f_skipVar f_resPart f_resRows f_resCount f_top f_pc f_pos f_from a_vec a_buf a_opened a_pat a_reads a_op a_arg a_lev a_lo a_hi a_lazy a_useMax a_branchAt a_jumpAt a_enterAt a_terms a_cells a_rowCount a_startOf a_lengthOf a_labels out a_loop a_stack) :
    ∀ d r, r + d = 6 → ∀ out : Nat → Int32, (∀ q, q < r → out q = 0) → wX_run_43 post f_opRow f_opFirst f_opFinal f_opBranch f_opJump f_opEnter f_opNext f_opDecide f_opDone f_catSlot f_itemSlot f_rowsSlot f_timesSlot f_scratchSlot f_size f_bufLen f_openCount f_patLen f_codeLen f_depth f_excluded f_termCount f_skipMode f_skipVar f_resPart f_resRows f_resCount f_top f_pc f_pos f_from (d + 1) (nI r) a_vec a_buf a_opened a_pat a_reads a_op a_arg a_lev a_lo a_hi a_lazy a_useMax a_branchAt a_jumpAt a_enterAt a_terms a_cells a_rowCount a_startOf a_lengthOf a_labels out a_loop a_stack := by
  intro d
  induction d with
  | zero =>
    intro r hr out ho
    have : r = 6 := by omega
    subst this
    exact br_t (by decide) (h out ho)
  | succ d ih =>
    intro r hr out ho
    refine br_f (nI_ge (b := 6) (by omega) (by omega)) ⟨vp_in_nI (by omega) (by omega), ?_⟩
    rw [nI_clamp (n := r) (by omega)]
    refine nm_e (nm_r (nI_1 r) (ih (r + 1) (by omega) _ (fun q hq => ?_)))
    by_cases hqr : q = r
    · rw [hqr, pk_us]
    · rw [pk_un hqr]; exact ho q (by omega)
end
section
variable {yf_n yf_count yf_patternCount yf_termCount yf_mode yf_skipVar yf_resPart yf_resRows yf_matchCount yf_tooBig : Int32} {ya_buffer ya_pattern ya_terms ya_cells ya_rowCount ya_len ya_matchStart ya_tried : Nat → Int32} {ya_lists ya_matchEntry : Nat → Int64}
theorem rn_clY {post : Int32 → SY → Prop} {x1 : Int32} (h : ∃ m : Nat, wY_run_66 post x1 yf_n yf_count yf_patternCount yf_termCount yf_mode yf_skipVar yf_resPart yf_resRows yf_tooBig m 0 0 yf_matchCount ya_buffer ya_pattern ya_terms ya_cells ya_rowCount ya_lists ya_len ya_matchStart ya_matchEntry (fun j => if j < 6 then 0 else ya_tried j)) :
    ∀ d r, r + d = 6 → wY_run_43 post x1 yf_n yf_count yf_patternCount yf_termCount yf_mode yf_skipVar yf_resPart yf_resRows yf_matchCount yf_tooBig (d + 1) (nI r) ya_buffer ya_pattern ya_terms ya_cells ya_rowCount ya_lists ya_len ya_matchStart ya_matchEntry (fun j => if j < r then 0 else ya_tried j) := by
  intro d
  induction d with
  | zero =>
    intro r hr
    have : r = 6 := by omega
    subst this
    exact br_t (by decide) h
  | succ d ih =>
    intro r hr
    refine br_f (nI_ge (b := 6) (by omega) (by omega)) ⟨vp_in_nI (by omega) (by omega), ?_⟩
    have e : upd (fun j => if j < r then 0 else ya_tried j) (nI r).toNatClampNeg (vp_nar .boolean 0) = (fun j => if j < r + 1 then 0 else ya_tried j) := by
      rw [nI_clamp (n := r) (by omega)]
      funext j
      by_cases hj : j = r
      · rw [hj, pk_us, if_pos (by omega)]; rfl
      · rw [pk_un hj]
        by_cases hj2 : j < r
        · rw [if_pos hj2, if_pos (by omega)]
        · rw [if_neg hj2, if_neg (by omega)]
    exact nm_r e (nm_r (nI_1 r) (ih (r + 1) (by omega)))
end
theorem i_vc_run {k : Nat} {u : SX} {v : SY} (I : i_Rel k u v) (hk : k + 5 ≤ 2561) (v1 : Int32) : wpX_run (fun r u' => wpY_run (fun r' v' => r' = r ∧ i_Rel (k + 5) u' v') v v1) u v1 := by
  refine I (fun u v => wpX_run (fun r u' => wpY_run (fun r' v' => r' = r ∧ i_Rel (k + 5) u' v') v v1) u v1) ?_
  intro n bl oc pl tc sm sv R rc T Ms f_opRow f_opFirst f_opFinal f_opBranch f_opJump f_opEnter f_opNext f_opDecide f_opDone f_catSlot f_itemSlot f_rowsSlot f_timesSlot f_scratchSlot f_codeLen f_depth f_excluded f_resPart f_top f_pc f_pos f_from yf_resPart yf_tooBig a_vec a_buf a_opened a_pat a_reads a_op a_arg a_lev a_lo a_hi a_lazy a_useMax a_branchAt a_jumpAt a_enterAt a_terms a_cells a_rowCount a_startOf a_lengthOf a_labels a_outcome a_loop ya_len ya_tried a_stack ya_lists ya_matchEntry hF
  refine br_c (fun h1 => br_t h1 ⟨rfl, rl_mk hF⟩) (fun h1 => br_c (fun h2 => br_c (fun h3 => br_f h1 (br_t h2 (br_t h3 ⟨rfl, rl_mk hF⟩))) (fun h3 => ?_)) (fun h2 => br_f h1 (br_f h2 ⟨rfl, rl_mk hF⟩)))
  obtain ⟨p, hp, rfl⟩ := nI_of2 (M := 2) (n := 2) (by decide) h1 h2
  obtain ⟨R', hR', hRn⟩ := hF.2.2.2.2.2.1 p (by omega)
  obtain ⟨W, kc, S, D, e, hW, hok, hlen, hli, hrd, he, hop, hB, hS, hkc⟩ := hF.2.2.2.1.2.resolve_left (fun q => h3 (by rw [q]; exact nI_0))
  have h6 := hF.1.2
  have vp : vp_in (nI p) 3 := vp_in_nI (by omega) (by omega)
  rw [nI_clamp (n := p) (by omega), hR']
  refine ⟨vp, nm_e ⟨7, ?_⟩⟩
  refine rn_clX (fun out hout => ?_) 6 0 (by omega) a_outcome (fun q hq => by omega)
  refine ⟨R' + 1, ?_⟩
  refine rn_loop (k := k) (kk := 0) (n := n) (bl := bl) (oc := oc) (pl := pl) (tc := tc) (sm := sm) (sv := sv) (R := R') (part := p) (T := T) (yf_tooBig := yf_tooBig) (ya_len := ya_len) (ya_lists := ya_lists) hF.1 hF.2.1 hF.2.2.1 hF.2.2.2.1.1 hF.2.2.2.2.1 hF.2.2.2.2.2.1 (by omega) hRn hR' hW hok hlen hli hrd he hop hB hS hkc R' 0 0 0 [] f_top f_pc f_pos f_from a_startOf a_lengthOf a_labels out a_loop (fun j => if j < 6 then 0 else ya_tried j) a_stack ya_matchEntry (by omega) (by omega) (by omega) ⟨rfl, by omega, fun m hm => by omega, fun r hr => ⟨0, by omega, if_pos hr, by rw [hout r hr]; rfl⟩, hF.2.2.2.2.2.2.2.2.2.2.2.2⟩ ?_
  intro r u' hY
  refine br_f h1 (br_t h2 (br_f h3 ⟨vp, ?_⟩))
  rw [nI_clamp (n := p) (by omega), hR']
  have e0 : ya_tried = (fun j => if j < 0 then 0 else ya_tried j) := by funext j; rw [if_neg (by omega)]
  refine nm_e ⟨7, ?_⟩
  rw [e0]
  refine rn_clY ⟨R' + 1, ?_⟩ 6 0 (by omega)
  exact hY _ (fun v' hv => ⟨rfl, hv⟩)
end
section
/-! ===== counts by size ===== -/
def cn_s (f : Nat → Nat) : Nat → Nat
  | 0 => 0
  | m + 1 => cn_s f m + f m
def wd_cn (E : List (List Nat)) (k : Nat) : Nat := (E.filter (fun w => decide (wd_sz w = k))).length
theorem cn_ext {f g : Nat → Nat} : ∀ {m : Nat}, (∀ i, i < m → f i = g i) → cn_s f m = cn_s g m := by
  intro m
  induction m with
  | zero => intro _; rfl
  | succ m ih => intro h; rw [cn_s, cn_s, ih (fun i hi => h i (by omega)), h m (by omega)]
theorem cn_add (f g : Nat → Nat) : ∀ m, cn_s (fun i => f i + g i) m = cn_s f m + cn_s g m := by
  intro m
  induction m with
  | zero => rfl
  | succ m ih => rw [cn_s, cn_s, cn_s, ih]; omega
theorem cn_one (z : Nat) (h : Nat → Nat) : ∀ m, cn_s (fun i => (if z = i then 1 else 0) * h i) m = if z < m then h z else 0 := by
  intro m
  induction m with
  | zero => rw [if_neg (by omega)]; rfl
  | succ m ih =>
    rw [cn_s, ih]
    by_cases h1 : z < m
    · rw [if_pos h1, if_neg (by omega), if_pos (by omega)]; omega
    · by_cases h2 : z = m
      · subst h2; rw [if_neg h1, if_pos rfl, if_pos (by omega)]; omega
      · rw [if_neg h1, if_neg h2, if_neg (by omega)]; omega
theorem wd_cn_nil (k : Nat) : wd_cn [] k = 0 := rfl
theorem wd_cn_cons (w : List Nat) (E : List (List Nat)) (k : Nat) : wd_cn (w :: E) k = (if wd_sz w = k then 1 else 0) + wd_cn E k := by
  unfold wd_cn
  by_cases h : wd_sz w = k
  · rw [List.filter_cons_of_pos (by rw [h]; exact decide_eq_true rfl), if_pos h, List.length_cons]; omega
  · rw [List.filter_cons_of_neg (by rw [decide_eq_false h]; decide), if_neg h]; omega
theorem wd_cn_app (E F : List (List Nat)) (k : Nat) : wd_cn (E ++ F) k = wd_cn E k + wd_cn F k := by
  unfold wd_cn; rw [List.filter_append, List.length_append]
theorem wd_cn_unit (k : Nat) : wd_cn [[]] k = if k = 0 then 1 else 0 := by
  rw [wd_cn_cons, wd_cn_nil, wd_sz_nil]
  by_cases h : k = 0
  · rw [if_pos h, if_pos h.symm]
  · rw [if_neg h, if_neg (fun e => h e.symm)]
theorem wd_cn_map (a : List Nat) (n k : Nat) (hk : k ≤ n) : ∀ Q : List (List Nat), wd_cn ((Q.filter (fun b => decide (wd_sz a + wd_sz b ≤ n))).map (fun b => a ++ b)) k = if wd_sz a < k + 1 then wd_cn Q (k - wd_sz a) else 0 := by
  intro Q
  induction Q with
  | nil => rw [List.filter_nil, List.map_nil, wd_cn_nil, wd_cn_nil]; split <;> rfl
  | cons b Q ih =>
    by_cases h : wd_sz a + wd_sz b ≤ n
    · rw [List.filter_cons_of_pos (by exact decide_eq_true h), List.map_cons, wd_cn_cons, ih, wd_cn_cons, wd_sz_app]
      by_cases h1 : wd_sz a < k + 1
      · rw [if_pos h1, if_pos h1]
        by_cases h2 : wd_sz a + wd_sz b = k
        · rw [if_pos h2, if_pos (by omega)]
        · rw [if_neg h2, if_neg (by omega)]
      · rw [if_neg h1, if_neg h1, if_neg (by omega)]
    · rw [List.filter_cons_of_neg (by rw [decide_eq_false h]; decide), ih, wd_cn_cons]
      by_cases h1 : wd_sz a < k + 1
      · rw [if_pos h1, if_pos h1, if_neg (by omega), Nat.zero_add]
      · rw [if_neg h1, if_neg h1]
theorem wd_cn_join (n k : Nat) (hk : k ≤ n) (Q : List (List Nat)) : ∀ P : List (List Nat), wd_cn (wd_join n P Q) k = cn_s (fun i => wd_cn P i * wd_cn Q (k - i)) (k + 1) := by
  intro P
  induction P with
  | nil =>
    have : ∀ m, cn_s (fun i => wd_cn [] i * wd_cn Q (k - i)) m = 0 := by
      intro m
      induction m with
      | zero => rfl
      | succ m ih => rw [cn_s, ih, wd_cn_nil, Nat.zero_mul]
    rw [this]; rfl
  | cons a P ih =>
    have e : wd_join n (a :: P) Q = (Q.filter (fun b => decide (wd_sz a + wd_sz b ≤ n))).map (fun b => a ++ b) ++ wd_join n P Q := by
      unfold wd_join; rw [List.flatMap_cons]
    rw [e, wd_cn_app, wd_cn_map a n k hk, ih]
    have e2 : cn_s (fun i => wd_cn (a :: P) i * wd_cn Q (k - i)) (k + 1) = cn_s (fun i => (if wd_sz a = i then 1 else 0) * wd_cn Q (k - i) + wd_cn P i * wd_cn Q (k - i)) (k + 1) := by
      apply cn_ext
      intro i _
      rw [wd_cn_cons, Nat.add_mul]
    rw [e2, cn_add, cn_one]
theorem wd_cn_sum (n : Nat) : ∀ E : List (List Nat), (∀ w, w ∈ E → wd_sz w ≤ n) → cn_s (wd_cn E) (n + 1) = E.length := by
  intro E
  induction E with
  | nil =>
    intro _
    have : ∀ m, cn_s (wd_cn []) m = 0 := by
      intro m
      induction m with
      | zero => rfl
      | succ m ih => rw [cn_s, ih, wd_cn_nil]
    exact this _
  | cons a E ih =>
    intro h
    have e2 : cn_s (wd_cn (a :: E)) (n + 1) = cn_s (fun i => (if wd_sz a = i then 1 else 0) * (fun _ => 1) i + wd_cn E i) (n + 1) := by
      apply cn_ext
      intro i _
      rw [wd_cn_cons, Nat.mul_one]
    rw [e2, cn_add, cn_one, ih (fun w hw => h w (List.mem_cons_of_mem _ hw)), if_pos (by have := h a List.mem_cons_self; omega), List.length_cons]
    omega
theorem wd_cn_rows (E : List (List Nat)) (k : Nat) : wd_cn (wd_rows E) k = if k = 0 then 0 else wd_cn E k := by
  unfold wd_rows wd_cn
  rw [List.filter_filter]
  by_cases h : k = 0
  · rw [if_pos h]
    have : E.filter (fun w => decide (wd_sz w = k) && decide (0 < wd_sz w)) = [] := by
      apply List.filter_eq_nil_iff.mpr
      intro w _ hw
      rw [Bool.and_eq_true, decide_eq_true_iff, decide_eq_true_iff] at hw
      omega
    rw [this]; rfl
  · rw [if_neg h]
    congr 1
    apply List.filter_congr
    intro w _
    by_cases h2 : wd_sz w = k
    · rw [decide_eq_true h2, decide_eq_true (by omega : 0 < wd_sz w)]; rfl
    · rw [decide_eq_false h2]; rfl
theorem wd_join_len (n : Nat) (Q : List (List Nat)) : ∀ P : List (List Nat), (wd_join n P Q).length ≤ P.length * Q.length := by
  intro P
  induction P with
  | nil => exact Nat.zero_le _
  | cons a P ih =>
    have e : wd_join n (a :: P) Q = (Q.filter (fun b => decide (wd_sz a + wd_sz b ≤ n))).map (fun b => a ++ b) ++ wd_join n P Q := by
      unfold wd_join; rw [List.flatMap_cons]
    rw [e, List.length_append, List.length_map, List.length_cons, Nat.add_mul, Nat.one_mul]
    have := List.length_filter_le (fun b => decide (wd_sz a + wd_sz b ≤ n)) Q
    omega
theorem wd_join_ok {n : Nat} {P Q : List (List Nat)} (hP : ∀ w, w ∈ P → wd_ok n w) (hQ : ∀ w, w ∈ Q → wd_ok n w) : ∀ w, w ∈ wd_join n P Q → wd_ok n w := by
  intro w hw
  obtain ⟨a, ha, hw⟩ := List.mem_flatMap.mp hw
  obtain ⟨b, hb, rfl⟩ := List.mem_map.mp hw
  obtain ⟨hb, hs⟩ := List.mem_filter.mp hb
  have hs' := of_decide_eq_true hs
  refine ⟨fun c hc => ?_, by rw [wd_sz_app]; exact hs'⟩
  rcases List.mem_append.mp hc with h | h
  · exact (hP a ha).1 c h
  · exact (hQ b hb).1 c h
theorem wd_unit_ok {n : Nat} : ∀ w, w ∈ ([[]] : List (List Nat)) → wd_ok n w := by
  intro w hw
  rw [List.mem_singleton.mp hw]
  exact ⟨(fun c hc => nomatch hc), Nat.zero_le _⟩
theorem wd_rows_ok {n : Nat} {P : List (List Nat)} (hP : ∀ w, w ∈ P → wd_ok n w) : ∀ w, w ∈ wd_rows P → wd_ok n w := fun w hw => hP w (List.mem_filter.mp hw).1
theorem wd_R_ok {n m M : Nat} {lz : Bool} {B : List (List Nat)} (hB : ∀ w, w ∈ B → wd_ok n w) : ∀ d w, w ∈ wd_R n m M lz B d → wd_ok n w := by
  intro d
  induction d with
  | zero => exact wd_unit_ok
  | succ d ih =>
    intro w hw
    rw [wd_R] at hw
    split at hw
    · exact wd_join_ok hB ih w hw
    · split at hw
      · rcases List.mem_cons.mp hw with h | h
        · rw [h]; exact wd_unit_ok [] (List.mem_singleton.mpr rfl)
        · exact wd_join_ok (wd_rows_ok hB) ih w h
      · rcases List.mem_append.mp hw with h | h
        · exact wd_join_ok (wd_rows_ok hB) ih w h
        · exact wd_unit_ok w h
theorem wd_ec_lt (c : Nat) : wd_ec c < 8 ↔ c < 8 := by unfold wd_ec; split <;> omega
theorem wd_sz_ex : ∀ w : List Nat, wd_sz (wd_ex w) = wd_sz w := by
  intro w
  induction w with
  | nil => rfl
  | cons c w ih =>
    have e : wd_ex (c :: w) = wd_ec c :: wd_ex w := rfl
    rw [e, wd_sz_cons, wd_sz_cons, ih]
    by_cases h : c < 8
    · rw [if_pos h, if_pos ((wd_ec_lt c).mpr h)]
    · rw [if_neg h, if_neg (fun q => h ((wd_ec_lt c).mp q))]
theorem wd_cn_ex (E : List (List Nat)) (k : Nat) : wd_cn (E.map wd_ex) k = wd_cn E k := by
  induction E with
  | nil => rfl
  | cons a E ih => rw [List.map_cons, wd_cn_cons, wd_cn_cons, ih, wd_sz_ex]
theorem wd_ex_ok {n : Nat} {w : List Nat} (h : wd_ok n w) : wd_ok n (wd_ex w) := by
  refine ⟨fun c hc => ?_, by rw [wd_sz_ex]; exact h.2⟩
  obtain ⟨b, hb, rfl⟩ := List.mem_map.mp hc
  have := h.1 b hb
  unfold wd_ec
  split <;> omega
theorem wd_ex_app (a b : List Nat) : wd_ex (a ++ b) = wd_ex a ++ wd_ex b := List.map_append
theorem wd_ex_join (n : Nat) (Q : List (List Nat)) : ∀ P : List (List Nat), (wd_join n P Q).map wd_ex = wd_join n (P.map wd_ex) (Q.map wd_ex) := by
  intro P
  induction P with
  | nil => rfl
  | cons a P ih =>
    have e : ∀ (a : List Nat) (P Q : List (List Nat)), wd_join n (a :: P) Q = (Q.filter (fun b => decide (wd_sz a + wd_sz b ≤ n))).map (fun b => a ++ b) ++ wd_join n P Q := by
      intro a P Q; unfold wd_join; rw [List.flatMap_cons]
    rw [e, List.map_append, ih, List.map_cons, e]
    congr 1
    rw [List.map_map, List.filter_map, List.map_map]
    have e2 : (fun b => decide (wd_sz (wd_ex a) + wd_sz b ≤ n)) ∘ wd_ex = (fun b => decide (wd_sz a + wd_sz b ≤ n)) := by
      funext b; show decide (wd_sz (wd_ex a) + wd_sz (wd_ex b) ≤ n) = _; rw [wd_sz_ex, wd_sz_ex]
    rw [e2]
    apply List.map_congr_left
    intro b _
    exact wd_ex_app a b
theorem wd_ex_rows (P : List (List Nat)) : (wd_rows P).map wd_ex = wd_rows (P.map wd_ex) := by
  unfold wd_rows
  rw [List.filter_map]
  have e2 : (fun w => decide (0 < wd_sz w)) ∘ wd_ex = (fun w => decide (0 < wd_sz w)) := by
    funext b; show decide (0 < wd_sz (wd_ex b)) = _; rw [wd_sz_ex]
  rw [e2]
theorem wd_ex_R (n m M : Nat) (lz : Bool) (B : List (List Nat)) : ∀ d, (wd_R n m M lz B d).map wd_ex = wd_R n m M lz (B.map wd_ex) d := by
  intro d
  induction d with
  | zero => rfl
  | succ d ih =>
    rw [wd_R, wd_R]
    split
    · rw [wd_ex_join, ih]
    · split
      · rw [List.map_cons, wd_ex_join, ih, wd_ex_rows]; rfl
      · rw [List.map_append, wd_ex_join, ih, wd_ex_rows]; rfl
theorem wd_ex_ex (w : List Nat) : wd_ex (wd_ex w) = wd_ex w := by
  unfold wd_ex
  rw [List.map_map]
  apply List.map_congr_left
  intro c _
  show wd_ec (wd_ec c) = wd_ec c
  unfold wd_ec
  split
  · rw [if_pos (by omega)]; omega
  · rfl
end
section
/-! ===== vectors of counts in the component ===== -/
section
variable {f_opRow f_opFirst f_opFinal f_opBranch f_opJump f_opEnter f_opNext f_opDecide f_opDone f_catSlot f_itemSlot f_rowsSlot f_timesSlot f_scratchSlot f_size f_bufLen f_openCount f_patLen f_codeLen f_depth f_excluded f_termCount f_skipMode f_skipVar f_resPart f_resRows f_resCount f_top f_pc f_pos f_from : Int32} {a_vec a_buf a_opened a_pat a_reads a_op a_arg a_lev a_lo a_hi a_lazy a_useMax a_branchAt a_jumpAt a_enterAt a_terms a_cells a_rowCount a_startOf a_lengthOf a_labels a_outcome a_loop : Nat → Int32} {a_stack : Nat → Int64}
variable {n : Nat}
theorem xa_ix {a k : Nat} : (nI a * 8) + nI k = nI (8 * a + k) := by
  have b1 : nI a * 8 = nI (a * 8) := pk_mul a 8
  rw [b1, nI_add]; exact congrArg nI (by omega)
theorem xa_zero {post : SX → Prop} {a : Nat} (hn : n ≤ 6) (ha : a < 12) (h : ∀ vec : Nat → Int32, (∀ k, k ≤ n → vec (8 * a + k) = 0) → (∀ j, ¬ (8 * a ≤ j ∧ j ≤ 8 * a + n) → vec j = a_vec j) → post (f_opRow, f_opFirst, f_opFinal, f_opBranch, f_opJump, f_opEnter, f_opNext, f_opDecide, f_opDone, f_catSlot, f_itemSlot, f_rowsSlot, f_timesSlot, f_scratchSlot, nI n, f_bufLen, f_openCount, f_patLen, f_codeLen, f_depth, f_excluded, f_termCount, f_skipMode, f_skipVar, f_resPart, f_resRows, f_resCount, f_top, f_pc, f_pos, f_from, vec, a_buf, a_opened, a_pat, a_reads, a_op, a_arg, a_lev, a_lo, a_hi, a_lazy, a_useMax, a_branchAt, a_jumpAt, a_enterAt, a_terms, a_cells, a_rowCount, a_startOf, a_lengthOf, a_labels, a_outcome, a_loop, a_stack)) : wpX_zero post (f_opRow, f_opFirst, f_opFinal, f_opBranch, f_opJump, f_opEnter, f_opNext, f_opDecide, f_opDone, f_catSlot, f_itemSlot, f_rowsSlot, f_timesSlot, f_scratchSlot, nI n, f_bufLen, f_openCount, f_patLen, f_codeLen, f_depth, f_excluded, f_termCount, f_skipMode, f_skipVar, f_resPart, f_resRows, f_resCount, f_top, f_pc, f_pos, f_from, a_vec, a_buf, a_opened, a_pat, a_reads, a_op, a_arg, a_lev, a_lo, a_hi, a_lazy, a_useMax, a_branchAt, a_jumpAt, a_enterAt, a_terms, a_cells, a_rowCount, a_startOf, a_lengthOf, a_labels, a_outcome, a_loop, a_stack) (nI a) := by
  have L : ∀ d k, k + d = n + 1 → ∀ vec : Nat → Int32, (∀ i, i < k → vec (8 * a + i) = 0) → (∀ j, ¬ (8 * a ≤ j ∧ j ≤ 8 * a + n) → vec j = a_vec j) → wX_zero_2 post (nI a) f_opRow f_opFirst f_opFinal f_opBranch f_opJump f_opEnter f_opNext f_opDecide f_opDone f_catSlot f_itemSlot f_rowsSlot f_timesSlot f_scratchSlot (nI n) f_bufLen f_openCount f_patLen f_codeLen f_depth f_excluded f_termCount f_skipMode f_skipVar f_resPart f_resRows f_resCount f_top f_pc f_pos f_from (d + 1) (nI k) vec a_buf a_opened a_pat a_reads a_op a_arg a_lev a_lo a_hi a_lazy a_useMax a_branchAt a_jumpAt a_enterAt a_terms a_cells a_rowCount a_startOf a_lengthOf a_labels a_outcome a_loop a_stack := by
    intro d
    induction d with
    | zero =>
      intro k hk vec h1 h2
      exact br_t (nI_lt (by omega) (by omega)) (h vec (fun i hi => h1 i (by omega)) h2)
    | succ d ih =>
      intro k hk vec h1 h2
      refine br_f (nI_nlt (by omega) (by omega)) ?_
      rw [xa_ix, nI_clamp (n := 8 * a + k) (by omega)]
      refine ⟨vp_in_nI (by omega) (by omega), nm_e (nm_r (nI_1 k) (ih (k + 1) (by omega) _ (fun i hi => ?_) (fun j hj => ?_)))⟩
      · by_cases hik : i = k
        · rw [hik, pk_us]
        · rw [pk_un (by omega)]; exact h1 i (by omega)
      · rw [pk_un (by omega)]; exact h2 j hj
  exact ⟨n + 2, L (n + 1) 0 (by omega) a_vec (fun i hi => by omega) (fun _ _ => rfl)⟩
theorem xa_unit {post : SX → Prop} {a : Nat} (hn : n ≤ 6) (ha : a < 12) (h : ∀ vec : Nat → Int32, (∀ k, k ≤ n → vec (8 * a + k) = nI (if k = 0 then 1 else 0)) → (∀ j, ¬ (8 * a ≤ j ∧ j ≤ 8 * a + n) → vec j = a_vec j) → post (f_opRow, f_opFirst, f_opFinal, f_opBranch, f_opJump, f_opEnter, f_opNext, f_opDecide, f_opDone, f_catSlot, f_itemSlot, f_rowsSlot, f_timesSlot, f_scratchSlot, nI n, f_bufLen, f_openCount, f_patLen, f_codeLen, f_depth, f_excluded, f_termCount, f_skipMode, f_skipVar, f_resPart, f_resRows, f_resCount, f_top, f_pc, f_pos, f_from, vec, a_buf, a_opened, a_pat, a_reads, a_op, a_arg, a_lev, a_lo, a_hi, a_lazy, a_useMax, a_branchAt, a_jumpAt, a_enterAt, a_terms, a_cells, a_rowCount, a_startOf, a_lengthOf, a_labels, a_outcome, a_loop, a_stack)) : wpX_unit post (f_opRow, f_opFirst, f_opFinal, f_opBranch, f_opJump, f_opEnter, f_opNext, f_opDecide, f_opDone, f_catSlot, f_itemSlot, f_rowsSlot, f_timesSlot, f_scratchSlot, nI n, f_bufLen, f_openCount, f_patLen, f_codeLen, f_depth, f_excluded, f_termCount, f_skipMode, f_skipVar, f_resPart, f_resRows, f_resCount, f_top, f_pc, f_pos, f_from, a_vec, a_buf, a_opened, a_pat, a_reads, a_op, a_arg, a_lev, a_lo, a_hi, a_lazy, a_useMax, a_branchAt, a_jumpAt, a_enterAt, a_terms, a_cells, a_rowCount, a_startOf, a_lengthOf, a_labels, a_outcome, a_loop, a_stack) (nI a) := by
  unfold wpX_unit
  dsimp only
  refine xa_zero hn ha (fun vec h1 h2 => ?_)
  have e : nI a * 8 = nI (8 * a) := by
    have b1 : nI a * 8 = nI (a * 8) := pk_mul a 8
    rw [b1]; exact congrArg nI (by omega)
  dsimp only
  rw [e, nI_clamp (n := 8 * a) (by omega)]
  refine ⟨vp_in_nI (by omega) (by omega), nm_e (h _ (fun k hk => ?_) (fun j hj => ?_))⟩
  · by_cases hk0 : k = 0
    · subst hk0; rw [if_pos rfl, Nat.add_zero, pk_us]; rfl
    · rw [if_neg hk0, pk_un (by omega), h1 k hk]; rfl
  · rw [pk_un (by omega)]; exact h2 j hj
theorem xa_copy {post : SX → Prop} {a b : Nat} (hn : n ≤ 6) (ha : a < 12) (hb : b < 12) (hab : a ≠ b) (h : ∀ vec : Nat → Int32, (∀ k, k ≤ n → vec (8 * b + k) = a_vec (8 * a + k)) → (∀ j, ¬ (8 * b ≤ j ∧ j ≤ 8 * b + n) → vec j = a_vec j) → post (f_opRow, f_opFirst, f_opFinal, f_opBranch, f_opJump, f_opEnter, f_opNext, f_opDecide, f_opDone, f_catSlot, f_itemSlot, f_rowsSlot, f_timesSlot, f_scratchSlot, nI n, f_bufLen, f_openCount, f_patLen, f_codeLen, f_depth, f_excluded, f_termCount, f_skipMode, f_skipVar, f_resPart, f_resRows, f_resCount, f_top, f_pc, f_pos, f_from, vec, a_buf, a_opened, a_pat, a_reads, a_op, a_arg, a_lev, a_lo, a_hi, a_lazy, a_useMax, a_branchAt, a_jumpAt, a_enterAt, a_terms, a_cells, a_rowCount, a_startOf, a_lengthOf, a_labels, a_outcome, a_loop, a_stack)) : wpX_copy post (f_opRow, f_opFirst, f_opFinal, f_opBranch, f_opJump, f_opEnter, f_opNext, f_opDecide, f_opDone, f_catSlot, f_itemSlot, f_rowsSlot, f_timesSlot, f_scratchSlot, nI n, f_bufLen, f_openCount, f_patLen, f_codeLen, f_depth, f_excluded, f_termCount, f_skipMode, f_skipVar, f_resPart, f_resRows, f_resCount, f_top, f_pc, f_pos, f_from, a_vec, a_buf, a_opened, a_pat, a_reads, a_op, a_arg, a_lev, a_lo, a_hi, a_lazy, a_useMax, a_branchAt, a_jumpAt, a_enterAt, a_terms, a_cells, a_rowCount, a_startOf, a_lengthOf, a_labels, a_outcome, a_loop, a_stack) (nI a) (nI b) := by
  have L : ∀ d k, k + d = n + 1 → ∀ vec : Nat → Int32, (∀ i, i < k → vec (8 * b + i) = a_vec (8 * a + i)) → (∀ j, ¬ (8 * b ≤ j ∧ j ≤ 8 * b + n) → vec j = a_vec j) → wX_copy_2 post (nI a) (nI b) f_opRow f_opFirst f_opFinal f_opBranch f_opJump f_opEnter f_opNext f_opDecide f_opDone f_catSlot f_itemSlot f_rowsSlot f_timesSlot f_scratchSlot (nI n) f_bufLen f_openCount f_patLen f_codeLen f_depth f_excluded f_termCount f_skipMode f_skipVar f_resPart f_resRows f_resCount f_top f_pc f_pos f_from (d + 1) (nI k) vec a_buf a_opened a_pat a_reads a_op a_arg a_lev a_lo a_hi a_lazy a_useMax a_branchAt a_jumpAt a_enterAt a_terms a_cells a_rowCount a_startOf a_lengthOf a_labels a_outcome a_loop a_stack := by
    intro d
    induction d with
    | zero =>
      intro k hk vec h1 h2
      exact br_t (nI_lt (by omega) (by omega)) (h vec (fun i hi => h1 i (by omega)) h2)
    | succ d ih =>
      intro k hk vec h1 h2
      refine br_f (nI_nlt (by omega) (by omega)) ?_
      rw [xa_ix, xa_ix, nI_clamp (n := 8 * a + k) (by omega), nI_clamp (n := 8 * b + k) (by omega)]
      refine ⟨vp_in_nI (by omega) (by omega), vp_in_nI (by omega) (by omega), nm_e (nm_r (nI_1 k) (ih (k + 1) (by omega) _ (fun i hi => ?_) (fun j hj => ?_)))⟩
      · by_cases hik : i = k
        · rw [hik, pk_us]; exact h2 _ (by omega)
        · rw [pk_un (by omega)]; exact h1 i (by omega)
      · rw [pk_un (by omega)]; exact h2 j hj
  exact ⟨n + 2, L (n + 1) 0 (by omega) a_vec (fun i hi => by omega) (fun _ _ => rfl)⟩
theorem xa_total {post : Int32 → Prop} {a : Nat} {c : Nat → Nat} (hn : n ≤ 6) (ha : a < 12) (hc : ∀ k, k ≤ n → a_vec (8 * a + k) = nI (c k)) (h : post (nI (cn_s c (n + 1)))) : wpX_total post (f_opRow, f_opFirst, f_opFinal, f_opBranch, f_opJump, f_opEnter, f_opNext, f_opDecide, f_opDone, f_catSlot, f_itemSlot, f_rowsSlot, f_timesSlot, f_scratchSlot, nI n, f_bufLen, f_openCount, f_patLen, f_codeLen, f_depth, f_excluded, f_termCount, f_skipMode, f_skipVar, f_resPart, f_resRows, f_resCount, f_top, f_pc, f_pos, f_from, a_vec, a_buf, a_opened, a_pat, a_reads, a_op, a_arg, a_lev, a_lo, a_hi, a_lazy, a_useMax, a_branchAt, a_jumpAt, a_enterAt, a_terms, a_cells, a_rowCount, a_startOf, a_lengthOf, a_labels, a_outcome, a_loop, a_stack) (nI a) := by
  have L : ∀ d k, k + d = n + 1 → wX_total_4 post (nI a) f_opRow f_opFirst f_opFinal f_opBranch f_opJump f_opEnter f_opNext f_opDecide f_opDone f_catSlot f_itemSlot f_rowsSlot f_timesSlot f_scratchSlot (nI n) f_bufLen f_openCount f_patLen f_codeLen f_depth f_excluded f_termCount f_skipMode f_skipVar f_resPart f_resRows f_resCount f_top f_pc f_pos f_from a_vec a_buf a_opened a_pat a_reads a_op a_arg a_lev a_lo a_hi a_lazy a_useMax a_branchAt a_jumpAt a_enterAt a_terms a_cells a_rowCount a_startOf a_lengthOf a_labels a_outcome a_loop a_stack (d + 1) (nI (cn_s c k)) (nI k) := by
    intro d
    induction d with
    | zero =>
      intro k hk
      have : k = n + 1 := by omega
      subst this
      exact br_t (nI_lt (by omega) (by omega)) h
    | succ d ih =>
      intro k hk
      have nx := ih (k + 1) (by omega)
      refine br_f (nI_nlt (by omega) (by omega)) ?_
      rw [xa_ix, nI_clamp (n := 8 * a + k) (by omega), hc k (by omega)]
      exact ⟨vp_in_nI (by omega) (by omega), nm_r (nI_add _ _) (nm_r (nI_1 k) nx)⟩
  exact ⟨n + 2, L (n + 1) 0 (by omega)⟩
theorem xa_join {post : SX → Prop} {a b t : Nat} {c1 c2 : Nat → Nat} (hn : n ≤ 6) (ha : a < 11) (hb : b < 11) (ht : t < 11) (h1 : ∀ k, k ≤ n → a_vec (8 * a + k) = nI (c1 k)) (h2 : ∀ k, k ≤ n → a_vec (8 * b + k) = nI (c2 k))
    (h : ∀ vec : Nat → Int32, (∀ k, k ≤ n → vec (8 * t + k) = nI (cn_s (fun i => c1 i * c2 (k - i)) (k + 1))) → (∀ j, j < 88 → ¬ (8 * t ≤ j ∧ j ≤ 8 * t + n) → vec j = a_vec j) → post (f_opRow, f_opFirst, f_opFinal, f_opBranch, f_opJump, f_opEnter, f_opNext, f_opDecide, f_opDone, f_catSlot, f_itemSlot, f_rowsSlot, f_timesSlot, f_scratchSlot, nI n, f_bufLen, f_openCount, f_patLen, f_codeLen, f_depth, f_excluded, f_termCount, f_skipMode, f_skipVar, f_resPart, f_resRows, f_resCount, f_top, f_pc, f_pos, f_from, vec, a_buf, a_opened, a_pat, a_reads, a_op, a_arg, a_lev, a_lo, a_hi, a_lazy, a_useMax, a_branchAt, a_jumpAt, a_enterAt, a_terms, a_cells, a_rowCount, a_startOf, a_lengthOf, a_labels, a_outcome, a_loop, a_stack)) : wpX_join post (f_opRow, f_opFirst, f_opFinal, f_opBranch, f_opJump, f_opEnter, f_opNext, f_opDecide, f_opDone, f_catSlot, f_itemSlot, f_rowsSlot, f_timesSlot, f_scratchSlot, nI n, f_bufLen, f_openCount, f_patLen, f_codeLen, f_depth, f_excluded, f_termCount, f_skipMode, f_skipVar, f_resPart, f_resRows, f_resCount, f_top, f_pc, f_pos, f_from, a_vec, a_buf, a_opened, a_pat, a_reads, a_op, a_arg, a_lev, a_lo, a_hi, a_lazy, a_useMax, a_branchAt, a_jumpAt, a_enterAt, a_terms, a_cells, a_rowCount, a_startOf, a_lengthOf, a_labels, a_outcome, a_loop, a_stack) (nI a) (nI b) (nI t) := by
  have L : ∀ d k, k + d = n + 1 → ∀ vec : Nat → Int32, (∀ i, i < k → vec (88 + i) = nI (cn_s (fun q => c1 q * c2 (i - q)) (i + 1))) → (∀ j, j < 88 → vec j = a_vec j) → wX_join_3 post (nI a) (nI b) (nI t) f_opRow f_opFirst f_opFinal f_opBranch f_opJump f_opEnter f_opNext f_opDecide f_opDone f_catSlot f_itemSlot f_rowsSlot f_timesSlot f_scratchSlot (nI n) f_bufLen f_openCount f_patLen f_codeLen f_depth f_excluded f_termCount f_skipMode f_skipVar f_resPart f_resRows f_resCount f_top f_pc f_pos f_from (d + 1) (nI k) vec a_buf a_opened a_pat a_reads a_op a_arg a_lev a_lo a_hi a_lazy a_useMax a_branchAt a_jumpAt a_enterAt a_terms a_cells a_rowCount a_startOf a_lengthOf a_labels a_outcome a_loop a_stack := by
    intro d
    induction d with
    | zero =>
      intro k hk vec g1 g2
      refine br_t (nI_lt (by omega) (by omega)) ?_
      refine xa_copy (a := 11) hn (by omega) (by omega) (by omega) (fun vec' q1 q2 => h vec' (fun i hi => ?_) (fun j hj hj2 => ?_))
      · rw [q1 i hi]; exact g1 i (by omega)
      · rw [q2 j hj2]; exact g2 j hj
    | succ d ih =>
      intro k hk vec g1 g2
      refine br_f (nI_nlt (by omega) (by omega)) ⟨k + 2, ?_⟩
      have L2 : ∀ e i, i + e = k + 1 → wX_join_18 post (wX_join_3 post (nI a) (nI b) (nI t) f_opRow f_opFirst f_opFinal f_opBranch f_opJump f_opEnter f_opNext f_opDecide f_opDone f_catSlot f_itemSlot f_rowsSlot f_timesSlot f_scratchSlot (nI n) f_bufLen f_openCount f_patLen f_codeLen f_depth f_excluded f_termCount f_skipMode f_skipVar f_resPart f_resRows f_resCount f_top f_pc f_pos f_from (d + 1)) (nI a) (nI b) (nI t) (nI k) f_opRow f_opFirst f_opFinal f_opBranch f_opJump f_opEnter f_opNext f_opDecide f_opDone f_catSlot f_itemSlot f_rowsSlot f_timesSlot f_scratchSlot (nI n) f_bufLen f_openCount f_patLen f_codeLen f_depth f_excluded f_termCount f_skipMode f_skipVar f_resPart f_resRows f_resCount f_top f_pc f_pos f_from vec a_buf a_opened a_pat a_reads a_op a_arg a_lev a_lo a_hi a_lazy a_useMax a_branchAt a_jumpAt a_enterAt a_terms a_cells a_rowCount a_startOf a_lengthOf a_labels a_outcome a_loop a_stack (e + 1) (nI (cn_s (fun q => c1 q * c2 (k - q)) i)) (nI i) := by
        intro e
        induction e with
        | zero =>
          intro i hi
          have : i = k + 1 := by omega
          subst this
          have e1 : (88 : Int32) + nI k = nI (88 + k) := nI_add 88 k
          refine br_t (nI_lt (by omega) (by omega)) ?_
          rw [e1, nI_clamp (n := 88 + k) (by omega)]
          refine ⟨vp_in_nI (by omega) (by omega), nm_e (nm_r (nI_1 k) (ih (k + 1) (by omega) _ (fun i hi => ?_) (fun j hj => ?_)))⟩
          · by_cases hik : i = k
            · rw [hik, pk_us]
            · rw [pk_un (by omega)]; exact g1 i (by omega)
          · rw [pk_un (by omega)]; exact g2 j hj
        | succ e ih2 =>
          intro i hi
          have nx := ih2 (i + 1) (by omega)
          have e2 : ((nI b * 8) + nI k) - nI i = nI (8 * b + (k - i)) := by
            rw [xa_ix, pk_sub (by omega)]; exact congrArg nI (by omega)
          refine br_f (nI_nlt (by omega) (by omega)) ?_
          rw [xa_ix, e2, nI_clamp (n := 8 * a + i) (by omega), nI_clamp (n := 8 * b + (k - i)) (by omega), g2 (8 * a + i) (by omega), g2 (8 * b + (k - i)) (by omega), h1 i (by omega), h2 (k - i) (by omega)]
          refine ⟨vp_in_nI (by omega) (by omega), vp_in_nI (by omega) (by omega), nm_r ?_ (nm_r (nI_1 i) nx)⟩
          rw [pk_mul, nI_add]; rfl
      exact L2 (k + 1) 0 (by omega)
  exact ⟨n + 2, L (n + 1) 0 (by omega) a_vec (fun i hi => by omega) (fun _ _ => rfl)⟩
end
end
section
/-! ===== the lists of a token sequence (the last token first) ===== -/
abbrev pe_T : Type := List (Nat × List (List Nat) × List (List Nat)) × List (List Nat)
def pe_mn (t : Nat) : Nat := (t - 100) / 20
def pe_mx (t : Nat) : Nat := (t - 100) % 20 / 2
def pe_lz (t : Nat) : Bool := decide ((t - 100) % 2 = 1)
def pe_at (t : Nat) : Nat := if t < 4 then t else t + 4
def pe_cl (t : Nat) (A : List (List Nat)) : List (List Nat) := if t = 9 then A.map wd_ex else A
def pe_rep (n t : Nat) (I : List (List Nat)) : List (List Nat) := wd_R n (pe_mn t) (pe_mx t) (pe_lz t) I (pe_mx t)
def pe_step (n t : Nat) (st : pe_T) : pe_T := match st with
  | ([], I) => ([], I)
  | ((k, A, C) :: fs, I) =>
    if 100 ≤ t then ((k, A, C) :: fs, pe_rep n t I)
    else if t = 10 then ((k, A ++ wd_join n C I, [[]]) :: fs, [[]])
    else if t = 7 ∨ t = 9 then (fs, pe_cl t (A ++ wd_join n C I))
    else if t = 6 ∨ t = 8 then ((t, [], [[]]) :: (k, A, wd_join n C I) :: fs, [[]])
    else ((k, A, wd_join n C I) :: fs, [[pe_at t]])
def pe (n : Nat) : List Nat → pe_T
  | [] => ([(0, [], [[]])], [[]])
  | t :: r => pe_step n t (pe n r)
/-- what the component checks at a token -/
def pe_chk (n t : Nat) (st : pe_T) : Prop := match st with
  | ([], _) => True
  | ((_, A, C) :: _, I) =>
    if 100 ≤ t then ∀ d, d ≤ pe_mx t → (wd_R n (pe_mn t) (pe_mx t) (pe_lz t) I d).length ≤ 64
    else (wd_join n C I).length ≤ 64 ∧ (t = 7 ∨ t = 9 ∨ t = 10 → (A ++ wd_join n C I).length ≤ 64)
def pe_ok (n : Nat) : List Nat → Prop
  | [] => True
  | t :: r => pe_ok n r ∧ pe_chk n t (pe n r)
def pe_end (n : Nat) (st : pe_T) : List (List Nat) := match st with
  | ([], _) => []
  | ((_, A, C) :: _, I) => A ++ wd_join n C I
def pe_fin (n : Nat) (st : pe_T) : Prop := match st with
  | ([], _) => True
  | ((_, A, C) :: _, I) => (wd_join n C I).length ≤ 64 ∧ (A ++ wd_join n C I).length ≤ 64
/-- all lists are short, all words are well formed -/
def pe_g (n : Nat) (E : List (List Nat)) : Prop := E.length ≤ 64 ∧ ∀ w, w ∈ E → wd_ok n w
def pe_gF (n : Nat) : List (Nat × List (List Nat) × List (List Nat)) → Prop
  | [] => True
  | (_, A, C) :: fs => pe_g n A ∧ pe_g n C ∧ pe_gF n fs
def pe_G (n : Nat) (st : pe_T) : Prop := pe_gF n st.1 ∧ pe_g n st.2
theorem pe_g1 {n : Nat} : pe_g n [[]] := ⟨by show 1 ≤ 64; omega, wd_unit_ok⟩
theorem pe_g0 {n : Nat} : pe_g n [] := ⟨Nat.zero_le _, (fun w hw => nomatch hw)⟩
theorem pe_gj {n : Nat} {C I : List (List Nat)} (h : (wd_join n C I).length ≤ 64) (hC : pe_g n C) (hI : pe_g n I) : pe_g n (wd_join n C I) := ⟨h, wd_join_ok hC.2 hI.2⟩
theorem pe_ga {n : Nat} {A B : List (List Nat)} (h : (A ++ B).length ≤ 64) (hA : pe_g n A) (hB : ∀ w, w ∈ B → wd_ok n w) : pe_g n (A ++ B) := ⟨h, fun w hw => by
  rcases List.mem_append.mp hw with q | q
  · exact hA.2 w q
  · exact hB w q⟩
theorem pe_gc {n t : Nat} {A : List (List Nat)} (h : pe_g n A) : pe_g n (pe_cl t A) := by
  unfold pe_cl
  split
  · refine ⟨by rw [List.length_map]; exact h.1, fun w hw => ?_⟩
    obtain ⟨b, hb, rfl⟩ := List.mem_map.mp hw
    exact wd_ex_ok (h.2 b hb)
  · exact h
/-- the frames are as many as the open groups, and one -/
theorem pe_len {n : Nat} : ∀ {r : List Nat}, tk_V n r → (pe n r).1.length = (tk_S r).length + 1 ∧ (pe n r).1.map (fun f => f.1) = tk_S r ++ [0] := by
  intro r
  induction r with
  | nil => intro _; exact ⟨rfl, rfl⟩
  | cons t r ih =>
    intro h
    obtain ⟨h1, h2⟩ := ih h.2
    rw [pe, tk_S]
    cases hp : pe n r with
    | mk fs I =>
      rw [hp] at h1 h2
      cases fs with
      | nil => exact absurd h1 (by show ¬ 0 = _ + 1; omega)
      | cons f fs =>
        obtain ⟨k, A, C⟩ := f
        have hc := h.1
        unfold tk_c at hc
        unfold pe_step
        by_cases c1 : 100 ≤ t
        · rw [if_neg (by omega), if_neg (by omega)]
          simp only [if_pos c1]
          exact ⟨h1, h2⟩
        · simp only [if_neg c1]
          by_cases c2 : t = 10
          · simp only [if_pos c2]
            rw [if_neg (by omega), if_neg (by omega)]
            exact ⟨h1, h2⟩
          · simp only [if_neg c2]
            by_cases c3 : t = 7 ∨ t = 9
            · simp only [if_pos c3]
              rw [if_neg (by omega)]
              have hne : ∃ a b, tk_S r = a :: b := by
                rcases hc with c | c | c | c | c
                · omega
                · omega
                · have := c.2.2
                  cases hS : tk_S r with
                  | nil => rw [hS] at this; cases this
                  | cons a b => exact ⟨a, b, rfl⟩
                · omega
                · obtain ⟨mn, mx, z, e, _⟩ := c.1; omega
              obtain ⟨a, b, hS⟩ := hne
              rw [hS] at h1 h2 ⊢
              rw [List.map_cons, List.cons_append] at h2
              have h2' := List.cons.inj h2
              refine ⟨?_, h2'.2⟩
              rw [List.length_cons, List.length_cons] at h1
              show fs.length = b.length + 1
              omega
            · simp only [if_neg c3]
              by_cases c4 : t = 6 ∨ t = 8
              · simp only [if_pos c4]
                refine ⟨?_, ?_⟩
                · rw [List.length_cons] at h1
                  show fs.length + 1 + 1 = (tk_S r).length + 1 + 1
                  omega
                · rw [List.map_cons] at h2
                  show t :: k :: fs.map (fun f => f.1) = t :: (tk_S r ++ [0])
                  rw [← h2]
              · simp only [if_neg c4]
                exact ⟨h1, h2⟩
theorem pe_G_step {n t : Nat} {r : List Nat} (hn : 2 ≤ n) (hV : tk_V n (t :: r)) (hG : pe_G n (pe n r)) (hc : pe_chk n t (pe n r)) : pe_G n (pe n (t :: r)) := by
  rw [pe]
  cases hp : pe n r with
  | mk fs I =>
    rw [hp] at hG hc
    cases fs with
    | nil => exact hG
    | cons f fs =>
      obtain ⟨k, A, C⟩ := f
      obtain ⟨⟨gA, gC, gF⟩, gI⟩ := hG
      unfold pe_chk at hc
      unfold pe_step
      by_cases c1 : 100 ≤ t
      · simp only [if_pos c1] at hc ⊢
        exact ⟨⟨gA, gC, gF⟩, hc _ (Nat.le_refl _), wd_R_ok gI.2 _⟩
      · simp only [if_neg c1] at hc ⊢
        by_cases c2 : t = 10
        · simp only [if_pos c2]
          exact ⟨⟨pe_ga (hc.2 (by omega)) gA (wd_join_ok gC.2 gI.2), pe_g1, gF⟩, pe_g1⟩
        · simp only [if_neg c2]
          by_cases c3 : t = 7 ∨ t = 9
          · simp only [if_pos c3]
            exact ⟨gF, pe_gc (pe_ga (hc.2 (by omega)) gA (wd_join_ok gC.2 gI.2))⟩
          · simp only [if_neg c3]
            by_cases c4 : t = 6 ∨ t = 8
            · simp only [if_pos c4]
              exact ⟨⟨pe_g0, pe_g1, gA, pe_gj hc.1 gC gI, gF⟩, pe_g1⟩
            · simp only [if_neg c4]
              refine ⟨⟨gA, pe_gj hc.1 gC gI, gF⟩, by show 1 ≤ 64; omega, fun w hw => ?_⟩
              rw [List.mem_singleton.mp hw]
              have ht : t ≤ 5 := by
                have := hV.1
                unfold tk_c at this
                rcases this with c | c | c | c | c
                · exact c
                · omega
                · omega
                · omega
                · obtain ⟨mn, mx, z, e, _⟩ := c.1; omega
              refine ⟨fun c hc => ?_, ?_⟩
              · rw [List.mem_singleton.mp hc]; unfold pe_at; split <;> omega
              · rw [wd_sz_cons, wd_sz_nil]; split <;> omega
theorem pe_G_all {n : Nat} (hn : 2 ≤ n) : ∀ {r : List Nat}, tk_V n r → pe_ok n r → pe_G n (pe n r) := by
  intro r
  induction r with
  | nil => intro _ _; exact ⟨⟨pe_g0, pe_g1, trivial⟩, pe_g1⟩
  | cons t r ih => intro hV ho; exact pe_G_step hn hV (ih hV.2 ho.1) ho.2
end
section
/-! ===== the component's analysis ===== -/
def an_V (n : Nat) (vec : Nat → Int32) (a : Nat) (E : List (List Nat)) : Prop := ∀ k, k ≤ n → vec (8 * a + k) = nI (wd_cn E k)
def an_F (n : Nat) (vec : Nat → Int32) : List (Nat × List (List Nat) × List (List Nat)) → Prop
  | [] => True
  | (_, A, C) :: fs => an_V n vec fs.length A ∧ an_V n vec (4 + fs.length) C ∧ an_F n vec fs
theorem an_V_keep {n a : Nat} {vec vec' : Nat → Int32} {E : List (List Nat)} (h : an_V n vec a E) (hk : ∀ k, k ≤ n → vec' (8 * a + k) = vec (8 * a + k)) : an_V n vec' a E := fun k hk2 => by rw [hk k hk2]; exact h k hk2
theorem an_F_keep {n : Nat} (hn : n ≤ 6) {vec vec' : Nat → Int32} : ∀ {fs : List (Nat × List (List Nat) × List (List Nat))}, fs.length ≤ 4 → (∀ j, j < 8 * fs.length ∨ (32 ≤ j ∧ j < 32 + 8 * fs.length) → vec' j = vec j) → an_F n vec fs → an_F n vec' fs := by
  intro fs
  induction fs with
  | nil => intro _ _ _; trivial
  | cons f fs ih =>
    obtain ⟨k, A, C⟩ := f
    intro hl hk h
    rw [List.length_cons] at hl hk
    exact ⟨an_V_keep h.1 (fun q hq => hk _ (by omega)), an_V_keep h.2.1 (fun q hq => hk _ (by omega)), ih (by omega) (fun j hj => hk j (by omega)) h.2.2⟩
theorem an_unit {n a : Nat} {vec : Nat → Int32} (h : ∀ k, k ≤ n → vec (8 * a + k) = nI (if k = 0 then 1 else 0)) : an_V n vec a [[]] := fun k hk => by rw [h k hk, wd_cn_unit]
theorem an_zero {n a : Nat} {vec : Nat → Int32} (h : ∀ k, k ≤ n → vec (8 * a + k) = 0) : an_V n vec a [] := fun k hk => by rw [h k hk]; rfl
theorem an_sum {n : Nat} {E : List (List Nat)} (h : ∀ w, w ∈ E → wd_ok n w) : cn_s (wd_cn E) (n + 1) = E.length := wd_cn_sum n E (fun w hw => (h w hw).2)
section
variable {f_opRow f_opFirst f_opFinal f_opBranch f_opJump f_opEnter f_opNext f_opDecide f_opDone f_catSlot f_itemSlot f_rowsSlot f_timesSlot f_scratchSlot f_size f_bufLen f_openCount f_patLen f_codeLen f_depth f_excluded f_termCount f_skipMode f_skipVar f_resPart f_resRows f_resCount f_top f_pc f_pos f_from : Int32} {a_vec a_buf a_opened a_pat a_reads a_op a_arg a_lev a_lo a_hi a_lazy a_useMax a_branchAt a_jumpAt a_enterAt a_terms a_cells a_rowCount a_startOf a_lengthOf a_labels a_outcome a_loop : Nat → Int32} {a_stack : Nat → Int64}
variable {n : Nat}
theorem xa_fold {post : Int32 → SX → Prop} {d : Nat} {C I : List (List Nat)} (hn : n ≤ 6) (hd : d < 4) (hC : an_V n a_vec (4 + d) C) (hI : an_V n a_vec 8 I) (gC : pe_g n C) (gI : pe_g n I)
    (h : ∀ vec : Nat → Int32, an_V n vec (4 + d) (wd_join n C I) → an_V n vec 8 [[]] → (∀ j, j < 88 → ¬ (8 * (4 + d) ≤ j ∧ j ≤ 8 * (4 + d) + n) → ¬ (64 ≤ j ∧ j ≤ 64 + n) → vec j = a_vec j) → post (nI (if (wd_join n C I).length ≤ 64 then 1 else 0)) (f_opRow, f_opFirst, f_opFinal, f_opBranch, f_opJump, f_opEnter, f_opNext, f_opDecide, f_opDone, f_catSlot, f_itemSlot, f_rowsSlot, f_timesSlot, f_scratchSlot, nI n, f_bufLen, f_openCount, f_patLen, f_codeLen, nI d, f_excluded, f_termCount, f_skipMode, f_skipVar, f_resPart, f_resRows, f_resCount, f_top, f_pc, f_pos, f_from, vec, a_buf, a_opened, a_pat, a_reads, a_op, a_arg, a_lev, a_lo, a_hi, a_lazy, a_useMax, a_branchAt, a_jumpAt, a_enterAt, a_terms, a_cells, a_rowCount, a_startOf, a_lengthOf, a_labels, a_outcome, a_loop, a_stack)) :
    wpX_foldItem post (f_opRow, f_opFirst, f_opFinal, f_opBranch, f_opJump, f_opEnter, f_opNext, f_opDecide, f_opDone, f_catSlot, f_itemSlot, f_rowsSlot, f_timesSlot, f_scratchSlot, nI n, f_bufLen, f_openCount, f_patLen, f_codeLen, nI d, f_excluded, f_termCount, f_skipMode, f_skipVar, f_resPart, f_resRows, f_resCount, f_top, f_pc, f_pos, f_from, a_vec, a_buf, a_opened, a_pat, a_reads, a_op, a_arg, a_lev, a_lo, a_hi, a_lazy, a_useMax, a_branchAt, a_jumpAt, a_enterAt, a_terms, a_cells, a_rowCount, a_startOf, a_lengthOf, a_labels, a_outcome, a_loop, a_stack) := by
  have e4 : (4 : Int32) + nI d = nI (4 + d) := nI_add 4 d
  unfold wpX_foldItem
  dsimp only
  rw [e4]
  refine xa_join (b := 8) hn (by omega) (by omega) (by omega) hC hI (fun vec q1 q2 => ?_)
  dsimp only
  refine xa_unit (a := 8) hn (by omega) (fun vec2 p1 p2 => ?_)
  dsimp only
  rw [e4]
  have hJ : an_V n vec2 (4 + d) (wd_join n C I) := fun k hk => by
    rw [p2 _ (by omega), q1 k hk, wd_cn_join n k hk]
  have hl := wd_join_len n I C
  have h64 : C.length * I.length ≤ 64 * 64 := Nat.mul_le_mul gC.1 gI.1
  refine xa_total hn (by omega) hJ ?_
  rw [an_sum (wd_join_ok gC.2 gI.2)]
  have hh := h vec2 hJ (an_unit p1) (fun j h1 h2 h3 => by rw [p2 j h3, q2 j h1 h2])
  refine pk_lt 64 (wd_join n C I).length (fun q => ?_) (fun q => ?_)
  · rw [if_neg (by omega)] at hh; exact hh
  · rw [if_pos q] at hh; exact hh
theorem xa_close {post : Int32 → SX → Prop} {d : Nat} {A C I : List (List Nat)} (hn : n ≤ 6) (hd : d < 4) (hA : an_V n a_vec d A) (hC : an_V n a_vec (4 + d) C) (hI : an_V n a_vec 8 I) (gA : pe_g n A) (gC : pe_g n C) (gI : pe_g n I)
    (h0 : ¬ (wd_join n C I).length ≤ 64 → ∀ vec : Nat → Int32, post 0 (f_opRow, f_opFirst, f_opFinal, f_opBranch, f_opJump, f_opEnter, f_opNext, f_opDecide, f_opDone, f_catSlot, f_itemSlot, f_rowsSlot, f_timesSlot, f_scratchSlot, nI n, f_bufLen, f_openCount, f_patLen, f_codeLen, nI d, f_excluded, f_termCount, f_skipMode, f_skipVar, f_resPart, f_resRows, f_resCount, f_top, f_pc, f_pos, f_from, vec, a_buf, a_opened, a_pat, a_reads, a_op, a_arg, a_lev, a_lo, a_hi, a_lazy, a_useMax, a_branchAt, a_jumpAt, a_enterAt, a_terms, a_cells, a_rowCount, a_startOf, a_lengthOf, a_labels, a_outcome, a_loop, a_stack))
    (h : (wd_join n C I).length ≤ 64 → ∀ vec : Nat → Int32, an_V n vec d (A ++ wd_join n C I) → an_V n vec 8 [[]] → (∀ j, j < 88 → ¬ (8 * d ≤ j ∧ j ≤ 8 * d + n) → ¬ (8 * (4 + d) ≤ j ∧ j ≤ 8 * (4 + d) + n) → ¬ (64 ≤ j ∧ j ≤ 64 + n) → vec j = a_vec j) → post (nI (if (A ++ wd_join n C I).length ≤ 64 then 1 else 0)) (f_opRow, f_opFirst, f_opFinal, f_opBranch, f_opJump, f_opEnter, f_opNext, f_opDecide, f_opDone, f_catSlot, f_itemSlot, f_rowsSlot, f_timesSlot, f_scratchSlot, nI n, f_bufLen, f_openCount, f_patLen, f_codeLen, nI d, f_excluded, f_termCount, f_skipMode, f_skipVar, f_resPart, f_resRows, f_resCount, f_top, f_pc, f_pos, f_from, vec, a_buf, a_opened, a_pat, a_reads, a_op, a_arg, a_lev, a_lo, a_hi, a_lazy, a_useMax, a_branchAt, a_jumpAt, a_enterAt, a_terms, a_cells, a_rowCount, a_startOf, a_lengthOf, a_labels, a_outcome, a_loop, a_stack)) :
    wpX_closeCat post (f_opRow, f_opFirst, f_opFinal, f_opBranch, f_opJump, f_opEnter, f_opNext, f_opDecide, f_opDone, f_catSlot, f_itemSlot, f_rowsSlot, f_timesSlot, f_scratchSlot, nI n, f_bufLen, f_openCount, f_patLen, f_codeLen, nI d, f_excluded, f_termCount, f_skipMode, f_skipVar, f_resPart, f_resRows, f_resCount, f_top, f_pc, f_pos, f_from, a_vec, a_buf, a_opened, a_pat, a_reads, a_op, a_arg, a_lev, a_lo, a_hi, a_lazy, a_useMax, a_branchAt, a_jumpAt, a_enterAt, a_terms, a_cells, a_rowCount, a_startOf, a_lengthOf, a_labels, a_outcome, a_loop, a_stack) := by
  have e4 : (4 : Int32) + nI d = nI (4 + d) := nI_add 4 d
  unfold wpX_closeCat
  dsimp only
  refine xa_fold hn hd hC hI gC gI (fun vec q1 q2 q3 => ?_)
  by_cases hl : (wd_join n C I).length ≤ 64
  · rw [if_pos hl]
    refine br_f (by decide) ?_
    have L : ∀ m k, k + m = n + 1 → ∀ vec2 : Nat → Int32, (∀ i, i < k → vec2 (8 * d + i) = nI (wd_cn (A ++ wd_join n C I) i)) → (∀ i, k ≤ i → i ≤ n → vec2 (8 * d + i) = nI (wd_cn A i)) → (∀ j, ¬ (8 * d ≤ j ∧ j ≤ 8 * d + n) → vec2 j = vec j) → wX_closeCat_11 post f_opRow f_opFirst f_opFinal f_opBranch f_opJump f_opEnter f_opNext f_opDecide f_opDone f_catSlot f_itemSlot f_rowsSlot f_timesSlot f_scratchSlot (nI n) f_bufLen f_openCount f_patLen f_codeLen (nI d) f_excluded f_termCount f_skipMode f_skipVar f_resPart f_resRows f_resCount f_top f_pc f_pos f_from (m + 1) (nI k) vec2 a_buf a_opened a_pat a_reads a_op a_arg a_lev a_lo a_hi a_lazy a_useMax a_branchAt a_jumpAt a_enterAt a_terms a_cells a_rowCount a_startOf a_lengthOf a_labels a_outcome a_loop a_stack := by
      intro m
      induction m with
      | zero =>
        intro k hk vec2 g1 g2 g3
        refine br_t (nI_lt (by omega) (by omega)) ?_
        refine xa_total (c := wd_cn (A ++ wd_join n C I)) hn (by omega) (fun i hi => g1 i (by omega)) ?_
        have okk : ∀ w, w ∈ A ++ wd_join n C I → wd_ok n w := fun w hw => by
          rcases List.mem_append.mp hw with q | q
          · exact gA.2 w q
          · exact wd_join_ok gC.2 gI.2 w q
        have hlen : (A ++ wd_join n C I).length ≤ 128 := by rw [List.length_append]; have := gA.1; omega
        rw [an_sum okk]
        have hh := h hl vec2 (fun i hi => g1 i (by omega)) (fun i hi => by rw [g3 _ (by omega)]; exact q2 i hi) (fun j a1 a2 a3 a4 => by rw [g3 j a2, q3 j a1 a3 a4])
        refine pk_lt 64 (A ++ wd_join n C I).length (fun q => ?_) (fun q => ?_)
        · rw [if_neg (by omega)] at hh; exact hh
        · rw [if_pos q] at hh; exact hh
      | succ m ih =>
        intro k hk vec2 g1 g2 g3
        have e5 : ((4 + nI d) * 8) + nI k = nI (8 * (4 + d) + k) := by rw [e4, xa_ix]
        refine br_f (nI_nlt (by omega) (by omega)) ?_
        rw [e5, xa_ix, nI_clamp (n := 8 * d + k) (by omega), nI_clamp (n := 8 * (4 + d) + k) (by omega), g2 k (Nat.le_refl _) (by omega), g3 (8 * (4 + d) + k) (by omega), q1 k (by omega), nI_add]
        refine ⟨vp_in_nI (by omega) (by omega), vp_in_nI (by omega) (by omega), vp_in_nI (by omega) (by omega), nm_e (nm_r (nI_1 k) (ih (k + 1) (by omega) _ (fun i hi => ?_) (fun i hi hi2 => ?_) (fun j hj => ?_)))⟩
        · by_cases hik : i = k
          · rw [hik, pk_us, wd_cn_app]
          · rw [pk_un (by omega)]; exact g1 i (by omega)
        · rw [pk_un (by omega)]; exact g2 i (by omega) hi2
        · rw [pk_un (by omega)]; exact g3 j hj
    exact ⟨n + 2, L (n + 1) 0 (by omega) vec (fun i hi => by omega) (fun i _ hi => by rw [q3 _ (by omega) (by omega) (by omega)]; exact hA i hi) (fun _ _ => rfl)⟩
  · rw [if_neg hl]
    exact br_t rfl (h0 hl vec)
/-- the repetitions -/
theorem xa_repL {post : Int32 → SX → Prop} {m M : Nat} {lz : Bool} {I : List (List Nat)} (hn : n ≤ 6) (hM : M ≤ 6) (hm : m ≤ M) (gI : pe_g n I)
    (h0 : (¬ ∀ d, d ≤ M → (wd_R n m M lz I d).length ≤ 64) → ∀ vec : Nat → Int32, post 0 (f_opRow, f_opFirst, f_opFinal, f_opBranch, f_opJump, f_opEnter, f_opNext, f_opDecide, f_opDone, f_catSlot, f_itemSlot, f_rowsSlot, f_timesSlot, f_scratchSlot, nI n, f_bufLen, f_openCount, f_patLen, f_codeLen, f_depth, f_excluded, f_termCount, f_skipMode, f_skipVar, f_resPart, f_resRows, f_resCount, f_top, f_pc, f_pos, f_from, vec, a_buf, a_opened, a_pat, a_reads, a_op, a_arg, a_lev, a_lo, a_hi, a_lazy, a_useMax, a_branchAt, a_jumpAt, a_enterAt, a_terms, a_cells, a_rowCount, a_startOf, a_lengthOf, a_labels, a_outcome, a_loop, a_stack))
    (h1 : (∀ d, d ≤ M → (wd_R n m M lz I d).length ≤ 64) → ∀ vec : Nat → Int32, an_V n vec 8 (wd_R n m M lz I M) → (∀ j, j < 64 → vec j = a_vec j) → post 1 (f_opRow, f_opFirst, f_opFinal, f_opBranch, f_opJump, f_opEnter, f_opNext, f_opDecide, f_opDone, f_catSlot, f_itemSlot, f_rowsSlot, f_timesSlot, f_scratchSlot, nI n, f_bufLen, f_openCount, f_patLen, f_codeLen, f_depth, f_excluded, f_termCount, f_skipMode, f_skipVar, f_resPart, f_resRows, f_resCount, f_top, f_pc, f_pos, f_from, vec, a_buf, a_opened, a_pat, a_reads, a_op, a_arg, a_lev, a_lo, a_hi, a_lazy, a_useMax, a_branchAt, a_jumpAt, a_enterAt, a_terms, a_cells, a_rowCount, a_startOf, a_lengthOf, a_labels, a_outcome, a_loop, a_stack)) :
    ∀ e d, d + e = M → ∀ vec : Nat → Int32, an_V n vec 8 I → an_V n vec 9 (wd_rows I) → an_V n vec 10 (wd_R n m M lz I d) → (∀ q, q ≤ d → (wd_R n m M lz I q).length ≤ 64) → (∀ j, j < 64 → vec j = a_vec j) → wX_repeatItem_75 post (nI m) (e + 2) 1 (nI e + (-1)) f_opRow f_opFirst f_opFinal f_opBranch f_opJump f_opEnter f_opNext f_opDecide f_opDone f_catSlot f_itemSlot f_rowsSlot f_timesSlot f_scratchSlot (nI n) f_bufLen f_openCount f_patLen f_codeLen f_depth f_excluded f_termCount f_skipMode f_skipVar f_resPart f_resRows f_resCount f_top f_pc f_pos f_from vec a_buf a_opened a_pat a_reads a_op a_arg a_lev a_lo a_hi a_lazy a_useMax a_branchAt a_jumpAt a_enterAt a_terms a_cells a_rowCount a_startOf a_lengthOf a_labels a_outcome a_loop a_stack := by
  intro e
  induction e with
  | zero =>
    intro d hd vec v8 v9 v10 hall hfr
    have : d = M := by omega
    subst this
    refine br_t (by decide) ?_
    refine xa_copy (a := 10) (b := 8) hn (by omega) (by omega) (by omega) (fun vec2 p1 p2 => ?_)
    exact ⟨rfl, h1 hall vec2 (fun k hk => by rw [p1 k hk]; exact v10 k hk) (fun j hj => by rw [p2 j (by omega)]; exact hfr j hj)⟩
  | succ e ih =>
    intro d hd vec v8 v9 v10 hall hfr
    have e0 : nI (e + 1) + (-1) = nI e := pk_m1 e
    rw [e0]
    have gR : pe_g n (wd_R n m M lz I d) := ⟨hall d (Nat.le_refl _), wd_R_ok gI.2 d⟩
    have hR : wd_R n m M lz I (d + 1) = if M - (d + 1) < m then wd_join n I (wd_R n m M lz I d) else if lz then [] :: wd_join n (wd_rows I) (wd_R n m M lz I d) else wd_join n (wd_rows I) (wd_R n m M lz I d) ++ [[]] := by rw [wd_R]
    have eM : M - (d + 1) = e := by omega
    rw [eM] at hR
    have okR := wd_R_ok (m := m) (M := M) (lz := lz) gI.2 (d + 1)
    have fin : ∀ vec2 : Nat → Int32, an_V n vec2 8 I → an_V n vec2 9 (wd_rows I) → an_V n vec2 10 (wd_R n m M lz I (d + 1)) → (wd_R n m M lz I (d + 1)).length ≤ 5000 → (∀ j, j < 64 → vec2 j = a_vec j) → wX_repeatItem_123 post (wX_repeatItem_75 post (nI m) (e + 2)) (nI m) (nI e) f_opRow f_opFirst f_opFinal f_opBranch f_opJump f_opEnter f_opNext f_opDecide f_opDone f_catSlot f_itemSlot f_rowsSlot f_timesSlot f_scratchSlot (nI n) f_bufLen f_openCount f_patLen f_codeLen f_depth f_excluded f_termCount f_skipMode f_skipVar f_resPart f_resRows f_resCount f_top f_pc f_pos f_from vec2 a_buf a_opened a_pat a_reads a_op a_arg a_lev a_lo a_hi a_lazy a_useMax a_branchAt a_jumpAt a_enterAt a_terms a_cells a_rowCount a_startOf a_lengthOf a_labels a_outcome a_loop a_stack := by
      intro vec2 w8 w9 w10 h5 hfr2
      refine xa_total (a := 10) hn (by omega) w10 ?_
      rw [an_sum okR]
      refine pk_lt 64 (wd_R n m M lz I (d + 1)).length (fun q => ?_) (fun q => ?_)
      · refine nm_e ?_
        have hbad : ¬ ∀ d, d ≤ M → (wd_R n m M lz I d).length ≤ 64 := fun hh => by have := hh (d + 1) (by omega); omega
        have k147 : wX_repeatItem_147 post 0 f_opRow f_opFirst f_opFinal f_opBranch f_opJump f_opEnter f_opNext f_opDecide f_opDone f_catSlot f_itemSlot f_rowsSlot f_timesSlot f_scratchSlot (nI n) f_bufLen f_openCount f_patLen f_codeLen f_depth f_excluded f_termCount f_skipMode f_skipVar f_resPart f_resRows f_resCount f_top f_pc f_pos f_from vec2 a_buf a_opened a_pat a_reads a_op a_arg a_lev a_lo a_hi a_lazy a_useMax a_branchAt a_jumpAt a_enterAt a_terms a_cells a_rowCount a_startOf a_lengthOf a_labels a_outcome a_loop a_stack := xa_copy (a := 10) (b := 8) hn (by omega) (by omega) (by omega) (fun vec3 p1 p2 => ⟨rfl, h0 hbad vec3⟩)
        exact br_c (fun _ => k147) (fun _ => br_t rfl k147)
      · refine nm_e ?_
        refine ih (d + 1) (by omega) vec2 w8 w9 w10 (fun p hp => ?_) hfr2
        by_cases hpd : p = d + 1
        · rw [hpd]; exact q
        · exact hall p (by omega)
    refine br_f (nI_pos (by omega)) (br_f (by decide) (pk_le m e (fun q => ?_) (fun q => ?_)))
    · rw [if_neg (by omega)] at hR
      have hcn : ∀ k, wd_cn (wd_R n m M lz I (d + 1)) k = wd_cn (wd_join n (wd_rows I) (wd_R n m M lz I d)) k + (if k = 0 then 1 else 0) := by
        intro k
        rw [hR]
        split
        · rw [wd_cn_cons, wd_sz_nil]
          by_cases hk : k = 0
          · rw [if_pos hk, if_pos hk.symm]; omega
          · rw [if_neg hk, if_neg (fun q => hk q.symm)]; omega
        · rw [wd_cn_app, wd_cn_unit]
      have hlen : (wd_R n m M lz I (d + 1)).length = (wd_join n (wd_rows I) (wd_R n m M lz I d)).length + 1 := by
        rw [hR]; split
        · rfl
        · rw [List.length_append]; rfl
      have hl := wd_join_len n (wd_R n m M lz I d) (wd_rows I)
      have hr64 : (wd_rows I).length ≤ 64 := Nat.le_trans (List.length_filter_le _ _) gI.1
      have h64 : (wd_rows I).length * (wd_R n m M lz I d).length ≤ 64 * 64 := Nat.mul_le_mul hr64 gR.1
      refine xa_join (a := 9) (b := 10) (t := 10) hn (by omega) (by omega) (by omega) v9 v10 (fun vec2 p1 p2 => ?_)
      refine br_f (nI_nlt q (by omega)) (nm_e ?_)
      have c1 : ∀ k, k ≤ n → vec2 (80 + k) = nI (wd_cn (wd_join n (wd_rows I) (wd_R n m M lz I d)) k) := fun k hk => by rw [wd_cn_join n k hk]; exact p1 k hk
      refine fin _ (fun k hk => ?_) (fun k hk => ?_) (fun k hk => ?_) (by omega) (fun j hj => ?_)
      · rw [pk_un (by omega), p2 _ (by omega) (by omega)]; exact v8 k hk
      · rw [pk_un (by omega), p2 _ (by omega) (by omega)]; exact v9 k hk
      · rw [hcn k]
        by_cases hk0 : k = 0
        · subst hk0
          have c0 : vec2 80 = nI (wd_cn (wd_join n (wd_rows I) (wd_R n m M lz I d)) 0) := c1 0 (by omega)
          show upd vec2 80 (vec2 80 + 1) 80 = _
          rw [pk_us, if_pos rfl, c0, nI_1]
        · rw [pk_un (by omega), if_neg hk0, Nat.add_zero]; exact c1 k hk
      · rw [pk_un (by omega), p2 j (by omega) (by omega)]; exact hfr j hj
    · rw [if_pos q] at hR
      have hl := wd_join_len n (wd_R n m M lz I d) I
      have h64 : I.length * (wd_R n m M lz I d).length ≤ 64 * 64 := Nat.mul_le_mul gI.1 gR.1
      refine xa_join (a := 8) (b := 10) (t := 10) hn (by omega) (by omega) (by omega) v8 v10 (fun vec2 p1 p2 => ?_)
      refine br_t (nI_lt q (by omega)) ?_
      refine fin _ (fun k hk => ?_) (fun k hk => ?_) (fun k hk => ?_) (by rw [hR]; omega) (fun j hj => ?_)
      · rw [p2 _ (by omega) (by omega)]; exact v8 k hk
      · rw [p2 _ (by omega) (by omega)]; exact v9 k hk
      · rw [hR, wd_cn_join n k hk]; exact p1 k hk
      · rw [p2 j (by omega) (by omega)]; exact hfr j hj
theorem xa_rep {post : Int32 → SX → Prop} {t i : Nat} {I : List (List Nat)} (hn : n ≤ 6) (hi : i < 24) (ht : tk_q n t) (hb : a_buf i = nI t) (hI : an_V n a_vec 8 I) (gI : pe_g n I)
    (h0 : (¬ ∀ d, d ≤ pe_mx t → (wd_R n (pe_mn t) (pe_mx t) (pe_lz t) I d).length ≤ 64) → ∀ (vec um : Nat → Int32), post 0 (f_opRow, f_opFirst, f_opFinal, f_opBranch, f_opJump, f_opEnter, f_opNext, f_opDecide, f_opDone, f_catSlot, f_itemSlot, f_rowsSlot, f_timesSlot, f_scratchSlot, nI n, f_bufLen, f_openCount, f_patLen, f_codeLen, f_depth, f_excluded, f_termCount, f_skipMode, f_skipVar, f_resPart, f_resRows, f_resCount, f_top, f_pc, f_pos, f_from, vec, a_buf, a_opened, a_pat, a_reads, a_op, a_arg, a_lev, a_lo, a_hi, a_lazy, um, a_branchAt, a_jumpAt, a_enterAt, a_terms, a_cells, a_rowCount, a_startOf, a_lengthOf, a_labels, a_outcome, a_loop, a_stack))
    (h1 : (∀ d, d ≤ pe_mx t → (wd_R n (pe_mn t) (pe_mx t) (pe_lz t) I d).length ≤ 64) → ∀ vec : Nat → Int32, an_V n vec 8 (pe_rep n t I) → (∀ j, j < 64 → vec j = a_vec j) → post 1 (f_opRow, f_opFirst, f_opFinal, f_opBranch, f_opJump, f_opEnter, f_opNext, f_opDecide, f_opDone, f_catSlot, f_itemSlot, f_rowsSlot, f_timesSlot, f_scratchSlot, nI n, f_bufLen, f_openCount, f_patLen, f_codeLen, f_depth, f_excluded, f_termCount, f_skipMode, f_skipVar, f_resPart, f_resRows, f_resCount, f_top, f_pc, f_pos, f_from, vec, a_buf, a_opened, a_pat, a_reads, a_op, a_arg, a_lev, a_lo, a_hi, a_lazy, upd a_useMax i (nI (if wd_rows I = [] then pe_mn t else pe_mx t)), a_branchAt, a_jumpAt, a_enterAt, a_terms, a_cells, a_rowCount, a_startOf, a_lengthOf, a_labels, a_outcome, a_loop, a_stack)) :
    wpX_repeatItem post (f_opRow, f_opFirst, f_opFinal, f_opBranch, f_opJump, f_opEnter, f_opNext, f_opDecide, f_opDone, f_catSlot, f_itemSlot, f_rowsSlot, f_timesSlot, f_scratchSlot, nI n, f_bufLen, f_openCount, f_patLen, f_codeLen, f_depth, f_excluded, f_termCount, f_skipMode, f_skipVar, f_resPart, f_resRows, f_resCount, f_top, f_pc, f_pos, f_from, a_vec, a_buf, a_opened, a_pat, a_reads, a_op, a_arg, a_lev, a_lo, a_hi, a_lazy, a_useMax, a_branchAt, a_jumpAt, a_enterAt, a_terms, a_cells, a_rowCount, a_startOf, a_lengthOf, a_labels, a_outcome, a_loop, a_stack) (nI i) := by
  obtain ⟨mn, mx, z, e, hm, hx1, hx2, hz⟩ := ht
  have q0 : t - 100 = 20 * mn + 2 * mx + z := by omega
  have q1 : pe_mn t = mn := by unfold pe_mn; omega
  have q2 : pe_mx t = mx := by unfold pe_mx; omega
  rw [q1, q2] at h0 h1
  unfold wpX_repeatItem
  dsimp only
  rw [nI_clamp (n := i) (by omega), hb]
  have e1 : nI t - 100 = nI (t - 100) := pk_sub (b := 100) (by omega)
  have e2 : nI (t - 100) / 20 = nI mn := by
    have := pk_div (a := t - 100) (d := 20) (by omega) (by omega) (by omega)
    exact this.trans (congrArg nI (by omega))
  have e3 : (nI (t - 100) - nI (t - 100) / 20 * 20) / 2 = nI mx := by
    have r1 := pk_rem (a := t - 100) (d := 20) (by omega) (by omega) (by omega)
    have r2 : nI (t - 100) - nI (t - 100) / 20 * 20 = nI ((t - 100) % 20) := r1
    rw [r2]
    have := pk_div (a := (t - 100) % 20) (d := 2) (by omega) (by omega) (by omega)
    exact this.trans (congrArg nI (by omega))
  refine ⟨vp_in_nI hi (by omega), nm_r e1 ⟨by decide, nm_r e2 ⟨by decide, by decide, nm_r e3 ?_⟩⟩⟩
  refine xa_copy (a := 8) (b := 9) hn (by omega) (by omega) (by omega) (fun vec p1 p2 => ?_)
  refine nm_e ?_
  have v9 : an_V n (upd vec 72 0) 9 (wd_rows I) := fun k hk => by
    rw [wd_cn_rows]
    by_cases hk0 : k = 0
    · subst hk0; rw [if_pos rfl]; exact pk_us
    · rw [if_neg hk0, pk_un (by omega), p1 k hk]; exact hI k hk
  have v8 : an_V n (upd vec 72 0) 8 I := fun k hk => by
    rw [pk_un (by omega), p2 _ (by omega)]; exact hI k hk
  have hfr : ∀ j, j < 64 → upd vec 72 0 j = a_vec j := fun j hj => by rw [pk_un (by omega), p2 _ (by omega)]
  have hr64 : (wd_rows I).length ≤ 64 := Nat.le_trans (List.length_filter_le _ _) gI.1
  refine xa_total (a := 9) hn (by omega) v9 ?_
  rw [an_sum (wd_rows_ok gI.2)]
  have k59 : ∀ u : Nat, (if wd_rows I = [] then mn else mx) = u → wX_repeatItem_59 post (nI mn) (nI mx) (nI u) (nI i) f_opRow f_opFirst f_opFinal f_opBranch f_opJump f_opEnter f_opNext f_opDecide f_opDone f_catSlot f_itemSlot f_rowsSlot f_timesSlot f_scratchSlot (nI n) f_bufLen f_openCount f_patLen f_codeLen f_depth f_excluded f_termCount f_skipMode f_skipVar f_resPart f_resRows f_resCount f_top f_pc f_pos f_from (upd vec 72 0) a_buf a_opened a_pat a_reads a_op a_arg a_lev a_lo a_hi a_lazy a_useMax a_branchAt a_jumpAt a_enterAt a_terms a_cells a_rowCount a_startOf a_lengthOf a_labels a_outcome a_loop a_stack := by
    intro u hu
    refine ⟨vp_in_nI hi (by omega), ?_⟩
    rw [nI_clamp (n := i) (by omega)]
    refine nm_e ?_
    refine xa_unit (a := 10) hn (by omega) (fun vec2 g1 g2 => ?_)
    have e5 : nI mx - 1 = nI mx + (-1) := by grind
    refine nm_r e5 ⟨mx + 2, ?_⟩
    refine xa_repL (m := mn) (M := mx) (lz := pe_lz t) (I := I) hn (by omega) hm gI (fun hh vec3 => h0 hh vec3 _) (fun hh vec3 w1 w2 => ?_) mx 0 (by omega) vec2 (fun k hk => by rw [g2 _ (by omega)]; exact v8 k hk) (fun k hk => by rw [g2 _ (by omega)]; exact v9 k hk) (an_unit g1) (fun q hq => ?_) (fun j hj => g2 j (by omega))
    · have := h1 hh vec3 (by unfold pe_rep; rw [q1, q2]; exact w1) (fun j hj => by rw [w2 j hj]; exact hfr j hj)
      rw [hu] at this
      exact this
    · have : q = 0 := by omega
      subst this
      show 1 ≤ 64
      omega
  refine pk_eq (wd_rows I).length 0 (fun q => ?_) (fun q => ?_)
  · exact k59 mn (by rw [if_pos (List.length_eq_zero_iff.mp q)])
  · exact k59 mx (by rw [if_neg (fun hh => q (by rw [hh]; rfl))])
end
end
section
/-! ===== the component's analysis, token by token ===== -/
def an_u (t i : Nat) (I : List (List Nat)) (um : Nat → Int32) : Nat → Int32 := if 100 ≤ t then upd um i (nI (if wd_rows I = [] then pe_mn t else pe_mx t)) else um
section
variable {f_opRow f_opFirst f_opFinal f_opBranch f_opJump f_opEnter f_opNext f_opDecide f_opDone f_catSlot f_itemSlot f_rowsSlot f_timesSlot f_scratchSlot f_size f_bufLen f_openCount f_patLen f_codeLen f_depth f_excluded f_termCount f_skipMode f_skipVar f_resPart f_resRows f_resCount f_top f_pc f_pos f_from : Int32} {a_vec a_buf a_opened a_pat a_reads a_op a_arg a_lev a_lo a_hi a_lazy a_useMax a_branchAt a_jumpAt a_enterAt a_terms a_cells a_rowCount a_startOf a_lengthOf a_labels a_outcome a_loop : Nat → Int32} {a_stack : Nat → Int64}
variable {n : Nat}
theorem xa_open {post : SX → Prop} {d : Nat} (hn : n ≤ 6) (hd : d < 4) (h : ∀ vec : Nat → Int32, an_V n vec d [] → an_V n vec (4 + d) [[]] → an_V n vec 8 [[]] → (∀ j, ¬ (8 * d ≤ j ∧ j ≤ 8 * d + n) → ¬ (8 * (4 + d) ≤ j ∧ j ≤ 8 * (4 + d) + n) → ¬ (64 ≤ j ∧ j ≤ 64 + n) → vec j = a_vec j) → post (f_opRow, f_opFirst, f_opFinal, f_opBranch, f_opJump, f_opEnter, f_opNext, f_opDecide, f_opDone, f_catSlot, f_itemSlot, f_rowsSlot, f_timesSlot, f_scratchSlot, nI n, f_bufLen, f_openCount, f_patLen, f_codeLen, nI d, f_excluded, f_termCount, f_skipMode, f_skipVar, f_resPart, f_resRows, f_resCount, f_top, f_pc, f_pos, f_from, vec, a_buf, a_opened, a_pat, a_reads, a_op, a_arg, a_lev, a_lo, a_hi, a_lazy, a_useMax, a_branchAt, a_jumpAt, a_enterAt, a_terms, a_cells, a_rowCount, a_startOf, a_lengthOf, a_labels, a_outcome, a_loop, a_stack)) : wpX_openLists post (f_opRow, f_opFirst, f_opFinal, f_opBranch, f_opJump, f_opEnter, f_opNext, f_opDecide, f_opDone, f_catSlot, f_itemSlot, f_rowsSlot, f_timesSlot, f_scratchSlot, nI n, f_bufLen, f_openCount, f_patLen, f_codeLen, nI d, f_excluded, f_termCount, f_skipMode, f_skipVar, f_resPart, f_resRows, f_resCount, f_top, f_pc, f_pos, f_from, a_vec, a_buf, a_opened, a_pat, a_reads, a_op, a_arg, a_lev, a_lo, a_hi, a_lazy, a_useMax, a_branchAt, a_jumpAt, a_enterAt, a_terms, a_cells, a_rowCount, a_startOf, a_lengthOf, a_labels, a_outcome, a_loop, a_stack) := by
  have e4 : (4 : Int32) + nI d = nI (4 + d) := nI_add 4 d
  unfold wpX_openLists
  dsimp only
  refine xa_zero hn (by omega) (fun vec p1 p2 => ?_)
  dsimp only
  rw [e4]
  refine xa_unit hn (by omega) (fun vec2 q1 q2 => ?_)
  dsimp only
  refine xa_unit (a := 8) hn (by omega) (fun vec3 r1 r2 => ?_)
  exact h vec3 (an_zero (fun k hk => by rw [r2 _ (by omega), q2 _ (by omega)]; exact p1 k hk)) (fun k hk => by rw [r2 _ (by omega), wd_cn_unit]; exact q1 k hk) (an_unit r1) (fun j a1 a2 a3 => by rw [r2 j a3, q2 j a2, p2 j a1])
theorem xa_tok {post : Int32 → SX → Prop} {t : Nat} {r : List Nat} (hn2 : 2 ≤ n) (hn : n ≤ 6) (hV : tk_V n (t :: r)) (hi : r.length < 24) (hb : a_buf r.length = nI t) (hF : an_F n a_vec (pe n r).1) (hI : an_V n a_vec 8 (pe n r).2) (hG : pe_G n (pe n r))
    (h0 : ¬ pe_chk n t (pe n r) → ∀ (vec um : Nat → Int32) (dep : Int32), post 0 (f_opRow, f_opFirst, f_opFinal, f_opBranch, f_opJump, f_opEnter, f_opNext, f_opDecide, f_opDone, f_catSlot, f_itemSlot, f_rowsSlot, f_timesSlot, f_scratchSlot, nI n, f_bufLen, f_openCount, f_patLen, f_codeLen, dep, f_excluded, f_termCount, f_skipMode, f_skipVar, f_resPart, f_resRows, f_resCount, f_top, f_pc, f_pos, f_from, vec, a_buf, a_opened, a_pat, a_reads, a_op, a_arg, a_lev, a_lo, a_hi, a_lazy, um, a_branchAt, a_jumpAt, a_enterAt, a_terms, a_cells, a_rowCount, a_startOf, a_lengthOf, a_labels, a_outcome, a_loop, a_stack))
    (h1 : pe_chk n t (pe n r) → ∀ vec : Nat → Int32, an_F n vec (pe n (t :: r)).1 → an_V n vec 8 (pe n (t :: r)).2 → post 1 (f_opRow, f_opFirst, f_opFinal, f_opBranch, f_opJump, f_opEnter, f_opNext, f_opDecide, f_opDone, f_catSlot, f_itemSlot, f_rowsSlot, f_timesSlot, f_scratchSlot, nI n, f_bufLen, f_openCount, f_patLen, f_codeLen, nI ((pe n (t :: r)).1.length - 1), f_excluded, f_termCount, f_skipMode, f_skipVar, f_resPart, f_resRows, f_resCount, f_top, f_pc, f_pos, f_from, vec, a_buf, a_opened, a_pat, a_reads, a_op, a_arg, a_lev, a_lo, a_hi, a_lazy, an_u t r.length (pe n r).2 a_useMax, a_branchAt, a_jumpAt, a_enterAt, a_terms, a_cells, a_rowCount, a_startOf, a_lengthOf, a_labels, a_outcome, a_loop, a_stack)) :
    wpX_analyseToken post (f_opRow, f_opFirst, f_opFinal, f_opBranch, f_opJump, f_opEnter, f_opNext, f_opDecide, f_opDone, f_catSlot, f_itemSlot, f_rowsSlot, f_timesSlot, f_scratchSlot, nI n, f_bufLen, f_openCount, f_patLen, f_codeLen, nI ((pe n r).1.length - 1), f_excluded, f_termCount, f_skipMode, f_skipVar, f_resPart, f_resRows, f_resCount, f_top, f_pc, f_pos, f_from, a_vec, a_buf, a_opened, a_pat, a_reads, a_op, a_arg, a_lev, a_lo, a_hi, a_lazy, a_useMax, a_branchAt, a_jumpAt, a_enterAt, a_terms, a_cells, a_rowCount, a_startOf, a_lengthOf, a_labels, a_outcome, a_loop, a_stack) (nI r.length) := by
  have htok := tk_tok hn hV t List.mem_cons_self
  have hS := tk_S68 hV.2
  have hPL := pe_len hV.2
  have hPL' := pe_len hV
  have hc := hV.1
  unfold tk_c at hc
  have eP : pe n (t :: r) = pe_step n t (pe n r) := rfl
  rw [eP] at h1 hPL'
  cases hp : pe n r with
  | mk fs I =>
    rw [hp] at h0 h1 hF hI hG hPL hPL'
    cases fs with
    | nil => exact absurd hPL.1 (by show ¬ 0 = _ + 1; omega)
    | cons fr fs =>
      obtain ⟨k, A, C⟩ := fr
      obtain ⟨⟨gA, gC, gF⟩, gI⟩ := hG
      have hlen : fs.length = (tk_S r).length := by have := hPL.1; rw [List.length_cons] at this; omega
      have hd : fs.length < 4 := by omega
      have hdd : ((k, A, C) :: fs).length - 1 = fs.length := by rw [List.length_cons]; omega
      have hI' : an_V n a_vec 8 I := hI
      obtain ⟨vA, vC, vF⟩ := hF
      have e4 : (4 : Int32) + nI fs.length = nI (4 + fs.length) := nI_add 4 fs.length
      show wpX_analyseToken post (f_opRow, f_opFirst, f_opFinal, f_opBranch, f_opJump, f_opEnter, f_opNext, f_opDecide, f_opDone, f_catSlot, f_itemSlot, f_rowsSlot, f_timesSlot, f_scratchSlot, nI n, f_bufLen, f_openCount, f_patLen, f_codeLen, nI (((k, A, C) :: fs).length - 1), f_excluded, f_termCount, f_skipMode, f_skipVar, f_resPart, f_resRows, f_resCount, f_top, f_pc, f_pos, f_from, a_vec, a_buf, a_opened, a_pat, a_reads, a_op, a_arg, a_lev, a_lo, a_hi, a_lazy, a_useMax, a_branchAt, a_jumpAt, a_enterAt, a_terms, a_cells, a_rowCount, a_startOf, a_lengthOf, a_labels, a_outcome, a_loop, a_stack) (nI r.length)
      rw [hdd]
      unfold wpX_analyseToken
      dsimp only
      rw [nI_clamp (n := r.length) (by omega), hb]
      refine ⟨vp_in_nI hi (by omega), nm_e (pk_lt t 100 (fun q => ?_) (fun q => ?_))⟩
      · have hu : an_u t r.length I a_useMax = a_useMax := by unfold an_u; rw [if_neg (by omega)]
        have eS : ∀ {X Y : pe_T}, (if 100 ≤ t then X else Y) = Y := fun {X Y} => if_neg (by omega)
        have eC : pe_chk n t ((k, A, C) :: fs, I) = ((wd_join n C I).length ≤ 64 ∧ (t = 7 ∨ t = 9 ∨ t = 10 → (A ++ wd_join n C I).length ≤ 64)) := by unfold pe_chk; exact if_neg (by omega)
        have clo : t = 7 ∨ t = 9 → wX_analyseToken_31 post f_opRow f_opFirst f_opFinal f_opBranch f_opJump f_opEnter f_opNext f_opDecide f_opDone f_catSlot f_itemSlot f_rowsSlot f_timesSlot f_scratchSlot (nI n) f_bufLen f_openCount f_patLen f_codeLen (nI fs.length) f_excluded f_termCount f_skipMode f_skipVar f_resPart f_resRows f_resCount f_top f_pc f_pos f_from a_vec a_buf a_opened a_pat a_reads a_op a_arg a_lev a_lo a_hi a_lazy a_useMax a_branchAt a_jumpAt a_enterAt a_terms a_cells a_rowCount a_startOf a_lengthOf a_labels a_outcome a_loop a_stack := by
          intro h79
          have e2 : pe_step n t ((k, A, C) :: fs, I) = (fs, pe_cl t (A ++ wd_join n C I)) := by
            unfold pe_step
            simp only [if_neg (show ¬ 100 ≤ t by omega), if_neg (show ¬ t = 10 by omega), if_pos h79]
          rw [e2] at h1 hPL'
          unfold wX_analyseToken_31 wpX_closeLists
          dsimp only
          have hd1 : 1 ≤ fs.length := by
            have := hPL'.1
            show 1 ≤ fs.length
            have h3 : fs.length = (tk_S (t :: r)).length + 1 := this
            omega
          have ed : nI fs.length - 1 = nI (fs.length - 1) := pk_sub (b := 1) hd1
          refine xa_close hn hd vA vC hI' gA gC gI ?_ ?_
          · intro hj vec
            dsimp only
            refine xa_copy (a := fs.length) (b := 8) hn (by omega) (by omega) (by omega) (fun vec2 _ _ => ?_)
            exact nm_e ⟨rfl, rfl, h0 (by rw [eC]; exact fun hh => hj hh.1) vec2 _ _⟩
          · intro hj vec p1 p2 p3
            dsimp only
            refine xa_copy (a := fs.length) (b := 8) hn (by omega) (by omega) (by omega) (fun vec2 q1 q2 => ?_)
            have vF1 : an_F n vec2 fs := an_F_keep hn (vec := a_vec) (by omega) (fun j hjj => by rw [q2 j (by omega), p3 j (by omega) (by omega) (by omega) (by omega)]) vF
            by_cases hA2 : (A ++ wd_join n C I).length ≤ 64
            · rw [if_pos hA2]
              refine nm_r ed ⟨rfl, rfl, ?_⟩
              have := h1 (by rw [eC]; exact ⟨hj, fun _ => hA2⟩) vec2 vF1 (fun kk hkk => by
                rw [q1 kk hkk, p1 kk hkk]
                unfold pe_cl
                split
                · rw [wd_cn_ex]
                · rfl)
              rw [hu] at this
              exact this
            · rw [if_neg hA2]
              exact nm_e ⟨rfl, rfl, h0 (by rw [eC]; exact fun hh => hA2 (hh.2 (by omega))) vec2 _ _⟩
        refine pk_eq t 7 (fun q7 => clo (Or.inl q7)) (fun q7 => pk_eq t 9 (fun q9 => clo (Or.inr q9)) (fun q9 => pk_eq t 10 (fun q10 => ?_) (fun q10 => ?_)))
        · have e2 : pe_step n t ((k, A, C) :: fs, I) = ((k, A ++ wd_join n C I, [[]]) :: fs, [[]]) := by
            unfold pe_step
            simp only [if_neg (show ¬ 100 ≤ t by omega), if_pos q10]
          rw [e2] at h1
          refine xa_close hn hd vA vC hI' gA gC gI ?_ ?_
          · intro hj vec
            dsimp only
            rw [e4]
            refine xa_unit hn (by omega) (fun vec2 _ _ => ?_)
            exact ⟨rfl, h0 (by rw [eC]; exact fun hh => hj hh.1) vec2 _ _⟩
          · intro hj vec p1 p2 p3
            dsimp only
            rw [e4]
            refine xa_unit hn (by omega) (fun vec2 q1 q2 => ?_)
            by_cases hA2 : (A ++ wd_join n C I).length ≤ 64
            · rw [if_pos hA2]
              have := h1 (by rw [eC]; exact ⟨hj, fun _ => hA2⟩) vec2 ⟨fun kk hkk => by rw [q2 _ (by omega)]; exact p1 kk hkk, an_unit q1, an_F_keep hn (vec := a_vec) (by omega) (fun j hjj => by rw [q2 j (by omega), p3 j (by omega) (by omega) (by omega) (by omega)]) vF⟩ (fun kk hkk => by rw [q2 _ (by omega)]; exact p2 kk hkk)
              rw [hu] at this
              exact ⟨rfl, this⟩
            · rw [if_neg hA2]
              exact ⟨rfl, h0 (by rw [eC]; exact fun hh => hA2 (hh.2 (by omega))) vec2 _ _⟩
        · have eC2 : pe_chk n t ((k, A, C) :: fs, I) ↔ (wd_join n C I).length ≤ 64 := by
            rw [eC]
            exact ⟨fun hh => hh.1, fun hh => ⟨hh, fun h3 => by omega⟩⟩
          refine xa_fold hn hd vC hI' gC gI (fun vec p1 p2 p3 => ?_)
          have vF1 : an_F n vec fs := an_F_keep hn (vec := a_vec) (by omega) (fun j hjj => p3 j (by omega) (by omega) (by omega)) vF
          have vA1 : an_V n vec fs.length A := an_V_keep vA (fun kk hkk => p3 _ (by omega) (by omega) (by omega))
          have opn : t = 6 ∨ t = 8 → wX_analyseToken_76 post (nI (if (wd_join n C I).length ≤ 64 then 1 else 0)) f_opRow f_opFirst f_opFinal f_opBranch f_opJump f_opEnter f_opNext f_opDecide f_opDone f_catSlot f_itemSlot f_rowsSlot f_timesSlot f_scratchSlot (nI n) f_bufLen f_openCount f_patLen f_codeLen (nI fs.length) f_excluded f_termCount f_skipMode f_skipVar f_resPart f_resRows f_resCount f_top f_pc f_pos f_from vec a_buf a_opened a_pat a_reads a_op a_arg a_lev a_lo a_hi a_lazy a_useMax a_branchAt a_jumpAt a_enterAt a_terms a_cells a_rowCount a_startOf a_lengthOf a_labels a_outcome a_loop a_stack := by
            intro h68
            have e2 : pe_step n t ((k, A, C) :: fs, I) = ((t, [], [[]]) :: (k, A, wd_join n C I) :: fs, [[]]) := by
              unfold pe_step
              simp only [if_neg (show ¬ 100 ≤ t by omega), if_neg (show ¬ t = 10 by omega), if_neg (show ¬ (t = 7 ∨ t = 9) by omega), if_pos h68]
            rw [e2] at h1
            have hd3 : fs.length + 1 < 4 := by
              rcases hc with c | c | c | c | c
              · omega
              · omega
              · omega
              · omega
              · obtain ⟨mn, mx, z, e, _⟩ := c.1; omega
            refine nm_r (nI_1 fs.length) ?_
            refine xa_open hn hd3 (fun vec2 g1 g2 g3 g4 => ?_)
            by_cases hj : (wd_join n C I).length ≤ 64
            · rw [if_pos hj]
              have := h1 (eC2.mpr hj) vec2 ⟨g1, g2, an_V_keep vA1 (fun kk hkk => g4 _ (by omega) (by omega) (by omega)), an_V_keep p1 (fun kk hkk => g4 _ (by omega) (by omega) (by omega)), an_F_keep hn (vec := vec) (by omega) (fun j hjj => g4 j (by omega) (by omega) (by omega)) vF1⟩ g3
              rw [hu] at this
              exact ⟨rfl, this⟩
            · rw [if_neg hj]
              exact ⟨rfl, h0 (fun hh => hj (eC2.mp hh)) vec2 _ _⟩
          refine pk_eq t 6 (fun q6 => opn (Or.inl q6)) (fun q6 => pk_eq t 8 (fun q8 => opn (Or.inr q8)) (fun q8 => ?_))
          have e2 : pe_step n t ((k, A, C) :: fs, I) = ((k, A, wd_join n C I) :: fs, [[pe_at t]]) := by
            unfold pe_step
            simp only [if_neg (show ¬ 100 ≤ t by omega), if_neg (show ¬ t = 10 by omega), if_neg (show ¬ (t = 7 ∨ t = 9) by omega), if_neg (show ¬ (t = 6 ∨ t = 8) by omega)]
          rw [e2] at h1
          have ht5 : t ≤ 5 := by
            rcases hc with c | c | c | c | c
            · exact c
            · omega
            · omega
            · omega
            · obtain ⟨mn, mx, z, e, _⟩ := c.1; omega
          refine pk_lt 3 t (fun q3 => ?_) (fun q3 => ?_)
          · by_cases hj : (wd_join n C I).length ≤ 64
            · rw [if_pos hj]
              have := h1 (eC2.mpr hj) vec ⟨vA1, p1, vF1⟩ (fun kk hkk => by
                rw [p2 kk hkk, wd_cn_unit, wd_cn_cons, wd_cn_nil]
                have : wd_sz [pe_at t] = 0 := by
                  unfold pe_at
                  rw [if_neg (by omega), wd_sz_cons, if_neg (by omega), wd_sz_nil]
                rw [this]
                by_cases hk0 : kk = 0
                · rw [if_pos hk0, if_pos hk0.symm]
                · rw [if_neg hk0, if_neg (fun e => hk0 e.symm)])
              rw [hu] at this
              exact ⟨rfl, this⟩
            · rw [if_neg hj]
              exact ⟨rfl, h0 (fun hh => hj (eC2.mp hh)) vec _ _⟩
          · refine xa_zero (a := 8) hn (by omega) (fun vec2 g1 g2 => ?_)
            refine nm_e ?_
            by_cases hj : (wd_join n C I).length ≤ 64
            · rw [if_pos hj]
              have := h1 (eC2.mpr hj) (upd vec2 65 1) ⟨an_V_keep vA1 (fun kk hkk => by rw [pk_un (by omega)]; exact g2 _ (by omega)), an_V_keep p1 (fun kk hkk => by rw [pk_un (by omega)]; exact g2 _ (by omega)), an_F_keep hn (vec := vec) (by omega) (fun j hjj => by rw [pk_un (by omega)]; exact g2 j (by omega)) vF1⟩ (fun kk hkk => by
                rw [wd_cn_cons, wd_cn_nil]
                have : wd_sz [pe_at t] = 1 := by
                  unfold pe_at
                  rw [if_pos (by omega), wd_sz_cons, if_pos (by omega), wd_sz_nil]
                rw [this]
                by_cases hk1 : kk = 1
                · subst hk1; rw [if_pos rfl]; exact pk_us
                · rw [if_neg (fun e => hk1 e.symm), pk_un (by omega), g1 kk hkk]; rfl)
              rw [hu] at this
              exact ⟨rfl, this⟩
            · rw [if_neg hj]
              exact ⟨rfl, h0 (fun hh => hj (eC2.mp hh)) _ _ _⟩
      · have hq : tk_q n t := by
          rcases hc with c | c | c | c | c
          · omega
          · omega
          · omega
          · omega
          · exact c.1
        have eC : pe_chk n t ((k, A, C) :: fs, I) = (∀ d, d ≤ pe_mx t → (wd_R n (pe_mn t) (pe_mx t) (pe_lz t) I d).length ≤ 64) := by unfold pe_chk; exact if_pos q
        have e2 : pe_step n t ((k, A, C) :: fs, I) = ((k, A, C) :: fs, pe_rep n t I) := by
          unfold pe_step
          simp only [if_pos q]
        have hu : an_u t r.length I a_useMax = upd a_useMax r.length (nI (if wd_rows I = [] then pe_mn t else pe_mx t)) := by unfold an_u; rw [if_pos q]
        rw [e2] at h1
        refine xa_rep hn hi hq hb hI' gI (fun hh vec um => ⟨rfl, h0 (by rw [eC]; exact hh) vec um _⟩) (fun hh vec p1 p2 => ⟨rfl, ?_⟩)
        have := h1 (by rw [eC]; exact hh) vec ⟨an_V_keep vA (fun kk hkk => p2 _ (by omega)), an_V_keep vC (fun kk hkk => p2 _ (by omega)), an_F_keep hn (vec := a_vec) (by omega) (fun j hjj => p2 j (by omega)) vF⟩ p1
        rw [hu] at this
        exact this
end
end
section
/-! ===== the reference's lists ===== -/
def yl_L (n : Nat) (li : Nat → Int64) (le : Nat → Int32) (k : Nat) (E : List (List Nat)) : Prop :=
  E.length ≤ 64 ∧ (∀ w, w ∈ E → wd_ok n w) ∧ le k = nI E.length ∧ ∀ i, i < E.length → li (64 * k + i) = lN (cw (E.getD i []))
def yl_K (n K : Nat) (li : Nat → Int64) (le : Nat → Int32) (li' : Nat → Int64) (le' : Nat → Int32) : Prop := ∀ k E, k < 12 → k ≠ K → yl_L n li le k E → yl_L n li' le' k E
/-- E is what stands there of V, b the mark then, b0 the mark before -/
def yl_C (V E : List (List Nat)) (b0 b : Nat) : Prop := (V.length ≤ 64 → E = V ∧ b = b0) ∧ (64 < V.length → b = 1)
theorem yl_K_refl {n K : Nat} {li : Nat → Int64} {le : Nat → Int32} : yl_K n K li le li le := fun _ _ _ _ h => h
theorem yl_K_tr {n K : Nat} {li li' li2 : Nat → Int64} {le le' le2 : Nat → Int32} (h : yl_K n K li le li' le') (h2 : yl_K n K li' le' li2 le2) : yl_K n K li le li2 le2 := fun k E hk hK hE => h2 k E hk hK (h k E hk hK hE)
theorem yl_get {E : List (List Nat)} {i : Nat} (h : i < E.length) : E.getD i [] = E[i] := by rw [List.getD_eq_getElem?_getD, List.getElem?_eq_getElem h]; rfl
theorem yl_Cb {V E : List (List Nat)} {b0 b : Nat} (h : yl_C V E b0 b) (hb : b0 < 2) : b < 2 := by
  rcases Nat.lt_or_ge 64 V.length with q | q
  · have := h.2 q; omega
  · have := (h.1 q).2; omega
theorem cw_nil : cw [] = 0 := rfl
section
variable {yf_n yf_count yf_patternCount yf_termCount yf_mode yf_skipVar yf_resPart yf_resRows yf_matchCount yf_tooBig : Int32} {ya_buffer ya_pattern ya_terms ya_cells ya_rowCount ya_len ya_matchStart ya_tried : Nat → Int32} {ya_lists ya_matchEntry : Nat → Int64}
variable {post : SY → Prop} {n : Nat}
theorem yl_add {K b0 b : Nat} {w : List Nat} {V E : List (List Nat)} (hn : n ≤ 6) (hK : K < 12) (hE : yl_L n ya_lists ya_len K E) (hw : wd_ok n w) (hC : yl_C V E b0 b)
    (h : ∀ (li : Nat → Int64) (le : Nat → Int32) (E' : List (List Nat)) (b' : Nat), yl_L n li le K E' → yl_C (V ++ [w]) E' b0 b' → yl_K n K ya_lists ya_len li le → post (yf_n, yf_count, yf_patternCount, yf_termCount, yf_mode, yf_skipVar, yf_resPart, yf_resRows, yf_matchCount, nI b', ya_buffer, ya_pattern, ya_terms, ya_cells, ya_rowCount, li, le, ya_matchStart, ya_matchEntry, ya_tried)) :
    wpY_add post (yf_n, yf_count, yf_patternCount, yf_termCount, yf_mode, yf_skipVar, yf_resPart, yf_resRows, yf_matchCount, nI b, ya_buffer, ya_pattern, ya_terms, ya_cells, ya_rowCount, ya_lists, ya_len, ya_matchStart, ya_matchEntry, ya_tried) (nI K) (lN (cw w)) := by
  obtain ⟨h1, h2, h3, h4⟩ := hE
  unfold wpY_add
  dsimp only
  rw [nI_clamp (n := K) (by omega), h3]
  have hV : (V ++ [w]).length = V.length + 1 := by rw [List.length_append]; rfl
  refine ⟨vp_in_nI hK (by omega), pk_lt E.length 64 (fun q => ?_) (fun q => ?_)⟩
  · have e1 : 64 * nI K + nI E.length = nI (64 * K + E.length) := by
      have b1 : 64 * nI K = nI (64 * K) := pk_mul 64 K
      rw [b1, nI_add]
    rw [e1, nI_clamp (n := 64 * K + E.length) (by omega), nI_1]
    have hlen : (E ++ [w]).length = E.length + 1 := by rw [List.length_append]; rfl
    refine ⟨vp_in_nI hK (by omega), vp_in_nI hK (by omega), nm_e ⟨vp_in_nI (by omega) (by omega), nm_e (h _ _ (E ++ [w]) b ⟨by omega, fun x hx => ?_, by rw [pk_us, hlen], fun i hi => ?_⟩ ?_ ?_)⟩⟩
    · rcases List.mem_append.mp hx with hx | hx
      · exact h2 x hx
      · rw [List.mem_singleton.mp hx]; exact hw
    · by_cases hi2 : i = E.length
      · subst hi2
        rw [pk_uLs, List.getD_eq_getElem?_getD, List.getElem?_append_right (Nat.le_refl _), Nat.sub_self]; rfl
      · rw [pk_uLn (by omega), h4 i (by omega), List.getD_eq_getElem?_getD, List.getD_eq_getElem?_getD, List.getElem?_append_left (by omega)]
    · refine ⟨fun hl => ?_, fun hl => ?_⟩
      · obtain ⟨c1, c2⟩ := hC.1 (by omega)
        exact ⟨by rw [c1], c2⟩
      · rcases Nat.lt_or_ge 64 V.length with p | p
        · exact hC.2 p
        · obtain ⟨c1, c2⟩ := hC.1 p
          rw [c1] at q; omega
    · intro k F hk hkK hF
      obtain ⟨f1, f2, f3, f4⟩ := hF
      refine ⟨f1, f2, by rw [pk_un hkK]; exact f3, fun i hi => ?_⟩
      rw [pk_uLn (by omega)]; exact f4 i hi
  · have hE64 : E.length = 64 := by omega
    refine h ya_lists ya_len E 1 ⟨h1, h2, h3, h4⟩ ⟨fun hl => ?_, fun _ => rfl⟩ yl_K_refl
    obtain ⟨c1, c2⟩ := hC.1 (by omega)
    rw [c1] at hE64
    omega
theorem yl_one {K b : Nat} {w : List Nat} (hn : n ≤ 6) (hK : K < 12) (hw : wd_ok n w) (hb : b < 2)
    (h : ∀ (li : Nat → Int64) (le : Nat → Int32), yl_L n li le K [w] → yl_K n K ya_lists ya_len li le → post (yf_n, yf_count, yf_patternCount, yf_termCount, yf_mode, yf_skipVar, yf_resPart, yf_resRows, yf_matchCount, nI b, ya_buffer, ya_pattern, ya_terms, ya_cells, ya_rowCount, li, le, ya_matchStart, ya_matchEntry, ya_tried)) :
    wpY_one post (yf_n, yf_count, yf_patternCount, yf_termCount, yf_mode, yf_skipVar, yf_resPart, yf_resRows, yf_matchCount, nI b, ya_buffer, ya_pattern, ya_terms, ya_cells, ya_rowCount, ya_lists, ya_len, ya_matchStart, ya_matchEntry, ya_tried) (nI K) (lN (cw w)) := by
  unfold wpY_one
  dsimp only
  rw [nI_clamp (n := K) (by omega)]
  refine ⟨vp_in_nI hK (by omega), nm_e ?_⟩
  refine yl_add (V := []) (E := []) (b0 := b) hn hK ⟨Nat.zero_le _, (fun w hw => nomatch hw), pk_us, fun i hi => absurd hi (Nat.not_lt_zero _)⟩ hw ⟨fun _ => ⟨rfl, rfl⟩, fun hh => absurd hh (by show ¬ 64 < 0; omega)⟩ (fun li le E' b' h1 h2 h3 => ?_)
  obtain ⟨c1, c2⟩ := h2.1 (by show 1 ≤ 64; omega)
  rw [c1] at h1
  rw [c2]
  refine h li le h1 (fun k F hk hkK hF => h3 k F hk hkK ⟨hF.1, hF.2.1, by rw [pk_un hkK]; exact hF.2.2.1, hF.2.2.2⟩)
theorem yl_appL {K1 K2 b0 : Nat} {V0 F : List (List Nat)} (hn : n ≤ 6) (h12 : K1 ≠ K2) (hK1 : K1 < 12) (hK2 : K2 < 12) (hb0 : b0 < 2) (hFl : F.length ≤ 64)
    (h : ∀ (li : Nat → Int64) (le : Nat → Int32) (E' : List (List Nat)) (b' : Nat), yl_L n li le K2 E' → yl_C (V0 ++ F) E' b0 b' → yl_K n K2 ya_lists ya_len li le → post (yf_n, yf_count, yf_patternCount, yf_termCount, yf_mode, yf_skipVar, yf_resPart, yf_resRows, yf_matchCount, nI b', ya_buffer, ya_pattern, ya_terms, ya_cells, ya_rowCount, li, le, ya_matchStart, ya_matchEntry, ya_tried)) :
    ∀ d i, i + d = F.length → ∀ (li : Nat → Int64) (le : Nat → Int32) (E : List (List Nat)) (b : Nat), yl_L n li le K1 F → yl_L n li le K2 E → yl_C (V0 ++ F.take i) E b0 b → yl_K n K2 ya_lists ya_len li le → wY_append_10 post (nI K1) (nI K2) (nI F.length) (d + 1) (nI i) yf_n yf_count yf_patternCount yf_termCount yf_mode yf_skipVar yf_resPart yf_resRows yf_matchCount (nI b) ya_buffer ya_pattern ya_terms ya_cells ya_rowCount li le ya_matchStart ya_matchEntry ya_tried := by
  intro d
  induction d with
  | zero =>
    intro i hi li le E b hF hE hC hk
    have : i = F.length := by omega
    subst this
    rw [List.take_length] at hC
    exact br_t (nI_le (Nat.le_refl _) (by omega)) (h li le E b hE hC hk)
  | succ d ih =>
    intro i hi li le E b hF hE hC hk
    have hiF : i < F.length := by omega
    have e1 : 64 * nI K1 + nI i = nI (64 * K1 + i) := by
      have b1 : 64 * nI K1 = nI (64 * K1) := pk_mul 64 K1
      rw [b1, nI_add]
    refine br_f (nI_ge hiF (by omega)) ?_
    rw [e1, nI_clamp (n := 64 * K1 + i) (by omega), hF.2.2.2 i hiF, yl_get hiF]
    refine ⟨vp_in_nI (by omega) (by omega), ?_⟩
    refine yl_add hn hK2 hE (hF.2.1 _ (List.getElem_mem hiF)) hC (fun li2 le2 E2 b2 g1 g2 g3 => ?_)
    refine nm_r (nI_1 i) (ih (i + 1) (by omega) li2 le2 E2 b2 (g3 K1 F hK1 h12 hF) g1 ?_ (yl_K_tr hk g3))
    have e2 : V0 ++ F.take (i + 1) = V0 ++ F.take i ++ [F[i]] := by
      rw [List.take_succ, List.getElem?_eq_getElem hiF, List.append_assoc]; rfl
    rw [e2]; exact g2
theorem yl_app {K1 K2 b0 b : Nat} {V0 E F : List (List Nat)} (hn : n ≤ 6) (h12 : K1 ≠ K2) (hK1 : K1 < 12) (hK2 : K2 < 12) (hb0 : b0 < 2) (hF : yl_L n ya_lists ya_len K1 F) (hE : yl_L n ya_lists ya_len K2 E) (hC : yl_C V0 E b0 b)
    (h : ∀ (li : Nat → Int64) (le : Nat → Int32) (E' : List (List Nat)) (b' : Nat), yl_L n li le K2 E' → yl_C (V0 ++ F) E' b0 b' → yl_K n K2 ya_lists ya_len li le → post (yf_n, yf_count, yf_patternCount, yf_termCount, yf_mode, yf_skipVar, yf_resPart, yf_resRows, yf_matchCount, nI b', ya_buffer, ya_pattern, ya_terms, ya_cells, ya_rowCount, li, le, ya_matchStart, ya_matchEntry, ya_tried)) :
    wpY_append post (yf_n, yf_count, yf_patternCount, yf_termCount, yf_mode, yf_skipVar, yf_resPart, yf_resRows, yf_matchCount, nI b, ya_buffer, ya_pattern, ya_terms, ya_cells, ya_rowCount, ya_lists, ya_len, ya_matchStart, ya_matchEntry, ya_tried) (nI K1) (nI K2) := by
  unfold wpY_append
  dsimp only
  rw [nI_clamp (n := K1) (by omega), hF.2.2.1]
  refine ⟨vp_in_nI hK1 (by omega), nm_e ⟨F.length + 1, ?_⟩⟩
  exact yl_appL hn h12 hK1 hK2 hb0 hF.1 h F.length 0 (by omega) ya_lists ya_len E b hF hE (by rw [List.take_zero, List.append_nil]; exact hC) yl_K_refl
theorem yl_copy {K1 K2 b : Nat} {F : List (List Nat)} (hn : n ≤ 6) (h12 : K1 ≠ K2) (hK1 : K1 < 12) (hK2 : K2 < 12) (hb : b < 2) (hF : yl_L n ya_lists ya_len K1 F)
    (h : ∀ (li : Nat → Int64) (le : Nat → Int32), yl_L n li le K2 F → yl_K n K2 ya_lists ya_len li le → post (yf_n, yf_count, yf_patternCount, yf_termCount, yf_mode, yf_skipVar, yf_resPart, yf_resRows, yf_matchCount, nI b, ya_buffer, ya_pattern, ya_terms, ya_cells, ya_rowCount, li, le, ya_matchStart, ya_matchEntry, ya_tried)) :
    wpY_copy post (yf_n, yf_count, yf_patternCount, yf_termCount, yf_mode, yf_skipVar, yf_resPart, yf_resRows, yf_matchCount, nI b, ya_buffer, ya_pattern, ya_terms, ya_cells, ya_rowCount, ya_lists, ya_len, ya_matchStart, ya_matchEntry, ya_tried) (nI K1) (nI K2) := by
  unfold wpY_copy
  dsimp only
  rw [nI_clamp (n := K2) (by omega)]
  refine ⟨vp_in_nI hK2 (by omega), nm_e ?_⟩
  have fr : ∀ (k : Nat) (G : List (List Nat)), k ≠ K2 → yl_L n ya_lists ya_len k G → yl_L n ya_lists (upd ya_len K2 0) k G := fun k G hk hG => ⟨hG.1, hG.2.1, by rw [pk_un hk]; exact hG.2.2.1, hG.2.2.2⟩
  refine yl_app (V0 := []) (E := []) (b0 := b) hn h12 hK1 hK2 hb (fr K1 F h12 hF) ⟨Nat.zero_le _, (fun w hw => nomatch hw), pk_us, fun i hi => absurd hi (Nat.not_lt_zero _)⟩ ⟨fun _ => ⟨rfl, rfl⟩, fun hh => absurd hh (by show ¬ 64 < 0; omega)⟩ (fun li le E' b' g1 g2 g3 => ?_)
  rw [List.nil_append] at g2
  obtain ⟨c1, c2⟩ := g2.1 hF.1
  rw [c1] at g1
  rw [c2]
  exact h li le g1 (fun k G hk hkK hG => g3 k G hk hkK (fr k G hkK hG))
theorem yl_glue {P : Int64 → Prop} {a b : List Nat} (h6 : wd_sz a + wd_sz b ≤ 6) (h : P (lN (cw (a ++ b)))) : wpY_glue P (yf_n, yf_count, yf_patternCount, yf_termCount, yf_mode, yf_skipVar, yf_resPart, yf_resRows, yf_matchCount, yf_tooBig, ya_buffer, ya_pattern, ya_terms, ya_cells, ya_rowCount, ya_lists, ya_len, ya_matchStart, ya_matchEntry, ya_tried) (lN (cw a)) (lN (cw b)) := by
  have la := cw_lt (w := a) (by omega)
  have lb := cw_lt (w := b) (by omega)
  obtain ⟨bd1, bd2, bd3⟩ := cw_bd (w := b) (by omega)
  have e1 : (8 : Int32) + 3 * nI (wd_sz a) = nI (8 + 3 * wd_sz a) := by
    have a1 : (3 : Int32) * nI (wd_sz a) = nI (3 * wd_sz a) := pk_mul 3 _
    have a2 : (8 : Int32) + nI (3 * wd_sz a) = nI (8 + 3 * wd_sz a) := nI_add 8 _
    rw [a1, a2]
  have e2 : (32 : Int32) + nI (wd_sz a) = nI (32 + wd_sz a) := nI_add 32 _
  have e3 : (40 : Int32) + nI (wd_sz a) = nI (40 + wd_sz a) := nI_add 40 _
  have s8 : lN (cw b) >>> ((8 : Int32).toInt64 &&& 63) = lN (cw b / 2 ^ 8) := cw_shr (k := 8) (by omega) (by omega)
  have s32 : lN (cw b) >>> ((32 : Int32).toInt64 &&& 63) = lN (cw b / 2 ^ 32) := cw_shr (k := 32) (by omega) (by omega)
  have s40 : lN (cw b) >>> ((40 : Int32).toInt64 &&& 63) = lN (cw b / 2 ^ 40) := cw_shr (k := 40) (by omega) (by omega)
  have m8 : lN (cw b / 2 ^ 8) &&& 262143 = lN (cw b / 2 ^ 8 % 2 ^ 18) := wb_mask (k := 18) (Nat.lt_of_le_of_lt (Nat.div_le_self _ _) (by omega)) (by omega)
  have m32 : lN (cw b / 2 ^ 32) &&& 127 = lN (cw b / 2 ^ 32 % 2 ^ 7) := wb_mask (k := 7) (Nat.lt_of_le_of_lt (Nat.div_le_self _ _) (by omega)) (by omega)
  have m40 : lN (cw b / 2 ^ 40) &&& 127 = lN (cw b / 2 ^ 40 % 2 ^ 7) := wb_mask (k := 7) (Nat.lt_of_le_of_lt (Nat.div_le_self _ _) (by omega)) (by omega)
  unfold wpY_glue wpY_size
  dsimp only
  rw [cw_size (w := a) (by omega), cw_size (w := b) (by omega), e1, e2, e3, s8, s32, s40, m8, m32, m40, cw_shl (by omega), cw_shl (by omega), cw_shl (by omega), nI_l (by omega), lN_add]
  have p1 : (2 : Nat) ^ (8 + 3 * wd_sz a) ≤ 2 ^ 26 := Nat.pow_le_pow_right (by omega) (by omega)
  have p2 : (2 : Nat) ^ (32 + wd_sz a) ≤ 2 ^ 38 := Nat.pow_le_pow_right (by omega) (by omega)
  have p3 : (2 : Nat) ^ (40 + wd_sz a) ≤ 2 ^ 46 := Nat.pow_le_pow_right (by omega) (by omega)
  have q1 : cw b / 2 ^ 8 % 2 ^ 18 * 2 ^ (8 + 3 * wd_sz a) < 2 ^ 60 := by
    have : cw b / 2 ^ 8 % 2 ^ 18 < 2 ^ 18 := Nat.mod_lt _ (by omega)
    calc cw b / 2 ^ 8 % 2 ^ 18 * 2 ^ (8 + 3 * wd_sz a) ≤ 2 ^ 18 * 2 ^ 26 := Nat.mul_le_mul (by omega) p1
      _ < 2 ^ 60 := by decide
  have q2 : cw b / 2 ^ 32 % 2 ^ 7 * 2 ^ (32 + wd_sz a) < 2 ^ 60 := by
    have : cw b / 2 ^ 32 % 2 ^ 7 < 2 ^ 7 := Nat.mod_lt _ (by omega)
    calc cw b / 2 ^ 32 % 2 ^ 7 * 2 ^ (32 + wd_sz a) ≤ 2 ^ 7 * 2 ^ 38 := Nat.mul_le_mul (by omega) p2
      _ < 2 ^ 60 := by decide
  have q3 : cw b / 2 ^ 40 % 2 ^ 7 * 2 ^ (40 + wd_sz a) < 2 ^ 60 := by
    have : cw b / 2 ^ 40 % 2 ^ 7 < 2 ^ 7 := Nat.mod_lt _ (by omega)
    calc cw b / 2 ^ 40 % 2 ^ 7 * 2 ^ (40 + wd_sz a) ≤ 2 ^ 7 * 2 ^ 46 := Nat.mul_le_mul (by omega) p3
      _ < 2 ^ 60 := by decide
  have o1 := wb_or (a := cw a + wd_sz b) (b := cw b / 2 ^ 8 % 2 ^ 18 * 2 ^ (8 + 3 * wd_sz a)) (by omega) (by omega)
  have o2 := wb_or (a := cw b / 2 ^ 32 % 2 ^ 7 * 2 ^ (32 + wd_sz a)) (b := cw b / 2 ^ 40 % 2 ^ 7 * 2 ^ (40 + wd_sz a)) (by omega) (by omega)
  have r1 : (cw a + wd_sz b) ||| (cw b / 2 ^ 8 % 2 ^ 18 * 2 ^ (8 + 3 * wd_sz a)) < 2 ^ 60 := Nat.or_lt_two_pow (by omega) q1
  have r2 : (cw b / 2 ^ 32 % 2 ^ 7 * 2 ^ (32 + wd_sz a)) ||| (cw b / 2 ^ 40 % 2 ^ 7 * 2 ^ (40 + wd_sz a)) < 2 ^ 60 := Nat.or_lt_two_pow q2 q3
  refine nm_e (nm_e ?_)
  rw [o1, o2, wb_or (by omega) (by omega), cw_glue h6]
  exact h
end
end
section
/-! ===== the component's analysis, whole ===== -/
def an_Um (n : Nat) (um : Nat → Int32) : List Nat → Prop
  | [] => True
  | t :: r => (100 ≤ t → um r.length = nI (if wd_rows (pe n r).2 = [] then pe_mn t else pe_mx t)) ∧ an_Um n um r
theorem an_Um_keep {n : Nat} {um um' : Nat → Int32} : ∀ {r : List Nat}, (∀ j, j < r.length → um' j = um j) → an_Um n um r → an_Um n um' r := by
  intro r
  induction r with
  | nil => intro _ _; trivial
  | cons t r ih =>
    intro hk h
    rw [List.length_cons] at hk
    exact ⟨fun h1 => by rw [hk _ (by omega)]; exact h.1 h1, ih (fun j hj => hk j (by omega)) h.2⟩
theorem an_Um_step {n t : Nat} {r : List Nat} {um : Nat → Int32} (h : an_Um n um r) : an_Um n (an_u t r.length (pe n r).2 um) (t :: r) := by
  refine ⟨fun h1 => ?_, an_Um_keep (fun j hj => ?_) h⟩
  · unfold an_u; rw [if_pos h1, pk_us]
  · unfold an_u; split
    · exact pk_un (by omega)
    · rfl
theorem pe_ok_drop {n : Nat} : ∀ (k : Nat) {T : List Nat}, pe_ok n T → pe_ok n (T.drop k) := by
  intro k
  induction k with
  | zero => intro T h; exact h
  | succ k ih =>
    intro T h
    cases T with
    | nil => exact h
    | cons t r => exact ih h.1
theorem tk_V_drop {n : Nat} : ∀ (k : Nat) {T : List Nat}, tk_V n T → tk_V n (T.drop k) := by
  intro k
  induction k with
  | zero => intro T h; exact h
  | succ k ih =>
    intro T h
    cases T with
    | nil => exact h
    | cons t r => exact ih h.2
theorem tk_next {T : List Nat} {i : Nat} (h : i < T.length) : ∃ t, T.drop (T.length - (i + 1)) = t :: T.drop (T.length - i) ∧ T.getD (T.length - 1 - i) 0 = t ∧ (T.drop (T.length - i)).length = i := by
  have h1 : T.length - (i + 1) < T.length := by omega
  refine ⟨T[T.length - (i + 1)], ?_, ?_, by rw [List.length_drop]; omega⟩
  · rw [List.drop_eq_getElem_cons h1]
    congr 2
    omega
  · have e : T.length - 1 - i = T.length - (i + 1) := by omega
    rw [e, List.getD_eq_getElem?_getD, List.getElem?_eq_getElem h1]; rfl
section
variable {f_opRow f_opFirst f_opFinal f_opBranch f_opJump f_opEnter f_opNext f_opDecide f_opDone f_catSlot f_itemSlot f_rowsSlot f_timesSlot f_scratchSlot f_size f_bufLen f_openCount f_patLen f_codeLen f_depth f_excluded f_termCount f_skipMode f_skipVar f_resPart f_resRows f_resCount f_top f_pc f_pos f_from : Int32} {a_vec a_buf a_opened a_pat a_reads a_op a_arg a_lev a_lo a_hi a_lazy a_useMax a_branchAt a_jumpAt a_enterAt a_terms a_cells a_rowCount a_startOf a_lengthOf a_labels a_outcome a_loop : Nat → Int32} {a_stack : Nat → Int64}
variable {n : Nat}
theorem xa_all {post : Int32 → SX → Prop} {T : List Nat} (hn2 : 2 ≤ n) (hn : n ≤ 6) (hV : tk_V n T) (hl : T.length ≤ 24) (hb : ∀ i, i < T.length → a_buf i = nI (T.getD (T.length - 1 - i) 0)) (hS : tk_S T = [])
    (h0 : ¬ (pe_ok n T ∧ pe_fin n (pe n T)) → ∀ (vec um : Nat → Int32) (dep : Int32), post 0 (f_opRow, f_opFirst, f_opFinal, f_opBranch, f_opJump, f_opEnter, f_opNext, f_opDecide, f_opDone, f_catSlot, f_itemSlot, f_rowsSlot, f_timesSlot, f_scratchSlot, nI n, f_bufLen, f_openCount, f_patLen, f_codeLen, dep, f_excluded, f_termCount, f_skipMode, f_skipVar, f_resPart, f_resRows, f_resCount, f_top, f_pc, f_pos, f_from, vec, a_buf, a_opened, a_pat, a_reads, a_op, a_arg, a_lev, a_lo, a_hi, a_lazy, um, a_branchAt, a_jumpAt, a_enterAt, a_terms, a_cells, a_rowCount, a_startOf, a_lengthOf, a_labels, a_outcome, a_loop, a_stack))
    (h1 : pe_ok n T → pe_fin n (pe n T) → ∀ (vec um : Nat → Int32) (dep : Int32), an_V n vec 0 (pe_end n (pe n T)) → an_Um n um T → post 1 (f_opRow, f_opFirst, f_opFinal, f_opBranch, f_opJump, f_opEnter, f_opNext, f_opDecide, f_opDone, f_catSlot, f_itemSlot, f_rowsSlot, f_timesSlot, f_scratchSlot, nI n, f_bufLen, f_openCount, f_patLen, f_codeLen, dep, f_excluded, f_termCount, f_skipMode, f_skipVar, f_resPart, f_resRows, f_resCount, f_top, f_pc, f_pos, f_from, vec, a_buf, a_opened, a_pat, a_reads, a_op, a_arg, a_lev, a_lo, a_hi, a_lazy, um, a_branchAt, a_jumpAt, a_enterAt, a_terms, a_cells, a_rowCount, a_startOf, a_lengthOf, a_labels, a_outcome, a_loop, a_stack)) :
    wpX_analyse post (f_opRow, f_opFirst, f_opFinal, f_opBranch, f_opJump, f_opEnter, f_opNext, f_opDecide, f_opDone, f_catSlot, f_itemSlot, f_rowsSlot, f_timesSlot, f_scratchSlot, nI n, f_bufLen, f_openCount, f_patLen, f_codeLen, f_depth, f_excluded, f_termCount, f_skipMode, f_skipVar, f_resPart, f_resRows, f_resCount, f_top, f_pc, f_pos, f_from, a_vec, a_buf, a_opened, a_pat, a_reads, a_op, a_arg, a_lev, a_lo, a_hi, a_lazy, a_useMax, a_branchAt, a_jumpAt, a_enterAt, a_terms, a_cells, a_rowCount, a_startOf, a_lengthOf, a_labels, a_outcome, a_loop, a_stack) (nI T.length) := by
  unfold wpX_analyse
  dsimp only
  refine xa_open (d := 0) hn (by omega) (fun vec0 g1 g2 g3 g4 => ?_)
  have L : ∀ d i, i + d = T.length → ∀ (vec um : Nat → Int32), pe_ok n (T.drop (T.length - i)) → an_F n vec (pe n (T.drop (T.length - i))).1 → an_V n vec 8 (pe n (T.drop (T.length - i))).2 → an_Um n um (T.drop (T.length - i)) → wX_analyse_13 post (nI T.length) (d + 1) 1 (nI i) f_opRow f_opFirst f_opFinal f_opBranch f_opJump f_opEnter f_opNext f_opDecide f_opDone f_catSlot f_itemSlot f_rowsSlot f_timesSlot f_scratchSlot (nI n) f_bufLen f_openCount f_patLen f_codeLen (nI ((pe n (T.drop (T.length - i))).1.length - 1)) f_excluded f_termCount f_skipMode f_skipVar f_resPart f_resRows f_resCount f_top f_pc f_pos f_from vec a_buf a_opened a_pat a_reads a_op a_arg a_lev a_lo a_hi a_lazy um a_branchAt a_jumpAt a_enterAt a_terms a_cells a_rowCount a_startOf a_lengthOf a_labels a_outcome a_loop a_stack := by
    intro d
    induction d with
    | zero =>
      intro i hi vec um ho hF hI hU
      have : i = T.length := by omega
      subst this
      rw [Nat.sub_self, List.drop_zero] at ho hF hI hU ⊢
      refine br_t (nI_le (Nat.le_refl _) (by omega)) (br_f (by decide) ?_)
      have hG := pe_G_all hn2 hV ho
      have hPL := pe_len hV
      rw [hS] at hPL
      cases hp : pe n T with
      | mk fs I =>
        rw [hp] at h0 h1 hF hI hG hPL
        cases fs with
        | nil => exact absurd hPL.1 (by show ¬ 0 = 1; omega)
        | cons fr fs =>
          obtain ⟨k, A, C⟩ := fr
          have hfs : fs = [] := by
            have h3 : fs.length + 1 = 0 + 1 := hPL.1
            exact List.length_eq_zero_iff.mp (by omega)
          subst hfs
          obtain ⟨⟨gA, gC, gF⟩, gI⟩ := hG
          obtain ⟨vA, vC, vF⟩ := hF
          refine xa_close (d := 0) hn (by omega) vA vC hI gA gC gI ?_ ?_
          · intro hj vec2
            exact br_t rfl (h0 (fun hh => hj hh.2.1) vec2 um _)
          · intro hj vec2 p1 p2 p3
            by_cases hA2 : (A ++ wd_join n C I).length ≤ 64
            · rw [if_pos hA2]
              exact br_f (by decide) (h1 ho ⟨hj, hA2⟩ vec2 um _ p1 hU)
            · rw [if_neg hA2]
              exact br_t rfl (h0 (fun hh => hA2 hh.2.2) vec2 um _)
    | succ d ih =>
      intro i hi vec um ho hF hI hU
      obtain ⟨t, e1, e2, e3⟩ := tk_next (T := T) (i := i) (by omega)
      have nx := ih (i + 1) (by omega)
      rw [e1] at nx
      have hV' := tk_V_drop (T.length - (i + 1)) hV
      rw [e1] at hV'
      have hbi := hb i (by omega)
      rw [e2] at hbi
      have hG := pe_G_all hn2 hV'.2 ho
      refine br_f (nI_ge (by omega) (by omega)) (br_f (by decide) ?_)
      have ei : nI i = nI (T.drop (T.length - i)).length := by rw [e3]
      rw [ei]
      refine xa_tok hn2 hn hV' (by omega) (by rw [e3]; exact hbi) hF hI hG ?_ ?_
      · intro hbad vec2 um2 dep
        refine nm_r (e' := nI (i + 1)) (by rw [e3]; exact nI_1 i) ?_
        have hf : ¬ (pe_ok n T ∧ pe_fin n (pe n T)) := fun hh => by
          have h5 := pe_ok_drop (T.length - (i + 1)) hh.1
          rw [e1] at h5
          exact hbad h5.2
        exact br_c (fun _ => br_t rfl (h0 hf vec2 um2 dep)) (fun _ => br_t rfl (br_t rfl (h0 hf vec2 um2 dep)))
      · intro hgood vec2 f1 f2
        exact nm_r (by rw [e3]; exact nI_1 i) (nx vec2 _ ⟨ho, hgood⟩ f1 f2 (an_Um_step hU))
  have e0 : T.drop (T.length - 0) = [] := by rw [Nat.sub_zero]; exact List.drop_length
  have h := L T.length 0 (by omega) vec0 a_useMax
  rw [e0] at h
  exact ⟨T.length + 1, h trivial ⟨g1, g2, trivial⟩ g3 trivial⟩
end
end
section
/-! ===== the reference's join, repeat, exclude ===== -/
def yj_g (n l : Nat) (a : List Nat) (Q : List (List Nat)) : List (List Nat) := if l ≤ wd_sz a then (Q.filter (fun b => decide (wd_sz a + wd_sz b ≤ n))).map (fun b => a ++ b) else []
def yj_J (n l : Nat) (P Q : List (List Nat)) : List (List Nat) := P.flatMap (fun a => yj_g n l a Q)
theorem yj_0 (n : Nat) (P Q : List (List Nat)) : yj_J n 0 P Q = wd_join n P Q := by
  unfold yj_J wd_join yj_g
  congr 1
theorem yj_1 (n : Nat) (P Q : List (List Nat)) : yj_J n 1 P Q = wd_join n (wd_rows P) Q := by
  unfold yj_J wd_join wd_rows
  rw [← bk_fm]
  congr 1
  funext a
  unfold yj_g
  by_cases h : 1 ≤ wd_sz a
  · rw [if_pos h, if_pos (decide_eq_true (show 0 < wd_sz a from h))]
  · rw [if_neg h, if_neg (by rw [decide_eq_false (show ¬ 0 < wd_sz a from h)]; decide)]
theorem yj_gs {n l : Nat} {a b : List Nat} {Q : List (List Nat)} : yj_g n l a (Q ++ [b]) = yj_g n l a Q ++ (if l ≤ wd_sz a ∧ wd_sz a + wd_sz b ≤ n then [a ++ b] else []) := by
  unfold yj_g
  by_cases h : l ≤ wd_sz a
  · rw [if_pos h, if_pos h, List.filter_append, List.map_append]
    congr 1
    by_cases h2 : wd_sz a + wd_sz b ≤ n
    · rw [List.filter_cons_of_pos (by exact decide_eq_true h2), if_pos ⟨h, h2⟩]; rfl
    · rw [List.filter_cons_of_neg (by rw [decide_eq_false h2]; decide), if_neg (fun hh => h2 hh.2)]; rfl
  · rw [if_neg h, if_neg h, if_neg (fun hh => h hh.1)]; rfl
theorem yj_lt {w : List Nat} (h : wd_sz w ≤ 6) : ¬ lN (cw w) < 0 := by
  have h1 := cw_lt h
  intro hh
  have : lN (cw w) < lN 0 := hh
  have := (pk_lLT (by omega) (by omega)).mp this
  omega
section
variable {yf_n yf_count yf_patternCount yf_termCount yf_mode yf_skipVar yf_resPart yf_resRows yf_matchCount yf_tooBig : Int32} {ya_buffer ya_pattern ya_terms ya_cells ya_rowCount ya_len ya_matchStart ya_tried : Nat → Int32} {ya_lists ya_matchEntry : Nat → Int64}
variable {post : SY → Prop} {n : Nat}
theorem yj_25 {J : Int32 → Int32 → Int32 → Int32 → Int32 → Int32 → Int32 → Int32 → Int32 → Int32 → Int32 → (Nat → Int32) → (Nat → Int32) → (Nat → Int32) → (Nat → Int32) → (Nat → Int32) → (Nat → Int64) → (Nat → Int32) → (Nat → Int32) → (Nat → Int64) → (Nat → Int32) → Prop} {K1 K2 l b0 i : Nat} {V0 P Q : List (List Nat)} (hn : n ≤ 6) (h1 : K1 < 10) (h2 : K2 < 10) (hb0 : b0 < 2) (hl : l ≤ 1) (hi : i < P.length)
    (h : ∀ (li : Nat → Int64) (le : Nat → Int32) (E' : List (List Nat)) (b' : Nat), yl_L n li le K1 P → yl_L n li le K2 Q → yl_L n li le 10 E' → yl_C (V0 ++ yj_g n l (P.getD i []) Q) E' b0 b' → yl_K n 10 ya_lists ya_len li le → J (nI (i + 1)) (nI n) yf_count yf_patternCount yf_termCount yf_mode yf_skipVar yf_resPart yf_resRows yf_matchCount (nI b') ya_buffer ya_pattern ya_terms ya_cells ya_rowCount li le ya_matchStart ya_matchEntry ya_tried) :
    ∀ d j, j + d = Q.length → ∀ (li : Nat → Int64) (le : Nat → Int32) (E : List (List Nat)) (b : Nat), yl_L n li le K1 P → yl_L n li le K2 Q → yl_L n li le 10 E → yl_C (V0 ++ yj_g n l (P.getD i []) (Q.take j)) E b0 b → yl_K n 10 ya_lists ya_len li le → wY_join_25 post J (nI K1) (nI K2) (nI l) (nI i) (d + 1) (nI j) (nI n) yf_count yf_patternCount yf_termCount yf_mode yf_skipVar yf_resPart yf_resRows yf_matchCount (nI b) ya_buffer ya_pattern ya_terms ya_cells ya_rowCount li le ya_matchStart ya_matchEntry ya_tried := by
  intro d
  induction d with
  | zero =>
    intro j hj li le E b hP hQ hE hC hk
    have : j = Q.length := by omega
    subst this
    rw [List.take_length] at hC
    have hQl := hQ.1
    unfold wY_join_25
    rw [nI_clamp (n := K2) (by omega), hQ.2.2.1]
    exact ⟨vp_in_nI (by omega) (by omega), br_t (nI_le (Nat.le_refl _) (by omega)) (nm_r (nI_1 i) (h li le E b hP hQ hE hC hk))⟩
  | succ d ih =>
    intro j hj li le E b hP hQ hE hC hk
    have hjQ : j < Q.length := by omega
    have hPl := hP.1
    have hQl := hQ.1
    have okP := hP.2.1 _ (List.getElem_mem hi)
    have okQ := hQ.2.1 _ (List.getElem_mem hjQ)
    have szP := okP.2
    have szQ := okQ.2
    have e1 : 64 * nI K1 + nI i = nI (64 * K1 + i) := by
      have b1 : 64 * nI K1 = nI (64 * K1) := pk_mul 64 K1
      rw [b1, nI_add]
    have e2 : 64 * nI K2 + nI j = nI (64 * K2 + j) := by
      have b1 : 64 * nI K2 = nI (64 * K2) := pk_mul 64 K2
      rw [b1, nI_add]
    have et : Q.take (j + 1) = Q.take j ++ [Q[j]] := by
      rw [List.take_succ, List.getElem?_eq_getElem hjQ]; rfl
    have gP := yl_get hi
    have gQ := yl_get hjQ
    unfold wY_join_25
    rw [nI_clamp (n := K2) (by omega), hQ.2.2.1, e1, e2, nI_clamp (n := 64 * K1 + i) (by omega), nI_clamp (n := 64 * K2 + j) (by omega), hP.2.2.2 i hi, hQ.2.2.2 j hjQ, gP, gQ]
    refine ⟨vp_in_nI (by omega) (by omega), br_f (nI_ge hjQ (by omega)) ⟨vp_in_nI (by omega) (by omega), nm_e ⟨vp_in_nI (by omega) (by omega), nm_e ?_⟩⟩⟩
    unfold wpY_size
    dsimp only
    rw [cw_size (w := P[i]) (by omega), cw_size (w := Q[j]) (by omega), nI_add]
    have skip : ¬ (l ≤ wd_sz P[i] ∧ wd_sz P[i] + wd_sz Q[j] ≤ n) → wY_join_105 post J (wY_join_25 post J (nI K1) (nI K2) (nI l) (nI i) (d + 1)) (nI K1) (nI K2) (nI l) (nI i) (nI j) (nI n) yf_count yf_patternCount yf_termCount yf_mode yf_skipVar yf_resPart yf_resRows yf_matchCount (nI b) ya_buffer ya_pattern ya_terms ya_cells ya_rowCount li le ya_matchStart ya_matchEntry ya_tried := by
      intro hs
      refine br_t (by decide) (nm_r (nI_1 j) (ih (j + 1) (by omega) li le E b hP hQ hE ?_ hk))
      rw [et, yj_gs, gP, if_neg hs, List.append_nil, ← gP]
      exact hC
    refine pk_lt (wd_sz P[i]) l (fun q => skip (by omega)) (fun q => pk_lt n (wd_sz P[i] + wd_sz Q[j]) (fun q2 => skip (by omega)) (fun q2 => ?_))
    refine yl_glue (by omega) ?_
    have okw : wd_ok n (P[i] ++ Q[j]) := ⟨fun c hc => by
      rcases List.mem_append.mp hc with hc | hc
      · exact okP.1 c hc
      · exact okQ.1 c hc, by rw [wd_sz_app]; exact q2⟩
    refine br_f (yj_lt (by rw [wd_sz_app]; omega)) ?_
    refine yl_add (K := 10) hn (by omega) hE okw hC (fun li2 le2 E2 b2 g1 g2 g3 => ?_)
    refine nm_r (nI_1 j) (ih (j + 1) (by omega) li2 le2 E2 b2 (g3 K1 P (by omega) (by omega) hP) (g3 K2 Q (by omega) (by omega) hQ) g1 ?_ (yl_K_tr hk g3))
    rw [gP] at g2
    rw [et, yj_gs, gP, if_pos ⟨q, q2⟩, ← List.append_assoc]
    exact g2
theorem yj_join {K1 K2 l b : Nat} {P Q : List (List Nat)} (hn : n ≤ 6) (h1 : K1 < 10) (h2 : K2 < 10) (hb : b < 2) (hl : l ≤ 1) (hP : yl_L n ya_lists ya_len K1 P) (hQ : yl_L n ya_lists ya_len K2 Q)
    (h : ∀ (li : Nat → Int64) (le : Nat → Int32) (E' : List (List Nat)) (b' : Nat), yl_L n li le 10 E' → yl_C (yj_J n l P Q) E' b b' → yl_K n 10 ya_lists ya_len li le → post (nI n, yf_count, yf_patternCount, yf_termCount, yf_mode, yf_skipVar, yf_resPart, yf_resRows, yf_matchCount, nI b', ya_buffer, ya_pattern, ya_terms, ya_cells, ya_rowCount, li, le, ya_matchStart, ya_matchEntry, ya_tried)) :
    wpY_join post (nI n, yf_count, yf_patternCount, yf_termCount, yf_mode, yf_skipVar, yf_resPart, yf_resRows, yf_matchCount, nI b, ya_buffer, ya_pattern, ya_terms, ya_cells, ya_rowCount, ya_lists, ya_len, ya_matchStart, ya_matchEntry, ya_tried) (nI K1) (nI K2) (nI l) := by
  have fr : ∀ (k : Nat) (G : List (List Nat)), k ≠ 10 → yl_L n ya_lists ya_len k G → yl_L n ya_lists (upd ya_len 10 0) k G := fun k G hk hG => ⟨hG.1, hG.2.1, by rw [pk_un hk]; exact hG.2.2.1, hG.2.2.2⟩
  have L : ∀ d i, i + d = P.length → ∀ (li : Nat → Int64) (le : Nat → Int32) (E : List (List Nat)) (b1 : Nat), yl_L n li le K1 P → yl_L n li le K2 Q → yl_L n li le 10 E → yl_C (yj_J n l (P.take i) Q) E b b1 → yl_K n 10 ya_lists ya_len li le → wY_join_11 post (nI K1) (nI K2) (nI l) (d + 1) (nI i) (nI n) yf_count yf_patternCount yf_termCount yf_mode yf_skipVar yf_resPart yf_resRows yf_matchCount (nI b1) ya_buffer ya_pattern ya_terms ya_cells ya_rowCount li le ya_matchStart ya_matchEntry ya_tried := by
    intro d
    induction d with
    | zero =>
      intro i hi li le E b1 hP hQ hE hC hk
      have : i = P.length := by omega
      subst this
      rw [List.take_length] at hC
      have hPl := hP.1
      unfold wY_join_11
      rw [nI_clamp (n := K1) (by omega), hP.2.2.1]
      exact ⟨vp_in_nI (by omega) (by omega), br_t (nI_le (Nat.le_refl _) (by omega)) (h li le E b1 hE hC hk)⟩
    | succ d ih =>
      intro i hi li le E b1 hP hQ hE hC hk
      have hiP : i < P.length := by omega
      have hPl := hP.1
      have et : P.take (i + 1) = P.take i ++ [P[i]] := by
        rw [List.take_succ, List.getElem?_eq_getElem hiP]; rfl
      unfold wY_join_11
      rw [nI_clamp (n := K1) (by omega), hP.2.2.1]
      refine ⟨vp_in_nI (by omega) (by omega), br_f (nI_ge hiP (by omega)) ⟨Q.length + 1, ?_⟩⟩
      refine yj_25 (V0 := yj_J n l (P.take i) Q) hn h1 h2 hb hl hiP (fun li2 le2 E2 b2 gP gQ gE gC gk => ?_) Q.length 0 (by omega) li le E b1 hP hQ hE ?_ yl_K_refl
      · refine ih (i + 1) (by omega) li2 le2 E2 b2 gP gQ gE ?_ (yl_K_tr hk gk)
        rw [et]
        unfold yj_J at gC ⊢
        rw [List.flatMap_append, List.flatMap_cons, List.flatMap_nil, List.append_nil]
        rw [yl_get hiP] at gC
        exact gC
      · rw [List.take_zero]
        have : yj_g n l (P.getD i []) [] = [] := by unfold yj_g; split <;> rfl
        rw [this, List.append_nil]; exact hC
  refine nm_e ⟨P.length + 1, ?_⟩
  exact L P.length 0 (by omega) ya_lists (upd ya_len 10 0) [] b (fr K1 P (by omega) hP) (fr K2 Q (by omega) hQ) ⟨Nat.zero_le _, (fun w hw => nomatch hw), pk_us, fun i hi => absurd hi (Nat.not_lt_zero _)⟩ ⟨fun _ => ⟨rfl, rfl⟩, fun hh => absurd hh (by show ¬ 64 < 0; omega)⟩ (fun k G hk hkK hG => fr k G hkK hG)
end
end
section
/-! ===== the reference's repeat and exclude ===== -/
/-- as yl_C, by any condition -/
def yl_P (ok : Prop) (V E : List (List Nat)) (b0 b : Nat) : Prop := (ok → E = V ∧ b = b0) ∧ (¬ ok → b = 1)
theorem yl_CP {V E : List (List Nat)} {b0 b : Nat} (h : yl_C V E b0 b) : yl_P (V.length ≤ 64) V E b0 b := ⟨h.1, fun q => h.2 (by omega)⟩
theorem yl_Pb {ok : Prop} {V E : List (List Nat)} {b0 b : Nat} (h : yl_P ok V E b0 b) (hb : b0 < 2) : b < 2 := by
  by_cases q : ok
  · have := (h.1 q).2; omega
  · have := h.2 q; omega
/-- if the mark stands it stays -/
theorem yl_C1 {V E : List (List Nat)} {b : Nat} (h : yl_C V E 1 b) : b = 1 := by
  rcases Nat.lt_or_ge 64 V.length with q | q
  · exact h.2 q
  · exact (h.1 q).2
section
variable {yf_n yf_count yf_patternCount yf_termCount yf_mode yf_skipVar yf_resPart yf_resRows yf_matchCount yf_tooBig : Int32} {ya_buffer ya_pattern ya_terms ya_cells ya_rowCount ya_len ya_matchStart ya_tried : Nat → Int32} {ya_lists ya_matchEntry : Nat → Int64}
variable {post : SY → Prop} {n : Nat}
theorem yr_repL {m M : Nat} {lz : Bool} {q b0 : Nat} {I : List (List Nat)} (hn : n ≤ 6) (hm : m ≤ M) (hM : M ≤ 6) (hb0 : b0 < 2) (hq : q < 200) (hlz : lz = decide (q % 2 = 1))
    (h : ∀ (li : Nat → Int64) (le : Nat → Int32) (E' : List (List Nat)) (b' : Nat), yl_L n li le 8 E' → yl_P (∀ d, d ≤ M → (wd_R n m M lz I d).length ≤ 64) (wd_R n m M lz I M) E' b0 b' → (∀ k E, k < 8 ∨ k = 11 → yl_L n ya_lists ya_len k E → yl_L n li le k E) → post (nI n, yf_count, yf_patternCount, yf_termCount, yf_mode, yf_skipVar, yf_resPart, yf_resRows, yf_matchCount, nI b', ya_buffer, ya_pattern, ya_terms, ya_cells, ya_rowCount, li, le, ya_matchStart, ya_matchEntry, ya_tried)) :
    ∀ e d, d + e = M → ∀ (li : Nat → Int64) (le : Nat → Int32) (E : List (List Nat)) (b : Nat), yl_L n li le 8 I → yl_L n li le 9 E → yl_P (∀ p, p ≤ d → (wd_R n m M lz I p).length ≤ 64) (wd_R n m M lz I d) E b0 b → (∀ k E, k < 8 ∨ k = 11 → yl_L n ya_lists ya_len k E → yl_L n li le k E) → wY_repeat_24 post (nI q) (nI m) (e + 1) (nI e + (-1)) (nI n) yf_count yf_patternCount yf_termCount yf_mode yf_skipVar yf_resPart yf_resRows yf_matchCount (nI b) ya_buffer ya_pattern ya_terms ya_cells ya_rowCount li le ya_matchStart ya_matchEntry ya_tried := by
  intro e
  induction e with
  | zero =>
    intro d hd li le E b h8 h9 hC hk
    have : d = M := by omega
    subst this
    refine br_t (by decide) ?_
    refine yl_copy (K1 := 9) (K2 := 8) hn (by omega) (by omega) (by omega) (yl_Pb hC hb0) h9 (fun li2 le2 g1 g2 => ?_)
    exact h li2 le2 E b g1 hC (fun k F hkk hF => g2 k F (by omega) (by omega) (hk k F hkk hF))
  | succ e ih =>
    intro d hd li le E b h8 h9 hC hk
    have e0 : nI (e + 1) + (-1) = nI e := pk_m1 e
    rw [e0]
    have hb := yl_Pb hC hb0
    have hR : wd_R n m M lz I (d + 1) = if M - (d + 1) < m then wd_join n I (wd_R n m M lz I d) else if lz then [] :: wd_join n (wd_rows I) (wd_R n m M lz I d) else wd_join n (wd_rows I) (wd_R n m M lz I d) ++ [[]] := by rw [wd_R]
    have eM : M - (d + 1) = e := by omega
    rw [eM] at hR
    have erem : nI q - nI q / 2 * 2 = nI (q % 2) := pk_rem (a := q) (d := 2) (by omega) (by omega) (by omega)
    /- the end of a turn -/
    have fin : ∀ (li2 : Nat → Int64) (le2 : Nat → Int32) (E2 : List (List Nat)) (b2 : Nat), yl_L n li2 le2 8 I → yl_L n li2 le2 9 E2 → yl_P (∀ p, p ≤ d + 1 → (wd_R n m M lz I p).length ≤ 64) (wd_R n m M lz I (d + 1)) E2 b0 b2 → (∀ k F, k < 8 ∨ k = 11 → yl_L n ya_lists ya_len k F → yl_L n li2 le2 k F) → ∀ x : Int32, x = nI e + (-1) → wY_repeat_24 post (nI q) (nI m) (e + 1) x (nI n) yf_count yf_patternCount yf_termCount yf_mode yf_skipVar yf_resPart yf_resRows yf_matchCount (nI b2) ya_buffer ya_pattern ya_terms ya_cells ya_rowCount li2 le2 ya_matchStart ya_matchEntry ya_tried := by
      intro li2 le2 E2 b2 g8 g9 gC gk x hx
      rw [hx]
      exact ih (d + 1) (by omega) li2 le2 E2 b2 g8 g9 gC gk
    have all1 : (∀ p, p ≤ d + 1 → (wd_R n m M lz I p).length ≤ 64) ↔ (∀ p, p ≤ d → (wd_R n m M lz I p).length ≤ 64) ∧ (wd_R n m M lz I (d + 1)).length ≤ 64 := by
      constructor
      · intro hh; exact ⟨fun p hp => hh p (by omega), hh _ (Nat.le_refl _)⟩
      · intro hh p hp
        by_cases hpd : p = d + 1
        · rw [hpd]; exact hh.2
        · exact hh.1 p (by omega)
    refine br_f (nI_pos (by omega)) (pk_le m e (fun hme => ?_) (fun hme => ?_))
    · rw [if_neg (by omega)] at hR
      refine yj_join (K1 := 8) (K2 := 9) (l := 1) hn (by omega) (by omega) hb (by omega) h8 h9 (fun li2 le2 E2 b2 g1 g2 g3 => ?_)
      rw [yj_1] at g2
      have c8 := g3 8 I (by omega) (by omega) h8
      have hb2 := yl_Cb g2 hb
      refine nm_e (br_f (nI_nlt hme (by omega)) ?_)
      rw [erem]
      have fr9 : ∀ (k : Nat) (G : List (List Nat)), k ≠ 9 → yl_L n li2 le2 k G → yl_L n li2 (upd le2 9 0) k G := fun k G hkk hG => ⟨hG.1, hG.2.1, by rw [pk_un hkk]; exact hG.2.2.1, hG.2.2.2⟩
      have l9 : yl_L n li2 (upd le2 9 0) 9 [] := ⟨Nat.zero_le _, (fun w hw => nomatch hw), pk_us, fun i hi => absurd hi (Nat.not_lt_zero _)⟩
      have kk : ∀ k F, k < 8 ∨ k = 11 → yl_L n ya_lists ya_len k F → yl_L n li2 (upd le2 9 0) k F := fun k F hkk hF => fr9 k F (by omega) (g3 k F (by omega) (by omega) (hk k F hkk hF))
      have final : ∀ (lz' : Bool) (V E3 : List (List Nat)) (b3 : Nat), V = wd_R n m M lz I (d + 1) → (E = wd_R n m M lz I d → E2 = wd_join n (wd_rows I) E → V.length ≤ 64 → E3 = V ∧ b3 = b2) → (64 < V.length → E = wd_R n m M lz I d → b2 = b ∧ E2 = wd_join n (wd_rows I) E → b3 = 1) → (b2 = 1 → b3 = 1) → (V.length ≤ 64 → (wd_join n (wd_rows I) (wd_R n m M lz I d)).length ≤ 64) → yl_P (∀ p, p ≤ d + 1 → (wd_R n m M lz I p).length ≤ 64) (wd_R n m M lz I (d + 1)) E3 b0 b3 := by
        intro lz' V E3 b3 hV c1 c2 c3 c4
        rw [← hV]
        refine ⟨fun ok => ?_, fun nok => ?_⟩
        · have ok2 := all1.mp ok
          rw [← hV] at ok2
          obtain ⟨x1, x2⟩ := hC.1 ok2.1
          have j64 := c4 ok2.2
          rw [← x1] at j64
          obtain ⟨y1, y2⟩ := g2.1 j64
          obtain ⟨z1, z2⟩ := c1 x1 y1 ok2.2
          exact ⟨z1, by omega⟩
        · by_cases ok1 : ∀ p, p ≤ d → (wd_R n m M lz I p).length ≤ 64
          · obtain ⟨x1, x2⟩ := hC.1 ok1
            have hbig : 64 < V.length := by
              rcases Nat.lt_or_ge 64 V.length with hh | hh
              · exact hh
              · exact absurd (all1.mpr ⟨ok1, by rw [← hV]; exact hh⟩) nok
            rcases Nat.lt_or_ge 64 (wd_join n (wd_rows I) E).length with hh | hh
            · exact c3 (g2.2 hh)
            · obtain ⟨y1, y2⟩ := g2.1 hh
              exact c2 hbig x1 ⟨y2, y1⟩
          · have hb1 := hC.2 ok1
            rw [hb1] at g2
            exact c3 (yl_C1 g2)
      have l10 := fr9 10 E2 (by omega) g1
      have c8' := fr9 8 I (by omega) c8
      by_cases hodd : q % 2 = 1
      · have hl1 : lz = true := by rw [hlz]; exact decide_eq_true hodd
        rw [hl1, if_pos rfl] at hR
        refine ⟨by decide, br_t (by rw [hodd]; rfl) ?_⟩
        refine yl_add (K := 9) (w := []) (V := []) (E := []) (b0 := b2) hn (by omega) l9 (wd_unit_ok [] (List.mem_singleton.mpr rfl)) ⟨fun _ => ⟨rfl, rfl⟩, fun hh => absurd hh (by show ¬ 64 < 0; omega)⟩ (fun li3 le3 E3 b3 r1 r2 r3 => ?_)
        obtain ⟨s1, s2⟩ := r2.1 (by show 1 ≤ 64; omega)
        rw [s1] at r1
        rw [s2]
        refine yl_app (K1 := 10) (K2 := 9) (V0 := [[]]) (E := [[]]) (F := E2) (b0 := b2) hn (by omega) (by omega) (by omega) hb2 (r3 10 E2 (by omega) (by omega) l10) r1 ⟨fun _ => ⟨rfl, rfl⟩, fun hh => absurd hh (by show ¬ 64 < 1; omega)⟩ (fun li4 le4 E4 b4 t1 t2 t3 => ?_)
        refine br_f (nI_nlt hme (by omega)) ⟨by decide, ?_⟩
        rw [erem]
        refine br_f (by rw [hodd]; decide) ?_
        refine fin li4 le4 E4 b4 (t3 8 I (by omega) (by omega) (r3 8 I (by omega) (by omega) c8')) t1 (final true ([] :: wd_join n (wd_rows I) (wd_R n m M true I d)) E4 b4 (by rw [hl1]; exact hR.symm) ?_ ?_ ?_ ?_) (fun k F hkk hF => t3 k F (by omega) (by omega) (r3 k F (by omega) (by omega) (kk k F hkk hF)))
        · intro a1 a2 a3
          rw [hl1] at a1
          have e5 : ([[]] : List (List Nat)) ++ E2 = [] :: wd_join n (wd_rows I) (wd_R n m M true I d) := by rw [a2, a1]; rfl
          rw [e5] at t2
          exact t2.1 a3
        · intro a1 a2 a3
          rw [hl1] at a2
          have e5 : ([[]] : List (List Nat)) ++ E2 = [] :: wd_join n (wd_rows I) (wd_R n m M true I d) := by rw [a3.2, a2]; rfl
          rw [e5] at t2
          exact t2.2 a1
        · intro a1; rw [a1] at t2; exact yl_C1 t2
        · intro a1; rw [hl1]; rw [List.length_cons] at a1; omega
      · have hl0 : lz = false := by rw [hlz]; exact decide_eq_false hodd
        rw [hl0, if_neg (by decide)] at hR
        have hev : q % 2 = 0 := by omega
        refine ⟨by decide, br_f (by rw [hev]; decide) ?_⟩
        refine yl_app (K1 := 10) (K2 := 9) (V0 := []) (E := []) (F := E2) (b0 := b2) hn (by omega) (by omega) (by omega) hb2 l10 l9 ⟨fun _ => ⟨rfl, rfl⟩, fun hh => absurd hh (by show ¬ 64 < 0; omega)⟩ (fun li4 le4 E4 b4 t1 t2 t3 => ?_)
        rw [List.nil_append] at t2
        obtain ⟨s1, s2⟩ := t2.1 g1.1
        rw [s1] at t1
        rw [s2]
        refine br_f (nI_nlt hme (by omega)) ⟨by decide, ?_⟩
        rw [erem]
        refine br_t (by rw [hev]; rfl) ?_
        refine yl_add (K := 9) (w := []) (V := E2) (E := E2) (b0 := b2) hn (by omega) t1 (wd_unit_ok [] (List.mem_singleton.mpr rfl)) ⟨fun _ => ⟨rfl, rfl⟩, fun hh => absurd hh (by have := g1.1; omega)⟩ (fun li5 le5 E5 b5 u1 u2 u3 => ?_)
        refine fin li5 le5 E5 b5 (u3 8 I (by omega) (by omega) (t3 8 I (by omega) (by omega) c8')) u1 (final false (wd_join n (wd_rows I) (wd_R n m M false I d) ++ [[]]) E5 b5 (by rw [hl0]; exact hR.symm) ?_ ?_ ?_ ?_) (fun k F hkk hF => u3 k F (by omega) (by omega) (t3 k F (by omega) (by omega) (kk k F hkk hF)))
        · intro a1 a2 a3
          rw [hl0] at a1
          rw [a2, a1] at u2
          exact u2.1 a3
        · intro a1 a2 a3
          rw [hl0] at a2
          rw [a3.2, a2] at u2
          exact u2.2 a1
        · intro a1; rw [a1] at u2; exact yl_C1 u2
        · intro a1; rw [hl0]; rw [List.length_append] at a1; omega
    · rw [if_pos hme] at hR
      refine yj_join (K1 := 8) (K2 := 9) (l := 0) hn (by omega) (by omega) hb (by omega) h8 h9 (fun li2 le2 E2 b2 g1 g2 g3 => ?_)
      rw [yj_0] at g2
      have c8 := g3 8 I (by omega) (by omega) h8
      have hb2 := yl_Cb g2 hb
      refine nm_e (br_t (nI_lt hme (by omega)) ?_)
      have fr9 : ∀ (k : Nat) (G : List (List Nat)), k ≠ 9 → yl_L n li2 le2 k G → yl_L n li2 (upd le2 9 0) k G := fun k G hkk hG => ⟨hG.1, hG.2.1, by rw [pk_un hkk]; exact hG.2.2.1, hG.2.2.2⟩
      have l9 : yl_L n li2 (upd le2 9 0) 9 [] := ⟨Nat.zero_le _, (fun w hw => nomatch hw), pk_us, fun i hi => absurd hi (Nat.not_lt_zero _)⟩
      refine yl_app (K1 := 10) (K2 := 9) (V0 := []) (E := []) (F := E2) (b0 := b2) hn (by omega) (by omega) (by omega) hb2 (fr9 10 E2 (by omega) g1) l9 ⟨fun _ => ⟨rfl, rfl⟩, fun hh => absurd hh (by show ¬ 64 < 0; omega)⟩ (fun li4 le4 E4 b4 t1 t2 t3 => ?_)
      rw [List.nil_append] at t2
      obtain ⟨s1, s2⟩ := t2.1 g1.1
      rw [s1] at t1
      rw [s2]
      refine br_t (nI_lt hme (by omega)) ?_
      refine fin li4 le4 E2 b2 (t3 8 I (by omega) (by omega) (fr9 8 I (by omega) c8)) t1 ⟨fun ok => ?_, fun nok => ?_⟩ (fun k F hkk hF => t3 k F (by omega) (by omega) (fr9 k F (by omega) (g3 k F (by omega) (by omega) (hk k F hkk hF))))
      · have ok2 := all1.mp ok
        obtain ⟨x1, x2⟩ := hC.1 ok2.1
        have j64 := ok2.2
        rw [hR, ← x1] at j64
        obtain ⟨y1, y2⟩ := g2.1 j64
        exact ⟨by rw [y1, hR, x1], by omega⟩
      · by_cases ok1 : ∀ p, p ≤ d → (wd_R n m M lz I p).length ≤ 64
        · obtain ⟨x1, x2⟩ := hC.1 ok1
          have hbig : 64 < (wd_join n I E).length := by
            rcases Nat.lt_or_ge 64 (wd_join n I E).length with hh | hh
            · exact hh
            · exact absurd (all1.mpr ⟨ok1, by rw [hR, ← x1]; exact hh⟩) nok
          exact g2.2 hbig
        · have hb1 := hC.2 ok1
          rw [hb1] at g2
          exact yl_C1 g2
theorem yr_rep {t b : Nat} {I : List (List Nat)} (hn : n ≤ 6) (ht : tk_q n t) (hb : b < 2) (h8 : yl_L n ya_lists ya_len 8 I)
    (h : ∀ (li : Nat → Int64) (le : Nat → Int32) (E' : List (List Nat)) (b' : Nat), yl_L n li le 8 E' → yl_P (∀ d, d ≤ pe_mx t → (wd_R n (pe_mn t) (pe_mx t) (pe_lz t) I d).length ≤ 64) (pe_rep n t I) E' b b' → (∀ k E, k < 8 ∨ k = 11 → yl_L n ya_lists ya_len k E → yl_L n li le k E) → post (nI n, yf_count, yf_patternCount, yf_termCount, yf_mode, yf_skipVar, yf_resPart, yf_resRows, yf_matchCount, nI b', ya_buffer, ya_pattern, ya_terms, ya_cells, ya_rowCount, li, le, ya_matchStart, ya_matchEntry, ya_tried)) :
    wpY_repeat post (nI n, yf_count, yf_patternCount, yf_termCount, yf_mode, yf_skipVar, yf_resPart, yf_resRows, yf_matchCount, nI b, ya_buffer, ya_pattern, ya_terms, ya_cells, ya_rowCount, ya_lists, ya_len, ya_matchStart, ya_matchEntry, ya_tried) (nI (t - 100)) := by
  obtain ⟨mn, mx, z, e, hm, hx1, hx2, hz⟩ := ht
  have q0 : t - 100 = 20 * mn + 2 * mx + z := by omega
  have q1 : pe_mn t = mn := by unfold pe_mn; omega
  have q2 : pe_mx t = mx := by unfold pe_mx; omega
  have hrep : pe_rep n t I = wd_R n mn mx (pe_lz t) I mx := by unfold pe_rep; rw [q1, q2]
  rw [hrep, q1, q2] at h
  have e2 : nI (t - 100) / 20 = nI mn := by
    have := pk_div (a := t - 100) (d := 20) (by omega) (by omega) (by omega)
    exact this.trans (congrArg nI (by omega))
  have e3 : (nI (t - 100) - nI (t - 100) / 20 * 20) / 2 = nI mx := by
    have r1 := pk_rem (a := t - 100) (d := 20) (by omega) (by omega) (by omega)
    have r2 : nI (t - 100) - nI (t - 100) / 20 * 20 = nI ((t - 100) % 20) := r1
    rw [r2]
    have := pk_div (a := (t - 100) % 20) (d := 2) (by omega) (by omega) (by omega)
    exact this.trans (congrArg nI (by omega))
  unfold wpY_repeat
  dsimp only
  refine ⟨by decide, nm_r e2 ⟨by decide, by decide, nm_r e3 ?_⟩⟩
  refine yl_one (K := 9) (w := []) hn (by omega) (wd_unit_ok [] (List.mem_singleton.mpr rfl)) hb (fun li le g1 g2 => ?_)
  have e5 : nI mx - 1 = nI mx + (-1) := by grind
  refine nm_r e5 ⟨mx + 1, ?_⟩
  refine yr_repL (m := mn) (M := mx) (lz := pe_lz t) (q := t - 100) (b0 := b) (I := I) hn hm (by omega) hb (by omega) rfl (fun li2 le2 E2 b2 r1 r2 r3 => h li2 le2 E2 b2 r1 r2 (fun k E hk hE => r3 k E hk (g2 k E (by omega) (by omega) hE))) mx 0 (by omega) li le [[]] b (g2 8 I (by omega) (by omega) h8) g1 ⟨fun _ => ⟨rfl, rfl⟩, fun hh => absurd (fun p hp => ?_) hh⟩ (fun k E hk hE => hE)
  have : p = 0 := by omega
  subst this
  show 1 ≤ 64
  omega
end
end
section
/-! ===== the reference's exclude ===== -/
def ex_m (i : Nat) (l : List Nat) : List Nat := (l.take i).map wd_ec ++ l.drop i
def ex_c (i : Nat) (w : List Nat) : Nat := 2 ^ 8 * (2 ^ 24 * (2 ^ 8 * cw_A 9 w + cw_A 8 w) + cw_L (ex_m i (wd_sg w))) + wd_sz w
theorem ex_or4 : ∀ c, c < 8 → c ||| 4 = c % 4 + 4 := by decide
theorem ex_L : ∀ (l : List Nat) (i : Nat), (∀ c, c ∈ l → c < 8) → i < l.length → cw_L (ex_m (i + 1) l) = cw_L (ex_m i l) ||| (4 * 8 ^ i) := by
  intro l
  induction l with
  | nil => intro i _ hi; exact absurd hi (Nat.not_lt_zero _)
  | cons c l ih =>
    intro i h hi
    have hc := h c List.mem_cons_self
    cases i with
    | zero =>
      show wd_ec c + 8 * cw_L l = (c + 8 * cw_L l) ||| (4 * 8 ^ 0)
      have e1 : c + 8 * cw_L l = 2 ^ 3 * cw_L l + c := by omega
      have e2 : 4 * 8 ^ 0 = 2 ^ 3 * 0 + 4 := by decide
      rw [e1, e2, cw_or2 (by omega) (by omega), Nat.or_zero, ex_or4 c hc]
      unfold wd_ec
      rw [if_pos hc]
      omega
    | succ i =>
      have := ih i (fun x hx => h x (List.mem_cons_of_mem _ hx)) (by rw [List.length_cons] at hi; omega)
      show wd_ec c + 8 * cw_L (ex_m (i + 1) l) = (wd_ec c + 8 * cw_L (ex_m i l)) ||| (4 * 8 ^ (i + 1))
      have hec : wd_ec c < 8 := (wd_ec_lt c).mpr hc
      have e1 : wd_ec c + 8 * cw_L (ex_m i l) = 2 ^ 3 * cw_L (ex_m i l) + wd_ec c := by omega
      have e2 : 4 * 8 ^ (i + 1) = 2 ^ 3 * (4 * 8 ^ i) + 0 := by rw [Nat.pow_succ]; omega
      rw [e1, e2, cw_or2 (by omega) (by omega), ← this, Nat.or_zero]
      omega
theorem ex_m_lt {i : Nat} {l : List Nat} (h : ∀ c, c ∈ l → c < 8) : ∀ c, c ∈ ex_m i l → c < 8 := by
  intro c hc
  rcases List.mem_append.mp hc with hc | hc
  · obtain ⟨b, hb, rfl⟩ := List.mem_map.mp hc
    exact (wd_ec_lt b).mpr (h b (List.mem_of_mem_take hb))
  · exact h c (List.mem_of_mem_drop hc)
theorem ex_m_len {i : Nat} {l : List Nat} : (ex_m i l).length = l.length := by
  unfold ex_m
  rw [List.length_append, List.length_map, List.length_take, List.length_drop]; omega
theorem ex_Lb {w : List Nat} (h : wd_sz w ≤ 6) (i : Nat) : cw_L (ex_m i (wd_sg w)) < 2 ^ 18 := by
  have h1 := cw_L_lt (ex_m_lt (i := i) (wd_sg_lt w))
  rw [ex_m_len] at h1
  have h2 : 8 ^ (wd_sg w).length ≤ 8 ^ 6 := Nat.pow_le_pow_right (by omega) h
  have e : (8 : Nat) ^ 6 = 2 ^ 18 := by decide
  omega
theorem ex_lt {w : List Nat} (h : wd_sz w ≤ 6) (i : Nat) : ex_c i w < 2 ^ 47 := by
  have h1 := ex_Lb h i
  obtain ⟨_, h2, h3⟩ := cw_bd h
  unfold ex_c
  omega
theorem ex_step {w : List Nat} (h : wd_sz w ≤ 6) {i : Nat} (hi : i < wd_sz w) : ex_c i w ||| 2 ^ (10 + 3 * i) = ex_c (i + 1) w := by
  have h1 := ex_Lb h i
  obtain ⟨_, h2, h3⟩ := cw_bd h
  have e1 : (2 : Nat) ^ (10 + 3 * i) = 2 ^ 8 * (2 ^ 24 * (2 ^ 8 * 0 + 0) + 4 * 8 ^ i) + 0 := by
    have e8 : (8 : Nat) ^ i = 2 ^ (3 * i) := by
      have : (8 : Nat) = 2 ^ 3 := by decide
      rw [this, ← Nat.pow_mul]
    rw [e8, Nat.pow_add]
    omega
  have hp : (8 : Nat) ^ i ≤ 8 ^ 5 := Nat.pow_le_pow_right (by omega) (by omega)
  have hp5 : (8 : Nat) ^ 5 = 32768 := by decide
  unfold ex_c
  rw [e1, cw_or4 (by omega) (by omega) (by omega) (by omega) (by omega) (by omega), Nat.or_zero, Nat.or_zero, Nat.or_zero, ex_L (wd_sg w) i (wd_sg_lt w) hi]
theorem ex_sg : ∀ w : List Nat, wd_sg (wd_ex w) = (wd_sg w).map wd_ec := by
  intro w
  induction w with
  | nil => rfl
  | cons c w ih =>
    have e : wd_ex (c :: w) = wd_ec c :: wd_ex w := rfl
    rw [e, wd_sg_cons, wd_sg_cons, ih]
    by_cases h : c < 8
    · rw [if_pos h, if_pos ((wd_ec_lt c).mpr h), List.map_cons]
    · rw [if_neg h, if_neg (fun q => h ((wd_ec_lt c).mp q))]
theorem ex_A (a : Nat) (ha : 8 ≤ a) : ∀ w : List Nat, cw_A a (wd_ex w) = cw_A a w := by
  intro w
  induction w with
  | nil => rfl
  | cons c w ih =>
    have e : wd_ex (c :: w) = wd_ec c :: wd_ex w := rfl
    rw [e, cw_A, cw_A, ih]
    by_cases h : c < 8
    · rw [if_pos h, if_pos ((wd_ec_lt c).mpr h)]
    · have : wd_ec c = c := by unfold wd_ec; rw [if_neg h]
      rw [this]
theorem ex_0 (w : List Nat) : ex_c 0 w = cw w := rfl
theorem ex_z (w : List Nat) : ex_c (wd_sz w) w = cw (wd_ex w) := by
  unfold ex_c cw
  rw [ex_sg, ex_A 8 (by omega), ex_A 9 (by omega), wd_sz_ex]
  have : ex_m (wd_sz w) (wd_sg w) = (wd_sg w).map wd_ec := by
    unfold ex_m wd_sz
    rw [List.take_length, List.drop_length, List.append_nil]
  rw [this]
section
variable {yf_n yf_count yf_patternCount yf_termCount yf_mode yf_skipVar yf_resPart yf_resRows yf_matchCount yf_tooBig : Int32} {ya_buffer ya_pattern ya_terms ya_cells ya_rowCount ya_len ya_matchStart ya_tried : Nat → Int32} {ya_lists ya_matchEntry : Nat → Int64}
variable {post : SY → Prop} {n : Nat}
theorem yx_30 {J : Int32 → (Nat → Int32) → (Nat → Int32) → (Nat → Int32) → (Nat → Int32) → (Nat → Int32) → (Nat → Int64) → (Nat → Int32) → (Nat → Int32) → (Nat → Int64) → (Nat → Int32) → Prop} {w : List Nat} {k : Nat} (hk : k < 64) (hw : wd_sz w ≤ 6)
    (h : ∀ li : Nat → Int64, li (512 + k) = lN (cw (wd_ex w)) → (∀ j, j ≠ 512 + k → li j = ya_lists j) → J (nI (k + 1)) ya_buffer ya_pattern ya_terms ya_cells ya_rowCount li ya_len ya_matchStart ya_matchEntry ya_tried) :
    ∀ d i, i + d = wd_sz w → ∀ li : Nat → Int64, li (512 + k) = lN (ex_c i w) → (∀ j, j ≠ 512 + k → li j = ya_lists j) → wY_excludeAtom_30 post J (nI k) (nI (wd_sz w)) yf_n yf_count yf_patternCount yf_termCount yf_mode yf_skipVar yf_resPart yf_resRows yf_matchCount yf_tooBig (d + 1) (nI i) ya_buffer ya_pattern ya_terms ya_cells ya_rowCount li ya_len ya_matchStart ya_matchEntry ya_tried := by
  have e1 : (512 : Int32) + nI k = nI (512 + k) := nI_add 512 k
  intro d
  induction d with
  | zero =>
    intro i hi li h1 h2
    have : i = wd_sz w := by omega
    subst this
    rw [ex_z] at h1
    exact br_t (nI_le (Nat.le_refl _) (by omega)) (nm_r (nI_1 k) (h li h1 h2))
  | succ d ih =>
    intro i hi li h1 h2
    have e2 : (10 : Int32) + 3 * nI i = nI (10 + 3 * i) := by
      have a1 : (3 : Int32) * nI i = nI (3 * i) := pk_mul 3 i
      have a2 : (10 : Int32) + nI (3 * i) = nI (10 + 3 * i) := nI_add 10 _
      rw [a1, a2]
    have e3 : (1 : Int64) <<< ((nI (10 + 3 * i)).toInt64 &&& 63) = lN (2 ^ (10 + 3 * i)) := by
      have := cw_shl (a := 1) (k := 10 + 3 * i) (by omega)
      rw [Nat.one_mul] at this
      exact this
    have hlt := ex_lt hw i
    have hp : (2 : Nat) ^ (10 + 3 * i) ≤ 2 ^ 25 := Nat.pow_le_pow_right (by omega) (by omega)
    refine br_f (nI_ge (by omega) (by omega)) ?_
    rw [e1, e2, e3, nI_clamp (n := 512 + k) (by omega), h1, wb_or (by omega) (by omega), ex_step hw (by omega)]
    refine ⟨vp_in_nI (by omega) (by omega), vp_in_nI (by omega) (by omega), nm_e (nm_r (nI_1 i) (ih (i + 1) (by omega) _ pk_uLs (fun j hj => ?_)))⟩
    rw [pk_uLn hj]; exact h2 j hj
theorem yx_exc {F : List (List Nat)} (hn : n ≤ 6) (h8 : yl_L n ya_lists ya_len 8 F)
    (h : ∀ li : Nat → Int64, yl_L n li ya_len 8 (F.map wd_ex) → yl_K n 8 ya_lists ya_len li ya_len → post (yf_n, yf_count, yf_patternCount, yf_termCount, yf_mode, yf_skipVar, yf_resPart, yf_resRows, yf_matchCount, yf_tooBig, ya_buffer, ya_pattern, ya_terms, ya_cells, ya_rowCount, li, ya_len, ya_matchStart, ya_matchEntry, ya_tried)) : wpY_excludeAtom post (yf_n, yf_count, yf_patternCount, yf_termCount, yf_mode, yf_skipVar, yf_resPart, yf_resRows, yf_matchCount, yf_tooBig, ya_buffer, ya_pattern, ya_terms, ya_cells, ya_rowCount, ya_lists, ya_len, ya_matchStart, ya_matchEntry, ya_tried) := by
  have hF := h8.1
  have L : ∀ d k, k + d = F.length → ∀ li : Nat → Int64, (∀ i, i < k → li (512 + i) = lN (cw (wd_ex (F.getD i [])))) → (∀ i, k ≤ i → i < F.length → li (512 + i) = lN (cw (F.getD i []))) → (∀ j, ¬ (512 ≤ j ∧ j < 576) → li j = ya_lists j) → wY_excludeAtom_2 post yf_n yf_count yf_patternCount yf_termCount yf_mode yf_skipVar yf_resPart yf_resRows yf_matchCount yf_tooBig (d + 1) (nI k) ya_buffer ya_pattern ya_terms ya_cells ya_rowCount li ya_len ya_matchStart ya_matchEntry ya_tried := by
    intro d
    induction d with
    | zero =>
      intro k hk li h1 h2 h3
      have : k = F.length := by omega
      subst this
      refine br_t (by rw [h8.2.2.1]; exact nI_le (Nat.le_refl _) (by omega)) ?_
      refine h li ⟨by rw [List.length_map]; exact hF, fun w hw => ?_, by rw [List.length_map]; exact h8.2.2.1, fun i hi => ?_⟩ (fun k E hk hk8 hE => ⟨hE.1, hE.2.1, hE.2.2.1, fun i hi => by rw [h3 _ (by have := hE.1; omega)]; exact hE.2.2.2 i hi⟩)
      · obtain ⟨b, hb, rfl⟩ := List.mem_map.mp hw
        exact wd_ex_ok (h8.2.1 b hb)
      · rw [List.length_map] at hi
        have e : (F.map wd_ex).getD i [] = wd_ex (F.getD i []) := by
          rw [List.getD_eq_getElem?_getD, List.getD_eq_getElem?_getD, List.getElem?_map, List.getElem?_eq_getElem hi]; rfl
        rw [e]; exact h1 i hi
    | succ d ih =>
      intro k hk li h1 h2 h3
      have hkF : k < F.length := by omega
      have e1 : (512 : Int32) + nI k = nI (512 + k) := nI_add 512 k
      have hw := (h8.2.1 _ (List.getElem_mem hkF)).2
      have hg := yl_get hkF
      refine br_f (by rw [h8.2.2.1]; exact nI_ge hkF (by omega)) ?_
      unfold wpY_size
      dsimp only
      rw [e1, nI_clamp (n := 512 + k) (by omega), h2 k (Nat.le_refl _) hkF, hg, cw_size (by omega)]
      refine ⟨vp_in_nI (by omega) (by omega), ⟨wd_sz F[k] + 1, ?_⟩⟩
      refine yx_30 (w := F[k]) (k := k) (by omega) (by omega) (fun li2 g1 g2 => ?_) (wd_sz F[k]) 0 (by omega) li (by rw [ex_0, h2 k (Nat.le_refl _) hkF, hg]) (fun _ _ => rfl)
      refine ih (k + 1) (by omega) li2 (fun i hi => ?_) (fun i hi hi2 => ?_) (fun j hj => ?_)
      · by_cases hik : i = k
        · rw [hik, g1, hg]
        · rw [g2 _ (by omega)]; exact h1 i (by omega)
      · rw [g2 _ (by omega)]; exact h2 i (by omega) hi2
      · rw [g2 _ (by omega)]; exact h3 j hj
  exact ⟨F.length + 1, L F.length 0 (by omega) ya_lists (fun i hi => by omega) (fun i _ hi => h8.2.2.2 i hi) (fun _ _ => rfl)⟩
end
end
section
/-! ===== the reference's evaluation ===== -/
def ye_F (n : Nat) (li : Nat → Int64) (le : Nat → Int32) : List (List (List Nat) × List (List Nat)) → Prop
  | [] => True
  | (A, C) :: gs => yl_L n li le gs.length A ∧ yl_L n li le (4 + gs.length) C ∧ ye_F n li le gs
theorem ye_Fk {n : Nat} {li li' : Nat → Int64} {le le' : Nat → Int32} : ∀ {gs : List (List (List Nat) × List (List Nat))}, (∀ k E, k < gs.length ∨ (4 ≤ k ∧ k < 4 + gs.length) → yl_L n li le k E → yl_L n li' le' k E) → ye_F n li le gs → ye_F n li' le' gs := by
  intro gs
  induction gs with
  | nil => intro _ _; trivial
  | cons g gs ih =>
    obtain ⟨A, C⟩ := g
    intro hk h
    rw [List.length_cons] at hk
    exact ⟨hk _ _ (by omega) h.1, hk _ _ (by omega) h.2.1, ih (fun k E hh => hk k E (by omega)) h.2.2⟩
def ye_y (n : Nat) (st : pe_T) (nq : Bool) : List (List (List Nat) × List (List Nat)) := match st with
  | ([], _) => []
  | ((_, A, C) :: fs, I) => (A, if nq = true then C else wd_join n C I) :: fs.map (fun f => f.2)
def ye_j (n : Nat) (st : pe_T) : List (List Nat) := match st with
  | ([], _) => []
  | ((_, _, C) :: _, I) => wd_join n C I
def ye_ok (n : Nat) (r : List Nat) (nq : Bool) : Prop := pe_ok n r ∧ (nq = false → (ye_j n (pe n r)).length ≤ 64)
def ye_I (n : Nat) (li0 : Nat → Int64) (le0 : Nat → Int32) (r : List Nat) (nq : Bool) (li : Nat → Int64) (le : Nat → Int32) (b : Nat) : Prop :=
  ∃ (gs : List (List (List Nat) × List (List Nat))) (E : List (List Nat)), gs.length = (pe n r).1.length ∧ ye_F n li le gs ∧ (nq = true → yl_L n li le 8 E) ∧ b < 2 ∧ (ye_ok n r nq → b = 0 ∧ gs = ye_y n (pe n r) nq ∧ (nq = true → E = (pe n r).2)) ∧ (¬ ye_ok n r nq → b = 1) ∧ (∀ W, yl_L n li0 le0 11 W → yl_L n li le 11 W)
theorem ye_out {n t k : Nat} {li0 : Nat → Int64} {le0 : Nat → Int32} {r : List Nat} {nq : Bool} {li : Nat → Int64} {le : Nat → Int32} {okb : Prop} {A C C2 E8 Av Cv Ev : List (List Nat)} {gs : List (List (List Nat) × List (List Nat))} {fs : List (Nat × List (List Nat) × List (List Nat))} {b b2 : Nat} (hst : pe n (t :: r) = ((k, Av, Cv) :: fs, Ev)) (hok : pe_ok n (t :: r) ↔ okb) (hlen : gs.length = fs.length) (hb : b < 2)
    (hF : ye_F n li le ((A, C2) :: gs)) (h8 : yl_L n li le 8 E8) (h1 : nq = true → C2 = C ∧ b2 = b) (h2 : nq = false → yl_C (wd_join n C E8) C2 b b2)
    (g1 : okb → b = 0 ∧ A = Av ∧ C = Cv ∧ E8 = Ev ∧ gs = fs.map (fun f => f.2)) (g2 : ¬ okb → b = 1) (hz : (∀ W, yl_L n li0 le0 11 W → yl_L n li le 11 W)) : ye_I n li0 le0 (t :: r) nq li le b2 := by
  refine ⟨(A, C2) :: gs, E8, by rw [hst, List.length_cons, hlen]; rfl, hF, fun _ => h8, ?_, ?_, ?_, hz⟩
  · cases nq with
    | true => have := (h1 rfl).2; omega
    | false => exact yl_Cb (h2 rfl) hb
  · intro ho
    obtain ⟨x1, x2, x3, x4, x5⟩ := g1 (hok.mp ho.1)
    rw [hst]
    cases nq with
    | true =>
      obtain ⟨y1, y2⟩ := h1 rfl
      refine ⟨by omega, ?_, fun _ => x4⟩
      show (A, C2) :: gs = (Av, Cv) :: fs.map (fun f => f.2)
      rw [y1, x2, x3, x5]
    | false =>
      have hj := ho.2 rfl
      rw [hst] at hj
      have hj' : (wd_join n Cv Ev).length ≤ 64 := hj
      obtain ⟨y1, y2⟩ := (h2 rfl).1 (by rw [x3, x4]; exact hj')
      refine ⟨by omega, ?_, fun h => absurd h (by decide)⟩
      show (A, C2) :: gs = (Av, wd_join n Cv Ev) :: fs.map (fun f => f.2)
      rw [y1, x2, x3, x4, x5]
  · intro ho
    by_cases hob : okb
    · obtain ⟨x1, x2, x3, x4, x5⟩ := g1 hob
      cases nq with
      | true => exact absurd ⟨hok.mpr hob, fun h => absurd h (by decide)⟩ ho
      | false =>
        refine (h2 rfl).2 ?_
        rw [x3, x4]
        rcases Nat.lt_or_ge 64 (wd_join n Cv Ev).length with hh | hh
        · exact hh
        · exact absurd ⟨hok.mpr hob, fun _ => by rw [hst]; exact hh⟩ ho
    · have hb1 := g2 hob
      cases nq with
      | true => have := (h1 rfl).2; omega
      | false =>
        have := h2 rfl
        rw [hb1] at this
        exact yl_C1 this
theorem ye_jj (n : Nat) : wd_join n [[]] [[]] = [[]] := by
  unfold wd_join
  rw [List.flatMap_cons, List.flatMap_nil, List.append_nil, List.filter_cons_of_pos (by exact decide_eq_true (Nat.zero_le _))]
  rfl
/-- as ye_out, where no item is pending -/
theorem ye_out0 {n t : Nat} {li0 : Nat → Int64} {le0 : Nat → Int32} {r : List Nat} {nq : Bool} {li : Nat → Int64} {le : Nat → Int32} {gs gv : List (List (List Nat) × List (List Nat))} {b : Nat} {f : Nat × List (List Nat) × List (List Nat)} {fs : List (Nat × List (List Nat) × List (List Nat))} (hst : pe n (t :: r) = (f :: fs, [[]])) (hf : f.2.2 = [[]]) (hgv : gv = (f :: fs).map (fun f => f.2)) (hlen : gs.length = gv.length) (hb : b < 2) (hF : ye_F n li le gs) (hnq : nq = false) (g1 : pe_ok n (t :: r) → b = 0 ∧ gs = gv) (g2 : ¬ pe_ok n (t :: r) → b = 1) (hz : (∀ W, yl_L n li0 le0 11 W → yl_L n li le 11 W)) : ye_I n li0 le0 (t :: r) nq li le b := by
  obtain ⟨k, A, C⟩ := f
  have hC : C = [[]] := hf
  subst hC
  subst hnq
  refine ⟨gs, [], by rw [hst, hlen, hgv, List.length_map], hF, fun h => absurd h (by decide), hb, ?_, ?_, hz⟩
  · intro ho
    obtain ⟨x1, x2⟩ := g1 ho.1
    refine ⟨x1, ?_, fun h => absurd h (by decide)⟩
    rw [x2, hgv, hst]
    show (A, [[]]) :: fs.map (fun f => f.2) = (A, wd_join n [[]] [[]]) :: fs.map (fun f => f.2)
    rw [ye_jj]
  · intro ho
    refine g2 (fun hh => ho ⟨hh, fun _ => ?_⟩)
    rw [hst]
    show (wd_join n [[]] [[]]).length ≤ 64
    rw [ye_jj]
    show 1 ≤ 64
    omega
section
variable {yf_n yf_count yf_patternCount yf_termCount yf_mode yf_skipVar yf_resPart yf_resRows yf_matchCount yf_tooBig : Int32} {ya_buffer ya_pattern ya_terms ya_cells ya_rowCount ya_len ya_matchStart ya_tried : Nat → Int32} {ya_lists ya_matchEntry : Nat → Int64}
variable {post : SY → Prop} {n : Nat}
theorem ye_endCat {P : SY → Prop} {d b : Nat} {A C : List (List Nat)} (hn : n ≤ 6) (hd : d < 4) (hb : b < 2) (hA : yl_L n ya_lists ya_len d A) (hC : yl_L n ya_lists ya_len (4 + d) C)
    (h : ∀ (li : Nat → Int64) (le : Nat → Int32) (A2 : List (List Nat)) (b2 : Nat), yl_L n li le d A2 → yl_L n li le (4 + d) [[]] → yl_C (A ++ C) A2 b b2 → (∀ k E, k < 12 → k ≠ d → k ≠ 4 + d → yl_L n ya_lists ya_len k E → yl_L n li le k E) → P (yf_n, yf_count, yf_patternCount, yf_termCount, yf_mode, yf_skipVar, yf_resPart, yf_resRows, yf_matchCount, nI b2, ya_buffer, ya_pattern, ya_terms, ya_cells, ya_rowCount, li, le, ya_matchStart, ya_matchEntry, ya_tried)) : wpY_endCat P (yf_n, yf_count, yf_patternCount, yf_termCount, yf_mode, yf_skipVar, yf_resPart, yf_resRows, yf_matchCount, nI b, ya_buffer, ya_pattern, ya_terms, ya_cells, ya_rowCount, ya_lists, ya_len, ya_matchStart, ya_matchEntry, ya_tried) (nI d) := by
  have e4 : (4 : Int32) + nI d = nI (4 + d) := nI_add 4 d
  have e0 : (0 : Int32) + nI d = nI d := Int32.zero_add _
  unfold wpY_endCat
  dsimp only
  rw [e4, e0]
  refine yl_app (K1 := 4 + d) (K2 := d) (V0 := A) hn (by omega) (by omega) (by omega) hb hC hA ⟨fun _ => ⟨rfl, rfl⟩, fun hh => absurd hh (by have := hA.1; omega)⟩ (fun li le A2 b2 g1 g2 g3 => ?_)
  refine yl_one (w := []) hn (by omega) (wd_unit_ok [] (List.mem_singleton.mpr rfl)) (yl_Cb g2 hb) (fun li2 le2 r1 r2 => ?_)
  exact h li2 le2 A2 b2 (r2 d A2 (by omega) (by omega) g1) r1 g2 (fun k E hk hk1 hk2 hE => r2 k E hk hk2 (g3 k E hk hk1 hE))
theorem ye_191 {J : Int32 → Int32 → Int32 → Int32 → Int32 → Int32 → Int32 → Int32 → Int32 → Int32 → Int32 → Int32 → (Nat → Int32) → (Nat → Int32) → (Nat → Int32) → (Nat → Int32) → (Nat → Int32) → (Nat → Int64) → (Nat → Int32) → (Nat → Int32) → (Nat → Int64) → (Nat → Int32) → Prop} {i bl b : Nat} {nq : Bool} {A C E8 : List (List Nat)} {gs : List (List (List Nat) × List (List Nat))} (hn : n ≤ 6) (hd : gs.length < 4) (hi : i < bl) (hbl : bl ≤ 24) (hb : b < 2) (hnq : nq = true ↔ i + 1 < bl ∧ 100 ≤ ya_buffer (i + 1))
    (hF : ye_F n ya_lists ya_len ((A, C) :: gs)) (h8 : yl_L n ya_lists ya_len 8 E8)
    (h : ∀ (li : Nat → Int64) (le : Nat → Int32) (C2 : List (List Nat)) (b2 : Nat), ye_F n li le ((A, C2) :: gs) → yl_L n li le 8 E8 → (nq = true → C2 = C ∧ b2 = b) → (nq = false → yl_C (wd_join n C E8) C2 b b2) → (∀ W, yl_L n ya_lists ya_len 11 W → yl_L n li le 11 W) → J (nI gs.length) (nI (i + 1)) (nI n) (nI bl) yf_patternCount yf_termCount yf_mode yf_skipVar yf_resPart yf_resRows yf_matchCount (nI b2) ya_buffer ya_pattern ya_terms ya_cells ya_rowCount li le ya_matchStart ya_matchEntry ya_tried) :
    wY_evaluate_191 post J (nI gs.length) (nI i) (nI n) (nI bl) yf_patternCount yf_termCount yf_mode yf_skipVar yf_resPart yf_resRows yf_matchCount (nI b) ya_buffer ya_pattern ya_terms ya_cells ya_rowCount ya_lists ya_len ya_matchStart ya_matchEntry ya_tried := by
  have e4 : (4 : Int32) + nI gs.length = nI (4 + gs.length) := nI_add 4 gs.length
  obtain ⟨lA, lC, lF⟩ := hF
  have k214 : nq = false → wY_evaluate_214 post J (nI gs.length) (nI i) (nI n) (nI bl) yf_patternCount yf_termCount yf_mode yf_skipVar yf_resPart yf_resRows yf_matchCount (nI b) ya_buffer ya_pattern ya_terms ya_cells ya_rowCount ya_lists ya_len ya_matchStart ya_matchEntry ya_tried := by
    intro hnf
    unfold wY_evaluate_214
    rw [e4]
    refine yj_join (K1 := 4 + gs.length) (K2 := 8) (l := 0) hn (by omega) (by omega) hb (by omega) lC h8 (fun li le E10 b2 g1 g2 g3 => ?_)
    rw [yj_0] at g2
    dsimp only
    refine yl_copy (K1 := 10) (K2 := 4 + gs.length) hn (by omega) (by omega) (by omega) (yl_Cb g2 hb) g1 (fun li2 le2 r1 r2 => ?_)
    refine nm_r (nI_1 i) (h li2 le2 E10 b2 ⟨r2 _ A (by omega) (by omega) (g3 _ A (by omega) (by omega) lA), r1, ye_Fk (fun k E hk hE => r2 k E (by omega) (by omega) (g3 k E (by omega) (by omega) hE)) lF⟩ (r2 8 E8 (by omega) (by omega) (g3 8 E8 (by omega) (by omega) h8)) (fun hh => absurd (hnf.symm.trans hh) (by decide)) (fun _ => g2) (fun W hW => r2 11 W (by omega) (by omega) (g3 11 W (by omega) (by omega) hW)))
  unfold wY_evaluate_191
  rw [nI_1]
  refine pk_eq (i + 1) bl (fun q => k214 ?_) (fun q => ?_)
  · cases hx : nq with
    | false => rfl
    | true => have := (hnq.mp hx).1; omega
  · rw [nI_clamp (n := i + 1) (by omega)]
    refine ⟨vp_in_nI (by omega) (by omega), br_c (fun q2 => ?_) (fun q2 => k214 ?_)⟩
    · have hx : nq = true := hnq.mpr ⟨by omega, q2⟩
      exact nm_e (h ya_lists ya_len C b ⟨lA, lC, lF⟩ h8 (fun _ => ⟨rfl, rfl⟩) (fun hh => absurd (hx.symm.trans hh) (by decide)) (fun W hW => hW))
    · cases hx : nq with
      | false => rfl
      | true => exact absurd (hnq.mp hx).2 q2
end
end
section
/-! ===== the reference's evaluation, token by token ===== -/
theorem ye_cr (t : Nat) (h : t < 4) : cw [pe_at t] = 1 + 256 * t := by
  unfold pe_at
  rw [if_pos h]
  unfold cw
  have e1 : wd_sg [t] = [t] := by rw [wd_sg_cons, if_pos (by omega), wd_sg_nil]
  have e2 : wd_sz [t] = 1 := by unfold wd_sz; rw [e1]; rfl
  have e3 : ∀ a, cw_A a [t] = 0 := by intro a; rw [cw_A, if_pos (by omega)]; rfl
  rw [e1, e2, e3, e3]
  show 2 ^ 8 * (2 ^ 24 * (2 ^ 8 * 0 + 0) + (t + 8 * 0)) + 1 = 1 + 256 * t
  omega
section
variable {yf_n yf_count yf_patternCount yf_termCount yf_mode yf_skipVar yf_resPart yf_resRows yf_matchCount yf_tooBig : Int32} {ya_buffer ya_pattern ya_terms ya_cells ya_rowCount ya_len ya_matchStart ya_tried : Nat → Int32} {ya_lists ya_matchEntry : Nat → Int64}
variable {post : SY → Prop} {n : Nat}
theorem ye_tok {J : Int32 → Int32 → Int32 → Int32 → Int32 → Int32 → Int32 → Int32 → Int32 → Int32 → Int32 → Int32 → (Nat → Int32) → (Nat → Int32) → (Nat → Int32) → (Nat → Int32) → (Nat → Int32) → (Nat → Int64) → (Nat → Int32) → (Nat → Int32) → (Nat → Int64) → (Nat → Int32) → Prop} {t bl b : Nat} {li0 : Nat → Int64} {le0 : Nat → Int32} {r : List Nat} {nq : Bool} (hn2 : 2 ≤ n) (hn : n ≤ 6) (hV : tk_V n (t :: r)) (hi : r.length < bl) (hbl : bl ≤ 24) (hnq : nq = true ↔ r.length + 1 < bl ∧ 100 ≤ ya_buffer (r.length + 1)) (hae : nq = true → tk_ae (t :: r)) (hI : ye_I n li0 le0 r (decide (100 ≤ t)) ya_lists ya_len b)
    (h : ∀ (li : Nat → Int64) (le : Nat → Int32) (b2 : Nat), ye_I n li0 le0 (t :: r) nq li le b2 → J (nI ((pe n (t :: r)).1.length - 1)) (nI (r.length + 1)) (nI n) (nI bl) yf_patternCount yf_termCount yf_mode yf_skipVar yf_resPart yf_resRows yf_matchCount (nI b2) ya_buffer ya_pattern ya_terms ya_cells ya_rowCount li le ya_matchStart ya_matchEntry ya_tried) :
    ((nI t = 7 → wY_evaluate_55 post J (nI ((pe n r).1.length - 1)) (nI r.length) (nI t) (nI n) (nI bl) yf_patternCount yf_termCount yf_mode yf_skipVar yf_resPart yf_resRows yf_matchCount (nI b) ya_buffer ya_pattern ya_terms ya_cells ya_rowCount ya_lists ya_len ya_matchStart ya_matchEntry ya_tried) ∧ (¬ nI t = 7 → ((nI t = 9 → wY_evaluate_55 post J (nI ((pe n r).1.length - 1)) (nI r.length) (nI t) (nI n) (nI bl) yf_patternCount yf_termCount yf_mode yf_skipVar yf_resPart yf_resRows yf_matchCount (nI b) ya_buffer ya_pattern ya_terms ya_cells ya_rowCount ya_lists ya_len ya_matchStart ya_matchEntry ya_tried) ∧ (¬ nI t = 9 → ((nI t = 10 → wY_evaluate_55 post J (nI ((pe n r).1.length - 1)) (nI r.length) (nI t) (nI n) (nI bl) yf_patternCount yf_termCount yf_mode yf_skipVar yf_resPart yf_resRows yf_matchCount (nI b) ya_buffer ya_pattern ya_terms ya_cells ya_rowCount ya_lists ya_len ya_matchStart ya_matchEntry ya_tried) ∧ (¬ nI t = 10 → wY_evaluate_60 post J (nI ((pe n r).1.length - 1)) (nI r.length) (nI t) (nI n) (nI bl) yf_patternCount yf_termCount yf_mode yf_skipVar yf_resPart yf_resRows yf_matchCount (nI b) ya_buffer ya_pattern ya_terms ya_cells ya_rowCount ya_lists ya_len ya_matchStart ya_matchEntry ya_tried)))))) := by
  have htok := tk_tok hn hV t List.mem_cons_self
  have hS := tk_S68 hV.2
  have hPL := pe_len hV.2
  have hPL' := pe_len hV
  have hc := hV.1
  unfold tk_c at hc
  have eP : pe n (t :: r) = pe_step n t (pe n r) := rfl
  have eOK : pe_ok n (t :: r) = (pe_ok n r ∧ pe_chk n t (pe n r)) := rfl
  obtain ⟨gs, E, hl, hF, h8, hb, g1, g2, hz0⟩ := hI
  cases hp : pe n r with
  | mk fs I =>
    rw [hp] at hl g1 hPL eP eOK
    cases fs with
    | nil => exact absurd hPL.1 (by show ¬ 0 = _ + 1; omega)
    | cons fr fs =>
      obtain ⟨k, A, C⟩ := fr
      have hlen : fs.length = (tk_S r).length := by have := hPL.1; rw [List.length_cons] at this; omega
      have hd : fs.length < 4 := by omega
      cases gs with
      | nil => exact absurd hl (by show ¬ 0 = _ + 1; omega)
      | cons g gs =>
        obtain ⟨GA, GC⟩ := g
        have hgl : gs.length = fs.length := by
          have h3 : gs.length + 1 = fs.length + 1 := hl
          omega
        have hdd : ((k, A, C) :: fs).length - 1 = gs.length := by rw [List.length_cons, hgl]; omega
        show ((nI t = 7 → wY_evaluate_55 post J (nI (((k, A, C) :: fs).length - 1)) (nI r.length) (nI t) (nI n) (nI bl) yf_patternCount yf_termCount yf_mode yf_skipVar yf_resPart yf_resRows yf_matchCount (nI b) ya_buffer ya_pattern ya_terms ya_cells ya_rowCount ya_lists ya_len ya_matchStart ya_matchEntry ya_tried) ∧ (¬ nI t = 7 → ((nI t = 9 → wY_evaluate_55 post J (nI (((k, A, C) :: fs).length - 1)) (nI r.length) (nI t) (nI n) (nI bl) yf_patternCount yf_termCount yf_mode yf_skipVar yf_resPart yf_resRows yf_matchCount (nI b) ya_buffer ya_pattern ya_terms ya_cells ya_rowCount ya_lists ya_len ya_matchStart ya_matchEntry ya_tried) ∧ (¬ nI t = 9 → ((nI t = 10 → wY_evaluate_55 post J (nI (((k, A, C) :: fs).length - 1)) (nI r.length) (nI t) (nI n) (nI bl) yf_patternCount yf_termCount yf_mode yf_skipVar yf_resPart yf_resRows yf_matchCount (nI b) ya_buffer ya_pattern ya_terms ya_cells ya_rowCount ya_lists ya_len ya_matchStart ya_matchEntry ya_tried) ∧ (¬ nI t = 10 → wY_evaluate_60 post J (nI (((k, A, C) :: fs).length - 1)) (nI r.length) (nI t) (nI n) (nI bl) yf_patternCount yf_termCount yf_mode yf_skipVar yf_resPart yf_resRows yf_matchCount (nI b) ya_buffer ya_pattern ya_terms ya_cells ya_rowCount ya_lists ya_len ya_matchStart ya_matchEntry ya_tried))))))
        rw [hdd]
        obtain ⟨lA, lC, lF⟩ := hF
        by_cases q100 : 100 ≤ t
        · have hdec : decide (100 ≤ t) = true := decide_eq_true q100
          rw [hdec] at g1 g2 h8
          have hq : tk_q n t := by
            rcases hc with c | c | c | c | c
            · omega
            · omega
            · omega
            · omega
            · exact c.1
          have e2 : pe n (t :: r) = ((k, A, C) :: fs, pe_rep n t I) := by
            rw [eP]; unfold pe_step; simp only [if_pos q100]
          have eC : pe_chk n t ((k, A, C) :: fs, I) = (∀ d, d ≤ pe_mx t → (wd_R n (pe_mn t) (pe_mx t) (pe_lz t) I d).length ≤ 64) := by unfold pe_chk; exact if_pos q100
          have okE : ye_ok n r true ↔ pe_ok n r := ⟨fun hh => hh.1, fun hh => ⟨hh, fun h3 => absurd h3 (by decide)⟩⟩
          have hlE : (pe n (t :: r)).1.length - 1 = gs.length := by rw [e2]; exact hdd
          rw [hlE] at h
          have k60 : wY_evaluate_60 post J (nI gs.length) (nI r.length) (nI t) (nI n) (nI bl) yf_patternCount yf_termCount yf_mode yf_skipVar yf_resPart yf_resRows yf_matchCount (nI b) ya_buffer ya_pattern ya_terms ya_cells ya_rowCount ya_lists ya_len ya_matchStart ya_matchEntry ya_tried := by
            have et : nI t - 100 = nI (t - 100) := pk_sub (b := 100) (by omega)
            refine pk_eq t 6 (fun q => by omega) (fun _ => pk_eq t 8 (fun q => by omega) (fun _ => pk_eq t 10 (fun q => by omega) (fun _ => pk_le 4 t (fun _ => pk_le 6 t (fun _ => pk_lt t 100 (fun q => by omega) (fun _ => ?_)) (fun q => by omega)) (fun q => by omega))))
            rw [et]
            refine yr_rep hn hq hb (h8 rfl) (fun li le E8 b1 r1 r2 r3 => ?_)
            have hb1 := yl_Pb r2 hb
            refine ye_191 (nq := nq) hn (by omega) hi hbl hb1 hnq ⟨r3 _ GA (by omega) lA, r3 _ GC (by omega) lC, ye_Fk (fun kk EE hk hE => r3 kk EE (by omega) hE) lF⟩ r1 (fun li2 le2 C2 b2 s1 s2 s3 s4 s5 => ?_)
            refine h li2 le2 b2 (ye_out e2 (okb := pe_ok n (t :: r)) Iff.rfl hgl hb1 s1 s2 s3 s4 (fun ok => ?_) (fun nok => ?_) (fun W hW => s5 W (r3 11 W (by omega) (hz0 W hW))))
            · rw [eOK, eC] at ok
              obtain ⟨x1, x2, x3⟩ := g1 (okE.mpr ok.1)
              have x3' : E = I := x3 rfl
              rw [x3'] at r2
              obtain ⟨y1, y2⟩ := r2.1 ok.2
              have x2' : (GA, GC) :: gs = (A, C) :: fs.map (fun f => f.2) := x2
              obtain ⟨z1, z2⟩ := List.cons.inj x2'
              obtain ⟨z3, z4⟩ := Prod.mk.inj z1
              exact ⟨by omega, z3, z4, y1, z2⟩
            · rw [eOK, eC] at nok
              by_cases ok1 : pe_ok n r
              · obtain ⟨x1, x2, x3⟩ := g1 (okE.mpr ok1)
                have x3' : E = I := x3 rfl
                rw [x3'] at r2
                exact r2.2 (fun hh => nok ⟨ok1, hh⟩)
              · have hb0 := g2 (fun hh => ok1 (okE.mp hh))
                by_cases okr : ∀ d, d ≤ pe_mx t → (wd_R n (pe_mn t) (pe_mx t) (pe_lz t) E d).length ≤ 64
                · have := (r2.1 okr).2; omega
                · exact r2.2 okr
          exact pk_eq t 7 (fun q => by omega) (fun _ => pk_eq t 9 (fun q => by omega) (fun _ => pk_eq t 10 (fun q => by omega) (fun _ => k60)))
        · have hdec : decide (100 ≤ t) = false := decide_eq_false q100
          rw [hdec] at g1 g2
          have eC : pe_chk n t ((k, A, C) :: fs, I) = ((wd_join n C I).length ≤ 64 ∧ (t = 7 ∨ t = 9 ∨ t = 10 → (A ++ wd_join n C I).length ≤ 64)) := by unfold pe_chk; exact if_neg q100
          have okE : ye_ok n r false ↔ pe_ok n r ∧ (wd_join n C I).length ≤ 64 := by
            unfold ye_ok
            rw [hp]
            exact ⟨fun hh => ⟨hh.1, hh.2 rfl⟩, fun hh => ⟨hh.1, fun _ => hh.2⟩⟩
          have hx : ye_ok n r false → b = 0 ∧ GA = A ∧ GC = wd_join n C I ∧ gs = fs.map (fun f => f.2) := by
            intro ho
            obtain ⟨x1, x2, x3⟩ := g1 ho
            have x2' : (GA, GC) :: gs = (A, wd_join n C I) :: fs.map (fun f => f.2) := x2
            obtain ⟨z1, z2⟩ := List.cons.inj x2'
            obtain ⟨z3, z4⟩ := Prod.mk.inj z1
            exact ⟨x1, z3, z4, z2⟩
          have k55 : t = 7 ∨ t = 9 ∨ t = 10 → wY_evaluate_55 post J (nI gs.length) (nI r.length) (nI t) (nI n) (nI bl) yf_patternCount yf_termCount yf_mode yf_skipVar yf_resPart yf_resRows yf_matchCount (nI b) ya_buffer ya_pattern ya_terms ya_cells ya_rowCount ya_lists ya_len ya_matchStart ya_matchEntry ya_tried := by
            intro h7
            have okt : pe_ok n (t :: r) ↔ ye_ok n r false ∧ (A ++ wd_join n C I).length ≤ 64 := by
              rw [eOK, eC, okE]
              exact ⟨fun hh => ⟨⟨hh.1, hh.2.1⟩, hh.2.2 h7⟩, fun hh => ⟨hh.1.1, hh.1.2, fun _ => hh.2⟩⟩
            refine ye_endCat (d := gs.length) hn (by omega) hb lA lC (fun li le A2 b2 p1 p2 p3 p4 => ?_)
            have hb2 := yl_Cb p3 hb
            have gok : pe_ok n (t :: r) → b2 = 0 ∧ A2 = A ++ wd_join n C I ∧ gs = fs.map (fun f => f.2) := by
              intro ho
              obtain ⟨o1, o2⟩ := okt.mp ho
              obtain ⟨x1, x2, x3, x4⟩ := hx o1
              rw [x2, x3] at p3
              obtain ⟨y1, y2⟩ := p3.1 o2
              exact ⟨by omega, y1, x4⟩
            have gnk : ¬ pe_ok n (t :: r) → b2 = 1 := by
              intro ho
              by_cases o1 : ye_ok n r false
              · obtain ⟨x1, x2, x3, x4⟩ := hx o1
                rw [x2, x3] at p3
                refine p3.2 ?_
                rcases Nat.lt_or_ge 64 (A ++ wd_join n C I).length with hh | hh
                · exact hh
                · exact absurd (okt.mpr ⟨o1, hh⟩) ho
              · have hb1 := g2 o1
                rw [hb1] at p3
                exact yl_C1 p3
            by_cases q10 : t = 10
            · have e2 : pe n (t :: r) = ((k, A ++ wd_join n C I, [[]]) :: fs, [[]]) := by
                rw [eP]; unfold pe_step; simp only [if_neg q100, if_pos q10]
              have hlE : (pe n (t :: r)).1.length - 1 = gs.length := by rw [e2]; exact hdd
              rw [hlE] at h
              refine pk_eq t 6 (fun q => by omega) (fun _ => pk_eq t 8 (fun q => by omega) (fun _ => pk_eq t 10 (fun _ => ?_) (fun q => by omega)))
              refine nm_r (nI_1 r.length) (h li le b2 (ye_out0 (gs := (A2, [[]]) :: gs) (gv := (A ++ wd_join n C I, [[]]) :: fs.map (fun f => f.2)) e2 rfl rfl (by rw [List.length_cons, List.length_cons, List.length_map, hgl]) hb2 ⟨p1, p2, ye_Fk (fun kk EE hk hE => p4 kk EE (by omega) (by omega) (by omega) hE) lF⟩ ?_ (fun ho => ?_) gnk (fun W hW => p4 11 W (by omega) (by omega) (by omega) (hz0 W hW))))
              · cases hx2 : nq with
                | false => rfl
                | true =>
                  have := hae hx2
                  exfalso
                  rcases this with hh | hh | hh <;> omega
              · obtain ⟨y1, y2, y3⟩ := gok ho
                exact ⟨y1, by rw [y2, y3]⟩
            · have h79 : t = 7 ∨ t = 9 := by omega
              have e2 : pe n (t :: r) = (fs, pe_cl t (A ++ wd_join n C I)) := by
                rw [eP]; unfold pe_step; simp only [if_neg q100, if_neg q10, if_pos h79]
              cases fs with
              | nil =>
                rw [e2] at hPL'
                exact absurd hPL'.1 (by show ¬ 0 = _ + 1; omega)
              | cons f2 fs2 =>
                obtain ⟨k2, A', C'⟩ := f2
                cases gs with
                | nil => exact absurd hgl (by show ¬ 0 = _ + 1; omega)
                | cons gg gs2 =>
                  obtain ⟨GA', GC'⟩ := gg
                  have hgl2 : gs2.length = fs2.length := by
                    have h3 : gs2.length + 1 = fs2.length + 1 := hgl
                    omega
                  have hlE : (pe n (t :: r)).1.length - 1 = gs2.length := by
                    rw [e2, hgl2]; show fs2.length + 1 - 1 = _; omega
                  rw [hlE] at h
                  have e0 : (0 : Int32) + nI ((GA', GC') :: gs2).length = nI ((GA', GC') :: gs2).length := Int32.zero_add _
                  have em : nI ((GA', GC') :: gs2).length + (-1) = nI gs2.length := pk_m1 gs2.length
                  have hlc : ((GA', GC') :: gs2).length = gs2.length + 1 := rfl
                  have hlf : ((k2, A', C') :: fs2).length = fs2.length + 1 := rfl
                  refine pk_eq t 6 (fun q => by omega) (fun _ => pk_eq t 8 (fun q => by omega) (fun _ => pk_eq t 10 (fun q => by omega) (fun _ => pk_le 4 t (fun _ => pk_le 6 t (fun _ => pk_lt t 100 (fun _ => ?_) (fun q => by omega)) (fun q => by omega)) (fun q => by omega))))
                  rw [e0]
                  obtain ⟨lA', lC', lF'⟩ := lF
                  refine yl_copy (K1 := ((GA', GC') :: gs2).length) (K2 := 8) hn (by omega) (by omega) (by omega) hb2 p1 (fun li2 le2 r1 r2 => ?_)
                  refine nm_r em ?_
                  have F2 : ye_F n li2 le2 ((GA', GC') :: gs2) := ⟨r2 _ _ (by omega) (by omega) (p4 _ _ (by omega) (by omega) (by omega) lA'), r2 _ _ (by omega) (by omega) (p4 _ _ (by omega) (by omega) (by omega) lC'), ye_Fk (fun kk EE hk hE => r2 kk EE (by omega) (by omega) (p4 kk EE (by omega) (by omega) (by omega) hE)) lF'⟩
                  have fin : ∀ (li3 : Nat → Int64) (E8 : List (List Nat)), E8 = pe_cl t A2 → yl_L n li3 le2 8 E8 → ye_F n li3 le2 ((GA', GC') :: gs2) → (∀ W, yl_L n li0 le0 11 W → yl_L n li3 le2 11 W) → wY_evaluate_191 post J (nI gs2.length) (nI r.length) (nI n) (nI bl) yf_patternCount yf_termCount yf_mode yf_skipVar yf_resPart yf_resRows yf_matchCount (nI b2) ya_buffer ya_pattern ya_terms ya_cells ya_rowCount li3 le2 ya_matchStart ya_matchEntry ya_tried := by
                    intro li3 E8 hE8 s1 s2 s3
                    refine ye_191 (nq := nq) hn (by omega) hi hbl hb2 hnq s2 s1 (fun li4 le4 C2 b4 u1 u2 u3 u4 u5 => ?_)
                    refine h li4 le4 b4 (ye_out e2 (okb := pe_ok n (t :: r)) Iff.rfl hgl2 hb2 u1 u2 u3 u4 (fun ok => ?_) gnk (fun W hW => u5 W (s3 W hW)))
                    obtain ⟨y1, y2, y3⟩ := gok ok
                    obtain ⟨z1, z2⟩ := List.cons.inj y3
                    obtain ⟨z3, z4⟩ := Prod.mk.inj z1
                    exact ⟨y1, z3, z4, by rw [hE8, y2], z2⟩
                  refine pk_eq t 9 (fun q9 => ?_) (fun q9 => ?_)
                  · refine yx_exc hn r1 (fun li3 s1 s2 => ?_)
                    refine fin li3 (A2.map wd_ex) (by unfold pe_cl; rw [if_pos q9]) s1 ?_ (fun W hW => s2 11 W (by omega) (by omega) (r2 11 W (by omega) (by omega) (p4 11 W (by omega) (by omega) (by omega) (hz0 W hW))))
                    exact ⟨s2 _ _ (by omega) (by omega) F2.1, s2 _ _ (by omega) (by omega) F2.2.1, ye_Fk (fun kk EE hk hE => s2 kk EE (by omega) (by omega) hE) F2.2.2⟩
                  · exact fin li2 A2 (by unfold pe_cl; rw [if_neg q9]) r1 F2 (fun W hW => r2 11 W (by omega) (by omega) (p4 11 W (by omega) (by omega) (by omega) (hz0 W hW)))
          refine pk_eq t 7 (fun q7 => k55 (by omega)) (fun q7 => pk_eq t 9 (fun q9 => k55 (by omega)) (fun q9 => pk_eq t 10 (fun q10 => k55 (by omega)) (fun q10 => ?_)))
          have okt : pe_ok n (t :: r) ↔ ye_ok n r false := by
            rw [eOK, eC, okE]
            exact ⟨fun hh => ⟨hh.1, hh.2.1⟩, fun hh => ⟨hh.1, hh.2, fun h3 => by omega⟩⟩
          have opn : t = 6 ∨ t = 8 → wY_evaluate_72 post J (nI gs.length) (nI r.length) (nI n) (nI bl) yf_patternCount yf_termCount yf_mode yf_skipVar yf_resPart yf_resRows yf_matchCount (nI b) ya_buffer ya_pattern ya_terms ya_cells ya_rowCount ya_lists ya_len ya_matchStart ya_matchEntry ya_tried := by
            intro h68
            have e2 : pe n (t :: r) = ((t, [], [[]]) :: (k, A, wd_join n C I) :: fs, [[]]) := by
              rw [eP]; unfold pe_step; simp only [if_neg q100, if_neg q10, if_neg (show ¬ (t = 7 ∨ t = 9) by omega), if_pos h68]
            have hd3 : gs.length + 1 < 4 := by
              rcases hc with c | c | c | c | c
              · omega
              · omega
              · omega
              · omega
              · obtain ⟨mn, mx, z, e, _⟩ := c.1; omega
            have hlE : (pe n (t :: r)).1.length - 1 = gs.length + 1 := by rw [e2, hgl]; rfl
            rw [hlE] at h
            have e0 : (0 : Int32) + nI (gs.length + 1) = nI (gs.length + 1) := Int32.zero_add _
            have e4 : (4 : Int32) + nI (gs.length + 1) = nI (4 + (gs.length + 1)) := nI_add 4 _
            refine nm_r (nI_1 gs.length) ?_
            rw [e0, e4, nI_clamp (n := gs.length + 1) (by omega)]
            refine ⟨vp_in_nI (by omega) (by omega), nm_e ?_⟩
            have fr : ∀ (kk : Nat) (G : List (List Nat)), kk ≠ gs.length + 1 → yl_L n ya_lists ya_len kk G → yl_L n ya_lists (upd ya_len (gs.length + 1) 0) kk G := fun kk G hk hG => ⟨hG.1, hG.2.1, by rw [pk_un hk]; exact hG.2.2.1, hG.2.2.2⟩
            refine yl_one (w := []) hn (by omega) (wd_unit_ok [] (List.mem_singleton.mpr rfl)) hb (fun li le r1 r2 => ?_)
            have l0 : yl_L n li le (gs.length + 1) [] := r2 _ [] (by omega) (by omega) ⟨Nat.zero_le _, (fun w hw => nomatch hw), pk_us, fun i hi => absurd hi (Nat.not_lt_zero _)⟩
            refine nm_r (nI_1 r.length) (h li le b (ye_out0 (gs := ([], [[]]) :: (GA, GC) :: gs) (gv := ([], [[]]) :: (A, wd_join n C I) :: fs.map (fun f => f.2)) e2 rfl rfl (by simp [hgl]) hb ⟨l0, r1, r2 _ _ (by omega) (by omega) (fr _ _ (by omega) lA), r2 _ _ (by omega) (by omega) (fr _ _ (by omega) lC), ye_Fk (fun kk EE hk hE => r2 kk EE (by omega) (by omega) (fr kk EE (by omega) hE)) lF⟩ ?_ (fun ho => ?_) (fun ho => g2 (fun hh => ho (okt.mpr hh))) (fun W hW => r2 11 W (by omega) (by omega) (fr 11 W (by omega) (hz0 W hW)))))
            · cases hx2 : nq with
              | false => rfl
              | true =>
                have := hae hx2
                exfalso
                rcases this with hh | hh | hh <;> omega
            · obtain ⟨x1, x2, x3, x4⟩ := hx (okt.mp ho)
              exact ⟨x1, by rw [x2, x3, x4]⟩
          refine pk_eq t 6 (fun q6 => opn (Or.inl q6)) (fun q6 => pk_eq t 8 (fun q8 => opn (Or.inr q8)) (fun q8 => pk_eq t 10 (fun q => by omega) (fun _ => ?_)))
          have e2 : pe n (t :: r) = ((k, A, wd_join n C I) :: fs, [[pe_at t]]) := by
            rw [eP]; unfold pe_step; simp only [if_neg q100, if_neg q10, if_neg (show ¬ (t = 7 ∨ t = 9) by omega), if_neg (show ¬ (t = 6 ∨ t = 8) by omega)]
          have ht5 : t ≤ 5 := by
            rcases hc with c | c | c | c | c
            · exact c
            · omega
            · omega
            · omega
            · obtain ⟨mn, mx, z, e, _⟩ := c.1; omega
          have hlE : (pe n (t :: r)).1.length - 1 = gs.length := by rw [e2]; exact hdd
          rw [hlE] at h
          have okw : wd_ok n [pe_at t] := by
            refine ⟨fun c hc => ?_, ?_⟩
            · rw [List.mem_singleton.mp hc]; unfold pe_at; split <;> omega
            · rw [wd_sz_cons, wd_sz_nil]; split <;> omega
          have fin : ∀ (li : Nat → Int64) (le : Nat → Int32), yl_L n li le 8 [[pe_at t]] → yl_K n 8 ya_lists ya_len li le → wY_evaluate_191 post J (nI gs.length) (nI r.length) (nI n) (nI bl) yf_patternCount yf_termCount yf_mode yf_skipVar yf_resPart yf_resRows yf_matchCount (nI b) ya_buffer ya_pattern ya_terms ya_cells ya_rowCount li le ya_matchStart ya_matchEntry ya_tried := by
            intro li le s1 s2
            refine ye_191 (nq := nq) hn (by omega) hi hbl hb hnq ⟨s2 _ _ (by omega) (by omega) lA, s2 _ _ (by omega) (by omega) lC, ye_Fk (fun kk EE hk hE => s2 kk EE (by omega) (by omega) hE) lF⟩ s1 (fun li4 le4 C2 b4 u1 u2 u3 u4 u5 => ?_)
            refine h li4 le4 b4 (ye_out e2 (okb := ye_ok n r false) okt hgl hb u1 u2 u3 u4 (fun ok => ?_) g2 (fun W hW => u5 W (s2 11 W (by omega) (by omega) (hz0 W hW))))
            obtain ⟨x1, x2, x3, x4⟩ := hx ok
            exact ⟨x1, x2, x3, rfl, x4⟩
          refine pk_le 4 t (fun q4 => pk_le 6 t (fun q => by omega) (fun _ => pk_eq t 4 (fun q44 => ?_) (fun q44 => ?_))) (fun q4 => ?_)
          · have ec : (1 : Int64) <<< ((32 : Int32).toInt64 &&& 63) = lN (cw [pe_at t]) := by rw [q44]; decide +kernel
            unfold wY_evaluate_145
            rw [ec]
            exact yl_one (K := 8) hn (by omega) okw hb fin
          · have q5 : t = 5 := by omega
            have ec : (1 : Int64) <<< ((40 : Int32).toInt64 &&& 63) = lN (cw [pe_at t]) := by rw [q5]; decide +kernel
            unfold wY_evaluate_145
            rw [ec]
            exact yl_one (K := 8) hn (by omega) okw hb fin
          · have ec : 1 + (256 * (nI t).toInt64) = lN (cw [pe_at t]) := by
              rw [ye_cr t q4, nI_l (by omega)]
              have e5 : (256 : Int64) * lN t = lN (256 * t) := lN_mul 256 t
              have e6 : (1 : Int64) + lN (256 * t) = lN (1 + 256 * t) := lN_add 1 _
              rw [e5, e6]
            rw [ec]
            exact yl_one (K := 8) hn (by omega) okw hb fin
end
end
section
/-! ===== the reference's evaluation, whole ===== -/
section
variable {yf_n yf_count yf_patternCount yf_termCount yf_mode yf_skipVar yf_resPart yf_resRows yf_matchCount yf_tooBig : Int32} {ya_buffer ya_pattern ya_terms ya_cells ya_rowCount ya_len ya_matchStart ya_tried : Nat → Int32} {ya_lists ya_matchEntry : Nat → Int64}
variable {post : SY → Prop} {n : Nat}
theorem ye_all {T : List Nat} {b : Nat} (hn2 : 2 ≤ n) (hn : n ≤ 6) (hV : tk_V n T) (hl : T.length ≤ 24) (hb : ∀ i, i < T.length → ya_buffer i = nI (T.getD (T.length - 1 - i) 0)) (hS : tk_S T = [])
    (h : ∀ (li : Nat → Int64) (le : Nat → Int32) (b : Nat), (pe_ok n T ∧ pe_fin n (pe n T) → b = 0 ∧ yl_L n li le 0 (pe_end n (pe n T))) → (¬ (pe_ok n T ∧ pe_fin n (pe n T)) → b = 1) → (∀ W, yl_L n ya_lists ya_len 11 W → yl_L n li le 11 W) → post (nI n, nI T.length, yf_patternCount, yf_termCount, yf_mode, yf_skipVar, yf_resPart, yf_resRows, yf_matchCount, nI b, ya_buffer, ya_pattern, ya_terms, ya_cells, ya_rowCount, li, le, ya_matchStart, ya_matchEntry, ya_tried)) :
    wpY_evaluate post (nI n, nI T.length, yf_patternCount, yf_termCount, yf_mode, yf_skipVar, yf_resPart, yf_resRows, yf_matchCount, yf_tooBig, ya_buffer, ya_pattern, ya_terms, ya_cells, ya_rowCount, ya_lists, ya_len, ya_matchStart, ya_matchEntry, ya_tried) := by
  refine nm_e ?_
  have l0 : yl_L n ya_lists (upd ya_len 0 0) 0 [] := ⟨Nat.zero_le _, (fun w hw => nomatch hw), pk_us, fun i hi => absurd hi (Nat.not_lt_zero _)⟩
  refine yl_one (K := 4) (b := 0) (w := []) hn (by omega) (wd_unit_ok [] (List.mem_singleton.mpr rfl)) (by omega) (fun li0 le0 r1 r2 => ?_)
  have L : ∀ d i, i + d = T.length → ∀ (li : Nat → Int64) (le : Nat → Int32) (b : Nat), ye_I n ya_lists ya_len (T.drop (T.length - i)) (decide (i < T.length ∧ 100 ≤ T.getD (T.length - 1 - i) 0)) li le b → wY_evaluate_22 post (d + 1) (nI ((pe n (T.drop (T.length - i))).1.length - 1)) (nI i) (nI n) (nI T.length) yf_patternCount yf_termCount yf_mode yf_skipVar yf_resPart yf_resRows yf_matchCount (nI b) ya_buffer ya_pattern ya_terms ya_cells ya_rowCount li le ya_matchStart ya_matchEntry ya_tried := by
    intro d
    induction d with
    | zero =>
      intro i hi li le b hI
      have : i = T.length := by omega
      subst this
      rw [Nat.sub_self, List.drop_zero] at hI ⊢
      have hdec : decide (T.length < T.length ∧ 100 ≤ T.getD (T.length - 1 - T.length) 0) = false := decide_eq_false (by omega)
      rw [hdec] at hI
      refine br_t (nI_le (Nat.le_refl _) (by omega)) ?_
      have hPL := pe_len hV
      rw [hS] at hPL
      obtain ⟨gs, E, hgl, hF, h8, hb2, g1, g2, hz0⟩ := hI
      cases hp : pe n T with
      | mk fs I =>
        rw [hp] at h hgl g1 hPL
        cases fs with
        | nil => exact absurd hPL.1 (by show ¬ 0 = 1; omega)
        | cons fr fs =>
          obtain ⟨k, A, C⟩ := fr
          have hfs : fs = [] := by
            have h3 : fs.length + 1 = 0 + 1 := hPL.1
            exact List.length_eq_zero_iff.mp (by omega)
          subst hfs
          cases gs with
          | nil => exact absurd hgl (by show ¬ 0 = 0 + 1; omega)
          | cons g gs =>
            obtain ⟨GA, GC⟩ := g
            have hgs : gs = [] := by
              have h3 : gs.length + 1 = 0 + 1 := hgl
              exact List.length_eq_zero_iff.mp (by omega)
            subst hgs
            obtain ⟨lA, lC, lF⟩ := hF
            have okE : ye_ok n T false ↔ pe_ok n T ∧ (wd_join n C I).length ≤ 64 := by
              unfold ye_ok
              rw [hp]
              exact ⟨fun hh => ⟨hh.1, hh.2 rfl⟩, fun hh => ⟨hh.1, fun _ => hh.2⟩⟩
            refine ye_endCat (d := 0) hn (by omega) hb2 lA lC (fun li2 le2 A2 b2 p1 p2 p3 p4 => ?_)
            refine h li2 le2 b2 (fun ho => ?_) (fun ho => ?_) (fun W hW => p4 11 W (by omega) (by omega) (by omega) (hz0 W hW))
            · obtain ⟨x1, x2, x3⟩ := g1 (okE.mpr ⟨ho.1, ho.2.1⟩)
              have x2' : [(GA, GC)] = [(A, wd_join n C I)] := x2
              obtain ⟨z1, z2⟩ := List.cons.inj x2'
              obtain ⟨z3, z4⟩ := Prod.mk.inj z1
              rw [z3, z4] at p3
              obtain ⟨y1, y2⟩ := p3.1 ho.2.2
              refine ⟨by omega, ?_⟩
              rw [y1] at p1
              exact p1
            · by_cases ho1 : ye_ok n T false
              · obtain ⟨x1, x2, x3⟩ := g1 ho1
                have x2' : [(GA, GC)] = [(A, wd_join n C I)] := x2
                obtain ⟨z1, z2⟩ := List.cons.inj x2'
                obtain ⟨z3, z4⟩ := Prod.mk.inj z1
                rw [z3, z4] at p3
                refine p3.2 ?_
                rcases Nat.lt_or_ge 64 (A ++ wd_join n C I).length with hh | hh
                · exact hh
                · have ho2 := okE.mp ho1
                  exact absurd ⟨ho2.1, ho2.2, hh⟩ ho
              · have hb1 := g2 ho1
                rw [hb1] at p3
                exact yl_C1 p3
    | succ d ih =>
      intro i hi li le b hI
      have hiT : i < T.length := by omega
      obtain ⟨t, e1, e2, e3⟩ := tk_next (T := T) (i := i) hiT
      have nx := ih (i + 1) (by omega)
      rw [e1] at nx
      have hV' := tk_V_drop (T.length - (i + 1)) hV
      rw [e1] at hV'
      have hbi := hb i hiT
      rw [e2] at hbi hI
      have hdec : decide (i < T.length ∧ 100 ≤ t) = decide (100 ≤ t) := by
        by_cases hq : 100 ≤ t
        · rw [decide_eq_true hq, decide_eq_true ⟨hiT, hq⟩]
        · rw [decide_eq_false hq, decide_eq_false (fun hh => hq hh.2)]
      rw [hdec] at hI
      refine br_f (nI_ge hiT (by omega)) ⟨vp_in_nI (by omega) (by omega), ?_⟩
      rw [nI_clamp (n := i) (by omega), hbi]
      refine nm_e ?_
      have ei : nI i = nI (T.drop (T.length - i)).length := by rw [e3]
      rw [ei]
      refine ye_tok (nq := decide (i + 1 < T.length ∧ 100 ≤ T.getD (T.length - 1 - (i + 1)) 0)) hn2 hn hV' (by omega) hl ?_ ?_ hI ?_
      · rw [e3, decide_eq_true_iff]
        constructor
        · intro hh
          refine ⟨hh.1, ?_⟩
          rw [hb (i + 1) hh.1]
          have ht := tk_tok hn hV (T.getD (T.length - 1 - (i + 1)) 0) (by
            rw [List.getD_eq_getElem?_getD, List.getElem?_eq_getElem (by omega : T.length - 1 - (i + 1) < T.length)]
            exact List.getElem_mem _)
          exact nI_le (a := 100) hh.2 (by omega)
        · intro hh
          refine ⟨hh.1, ?_⟩
          have h5 := hh.2
          rw [hb (i + 1) hh.1] at h5
          have ht := tk_tok hn hV (T.getD (T.length - 1 - (i + 1)) 0) (by
            rw [List.getD_eq_getElem?_getD, List.getElem?_eq_getElem (by omega : T.length - 1 - (i + 1) < T.length)]
            exact List.getElem_mem _)
          exact (nI_leI (a := 100) (by omega) (by omega)).mp h5
      · intro hh
        obtain ⟨hh1, hh2⟩ := of_decide_eq_true hh
        obtain ⟨t2, f1, f2, f3⟩ := tk_next (T := T) (i := i + 1) hh1
        have hV2 := tk_V_drop (T.length - (i + 1 + 1)) hV
        rw [f1, e1] at hV2
        rw [f2] at hh2
        have hc := hV2.1
        unfold tk_c at hc
        rcases hc with c | c | c | c | c
        · omega
        · omega
        · omega
        · omega
        · exact c.2
      · intro li2 le2 b2 hI2
        rw [e3]
        exact nx li2 le2 b2 hI2
  have e0 : T.drop (T.length - 0) = [] := by rw [Nat.sub_zero]; exact List.drop_length
  have h5 := L T.length 0 (by omega) li0 le0 0
  rw [e0] at h5
  refine ⟨T.length + 1, h5 ?_⟩
  have okn : ∀ nq, ye_ok n [] nq := fun nq => ⟨trivial, fun _ => by show (wd_join n [[]] [[]]).length ≤ 64; rw [ye_jj]; show 1 ≤ 64; omega⟩
  have hnq : decide (0 < T.length ∧ 100 ≤ T.getD (T.length - 1 - 0) 0) = false := by
    refine decide_eq_false (fun hh => ?_)
    obtain ⟨t2, f1, f2, f3⟩ := tk_next (T := T) (i := 0) hh.1
    have hV2 := tk_V_drop (T.length - (0 + 1)) hV
    rw [f1, e0] at hV2
    have hh2 := hh.2
    rw [f2] at hh2
    have hc := hV2.1
    unfold tk_c at hc
    rcases hc with c | c | c | c | c
    · omega
    · omega
    · omega
    · omega
    · exact c.2
  rw [hnq]
  refine ⟨[([], [[]])], [], rfl, ⟨r2 0 [] (by omega) (by omega) l0, r1, trivial⟩, fun hh => absurd hh (by decide), by omega, fun _ => ⟨rfl, ?_, fun hh => absurd hh (by decide)⟩, fun hh => absurd (okn false) hh, fun W hW => r2 11 W (by omega) (by omega) ⟨hW.1, hW.2.1, by rw [pk_un (by omega)]; exact hW.2.2.1, hW.2.2.2⟩⟩
  show [([], [[]])] = [([], wd_join n [[]] [[]])]
  rw [ye_jj]
end
end
section
/-! ===== the step bound: tables and predicates ===== -/
def po_CBl : List (List Nat) := [[0, 1, 20, 22, 60, 4065, 4393, 10625, 667445, 721237, 1743285, 109461765, 118283653, 285899525, 303543301, 638775045, 674062597, 1344526085, 1533900821, 2877598085, 3309036821, 6320286085, 6859308821, 13205662085, 14965424725], [0, 1, 20, 22, 60, 4065, 4393, 10625, 667445, 721237, 1743285, 1850869, 3894965, 4110133, 8198325, 9353049, 17546325, 20177049, 38538325, 41825049, 80522325, 91252585, 171186985, 196852585, 375986985], [0, 1, 20, 22, 60, 4065, 4393, 10625, 11281, 23745, 25057, 49985, 57026, 106985, 123026, 234985, 255026, 490985, 519026, 1002985, 1054185, 2026985, 2129385, 4074985, 4177385], [0, 1, 20, 22, 60, 64, 140, 148, 300, 316, 620, 652, 1260, 1324, 2540, 2604, 3820, 3884, 5100, 5164, 6380, 6444, 7660, 7724, 8940]]
def po_PBl : List (List Nat) := [[0, 0, 3, 23, 25, 65, 4099, 4458, 10690, 667510, 721302, 1743350, 109461830, 118283718, 285899590, 303543366, 638775110, 674062662, 1344526150, 1533900886, 2877598150, 3309036886, 6320286150, 6859308886, 13205662150], [0, 0, 3, 23, 25, 65, 4099, 4458, 10690, 667510, 721302, 1743350, 1850934, 3895030, 4110198, 8198390, 9353114, 17546390, 20177114, 38538390, 41825114, 80522390, 91252650, 171187050, 196852650], [0, 0, 3, 23, 25, 65, 4099, 4458, 10690, 11346, 23810, 25122, 50050, 57091, 107050, 123091, 235050, 255091, 491050, 519091, 1003050, 1054250, 2027050, 2129450, 4075050], [0, 0, 3, 23, 25, 65, 69, 149, 157, 317, 333, 653, 685, 1325, 1389, 2605, 2669, 3885, 3949, 5165, 5229, 6445, 6509, 7725, 7789]]
def po_ABl : List (List Nat) := [[0, 2, 21, 23, 61, 4066, 4394, 10626, 667446, 721238, 1743286, 109461766, 118283654, 285899526, 303543302, 638775046, 674062598, 1344526086, 1533900822, 2877598086, 3309036822, 6320286086, 6859308822, 13205662086, 14965424726], [0, 2, 21, 23, 61, 4066, 4394, 10626, 667446, 721238, 1743286, 1850870, 3894966, 4110134, 8198326, 9353050, 17546326, 20177050, 38538326, 41825050, 80522326, 91252586, 171186986, 196852586, 375986986], [0, 2, 21, 23, 61, 4066, 4394, 10626, 11282, 23746, 25058, 49986, 57027, 106986, 123027, 234986, 255027, 490986, 519027, 1002986, 1054186, 2026986, 2129386, 4074986, 4177386], [0, 2, 21, 23, 61, 65, 141, 149, 301, 317, 621, 653, 1261, 1325, 2541, 2605, 3821, 3885, 5101, 5165, 6381, 6445, 7661, 7725, 8941]]
def po_HPl : List (List Nat) := [[0, 0, 1, 2, 2, 4, 33, 64, 64, 64, 64, 64, 64, 64, 64, 64, 64, 64, 64, 64, 64, 64, 64, 64, 64], [0, 0, 1, 2, 2, 4, 33, 64, 64, 64, 64, 64, 64, 64, 64, 64, 64, 64, 64, 64, 64, 64, 64, 64, 64], [0, 0, 1, 2, 2, 4, 33, 64, 64, 64, 64, 64, 64, 64, 64, 64, 64, 64, 64, 64, 64, 64, 64, 64, 64], [0, 0, 1, 2, 2, 4, 4, 8, 8, 16, 16, 32, 32, 64, 64, 64, 64, 64, 64, 64, 64, 64, 64, 64, 64]]
def po_CB (v t : Nat) : Nat := (po_CBl.getD v []).getD t 0
def po_PB (v t : Nat) : Nat := (po_PBl.getD v []).getD t 0
def po_AB (v t : Nat) : Nat := (po_ABl.getD v []).getD t 0
def po_HP (v t : Nat) : Nat := (po_HPl.getD v []).getD t 0
def po_H (v t : Nat) : Nat := if v = 3 then (if t / 2 < 6 then 2 ^ (t / 2) else 64) else [1, 1, 2, 2, 4, 33].getD t 64
def po_F (h : Nat) : Nat := max (25 * h) (min (164 * h) 384)
def po_X (v h t : Nat) : Nat :=
  if t = 0 then 0 else if t = 1 then h else if t = 2 then 20 * h
  else if v = 3 then 0 else if t = 3 then h * po_AB (v + 1) 1 else if t = 4 then max (h * po_AB (v + 1) 2) (26 * h)
  else max (h * po_AB (v + 1) (t - 2)) (max (po_F h * (po_AB (v + 1) (t - 3) + 3) + h + 128) (127 * (po_AB (v + 1) (t - 3) + 2) + 64 * po_H (v + 1) (t - 3) + h + 128))
def po_SC (v t : Nat) : Nat := if v = 3 then t / 2 else if v = 2 then 4 * t else if v = 1 then 24 * t else 144 * t
def po_SA (v t : Nat) : Nat := if v = 3 then 2 * t / 3 else if v = 2 then 4 * t else if v = 1 then 24 * t else 144 * t
def po_U (E : List (List Nat)) : Nat := (E.map (fun w => 2 ^ (6 - wd_sz w))).sum
/-- what every list of t tokens has -/
def po_g (n t : Nat) (E : List (List Nat)) : Prop := pe_g n E ∧ (t ≤ 2 → wd_cn E 0 ≤ 1) ∧ (t = 1 → ∃ w, E = [w] ∧ wd_sz w ≤ 1) ∧ (t = 0 → E = [[]])
def po_C (n v t : Nat) (E : List (List Nat)) (k : Nat → Nat) (S : Nat) : Prop :=
  po_g n t E ∧ po_U E ≤ 64 * po_H v t ∧ S ≤ po_SC v t ∧ ∀ r, r ≤ n → k r ≤ 2 ^ r * po_CB v t
def po_A (n v t : Nat) (E : List (List Nat)) (k : Nat → Nat) (S : Nat) : Prop :=
  po_g n t E ∧ po_U E ≤ 64 * po_H v t ∧ S ≤ po_SA v t ∧ ∀ r, r ≤ n → k r ≤ 2 ^ r * po_AB v t
def po_P (n v t : Nat) (E : List (List Nat)) (k : Nat → Nat) (S : Nat) : Prop :=
  po_U E ≤ 64 * po_HP v t ∧ S ≤ po_SA v t ∧ (t = 0 → E = []) ∧ ∀ r, r ≤ n → k r ≤ 2 ^ r * po_PB v t
def po_I (n v t : Nat) (Q : List (List Nat)) (k : Nat → Nat) (S : Nat) : Prop :=
  po_g n t Q ∧ po_U Q ≤ 64 * po_H v t ∧ S ≤ po_SC v t ∧
  ∀ (P : List (List Nat)) (h : Nat), pe_g n P → po_U P ≤ 64 * h → 1 ≤ h → h ≤ 64 → (wd_join n P Q).length ≤ 64 → ∀ r, r ≤ n → bk_ks P k r ≤ 2 ^ r * po_X v h t
/-! the tables are closed -/
def po_ck (p : Nat → Nat → Nat → Bool) : Bool := (List.range 4).all (fun v => (List.range 25).all (fun a => (List.range 25).all (fun b => p v a b)))
theorem po_ckE {p : Nat → Nat → Nat → Bool} (h : po_ck p = true) {v a b : Nat} (hv : v < 4) (ha : a < 25) (hb : b < 25) : p v a b = true := by
  unfold po_ck at h
  have h1 := List.all_eq_true.mp h v (List.mem_range.mpr hv)
  have h2 := List.all_eq_true.mp h1 a (List.mem_range.mpr ha)
  exact List.all_eq_true.mp h2 b (List.mem_range.mpr hb)
theorem po_k1 : po_ck (fun v a b => decide (24 < a + b) || (decide (po_CB v a + po_X v (po_H v a) b ≤ po_CB v (a + b)) && decide (min 64 (po_H v a * po_H v b) ≤ po_H v (a + b)))) = true := by decide +kernel
theorem po_k2 : po_ck (fun v a b => decide (24 < a + b + 1) || decide (b = 0) || (decide (po_PB v a + 1 + po_CB v b + po_H v b ≤ po_PB v (a + b + 1)) && decide (min 64 (po_HP v a + po_H v b) ≤ po_HP v (a + b + 1)))) = true := by decide +kernel
theorem po_k3 : po_ck (fun v a b => decide (24 < a + b) || decide (b = 0) || decide (a = 1) || (decide (po_PB v a + po_CB v b + 1 ≤ po_AB v (a + b)) && decide (min 64 (po_HP v a + po_H v b) ≤ po_H v (a + b)))) = true := by decide +kernel
theorem po_k4 : po_ck (fun v a _ => decide (1 ≤ po_H v a) && decide (po_H v a ≤ 64) && (decide (v = 3) || decide (24 < a + 2) || decide (a = 0) || decide (po_H (v + 1) a ≤ po_H v (a + 2)))) = true := by decide +kernel
theorem po_k5 : po_ck (fun _ a _ => decide (64 * po_AB 0 a < 999999999999)) = true := by decide +kernel
theorem po_k6 : po_ck (fun v _ _ => decide (po_H v 0 = 1) && decide (po_H v 1 = 1) && decide (po_H v 2 = 2) && (decide (v = 3) || (decide (po_H v 4 = 4) && decide (po_H v 5 = 33) && decide (po_AB (v + 1) 1 = 2)))) = true := by decide +kernel
theorem po_k7 : po_ck (fun v a _ => decide (v = 3) || decide (a < 6) || decide (po_H v a = 64)) = true := by decide +kernel
theorem po_and {a b : Bool} (h : (a && b) = true) : a = true ∧ b = true := Bool.and_eq_true_iff.mp h
theorem po_or {a b : Bool} (h : (a || b) = true) (ha : a = false) : b = true := by rw [ha] at h; exact h
/-! weights -/
theorem po_U_cons (w : List Nat) (E : List (List Nat)) : po_U (w :: E) = 2 ^ (6 - wd_sz w) + po_U E := by unfold po_U; rw [List.map_cons, List.sum_cons]
theorem po_U_app (E F : List (List Nat)) : po_U (E ++ F) = po_U E + po_U F := by unfold po_U; rw [List.map_append, List.sum_append]
theorem po_U_le : ∀ E : List (List Nat), po_U E ≤ 64 * E.length := by
  intro E
  induction E with
  | nil => exact Nat.le_refl _
  | cons w E ih =>
    rw [po_U_cons, List.length_cons]
    have : 2 ^ (6 - wd_sz w) ≤ 2 ^ 6 := Nat.pow_le_pow_right (by omega) (by omega)
    omega
theorem po_ksw {k : Nat → Nat} {K r : Nat} (hr : r ≤ 6) (hk : ∀ q, q ≤ r → k q ≤ 2 ^ q * K) : ∀ P : List (List Nat), 64 * bk_ks P k r ≤ 2 ^ r * po_U P * K := by
  intro P
  induction P with
  | nil => exact Nat.zero_le _
  | cons w P ih =>
    have e : 2 ^ r * po_U (w :: P) * K = 2 ^ r * 2 ^ (6 - wd_sz w) * K + 2 ^ r * po_U P * K := by rw [po_U_cons, Nat.mul_add, Nat.add_mul]
    rw [e]
    unfold bk_ks at ih ⊢
    by_cases h : wd_sz w ≤ r
    · rw [List.filter_cons_of_pos (by exact decide_eq_true h), List.map_cons, List.sum_cons, Nat.mul_add]
      have h1 := hk (r - wd_sz w) (by omega)
      have h2 : 64 * 2 ^ (r - wd_sz w) = 2 ^ r * 2 ^ (6 - wd_sz w) := by
        have : (64 : Nat) = 2 ^ 6 := by decide
        rw [this, ← Nat.pow_add, ← Nat.pow_add]
        congr 1
        omega
      have h3 : 64 * k (r - wd_sz w) ≤ 2 ^ r * 2 ^ (6 - wd_sz w) * K := by
        rw [← h2, Nat.mul_assoc]
        exact Nat.mul_le_mul_left 64 h1
      omega
    · rw [List.filter_cons_of_neg (by rw [decide_eq_false h]; decide)]
      omega
theorem po_ksh {k : Nat → Nat} {K r h : Nat} {P : List (List Nat)} (hr : r ≤ 6) (hk : ∀ q, q ≤ r → k q ≤ 2 ^ q * K) (hU : po_U P ≤ 64 * h) : bk_ks P k r ≤ 2 ^ r * (h * K) := by
  have h1 := po_ksw hr hk P
  have h2 : 2 ^ r * po_U P * K ≤ 2 ^ r * (64 * h) * K := Nat.mul_le_mul_right K (Nat.mul_le_mul_left _ hU)
  have h3 : 2 ^ r * (64 * h) * K = 64 * (2 ^ r * (h * K)) := by
    rw [Nat.mul_left_comm, Nat.mul_assoc, Nat.mul_assoc]
  omega
theorem po_ct1 : ∀ (E : List (List Nat)) (r : Nat), bk_ct E r = bk_ks E (fun _ => 1) r := by
  intro E r
  unfold bk_ct bk_ks
  induction E.filter (fun w => decide (wd_sz w ≤ r)) with
  | nil => rfl
  | cons a l ih => rw [List.length_cons, List.map_cons, List.sum_cons, ih]; exact Nat.add_comm _ _
theorem po_ks0 (P : List (List Nat)) (r : Nat) : bk_ks P (fun _ => 0) r = 0 := by
  unfold bk_ks
  induction P.filter (fun w => decide (wd_sz w ≤ r)) with
  | nil => rfl
  | cons a l ih => rw [List.map_cons, List.sum_cons, ih]
theorem po_U_map (a : List Nat) (n : Nat) (hn : n ≤ 6) : ∀ Q : List (List Nat), (wd_sz a ≤ 6) → 64 * po_U ((Q.filter (fun b => decide (wd_sz a + wd_sz b ≤ n))).map (fun b => a ++ b)) ≤ 2 ^ (6 - wd_sz a) * po_U Q := by
  intro Q ha
  induction Q with
  | nil => exact Nat.zero_le _
  | cons b Q ih =>
    rw [po_U_cons, Nat.mul_add]
    by_cases h : wd_sz a + wd_sz b ≤ n
    · rw [List.filter_cons_of_pos (by exact decide_eq_true h), List.map_cons, po_U_cons, Nat.mul_add, wd_sz_app]
      have h2 : 64 * 2 ^ (6 - (wd_sz a + wd_sz b)) = 2 ^ (6 - wd_sz a) * 2 ^ (6 - wd_sz b) := by
        have : (64 : Nat) = 2 ^ 6 := by decide
        rw [this, ← Nat.pow_add, ← Nat.pow_add]
        congr 1
        omega
      omega
    · rw [List.filter_cons_of_neg (by rw [decide_eq_false h]; decide)]
      have : 0 ≤ 2 ^ (6 - wd_sz a) * 2 ^ (6 - wd_sz b) := Nat.zero_le _
      omega
theorem po_U_join (n : Nat) (hn : n ≤ 6) (Q : List (List Nat)) : ∀ P : List (List Nat), (∀ w, w ∈ P → wd_sz w ≤ 6) → 64 * po_U (wd_join n P Q) ≤ po_U P * po_U Q := by
  intro P
  induction P with
  | nil => intro _; exact Nat.zero_le _
  | cons a P ih =>
    intro h
    have e : wd_join n (a :: P) Q = (Q.filter (fun b => decide (wd_sz a + wd_sz b ≤ n))).map (fun b => a ++ b) ++ wd_join n P Q := by
      unfold wd_join; rw [List.flatMap_cons]
    rw [e, po_U_app, po_U_cons, Nat.add_mul, Nat.mul_add]
    have h1 := po_U_map a n hn Q (h a List.mem_cons_self)
    have h2 := ih (fun w hw => h w (List.mem_cons_of_mem _ hw))
    omega
theorem po_pow (r : Nat) : 1 ≤ 2 ^ r := Nat.pow_pos (by omega)
theorem po_lift {a b : Nat} (r : Nat) (h : a ≤ b) : 2 ^ r * a ≤ 2 ^ r * b := Nat.mul_le_mul_left _ h
/-! closure -/
theorem po_H0 {v : Nat} (hv : v < 4) : po_H v 0 = 1 ∧ po_H v 1 = 1 ∧ po_H v 2 = 2 := by
  have h := po_and (po_and (po_and (po_ckE po_k6 hv (show 0 < 25 by omega) (show 0 < 25 by omega))).1).1
  have h2 := (po_and (po_and (po_ckE po_k6 hv (show 0 < 25 by omega) (show 0 < 25 by omega))).1).2
  exact ⟨of_decide_eq_true h.1, of_decide_eq_true h.2, of_decide_eq_true h2⟩
theorem po_H1 {v t : Nat} (hv : v < 4) (ht : t ≤ 24) : 1 ≤ po_H v t ∧ po_H v t ≤ 64 := by
  have h := (po_and (po_ckE po_k4 hv (show t < 25 by omega) (show 0 < 25 by omega))).1
  exact ⟨of_decide_eq_true (po_and h).1, of_decide_eq_true (po_and h).2⟩
theorem po_atomI {n v c : Nat} (hn : 2 ≤ n) (hn6 : n ≤ 6) (hv : v < 4) (hc : c ≤ 9) : po_I n v 1 [[c]] (fun _ => 1) 0 := by
  have hz : wd_sz [c] ≤ 1 := by rw [wd_sz_cons, wd_sz_nil]; split <;> omega
  refine ⟨⟨⟨by show 1 ≤ 64; omega, fun w hw => ?_⟩, fun _ => ?_, fun _ => ⟨[c], rfl, hz⟩, fun h => absurd h (by omega)⟩, ?_, Nat.zero_le _, fun P h gP hU h1 h64 _ r hr => ?_⟩
  · rw [List.mem_singleton.mp hw]
    exact ⟨fun z hz => by rw [List.mem_singleton.mp hz]; exact hc, by omega⟩
  · exact List.length_filter_le _ _
  · rw [(po_H0 hv).2.1]; exact po_U_le [[c]]
  · have := po_ksh (K := 1) (P := P) (h := h) (k := fun _ => 1) (r := r) (by omega) (fun q _ => by have := po_pow q; omega) hU
    show bk_ks P (fun _ => 1) r ≤ 2 ^ r * h
    rw [Nat.mul_one] at this
    exact this
theorem po_unitI {n v : Nat} (hn6 : n ≤ 6) (hv : v < 4) : po_I n v 0 [[]] (fun _ => 0) 0 := by
  refine ⟨⟨pe_g1, fun _ => List.length_filter_le _ _, fun h => absurd h (by omega), fun _ => rfl⟩, by rw [(po_H0 hv).1]; exact po_U_le [[]], Nat.zero_le _, fun P h gP hU h1 h64 _ r hr => ?_⟩
  rw [po_ks0]; exact Nat.zero_le _
theorem po_unitC {n v : Nat} (hn6 : n ≤ 6) (hv : v < 4) : po_C n v 0 [[]] (fun _ => 0) 0 :=
  ⟨⟨pe_g1, fun _ => List.length_filter_le _ _, fun h => absurd h (by omega), fun _ => rfl⟩, by rw [(po_H0 hv).1]; exact po_U_le [[]], Nat.zero_le _, fun r hr => Nat.zero_le _⟩
theorem po_cat {n v t1 t2 : Nat} {P Q : List (List Nat)} {k1 k2 : Nat → Nat} {S1 S2 : Nat} (hn6 : n ≤ 6) (hv : v < 4) (ht : t1 + t2 ≤ 24) (h1 : po_C n v t1 P k1 S1) (h2 : po_I n v t2 Q k2 S2) (h64 : (wd_join n P Q).length ≤ 64) : po_C n v (t1 + t2) (wd_join n P Q) (fun r => k1 r + bk_ks P k2 r) (S1 + S2) := by
  obtain ⟨⟨gP, zP, oP, uP⟩, UP, SP, kP⟩ := h1
  obtain ⟨⟨gQ, zQ, oQ, uQ⟩, UQ, SQ, kQ⟩ := h2
  have ck := po_or (po_ckE po_k1 hv (show t1 < 25 by omega) (show t2 < 25 by omega)) (decide_eq_false (by omega))
  have c1 := of_decide_eq_true (po_and ck).1
  have c2 := of_decide_eq_true (po_and ck).2
  have hH := po_H1 hv (show t1 ≤ 24 by omega)
  refine ⟨⟨⟨h64, wd_join_ok gP.2 gQ.2⟩, fun h => ?_, fun h => ?_, fun h => ?_⟩, ?_, ?_, fun r hr => ?_⟩
  · have e : wd_cn (wd_join n P Q) 0 = wd_cn P 0 * wd_cn Q 0 := by
      rw [wd_cn_join n 0 (Nat.zero_le _)]
      show 0 + wd_cn P 0 * wd_cn Q (0 - 0) = _
      rw [Nat.zero_add]
    have a1 := zP (by omega)
    have a2 := zQ (by omega)
    rw [e]
    calc wd_cn P 0 * wd_cn Q 0 ≤ 1 * 1 := Nat.mul_le_mul a1 a2
      _ = 1 := rfl
  · rcases Nat.eq_zero_or_pos t1 with q | q
    · obtain ⟨w, hw, hs⟩ := oQ (by omega)
      refine ⟨w, ?_, hs⟩
      rw [uP q, hw]
      have hwn : wd_sz w ≤ n := (gQ.2 w (by rw [hw]; exact List.mem_singleton.mpr rfl)).2
      unfold wd_join
      rw [List.flatMap_cons, List.flatMap_nil, List.append_nil, List.filter_cons_of_pos (by exact decide_eq_true (by rw [wd_sz_nil]; omega))]
      rfl
    · obtain ⟨w, hw, hs⟩ := oP (by omega)
      refine ⟨w, ?_, hs⟩
      rw [uQ (by omega), hw]
      have hwn : wd_sz w ≤ n := (gP.2 w (by rw [hw]; exact List.mem_singleton.mpr rfl)).2
      unfold wd_join
      rw [List.flatMap_cons, List.flatMap_nil, List.append_nil, List.filter_cons_of_pos (by exact decide_eq_true (by rw [wd_sz_nil]; omega))]
      show [w ++ []] = [w]
      rw [List.append_nil]
  · rw [uP (by omega), uQ (by omega)]
    unfold wd_join
    rw [List.flatMap_cons, List.flatMap_nil, List.append_nil, List.filter_cons_of_pos (by exact decide_eq_true (by rw [wd_sz_nil]; omega))]
    rfl
  · have a1 := po_U_join n hn6 Q P (fun w hw => by have := (gP.2 w hw).2; omega)
    have a2 : po_U P * po_U Q ≤ (64 * po_H v t1) * (64 * po_H v t2) := Nat.mul_le_mul UP UQ
    have a3 : (64 * po_H v t1) * (64 * po_H v t2) = 64 * (64 * (po_H v t1 * po_H v t2)) := by
      rw [Nat.mul_assoc, Nat.mul_left_comm (po_H v t1)]
    have a4 := po_U_le (wd_join n P Q)
    have a5 : po_U (wd_join n P Q) ≤ 64 * min 64 (po_H v t1 * po_H v t2) := by
      rcases Nat.le_total 64 (po_H v t1 * po_H v t2) with q | q
      · rw [Nat.min_eq_left q]; omega
      · rw [Nat.min_eq_right q]; omega
    omega
  · unfold po_SC at SP SQ ⊢
    split at SP
    · rename_i hv3; rw [if_pos hv3] at SQ ⊢; omega
    · rename_i hv3
      rw [if_neg hv3] at SQ ⊢
      split at SP
      · rename_i hv2; rw [if_pos hv2] at SQ ⊢; omega
      · rename_i hv2
        rw [if_neg hv2] at SQ ⊢
        split at SP
        · rename_i hv1; rw [if_pos hv1] at SQ ⊢; omega
        · rename_i hv1; rw [if_neg hv1] at SQ ⊢; omega
  · have b1 := kP r hr
    have b2 := kQ P (po_H v t1) gP UP hH.1 hH.2 h64 r hr
    have b3 := po_lift r c1
    rw [Nat.mul_add] at b3
    show k1 r + bk_ks P k2 r ≤ _
    omega
theorem po_P0 {n v : Nat} : po_P n v 0 [] (fun _ => 0) 0 := ⟨Nat.zero_le _, Nat.zero_le _, fun _ => rfl, fun r hr => Nat.zero_le _⟩
theorem po_bar {n v t1 t2 : Nat} {F E : List (List Nat)} {k k1 : Nat → Nat} {S S1 : Nat} (hn6 : n ≤ 6) (hv : v < 4) (ht : t1 + t2 + 1 ≤ 24) (ht2 : 1 ≤ t2) (h1 : po_P n v t1 F k S) (h2 : po_C n v t2 E k1 S1) (h64 : (F ++ E).length ≤ 64) : po_P n v (t1 + t2 + 1) (F ++ E) (fun r => k r + (1 + k1 r + bk_ct E r)) (S + (1 + S1)) := by
  obtain ⟨UF, SF, eF, kF⟩ := h1
  obtain ⟨⟨gE, zE, oE, uE⟩, UE, SE, kE⟩ := h2
  have ck := po_or (po_ckE po_k2 hv (show t1 < 25 by omega) (show t2 < 25 by omega)) (by rw [decide_eq_false (show ¬ 24 < t1 + t2 + 1 by omega), decide_eq_false (show ¬ t2 = 0 by omega)]; rfl)
  have c1 := of_decide_eq_true (po_and ck).1
  have c2 := of_decide_eq_true (po_and ck).2
  refine ⟨?_, ?_, fun h => absurd h (by omega), fun r hr => ?_⟩
  · have a4 := po_U_le (F ++ E)
    have a5 : po_U (F ++ E) ≤ 64 * min 64 (po_HP v t1 + po_H v t2) := by
      rcases Nat.le_total 64 (po_HP v t1 + po_H v t2) with q | q
      · rw [Nat.min_eq_left q]; omega
      · rw [Nat.min_eq_right q, po_U_app]; omega
    omega
  · unfold po_SC at SE
    unfold po_SA at SF ⊢
    split at SF
    · rename_i hv3; rw [if_pos hv3] at SE ⊢; omega
    · rename_i hv3
      rw [if_neg hv3] at SE ⊢
      split at SF
      · rename_i hv2; rw [if_pos hv2] at SE ⊢; omega
      · rename_i hv2
        rw [if_neg hv2] at SE ⊢
        split at SF
        · rename_i hv1; rw [if_pos hv1] at SE ⊢; omega
        · rename_i hv1; rw [if_neg hv1] at SE ⊢; omega
  · have b1 := kF r hr
    have b2 := kE r hr
    have b3 := po_lift r c1
    rw [Nat.mul_add, Nat.mul_add, Nat.mul_add] at b3
    have b4 := po_ksh (K := 1) (P := E) (h := po_H v t2) (k := fun _ => 1) (r := r) (by omega) (fun q _ => by have := po_pow q; omega) UE
    rw [Nat.mul_one] at b4
    have b5 := po_pow r
    show k r + (1 + k1 r + bk_ct E r) ≤ _
    rw [po_ct1]
    omega
theorem po_end {n v t1 t2 : Nat} {F E : List (List Nat)} {k k1 : Nat → Nat} {S S1 : Nat} (hn6 : n ≤ 6) (hv : v < 4) (ht : t1 + t2 ≤ 24) (ht2 : 1 ≤ t2) (ht1 : t1 ≠ 1) (h1 : po_P n v t1 F k S) (h2 : po_C n v t2 E k1 S1) (h64 : (F ++ E).length ≤ 64) (hok : ∀ w, w ∈ F ++ E → wd_ok n w) : po_A n v (t1 + t2) (F ++ E) (fun r => k r + (k1 r + 1)) (S + S1) := by
  obtain ⟨UF, SF, eF, kF⟩ := h1
  obtain ⟨⟨gE, zE, oE, uE⟩, UE, SE, kE⟩ := h2
  have ck := po_or (po_ckE po_k3 hv (show t1 < 25 by omega) (show t2 < 25 by omega)) (by rw [decide_eq_false (show ¬ 24 < t1 + t2 by omega), decide_eq_false (show ¬ t2 = 0 by omega), decide_eq_false ht1]; rfl)
  have c1 := of_decide_eq_true (po_and ck).1
  have c2 := of_decide_eq_true (po_and ck).2
  refine ⟨⟨⟨h64, hok⟩, fun h => ?_, fun h => ?_, fun h => absurd h (by omega)⟩, ?_, ?_, fun r hr => ?_⟩
  · have e1 : t1 = 0 := by clear oE uE zE; omega
    have e2 : t2 ≤ 2 := by clear oE uE zE; omega
    rw [eF e1]; exact zE e2
  · have e1 : t1 = 0 := by clear oE uE zE; omega
    have e2 : t2 = 1 := by clear oE uE zE; omega
    rw [eF e1]; exact oE e2
  · have a4 := po_U_le (F ++ E)
    have a5 : po_U (F ++ E) ≤ 64 * min 64 (po_HP v t1 + po_H v t2) := by
      rcases Nat.le_total 64 (po_HP v t1 + po_H v t2) with q | q
      · rw [Nat.min_eq_left q]; omega
      · rw [Nat.min_eq_right q, po_U_app]; omega
    omega
  · unfold po_SC at SE
    unfold po_SA at SF ⊢
    split at SF
    · rename_i hv3; rw [if_pos hv3] at SE ⊢; omega
    · rename_i hv3
      rw [if_neg hv3] at SE ⊢
      split at SF
      · rename_i hv2; rw [if_pos hv2] at SE ⊢; omega
      · rename_i hv2
        rw [if_neg hv2] at SE ⊢
        split at SF
        · rename_i hv1; rw [if_pos hv1] at SE ⊢; omega
        · rename_i hv1; rw [if_neg hv1] at SE ⊢; omega
  · have b1 := kF r hr
    have b2 := kE r hr
    have b3 := po_lift r c1
    rw [Nat.mul_add, Nat.mul_add] at b3
    have b5 := po_pow r
    show k r + (k1 r + 1) ≤ _
    omega
theorem po_group {n v t : Nat} {E : List (List Nat)} {k : Nat → Nat} {S : Nat} (hn6 : n ≤ 6) (hv : v < 3) (ht : t + 2 ≤ 24) (ht1 : 1 ≤ t) (h : po_A n (v + 1) t E k S) : po_I n v (t + 2) E k S := by
  obtain ⟨⟨gE, zE, oE, uE⟩, UE, SE, kE⟩ := h
  have ck := (po_and (po_ckE po_k4 (show v < 4 by omega) (show t < 25 by omega) (show 0 < 25 by omega))).2
  have c1 := of_decide_eq_true (po_or ck (by rw [decide_eq_false (show ¬ v = 3 by omega), decide_eq_false (show ¬ 24 < t + 2 by omega), decide_eq_false (show ¬ t = 0 by omega)]; rfl))
  refine ⟨⟨gE, fun h => absurd h (by omega), fun h => absurd h (by omega), fun h => absurd h (by omega)⟩, by omega, ?_, fun P h gP hU h1 h64 _ r hr => ?_⟩
  · unfold po_SA at SE
    unfold po_SC
    rw [if_neg (show ¬ v = 3 by omega)]
    rcases (show v = 0 ∨ v = 1 ∨ v = 2 by omega) with q | q | q
    · subst q
      rw [if_neg (by omega), if_neg (by omega)]
      rw [if_neg (by omega), if_neg (by omega), if_pos rfl] at SE
      omega
    · subst q
      rw [if_neg (by omega), if_pos rfl]
      rw [if_neg (by omega), if_pos rfl] at SE
      omega
    · subst q
      rw [if_pos rfl]
      rw [if_pos rfl] at SE
      omega
  · have b1 := po_ksh (K := po_AB (v + 1) t) (P := P) (h := h) (k := k) (r := r) (by omega) (fun q hq => kE q (by omega)) hU
    refine Nat.le_trans b1 (po_lift r ?_)
    unfold po_X
    rw [if_neg (by omega), if_neg (by omega), if_neg (by omega), if_neg (by omega)]
    by_cases q1 : t = 1
    · subst q1; rw [if_pos rfl]; exact Nat.le_refl _
    · rw [if_neg (by omega)]
      by_cases q2 : t = 2
      · subst q2; rw [if_pos rfl]; exact Nat.le_max_left _ _
      · rw [if_neg (by omega), show t + 2 - 2 = t by omega]; exact Nat.le_max_left _ _
theorem po_fin {n t : Nat} {E : List (List Nat)} {k : Nat → Nat} {S : Nat} (hn6 : n ≤ 6) (ht : t ≤ 24) (h : po_A n 0 t E k S) : S + 4 * 6 ≤ 4096 ∧ ∀ r, r ≤ n → k r < 999999999999 := by
  obtain ⟨g, UE, SE, kE⟩ := h
  have c := of_decide_eq_true (po_ckE po_k5 (show 0 < 4 by omega) (show t < 25 by omega) (show 0 < 25 by omega))
  refine ⟨?_, fun r hr => ?_⟩
  · unfold po_SA at SE
    rw [if_neg (by omega), if_neg (by omega), if_neg (by omega)] at SE
    omega
  · have h1 := kE r hr
    have h2 : 2 ^ r ≤ 2 ^ 6 := Nat.pow_le_pow_right (by omega) (by omega)
    have h3 : 2 ^ r * po_AB 0 t ≤ 64 * po_AB 0 t := Nat.mul_le_mul_right _ h2
    omega
end
section
/-! ===== the step bound: the loops ===== -/
theorem po_ks_nil (f : Nat → Nat) (r : Nat) : bk_ks [] f r = 0 := rfl
theorem po_ks_cons (w : List Nat) (P : List (List Nat)) (f : Nat → Nat) (r : Nat) : bk_ks (w :: P) f r = (if wd_sz w ≤ r then f (r - wd_sz w) else 0) + bk_ks P f r := by
  unfold bk_ks
  by_cases h : wd_sz w ≤ r
  · rw [List.filter_cons_of_pos (by exact decide_eq_true h), List.map_cons, List.sum_cons, if_pos h]
  · rw [List.filter_cons_of_neg (by rw [decide_eq_false h]; decide), if_neg h, Nat.zero_add]
theorem po_ks_app (P Q : List (List Nat)) (f : Nat → Nat) (r : Nat) : bk_ks (P ++ Q) f r = bk_ks P f r + bk_ks Q f r := by
  unfold bk_ks; rw [List.filter_append, List.map_append, List.sum_append]
theorem po_ks_unit (f : Nat → Nat) (r : Nat) : bk_ks [[]] f r = f r := by
  rw [po_ks_cons, po_ks_nil, wd_sz_nil, if_pos (Nat.zero_le _)]; rfl
theorem po_ks_mono {f g : Nat → Nat} {r : Nat} (h : ∀ q, q ≤ r → f q ≤ g q) : ∀ P : List (List Nat), bk_ks P f r ≤ bk_ks P g r := by
  intro P
  induction P with
  | nil => exact Nat.le_refl _
  | cons w P ih =>
    rw [po_ks_cons, po_ks_cons]
    by_cases hw : wd_sz w ≤ r
    · rw [if_pos hw, if_pos hw]
      have := h (r - wd_sz w) (by omega)
      omega
    · rw [if_neg hw, if_neg hw]; omega
theorem po_ks_ext {f g : Nat → Nat} {r : Nat} (h : ∀ q, q ≤ r → f q = g q) (P : List (List Nat)) : bk_ks P f r = bk_ks P g r :=
  Nat.le_antisymm (po_ks_mono (fun q hq => Nat.le_of_eq (h q hq)) P) (po_ks_mono (fun q hq => Nat.le_of_eq (h q hq).symm) P)
theorem po_ks_add (f g : Nat → Nat) (r : Nat) : ∀ P : List (List Nat), bk_ks P (fun q => f q + g q) r = bk_ks P f r + bk_ks P g r := by
  intro P
  induction P with
  | nil => rfl
  | cons w P ih =>
    rw [po_ks_cons, po_ks_cons, po_ks_cons, ih]
    by_cases hw : wd_sz w ≤ r
    · rw [if_pos hw, if_pos hw, if_pos hw]; omega
    · rw [if_neg hw, if_neg hw, if_neg hw]; omega
theorem po_ks_mul (z : Nat) (f : Nat → Nat) (r : Nat) : ∀ P : List (List Nat), bk_ks P (fun q => z * f q) r = z * bk_ks P f r := by
  intro P
  induction P with
  | nil => rfl
  | cons w P ih =>
    rw [po_ks_cons, po_ks_cons, ih, Nat.mul_add]
    by_cases hw : wd_sz w ≤ r
    · rw [if_pos hw, if_pos hw]
    · rw [if_neg hw, if_neg hw, Nat.mul_zero]
theorem po_ks_le {f : Nat → Nat} {r c : Nat} (h : ∀ q, q ≤ r → f q ≤ c) : ∀ P : List (List Nat), bk_ks P f r ≤ c * P.length := by
  intro P
  induction P with
  | nil => exact Nat.zero_le _
  | cons w P ih =>
    rw [po_ks_cons, List.length_cons, Nat.mul_add, Nat.mul_one]
    by_cases hw : wd_sz w ≤ r
    · rw [if_pos hw]
      have := h (r - wd_sz w) (by omega)
      omega
    · rw [if_neg hw]; omega
theorem po_ks_map (a : List Nat) (n r : Nat) (f : Nat → Nat) (hr : r ≤ n) : ∀ Q : List (List Nat), bk_ks ((Q.filter (fun b => decide (wd_sz a + wd_sz b ≤ n))).map (fun b => a ++ b)) f r = if wd_sz a ≤ r then bk_ks Q f (r - wd_sz a) else 0 := by
  intro Q
  induction Q with
  | nil => rw [List.filter_nil, List.map_nil, po_ks_nil, po_ks_nil]; split <;> rfl
  | cons b Q ih =>
    by_cases h : wd_sz a + wd_sz b ≤ n
    · rw [List.filter_cons_of_pos (by exact decide_eq_true h), List.map_cons, po_ks_cons, ih, po_ks_cons, wd_sz_app]
      by_cases h1 : wd_sz a ≤ r
      · rw [if_pos h1, if_pos h1]
        by_cases h2 : wd_sz a + wd_sz b ≤ r
        · rw [if_pos h2, if_pos (by omega), Nat.sub_add_eq]
        · rw [if_neg h2, if_neg (by omega)]
      · rw [if_neg h1, if_neg h1, if_neg (by omega)]
    · rw [List.filter_cons_of_neg (by rw [decide_eq_false h]; decide), ih, po_ks_cons]
      by_cases h1 : wd_sz a ≤ r
      · rw [if_pos h1, if_pos h1, if_neg (by omega), Nat.zero_add]
      · rw [if_neg h1, if_neg h1]
theorem po_ks_join {n r : Nat} (hr : r ≤ n) (f : Nat → Nat) (Q : List (List Nat)) : ∀ P : List (List Nat), bk_ks (wd_join n P Q) f r = bk_ks P (fun q => bk_ks Q f q) r := by
  intro P
  induction P with
  | nil => rfl
  | cons a P ih =>
    have e : wd_join n (a :: P) Q = (Q.filter (fun b => decide (wd_sz a + wd_sz b ≤ n))).map (fun b => a ++ b) ++ wd_join n P Q := by
      unfold wd_join; rw [List.flatMap_cons]
    rw [e, po_ks_app, ih, po_ks_map a n r f hr, po_ks_cons]
theorem po_ks_rows (f : Nat → Nat) (r : Nat) : ∀ B : List (List Nat), bk_ks B f r = bk_ks (wd_rows B) f r + wd_cn B 0 * f r := by
  intro B
  induction B with
  | nil => rw [wd_cn_nil, Nat.zero_mul]; rfl
  | cons w B ih =>
    rw [po_ks_cons, wd_cn_cons, Nat.add_mul, ih]
    unfold wd_rows
    by_cases h : wd_sz w = 0
    · rw [List.filter_cons_of_neg (by rw [decide_eq_false (show ¬ 0 < wd_sz w by omega)]; decide), if_pos (by omega), if_pos h, h]
      show f r + _ = _
      omega
    · rw [List.filter_cons_of_pos (by exact decide_eq_true (show 0 < wd_sz w by omega)), po_ks_cons, if_neg h]
      omega
theorem po_ks_len {n : Nat} : ∀ {P : List (List Nat)}, (∀ w, w ∈ P → wd_ok n w) → bk_ks P (fun _ => 1) n = P.length := by
  intro P
  induction P with
  | nil => intro _; rfl
  | cons w P ih =>
    intro h
    rw [po_ks_cons, ih (fun x hx => h x (List.mem_cons_of_mem _ hx)), if_pos (h w List.mem_cons_self).2, List.length_cons, Nat.add_comm]
theorem po_ct_le (P : List (List Nat)) (r : Nat) : bk_ks P (fun _ => 1) r ≤ P.length := by
  have := po_ks_le (f := fun _ => 1) (r := r) (c := 1) (fun q _ => Nat.le_refl _) P
  omega
/-! weights by counts -/
theorem po_U_cn : ∀ E : List (List Nat), po_U E = E.length + 63 * wd_cn E 0 + 31 * wd_cn E 1 + 15 * wd_cn E 2 + 7 * wd_cn E 3 + 3 * wd_cn E 4 + wd_cn E 5 ∧ wd_cn E 0 + wd_cn E 1 + wd_cn E 2 + wd_cn E 3 + wd_cn E 4 + wd_cn E 5 ≤ E.length := by
  intro E
  induction E with
  | nil => exact ⟨rfl, Nat.le_refl _⟩
  | cons w E ih =>
    obtain ⟨i1, i2⟩ := ih
    rw [po_U_cons, List.length_cons, wd_cn_cons, wd_cn_cons, wd_cn_cons, wd_cn_cons, wd_cn_cons, wd_cn_cons]
    rcases (show wd_sz w = 0 ∨ wd_sz w = 1 ∨ wd_sz w = 2 ∨ wd_sz w = 3 ∨ wd_sz w = 4 ∨ wd_sz w = 5 ∨ 6 ≤ wd_sz w by omega) with q | q | q | q | q | q | q
    · rw [q]; exact ⟨by show 64 + _ = _ ; simp; omega, by simp; omega⟩
    · rw [q]; exact ⟨by show 32 + _ = _ ; simp; omega, by simp; omega⟩
    · rw [q]; exact ⟨by show 16 + _ = _ ; simp; omega, by simp; omega⟩
    · rw [q]; exact ⟨by show 8 + _ = _ ; simp; omega, by simp; omega⟩
    · rw [q]; exact ⟨by show 4 + _ = _ ; simp; omega, by simp; omega⟩
    · rw [q]; exact ⟨by show 2 + _ = _ ; simp; omega, by simp; omega⟩
    · rw [show 6 - wd_sz w = 0 by omega, if_neg (by omega), if_neg (by omega), if_neg (by omega), if_neg (by omega), if_neg (by omega), if_neg (by omega)]
      exact ⟨by show 1 + _ = _; omega, by omega⟩
/-! one word under the loop -/
theorem po_R_one {n m M : Nat} {lz : Bool} {w : List Nat} (hw : wd_sz w ≤ 1) : ∀ d s, s ≤ n → wd_cn (wd_R n m M lz [w] d) s ≤ 1 := by
  intro d
  induction d with
  | zero => intro s _; exact List.length_filter_le _ _
  | succ d ih =>
    intro s hs
    have j1 : wd_cn (wd_join n [w] (wd_R n m M lz [w] d)) s ≤ 1 ∧ (1 ≤ wd_sz w → s = 0 → wd_cn (wd_join n [w] (wd_R n m M lz [w] d)) s = 0) := by
      have e : wd_cn (wd_join n [w] (wd_R n m M lz [w] d)) s = if wd_sz w < s + 1 then wd_cn (wd_R n m M lz [w] d) (s - wd_sz w) else 0 := by
        rw [wd_cn_join n s hs, ← cn_one (wd_sz w) (fun i => wd_cn (wd_R n m M lz [w] d) (s - i))]
        apply cn_ext
        intro i _
        rw [wd_cn_cons, wd_cn_nil, Nat.add_zero]
      rw [e]
      refine ⟨?_, fun h1 h2 => by rw [if_neg (by omega)]⟩
      by_cases h : wd_sz w < s + 1
      · rw [if_pos h]; exact ih _ (by omega)
      · rw [if_neg h]; omega
    have j2 : wd_cn (wd_join n (wd_rows [w]) (wd_R n m M lz [w] d)) s + wd_cn [[]] s ≤ 1 := by
      have u : wd_cn [[]] s ≤ 1 := List.length_filter_le _ _
      by_cases h0 : wd_sz w = 0
      · have : wd_rows [w] = [] := by unfold wd_rows; rw [List.filter_cons_of_neg (by rw [decide_eq_false (show ¬ 0 < wd_sz w by omega)]; decide)]; rfl
        rw [this]
        show wd_cn [] s + _ ≤ 1
        rw [wd_cn_nil]; omega
      · have : wd_rows [w] = [w] := by unfold wd_rows; rw [List.filter_cons_of_pos (by exact decide_eq_true (show 0 < wd_sz w by omega))]; rfl
        rw [this]
        by_cases hs0 : s = 0
        · rw [j1.2 (by omega) hs0]; omega
        · rw [wd_cn_unit, if_neg hs0]; exact j1.1
    rw [wd_R]
    split
    · exact j1.1
    · split
      · rw [wd_cn_cons, wd_sz_nil]
        rw [wd_cn_unit] at j2
        by_cases hs0 : s = 0
        · rw [if_pos hs0] at j2; rw [if_pos hs0.symm]; omega
        · rw [if_neg hs0] at j2; rw [if_neg (fun e => hs0 e.symm)]; omega
      · rw [wd_cn_app]; exact j2
theorem po_cn_le {f : Nat → Nat} : ∀ {m : Nat}, (∀ i, i < m → f i ≤ 1) → cn_s f m ≤ m := by
  intro m
  induction m with
  | zero => intro _; exact Nat.le_refl _
  | succ m ih => intro h; rw [cn_s]; have := ih (fun i hi => h i (by omega)); have := h m (by omega); omega
theorem po_cn_gt {n : Nat} {E : List (List Nat)} (h : ∀ w, w ∈ E → wd_ok n w) {s : Nat} (hs : n < s) : wd_cn E s = 0 := by
  unfold wd_cn
  rw [List.filter_eq_nil_iff.mpr]
  · rfl
  · intro w hw h2
    have := (h w hw).2
    have := of_decide_eq_true h2
    omega
theorem po_R_one2 {n m M : Nat} {lz : Bool} {w : List Nat} (hn6 : n ≤ 6) (hok : wd_ok n w) (hw : wd_sz w ≤ 1) (d : Nat) : (wd_R n m M lz [w] d).length ≤ 7 ∧ po_U (wd_R n m M lz [w] d) ≤ 127 ∧ wd_cn (wd_R n m M lz [w] d) 0 ≤ 1 := by
  have ok : ∀ x, x ∈ wd_R n m M lz [w] d → wd_ok n x := wd_R_ok (fun x hx => by rw [List.mem_singleton.mp hx]; exact hok) d
  have h1 := po_R_one (n := n) (m := m) (M := M) (lz := lz) hw d
  have h2 := wd_cn_sum n (wd_R n m M lz [w] d) (fun x hx => (ok x hx).2)
  have h3 : cn_s (wd_cn (wd_R n m M lz [w] d)) (n + 1) ≤ n + 1 := po_cn_le (fun i hi => h1 i (by omega))
  have h4 := po_U_cn (wd_R n m M lz [w] d)
  have h5 : ∀ s, wd_cn (wd_R n m M lz [w] d) s ≤ 1 := by
    intro s
    by_cases q : s ≤ n
    · exact h1 s q
    · rw [po_cn_gt ok (by omega)]; omega
  have a0 := h5 0
  have a1 := h5 1
  have a2 := h5 2
  have a3 := h5 3
  have a4 := h5 4
  have a5 := h5 5
  omega
theorem po_ks1 (w : List Nat) (f : Nat → Nat) (r : Nat) : bk_ks [w] f r = if wd_sz w ≤ r then f (r - wd_sz w) else 0 := by
  rw [po_ks_cons, po_ks_nil, Nat.add_zero]
theorem po_rows_ks (B : List (List Nat)) (f : Nat → Nat) (r : Nat) : bk_ks (wd_rows B) f r ≤ bk_ks B f r := by
  rw [po_ks_rows f r B]; omega
theorem po_L1 {n m M c : Nat} {w : List Nat} {k : Nat → Nat} (hk : ∀ r, r ≤ n → k r ≤ 2 ^ r * c) : ∀ d r, r ≤ n → bk_L [w] k m M d r ≤ 2 ^ r * (1 + (c + 2) * d) := by
  intro d
  induction d with
  | zero => intro r _; rw [bk_L]; have := po_pow r; rw [Nat.mul_zero, Nat.add_zero, Nat.mul_one]; exact this
  | succ d ih =>
    intro r hr
    have e : 2 ^ r * (1 + (c + 2) * (d + 1)) = 2 ^ r * c + 2 ^ r + 2 ^ r + 2 ^ r * (1 + (c + 2) * d) := by
      rw [show 1 + (c + 2) * (d + 1) = c + 1 + 1 + (1 + (c + 2) * d) by rw [Nat.mul_add, Nat.mul_one]; omega, Nat.mul_add, Nat.mul_add, Nat.mul_add, Nat.mul_one]
    have h1 := hk r hr
    have h2 := po_pow r
    have h3 : bk_ks [w] (bk_L [w] k m M d) r ≤ 2 ^ r * (1 + (c + 2) * d) := by
      rw [po_ks1]
      by_cases q : wd_sz w ≤ r
      · rw [if_pos q]
        exact Nat.le_trans (ih _ (by omega)) (Nat.mul_le_mul_right _ (Nat.pow_le_pow_right (by omega) (by omega)))
      · rw [if_neg q]; exact Nat.zero_le _
    have h4 : bk_ks [w] (fun _ => 1) r ≤ 1 := po_ct_le [w] r
    rw [bk_L, e]
    split
    · rw [po_ks_add]; omega
    · rw [po_ct1]
      have := po_rows_ks [w] (bk_L [w] k m M d) r
      omega
theorem po_L1k {n m M c r h : Nat} {w : List Nat} {k : Nat → Nat} {P : List (List Nat)} (hn6 : n ≤ 6) (hM : M ≤ n) (hk : ∀ r, r ≤ n → k r ≤ 2 ^ r * c) (hU : po_U P ≤ 64 * h) (hr : r ≤ n) : bk_ks P (fun r => 1 + bk_L [w] k m M M r) r ≤ 2 ^ r * (h * (2 + 6 * (c + 2))) := by
  refine po_ksh (by omega) (fun q hq => ?_) hU
  have h1 := po_L1 (m := m) (M := M) (w := w) hk M q (by omega)
  have h2 := po_pow q
  have h3 : 2 ^ q * (1 + (c + 2) * M) ≤ 2 ^ q * (1 + 6 * (c + 2)) := by
    apply po_lift
    have : (c + 2) * M ≤ (c + 2) * 6 := Nat.mul_le_mul_left _ (by omega)
    omega
  have h4 : 2 ^ q * (2 + 6 * (c + 2)) = 2 ^ q + 2 ^ q * (1 + 6 * (c + 2)) := by
    rw [show 2 + 6 * (c + 2) = 1 + (1 + 6 * (c + 2)) by omega, Nat.mul_add, Nat.mul_one]
  show 1 + bk_L [w] k m M M q ≤ _
  omega
theorem po_loopA {n v m M : Nat} {lz : Bool} {w : List Nat} {S : Nat} (hn : 2 ≤ n) (hn6 : n ≤ 6) (hv : v < 4) (hm : m ≤ M) (hM : M ≤ n) (hM1 : 1 ≤ M) (hw : wd_ok n w) (hw1 : wd_sz w ≤ 1) (hS : S = 1) : po_I n v 2 (wd_R n m M lz [w] M) (fun r => 1 + bk_L [w] (fun _ => 1) m M M r) S := by
  have g := po_R_one2 (m := m) (M := M) (lz := lz) hn6 hw hw1 M
  have ok : ∀ x, x ∈ wd_R n m M lz [w] M → wd_ok n x := wd_R_ok (fun x hx => by rw [List.mem_singleton.mp hx]; exact hw) M
  refine ⟨⟨⟨by omega, ok⟩, fun _ => g.2.2, fun h => absurd h (by omega), fun h => absurd h (by omega)⟩, ?_, ?_, fun P h gP hU h1 h64 _ r hr => ?_⟩
  · rw [(po_H0 hv).2.2]; omega
  · rw [hS]; unfold po_SC; split <;> (try split) <;> (try split) <;> omega
  · have := po_L1k (m := m) (M := M) (w := w) (c := 1) (r := r) hn6 hM (fun q _ => by have := po_pow q; show 1 ≤ 2 ^ q * 1; omega) hU hr
    refine Nat.le_trans this (po_lift r ?_)
    show h * 20 ≤ 20 * h
    omega
end
section
/-! ===== the step bound: a group under the loop ===== -/
def po_W (B : List (List Nat)) (m j : Nat) : List (List Nat) := if j < m then B else wd_rows B
def po_Q (n : Nat) (B : List (List Nat)) (m : Nat) : Nat → List (List Nat)
  | 0 => [[]]
  | j + 1 => wd_join n (po_Q n B m j) (po_W B m j)
theorem po_W_ok {n m j : Nat} {B : List (List Nat)} (hB : ∀ w, w ∈ B → wd_ok n w) : ∀ w, w ∈ po_W B m j → wd_ok n w := by
  unfold po_W; split
  · exact hB
  · exact wd_rows_ok hB
theorem po_Q_ok {n m : Nat} {B : List (List Nat)} (hB : ∀ w, w ∈ B → wd_ok n w) : ∀ j w, w ∈ po_Q n B m j → wd_ok n w := by
  intro j
  induction j with
  | zero => exact wd_unit_ok
  | succ j ih => exact wd_join_ok ih (po_W_ok hB)
/-- the lists of the loop, as sums -/
theorem po_R_ks {n m M d r : Nat} {lz : Bool} {B : List (List Nat)} (hr : r ≤ n) (f : Nat → Nat) : bk_ks (wd_R n m M lz B (d + 1)) f r = bk_ks (po_W B m (M - (d + 1))) (fun q => bk_ks (wd_R n m M lz B d) f q) r + (if M - (d + 1) < m then 0 else f r) := by
  rw [wd_R]
  unfold po_W
  by_cases h : M - (d + 1) < m
  · rw [if_pos h, if_pos h, if_pos h, po_ks_join hr]; rfl
  · rw [if_neg h, if_neg h, if_neg h]
    split
    · rw [po_ks_cons, wd_sz_nil, if_pos (Nat.zero_le _), po_ks_join hr]
      show f r + _ = _
      omega
    · rw [po_ks_app, po_ks_join hr, po_ks_unit]
/-- the loop's cost, one turn of it -/
theorem po_L_step {n m M d r : Nat} {B V : List (List Nat)} {k : Nat → Nat} (hr : r ≤ n) : bk_ks V (bk_L B k m M (d + 1)) r = bk_ks V (fun _ => 1) r + bk_ks V k r + bk_ks (wd_join n V (po_W B m (M - (d + 1)))) (fun _ => 1) r + (if M - (d + 1) < m then 0 else wd_cn B 0 * bk_ks V (fun _ => 1) r) + bk_ks (wd_join n V (po_W B m (M - (d + 1)))) (bk_L B k m M d) r := by
  rw [po_ks_join hr, po_ks_join hr]
  unfold po_W
  by_cases h : M - (d + 1) < m
  · rw [if_pos h, if_pos h]
    simp only [Nat.add_zero]
    rw [← po_ks_add, ← po_ks_add, ← po_ks_add]
    apply po_ks_ext
    intro q _
    rw [bk_L, if_pos h, po_ks_add]
    omega
  · rw [if_neg h, if_neg h, ← po_ks_add, ← po_ks_mul, ← po_ks_add, ← po_ks_add, ← po_ks_add]
    apply po_ks_ext
    intro q _
    rw [bk_L, if_neg h, po_ct1, po_ks_rows (fun _ => 1) q B]
    omega
theorem po_R_ge {n m M : Nat} {lz : Bool} {B : List (List Nat)} (hz : 1 ≤ wd_cn B 0) : ∀ d r, r ≤ n → 1 ≤ bk_ks (wd_R n m M lz B d) (fun _ => 1) r := by
  intro d
  induction d with
  | zero => intro r _; rw [wd_R, po_ks_unit]; exact Nat.le_refl _
  | succ d ih =>
    intro r hr
    rw [po_R_ks hr]
    by_cases h : M - (d + 1) < m
    · unfold po_W
      rw [if_pos h, po_ks_rows _ r B]
      have h1 := ih r hr
      have h2 : 1 * 1 ≤ wd_cn B 0 * bk_ks (wd_R n m M lz B d) (fun _ => 1) r := Nat.mul_le_mul hz h1
      omega
    · rw [if_neg h]; omega
/-- many empty words -/
theorem po_Z2 {n m M K r : Nat} {lz : Bool} {B : List (List Nat)} {k : Nat → Nat} (hB : ∀ w, w ∈ B → wd_ok n w) (hr : r ≤ n) (hk : ∀ q, q ≤ r → k q ≤ 2 ^ r * K) (hz : 2 ≤ wd_cn B 0) : ∀ d (V : List (List Nat)), (∀ w, w ∈ V → wd_ok n w) →
    bk_ks V (bk_L B k m M d) r + V.length + (2 ^ r * K + 2) * V.length ≤ (2 * (2 ^ r * K + 2) + wd_cn B 0) * bk_ks V (fun q => bk_ks (wd_R n m M lz B d) (fun _ => 1) q) n := by
  intro d
  generalize hc : 2 ^ r * K + 2 = c
  generalize hzz : wd_cn B 0 = z at hz
  induction d with
  | zero =>
    intro V hV
    have e1 : bk_ks V (fun q => bk_ks (wd_R n m M lz B 0) (fun _ => 1) q) n = V.length := by
      rw [← po_ks_len hV]
      apply po_ks_ext
      intro q _
      rw [wd_R, po_ks_unit]
    have e2 : bk_ks V (bk_L B k m M 0) r ≤ V.length := by
      refine Nat.le_trans (Nat.le_of_eq (po_ks_ext (fun q _ => ?_) V)) (po_ct_le V r)
      rw [bk_L]
    rw [e1, Nat.add_mul, Nat.mul_assoc]
    have : 2 * V.length ≤ c * V.length := Nat.mul_le_mul_right _ (by omega)
    have : 0 ≤ z * V.length := Nat.zero_le _
    omega
  | succ d ih =>
    intro V hV
    have hV' : ∀ w, w ∈ wd_join n V (po_W B m (M - (d + 1))) → wd_ok n w := wd_join_ok hV (po_W_ok hB)
    have IH := ih _ hV'
    have s := po_L_step (m := m) (M := M) (d := d) (B := B) (V := V) (k := k) hr
    rw [hzz] at s
    have a1 := po_ct_le V r
    have a2 := po_ct_le (wd_join n V (po_W B m (M - (d + 1)))) r
    have a3 := po_ks_le (f := k) hk V
    have a4 : 2 ^ r * K * V.length + 2 * V.length = c * V.length := by rw [← hc, Nat.add_mul]
    rw [po_ks_join (Nat.le_refl n)] at IH
    have eR : bk_ks V (fun q => bk_ks (wd_R n m M lz B (d + 1)) (fun _ => 1) q) n = bk_ks V (fun q => bk_ks (po_W B m (M - (d + 1))) (fun q => bk_ks (wd_R n m M lz B d) (fun _ => 1) q) q) n + (if M - (d + 1) < m then 0 else V.length) := by
      by_cases h : M - (d + 1) < m
      · rw [if_pos h, Nat.add_zero]
        apply po_ks_ext
        intro q hq
        rw [po_R_ks hq, if_pos h, Nat.add_zero]
      · rw [if_neg h, ← po_ks_len hV, ← po_ks_add]
        apply po_ks_ext
        intro q hq
        rw [po_R_ks hq, if_neg h]
    rw [eR]
    generalize bk_ks V (fun q => bk_ks (po_W B m (M - (d + 1))) (fun q => bk_ks (wd_R n m M lz B d) (fun _ => 1) q) q) n = A at IH ⊢
    by_cases h : M - (d + 1) < m
    · rw [if_pos h] at s ⊢
      have b1 : 2 * V.length ≤ (wd_join n V (po_W B m (M - (d + 1)))).length := by
        rw [← po_ks_len hV', po_ks_join (Nat.le_refl n), ← po_ks_len hV, ← po_ks_mul]
        apply po_ks_mono
        intro q _
        unfold po_W
        rw [if_pos h, po_ks_rows _ q B, hzz]
        omega
      have b2 : c * (2 * V.length) ≤ c * (wd_join n V (po_W B m (M - (d + 1)))).length := Nat.mul_le_mul_left c b1
      rw [Nat.mul_left_comm] at b2
      show _ ≤ (2 * c + z) * A
      omega
    · rw [if_neg h] at s ⊢
      have b3 : z * bk_ks V (fun _ => 1) r ≤ z * V.length := Nat.mul_le_mul_left _ a1
      have b4 : (2 * c + z) * (A + V.length) = (2 * c + z) * A + (2 * (c * V.length) + z * V.length) := by rw [Nat.mul_add, Nat.add_mul _ _ V.length, Nat.mul_assoc]
      have b5 : 0 ≤ c * (wd_join n V (po_W B m (M - (d + 1)))).length := Nat.zero_le _
      omega
/-- the lists on the way -/
theorem po_V_step {n m j r : Nat} {B P : List (List Nat)} (hr : r ≤ n) (f : Nat → Nat) : bk_ks (wd_join n P (po_Q n B m (j + 1))) f r = bk_ks (wd_join n P (po_Q n B m j)) (fun q => bk_ks (po_W B m j) f q) r := by
  rw [po_ks_join hr, po_ks_join hr]
  apply po_ks_ext
  intro q hq
  rw [po_Q, po_ks_join (by omega)]
theorem po_V_dec {n m M : Nat} {lz : Bool} {B P : List (List Nat)} : ∀ j d, j + d = M → bk_ks (wd_join n P (po_Q n B m j)) (fun q => bk_ks (wd_R n m M lz B d) (fun _ => 1) q) n ≤ bk_ks P (fun q => bk_ks (wd_R n m M lz B M) (fun _ => 1) q) n := by
  intro j
  induction j with
  | zero =>
    intro d hd
    rw [show d = M by omega, po_ks_join (Nat.le_refl n)]
    apply Nat.le_of_eq
    apply po_ks_ext
    intro q _
    rw [po_Q, po_ks_unit]
  | succ j ih =>
    intro d hd
    rw [po_V_step (Nat.le_refl n)]
    refine Nat.le_trans (po_ks_mono (fun q hq => ?_) _) (ih (d + 1) (by omega))
    rw [po_R_ks hq, show M - (d + 1) = j by omega]
    omega
theorem po_V_last {n m M : Nat} {lz : Bool} {B P : List (List Nat)} (hP : ∀ w, w ∈ P → wd_ok n w) (hB : ∀ w, w ∈ B → wd_ok n w) (h64 : (wd_join n P (wd_R n m M lz B M)).length ≤ 64) : (wd_join n P (po_Q n B m M)).length ≤ 64 ∧ (1 ≤ wd_cn B 0 → ∀ j, j ≤ M → (wd_join n P (po_Q n B m j)).length ≤ 64) := by
  have e : bk_ks P (fun q => bk_ks (wd_R n m M lz B M) (fun _ => 1) q) n ≤ 64 := by
    rw [← po_ks_join (Nat.le_refl n), po_ks_len (wd_join_ok hP (wd_R_ok hB M))]; exact h64
  refine ⟨?_, fun hz j hj => ?_⟩
  · have h := po_V_dec (n := n) (m := m) (lz := lz) (B := B) (P := P) M 0 rfl
    rw [← po_ks_len (wd_join_ok hP (po_Q_ok hB M))]
    refine Nat.le_trans (po_ks_mono (fun q _ => ?_) _) (Nat.le_trans h e)
    rw [wd_R, po_ks_unit]; exact Nat.le_refl _
  · have h := po_V_dec (n := n) (m := m) (lz := lz) (B := B) (P := P) j (M - j) (show j + (M - j) = M by omega)
    rw [← po_ks_len (wd_join_ok hP (po_Q_ok hB j))]
    refine Nat.le_trans (po_ks_mono (fun q hq => ?_) _) (Nat.le_trans h e)
    exact po_R_ge hz (M - j) q hq
/-- few empty words -/
theorem po_S {n m M K r : Nat} {B P : List (List Nat)} {k b : Nat → Nat} (hn6 : n ≤ 6) (hr : r ≤ n) (hk : ∀ q, q ≤ r → k q ≤ 2 ^ q * K) (hz : wd_cn B 0 ≤ 1) (hl : (wd_join n P (po_Q n B m M)).length ≤ 64) (hb : ∀ j, j < M → po_U (wd_join n P (po_Q n B m j)) ≤ b j) :
    ∀ d j, j + d = M → 64 * (bk_ks (wd_join n P (po_Q n B m j)) (bk_L B k m M d) r + bk_ks (wd_join n P (po_Q n B m j)) (fun _ => 1) r) + 2 ^ r * (K + 3) * cn_s b j ≤ 2 ^ r * (K + 3) * cn_s b M + 8192 := by
  intro d
  induction d with
  | zero =>
    intro j hj
    have hj : j = M := by omega
    subst hj
    have e : bk_ks (wd_join n P (po_Q n B m j)) (bk_L B k m j 0) r = bk_ks (wd_join n P (po_Q n B m j)) (fun _ => 1) r := po_ks_ext (fun q _ => by rw [bk_L]) _
    have := po_ct_le (wd_join n P (po_Q n B m j)) r
    omega
  | succ d ih =>
    intro j hj
    have IH := ih (j + 1) (by omega)
    rw [cn_s] at IH
    have e7 : 2 ^ r * (K + 3) * (cn_s b j + b j) = 2 ^ r * (K + 3) * cn_s b j + 2 ^ r * (K + 3) * b j := Nat.mul_add _ _ _
    have s := po_L_step (n := n) (m := m) (M := M) (d := d) (B := B) (V := wd_join n P (po_Q n B m j)) (k := k) hr
    have t1 : ∀ f, bk_ks (wd_join n (wd_join n P (po_Q n B m j)) (po_W B m j)) f r = bk_ks (wd_join n P (po_Q n B m (j + 1))) f r := fun f => (po_ks_join hr f _ _).trans (po_V_step hr f).symm
    rw [show M - (d + 1) = j by omega, t1, t1] at s
    have h1 := po_ksw (k := k) (K := K) (r := r) (by omega) hk (wd_join n P (po_Q n B m j))
    have h2 := po_ksw (k := fun _ => 1) (K := 1) (r := r) (by omega) (fun q _ => by have := po_pow q; omega) (wd_join n P (po_Q n B m j))
    have h3 : 2 ^ r * po_U (wd_join n P (po_Q n B m j)) * K ≤ 2 ^ r * b j * K := Nat.mul_le_mul_right _ (po_lift r (hb j (by omega)))
    have h4 : 2 ^ r * po_U (wd_join n P (po_Q n B m j)) ≤ 2 ^ r * b j := po_lift r (hb j (by omega))
    have h5 : 2 ^ r * (K + 3) * b j = 2 ^ r * b j * K + 3 * (2 ^ r * b j) := by
      rw [Nat.mul_right_comm, Nat.mul_add, Nat.mul_comm _ 3]
    have h6 : (if j < m then 0 else wd_cn B 0 * bk_ks (wd_join n P (po_Q n B m j)) (fun _ => 1) r) ≤ bk_ks (wd_join n P (po_Q n B m j)) (fun _ => 1) r := by
      split
      · exact Nat.zero_le _
      · have := Nat.mul_le_mul_right (bk_ks (wd_join n P (po_Q n B m j)) (fun _ => 1) r) hz
        omega
    rw [Nat.mul_one] at h2
    omega
theorem po_unit_join {n : Nat} {Q : List (List Nat)} (h : ∀ w, w ∈ Q → wd_ok n w) : wd_join n [[]] Q = Q := by
  unfold wd_join
  rw [List.flatMap_cons, List.flatMap_nil, List.append_nil, List.filter_eq_self.mpr (fun w hw => decide_eq_true (by rw [wd_sz_nil]; have := (h w hw).2; omega))]
  exact List.map_id Q
/-! no empty word: the powers of B -/
theorem po_W0 {B : List (List Nat)} (hz : wd_cn B 0 = 0) (m j : Nat) : po_W B m j = B := by
  have : wd_rows B = B := by
    unfold wd_rows
    apply List.filter_eq_self.mpr
    intro w hw
    apply decide_eq_true
    have h1 : B.filter (fun w => decide (wd_sz w = 0)) = [] := List.length_eq_zero_iff.mp hz
    have h2 := (List.filter_eq_nil_iff.mp h1) w hw
    have h3 : ¬ wd_sz w = 0 := fun e => h2 (decide_eq_true e)
    omega
  unfold po_W
  rw [this]
  split <;> rfl
theorem po_Qc {n m : Nat} {B : List (List Nat)} (hz : wd_cn B 0 = 0) : ∀ j (f : Nat → Nat) r, r ≤ n → bk_ks (po_Q n B m j) (fun q => bk_ks B f q) r = bk_ks B (fun q => bk_ks (po_Q n B m j) f q) r := by
  intro j
  induction j with
  | zero =>
    intro f r hr
    rw [po_Q, po_ks_unit]
    apply po_ks_ext
    intro q _
    rw [po_ks_unit]
  | succ j ih =>
    intro f r hr
    rw [po_Q, po_W0 hz, po_ks_join hr, ih _ r hr]
    apply po_ks_ext
    intro q hq
    rw [po_ks_join (show q ≤ n by omega)]
theorem po_Q_R {n m M : Nat} {lz : Bool} {B : List (List Nat)} (hz : wd_cn B 0 = 0) : ∀ j r, r ≤ n → bk_ks (po_Q n B m j) (fun _ => 1) r ≤ bk_ks (wd_R n m M lz B j) (fun _ => 1) r := by
  intro j
  induction j with
  | zero => intro r _; exact Nat.le_refl _
  | succ j ih =>
    intro r hr
    rw [po_R_ks hr, po_W0 hz, po_Q, po_W0 hz, po_ks_join hr, po_Qc hz j _ r hr]
    have : bk_ks B (fun q => bk_ks (po_Q n B m j) (fun _ => 1) q) r ≤ bk_ks B (fun q => bk_ks (wd_R n m M lz B j) (fun _ => 1) q) r := po_ks_mono (fun q hq => ih q (by omega)) B
    omega
theorem po_cn0 {f : Nat → Nat} : ∀ {m : Nat}, (∀ i, i < m → f i = 0) → cn_s f m = 0 := by
  intro m
  induction m with
  | zero => intro _; rfl
  | succ m ih => intro h; rw [cn_s, ih (fun i hi => h i (by omega)), h m (by omega)]
theorem po_Qz {n m : Nat} {B : List (List Nat)} (hz : wd_cn B 0 = 0) : ∀ j s, s < j → s ≤ n → wd_cn (po_Q n B m j) s = 0 := by
  intro j
  induction j with
  | zero => intro s hs; omega
  | succ j ih =>
    intro s hs hn
    rw [po_Q, po_W0 hz, wd_cn_join n s hn]
    apply po_cn0
    intro i hi
    by_cases h : i < j
    · rw [ih i h (by omega), Nat.zero_mul]
    · rw [show s - i = 0 by omega, hz, Nat.mul_zero]
theorem po_Qp {n m : Nat} {B : List (List Nat)} (hz : wd_cn B 0 = 0) (j : Nat) (hj : j + 1 ≤ n) : wd_cn (po_Q n B m (j + 1)) (j + 1) = wd_cn (po_Q n B m j) j * wd_cn B 1 := by
  rw [po_Q, po_W0 hz, wd_cn_join n (j + 1) hj, cn_s, cn_s, po_cn0 (fun i hi => by rw [po_Qz hz j i hi (by omega), Nat.zero_mul])]
  rw [show j + 1 - j = 1 by omega, show j + 1 - (j + 1) = 0 by omega, hz, Nat.mul_zero, Nat.zero_add, Nat.add_zero]
theorem po_Q1 {n m : Nat} {B : List (List Nat)} (hz : wd_cn B 0 = 0) {s : Nat} (hs : s ≤ n) : wd_cn (po_Q n B m 1) s = wd_cn B s := by
  rw [po_Q, po_W0 hz, wd_cn_join n s hs]
  have e : cn_s (fun i => wd_cn (po_Q n B m 0) i * wd_cn B (s - i)) (s + 1) = cn_s (fun i => (if 0 = i then 1 else 0) * wd_cn B (s - i)) (s + 1) := by
    apply cn_ext
    intro i _
    rw [po_Q, wd_cn_cons, wd_cn_nil, wd_sz_nil, Nat.add_zero]
  rw [e, cn_one 0 (fun i => wd_cn B (s - i)), if_pos (by omega)]
  rfl
theorem po_Q23 {n m : Nat} {B : List (List Nat)} (hz : wd_cn B 0 = 0) (hs : 3 ≤ n) : wd_cn (po_Q n B m 2) 3 = wd_cn B 1 * wd_cn B 2 + wd_cn B 2 * wd_cn B 1 := by
  rw [po_Q, po_W0 hz, wd_cn_join n 3 hs]
  show 0 + wd_cn (po_Q n B m 1) 0 * wd_cn B 3 + wd_cn (po_Q n B m 1) 1 * wd_cn B 2 + wd_cn (po_Q n B m 1) 2 * wd_cn B 1 + wd_cn (po_Q n B m 1) 3 * wd_cn B 0 = _
  rw [po_Q1 hz (by omega), po_Q1 hz (by omega), po_Q1 hz (by omega), hz]
  omega
theorem po_Q24 {n m : Nat} {B : List (List Nat)} (hz : wd_cn B 0 = 0) (hs : 4 ≤ n) : wd_cn (po_Q n B m 2) 4 = wd_cn B 1 * wd_cn B 3 + wd_cn B 2 * wd_cn B 2 + wd_cn B 3 * wd_cn B 1 := by
  rw [po_Q, po_W0 hz, wd_cn_join n 4 hs]
  show 0 + wd_cn (po_Q n B m 1) 0 * wd_cn B 4 + wd_cn (po_Q n B m 1) 1 * wd_cn B 3 + wd_cn (po_Q n B m 1) 2 * wd_cn B 2 + wd_cn (po_Q n B m 1) 3 * wd_cn B 1 + wd_cn (po_Q n B m 1) 4 * wd_cn B 0 = _
  rw [po_Q1 hz (by omega), po_Q1 hz (by omega), po_Q1 hz (by omega), po_Q1 hz (by omega), hz]
  omega
theorem po_U0 {n m : Nat} {B : List (List Nat)} : po_U (po_Q n B m 0) = 64 := by rw [po_Q]; rfl
theorem po_ar2 {u1 n1 b1 c2 c3 c4 c5 n2 p2 : Nat} (h1 : u1 = n1 + 31 * b1 + 15 * c2 + 7 * c3 + 3 * c4 + c5) (h2 : b1 + c2 + c3 + c4 + c5 ≤ n1) (h3 : n1 ≤ 64) (h4 : p2 = b1 * b1) (h5 : p2 ≤ n2) (h6 : n2 ≤ 64) : 64 + u1 ≤ 1600 := by
  have hb : b1 ≤ 8 := by
    apply Nat.le_of_not_lt
    intro h
    have : 9 * 9 ≤ b1 * b1 := Nat.mul_le_mul (by omega) (by omega)
    omega
  omega
theorem po_ar3 {u1 u2 n1 n2 n3 b1 b2 b3 c4 c5 d2 d3 d4 d5 p3 : Nat} (h1 : u1 = n1 + 31 * b1 + 15 * b2 + 7 * b3 + 3 * c4 + c5) (h2 : b1 + b2 + b3 + c4 + c5 ≤ n1) (h3 : n1 ≤ 64)
    (h4 : u2 = n2 + 15 * d2 + 7 * d3 + 3 * d4 + d5) (h5 : d2 + d3 + d4 + d5 ≤ n2) (h6 : n2 ≤ 64) (h7 : d2 = b1 * b1) (h8 : d3 = b1 * b2 + b2 * b1) (h9 : p3 = d2 * b1) (h10 : p3 ≤ n3) (h11 : n3 ≤ 64) : 64 + u1 + u2 ≤ 1600 := by
  have hb : b1 ≤ 4 := by
    apply Nat.le_of_not_lt
    intro h
    have e1 : 5 * 5 ≤ b1 * b1 := Nat.mul_le_mul (by omega) (by omega)
    have e2 : 25 * 5 ≤ d2 * b1 := Nat.mul_le_mul (by omega) (by omega)
    omega
  rcases (show b1 = 0 ∨ b1 = 1 ∨ b1 = 2 ∨ b1 = 3 ∨ b1 = 4 by omega) with q | q | q | q | q <;> subst q <;> omega
theorem po_ar4 {u1 u2 n1 n2 n4 b1 b2 b3 c4 c5 d2 d3 d4 d5 p3 p4 : Nat} (h1 : u1 = n1 + 31 * b1 + 15 * b2 + 7 * b3 + 3 * c4 + c5) (h2 : b1 + b2 + b3 + c4 + c5 ≤ n1) (h3 : n1 ≤ 64)
    (h4 : u2 = n2 + 15 * d2 + 7 * d3 + 3 * d4 + d5) (h5 : d2 + d3 + d4 + d5 ≤ n2) (h6 : n2 ≤ 64) (h7 : d2 = b1 * b1) (h8 : d3 = b1 * b2 + b2 * b1) (h9 : d4 = b1 * b3 + b2 * b2 + b3 * b1) (h10 : p3 = d2 * b1) (h11 : p4 = p3 * b1) (h12 : p4 ≤ n4) (h13 : n4 ≤ 64) :
    (b1 = 0 ∧ p3 = 0 ∧ p4 = 0 ∧ u1 + u2 ≤ 1088) ∨ (b1 = 1 ∧ p3 = 1 ∧ p4 = 1 ∧ u1 + u2 ≤ 1030) ∨ (b1 = 2 ∧ p3 = 8 ∧ p4 = 16 ∧ u1 + u2 ≤ 980) := by
  have hb : b1 ≤ 2 := by
    apply Nat.le_of_not_lt
    intro h
    have e1 : 3 * 3 ≤ b1 * b1 := Nat.mul_le_mul (by omega) (by omega)
    have e2 : 9 * 3 ≤ d2 * b1 := Nat.mul_le_mul (by omega) (by omega)
    have e3 : 27 * 3 ≤ p3 * b1 := Nat.mul_le_mul (by omega) (by omega)
    omega
  have hb2 : b2 ≤ 8 := by
    apply Nat.le_of_not_lt
    intro h
    have e1 : 9 * 9 ≤ b2 * b2 := Nat.mul_le_mul (by omega) (by omega)
    omega
  rcases (show b1 = 0 ∨ b1 = 1 ∨ b1 = 2 by omega) with q | q | q
  · subst q; left; omega
  · subst q; right; left; omega
  · subst q; right; right; omega
theorem po_Z0 {n m M : Nat} {B : List (List Nat)} (hn6 : n ≤ 6) (hM : M ≤ n) (hz : wd_cn B 0 = 0) (hl : ∀ j, j ≤ M → (po_Q n B m j).length ≤ 64) : cn_s (fun j => po_U (po_Q n B m j)) M ≤ 1600 := by
  have u0 := po_U0 (n := n) (m := m) (B := B)
  have l1 := po_U_cn (po_Q n B m 1)
  have l2 := po_U_cn (po_Q n B m 2)
  have l3 := po_U_cn (po_Q n B m 3)
  have l4 := po_U_cn (po_Q n B m 4)
  have l5 := po_U_cn (po_Q n B m 5)
  have Z : ∀ j s, s < j → s ≤ n → wd_cn (po_Q n B m j) s = 0 := po_Qz hz
  have D : ∀ j, j + 1 ≤ n → wd_cn (po_Q n B m (j + 1)) (j + 1) = wd_cn (po_Q n B m j) j * wd_cn B 1 := po_Qp hz
  have O : ∀ s, s ≤ n → wd_cn (po_Q n B m 1) s = wd_cn B s := fun s hs => po_Q1 hz hs
  rcases (show M = 0 ∨ M = 1 ∨ M = 2 ∨ M = 3 ∨ M = 4 ∨ M = 5 ∨ M = 6 by omega) with q | q | q | q | q | q | q
  · subst q; exact Nat.zero_le _
  · subst q
    show 0 + po_U (po_Q n B m 0) ≤ 1600
    omega
  · subst q
    show 0 + po_U (po_Q n B m 0) + po_U (po_Q n B m 1) ≤ 1600
    have := po_ar2 (u1 := po_U (po_Q n B m 1)) (n1 := (po_Q n B m 1).length) (b1 := wd_cn B 1) (c2 := wd_cn (po_Q n B m 1) 2) (c3 := wd_cn (po_Q n B m 1) 3) (c4 := wd_cn (po_Q n B m 1) 4) (c5 := wd_cn (po_Q n B m 1) 5) (n2 := (po_Q n B m 2).length) (p2 := wd_cn (po_Q n B m 2) 2)
      (by rw [← O 1 (by omega)]; have := Z 1 0 (by omega) (by omega); omega) (by rw [← O 1 (by omega)]; omega) (hl 1 (by omega)) (by rw [D 1 (by omega), O 1 (by omega)]) (by omega) (hl 2 (by omega))
    omega
  · subst q
    show 0 + po_U (po_Q n B m 0) + po_U (po_Q n B m 1) + po_U (po_Q n B m 2) ≤ 1600
    have := po_ar3 (u1 := po_U (po_Q n B m 1)) (u2 := po_U (po_Q n B m 2)) (n1 := (po_Q n B m 1).length) (n2 := (po_Q n B m 2).length) (n3 := (po_Q n B m 3).length) (b1 := wd_cn B 1) (b2 := wd_cn B 2) (b3 := wd_cn B 3) (c4 := wd_cn (po_Q n B m 1) 4) (c5 := wd_cn (po_Q n B m 1) 5) (d2 := wd_cn (po_Q n B m 2) 2) (d3 := wd_cn (po_Q n B m 2) 3) (d4 := wd_cn (po_Q n B m 2) 4) (d5 := wd_cn (po_Q n B m 2) 5) (p3 := wd_cn (po_Q n B m 3) 3)
      (by rw [← O 1 (by omega), ← O 2 (by omega), ← O 3 (by omega)]; have := Z 1 0 (by omega) (by omega); omega) (by rw [← O 1 (by omega), ← O 2 (by omega), ← O 3 (by omega)]; omega) (hl 1 (by omega))
      (by have := Z 2 0 (by omega) (by omega); have := Z 2 1 (by omega) (by omega); omega) (by omega) (hl 2 (by omega)) (by rw [D 1 (by omega), O 1 (by omega)]) (po_Q23 hz (by omega)) (D 2 (by omega)) (by omega) (hl 3 (by omega))
    omega
  · subst q
    have ar := po_ar4 (u1 := po_U (po_Q n B m 1)) (u2 := po_U (po_Q n B m 2)) (n1 := (po_Q n B m 1).length) (n2 := (po_Q n B m 2).length) (n4 := (po_Q n B m 4).length) (b1 := wd_cn B 1) (b2 := wd_cn B 2) (b3 := wd_cn B 3) (c4 := wd_cn (po_Q n B m 1) 4) (c5 := wd_cn (po_Q n B m 1) 5) (d2 := wd_cn (po_Q n B m 2) 2) (d3 := wd_cn (po_Q n B m 2) 3) (d4 := wd_cn (po_Q n B m 2) 4) (d5 := wd_cn (po_Q n B m 2) 5) (p3 := wd_cn (po_Q n B m 3) 3) (p4 := wd_cn (po_Q n B m 4) 4)
      (by rw [← O 1 (by omega), ← O 2 (by omega), ← O 3 (by omega)]; have := Z 1 0 (by omega) (by omega); omega) (by rw [← O 1 (by omega), ← O 2 (by omega), ← O 3 (by omega)]; omega) (hl 1 (by omega))
      (by have := Z 2 0 (by omega) (by omega); have := Z 2 1 (by omega) (by omega); omega) (by omega) (hl 2 (by omega)) (by rw [D 1 (by omega), O 1 (by omega)]) (po_Q23 hz (by omega)) (po_Q24 hz (by omega)) (D 2 (by omega)) (D 3 (by omega)) (by omega) (hl 4 (by omega))
    show 0 + po_U (po_Q n B m 0) + po_U (po_Q n B m 1) + po_U (po_Q n B m 2) + po_U (po_Q n B m 3) ≤ 1600
    have k30 := Z 3 0 (by omega) (by omega)
    have k31 := Z 3 1 (by omega) (by omega)
    have k32 := Z 3 2 (by omega) (by omega)
    have hl3 := hl 3 (by omega)
    omega
  · subst q
    have ar := po_ar4 (u1 := po_U (po_Q n B m 1)) (u2 := po_U (po_Q n B m 2)) (n1 := (po_Q n B m 1).length) (n2 := (po_Q n B m 2).length) (n4 := (po_Q n B m 4).length) (b1 := wd_cn B 1) (b2 := wd_cn B 2) (b3 := wd_cn B 3) (c4 := wd_cn (po_Q n B m 1) 4) (c5 := wd_cn (po_Q n B m 1) 5) (d2 := wd_cn (po_Q n B m 2) 2) (d3 := wd_cn (po_Q n B m 2) 3) (d4 := wd_cn (po_Q n B m 2) 4) (d5 := wd_cn (po_Q n B m 2) 5) (p3 := wd_cn (po_Q n B m 3) 3) (p4 := wd_cn (po_Q n B m 4) 4)
      (by rw [← O 1 (by omega), ← O 2 (by omega), ← O 3 (by omega)]; have := Z 1 0 (by omega) (by omega); omega) (by rw [← O 1 (by omega), ← O 2 (by omega), ← O 3 (by omega)]; omega) (hl 1 (by omega))
      (by have := Z 2 0 (by omega) (by omega); have := Z 2 1 (by omega) (by omega); omega) (by omega) (hl 2 (by omega)) (by rw [D 1 (by omega), O 1 (by omega)]) (po_Q23 hz (by omega)) (po_Q24 hz (by omega)) (D 2 (by omega)) (D 3 (by omega)) (by omega) (hl 4 (by omega))
    show 0 + po_U (po_Q n B m 0) + po_U (po_Q n B m 1) + po_U (po_Q n B m 2) + po_U (po_Q n B m 3) + po_U (po_Q n B m 4) ≤ 1600
    have k30 := Z 3 0 (by omega) (by omega)
    have k31 := Z 3 1 (by omega) (by omega)
    have k32 := Z 3 2 (by omega) (by omega)
    have hl3 := hl 3 (by omega)
    have k40 := Z 4 0 (by omega) (by omega)
    have k41 := Z 4 1 (by omega) (by omega)
    have k42 := Z 4 2 (by omega) (by omega)
    have k43 := Z 4 3 (by omega) (by omega)
    have hl4 := hl 4 (by omega)
    omega
  · subst q
    have ar := po_ar4 (u1 := po_U (po_Q n B m 1)) (u2 := po_U (po_Q n B m 2)) (n1 := (po_Q n B m 1).length) (n2 := (po_Q n B m 2).length) (n4 := (po_Q n B m 4).length) (b1 := wd_cn B 1) (b2 := wd_cn B 2) (b3 := wd_cn B 3) (c4 := wd_cn (po_Q n B m 1) 4) (c5 := wd_cn (po_Q n B m 1) 5) (d2 := wd_cn (po_Q n B m 2) 2) (d3 := wd_cn (po_Q n B m 2) 3) (d4 := wd_cn (po_Q n B m 2) 4) (d5 := wd_cn (po_Q n B m 2) 5) (p3 := wd_cn (po_Q n B m 3) 3) (p4 := wd_cn (po_Q n B m 4) 4)
      (by rw [← O 1 (by omega), ← O 2 (by omega), ← O 3 (by omega)]; have := Z 1 0 (by omega) (by omega); omega) (by rw [← O 1 (by omega), ← O 2 (by omega), ← O 3 (by omega)]; omega) (hl 1 (by omega))
      (by have := Z 2 0 (by omega) (by omega); have := Z 2 1 (by omega) (by omega); omega) (by omega) (hl 2 (by omega)) (by rw [D 1 (by omega), O 1 (by omega)]) (po_Q23 hz (by omega)) (po_Q24 hz (by omega)) (D 2 (by omega)) (D 3 (by omega)) (by omega) (hl 4 (by omega))
    show 0 + po_U (po_Q n B m 0) + po_U (po_Q n B m 1) + po_U (po_Q n B m 2) + po_U (po_Q n B m 3) + po_U (po_Q n B m 4) + po_U (po_Q n B m 5) ≤ 1600
    have k30 := Z 3 0 (by omega) (by omega)
    have k31 := Z 3 1 (by omega) (by omega)
    have k32 := Z 3 2 (by omega) (by omega)
    have hl3 := hl 3 (by omega)
    have k40 := Z 4 0 (by omega) (by omega)
    have k41 := Z 4 1 (by omega) (by omega)
    have k42 := Z 4 2 (by omega) (by omega)
    have k43 := Z 4 3 (by omega) (by omega)
    have hl4 := hl 4 (by omega)
    have k50 := Z 5 0 (by omega) (by omega)
    have k51 := Z 5 1 (by omega) (by omega)
    have k52 := Z 5 2 (by omega) (by omega)
    have k53 := Z 5 3 (by omega) (by omega)
    have k54 := Z 5 4 (by omega) (by omega)
    have hl5 := hl 5 (by omega)
    have p5 : wd_cn (po_Q n B m 5) 5 = wd_cn (po_Q n B m 4) 4 * wd_cn B 1 := D 4 (by omega)
    rcases ar with ar | ar | ar <;> (rw [ar.1] at p5; omega)
/-! the group under the loop -/
theorem po_R_z {n m M : Nat} {lz : Bool} {B : List (List Nat)} (hz : wd_cn B 0 ≤ 1) : ∀ d, wd_cn (wd_R n m M lz B d) 0 ≤ 1 := by
  intro d
  have j0 : ∀ P Q : List (List Nat), wd_cn (wd_join n P Q) 0 = wd_cn P 0 * wd_cn Q 0 := by
    intro P Q
    rw [wd_cn_join n 0 (Nat.zero_le _)]
    show 0 + wd_cn P 0 * wd_cn Q (0 - 0) = _
    rw [Nat.zero_add]
  induction d with
  | zero => exact List.length_filter_le _ _
  | succ d ih =>
    rw [wd_R]
    split
    · rw [j0]
      have : wd_cn B 0 * wd_cn (wd_R n m M lz B d) 0 ≤ 1 * 1 := Nat.mul_le_mul hz ih
      omega
    · split
      · rw [wd_cn_cons, j0, wd_cn_rows, if_pos rfl, Nat.zero_mul, wd_sz_nil, if_pos rfl]; omega
      · rw [wd_cn_app, j0, wd_cn_rows, if_pos rfl, Nat.zero_mul, wd_cn_unit, if_pos rfl]; omega
theorem po_Q_z {n m : Nat} {B : List (List Nat)} (hz : wd_cn B 0 ≤ 1) : ∀ j, wd_cn (po_Q n B m j) 0 ≤ 1 := by
  intro j
  induction j with
  | zero => exact List.length_filter_le _ _
  | succ j ih =>
    rw [po_Q, wd_cn_join n 0 (Nat.zero_le _)]
    show 0 + wd_cn (po_Q n B m j) 0 * wd_cn (po_W B m j) (0 - 0) ≤ 1
    have h1 : wd_cn (po_W B m j) 0 ≤ 1 := by
      unfold po_W
      split
      · exact hz
      · rw [wd_cn_rows, if_pos rfl]; omega
    have h2 : wd_cn (po_Q n B m j) 0 * wd_cn (po_W B m j) 0 ≤ 1 * 1 := Nat.mul_le_mul ih h1
    have h3 : wd_cn (po_W B m j) (0 - 0) = wd_cn (po_W B m j) 0 := rfl
    rw [h3]; omega
theorem po_U_z {E : List (List Nat)} (h : E.length ≤ 64) (hz : wd_cn E 0 ≤ 1) : po_U E ≤ 2080 := by
  have := po_U_cn E
  omega
theorem po_cn_mono {f g : Nat → Nat} : ∀ {m : Nat}, (∀ i, i < m → f i ≤ g i) → cn_s f m ≤ cn_s g m := by
  intro m
  induction m with
  | zero => intro _; exact Nat.le_refl _
  | succ m ih => intro h; rw [cn_s, cn_s]; have := ih (fun i hi => h i (by omega)); have := h m (by omega); omega
theorem po_cn_mul (c : Nat) (f : Nat → Nat) : ∀ m, cn_s (fun i => c * f i) m = c * cn_s f m := by
  intro m
  induction m with
  | zero => rfl
  | succ m ih => rw [cn_s, cn_s, ih, Nat.mul_add]
theorem po_cn_const (c : Nat) : ∀ m, cn_s (fun _ => c) m = c * m := by
  intro m
  induction m with
  | zero => rfl
  | succ m ih => rw [cn_s, ih, Nat.mul_add, Nat.mul_one]
/-- the sum of the weights on the way -/
theorem po_sumU {n m M h : Nat} {lz : Bool} {B P : List (List Nat)} (hn6 : n ≤ 6) (hM : M ≤ n) (hB : ∀ w, w ∈ B → wd_ok n w) (gP : pe_g n P) (hU : po_U P ≤ 64 * h) (hz : wd_cn B 0 ≤ 1) (hR : ∀ d, d ≤ M → (wd_R n m M lz B d).length ≤ 64) (h64 : (wd_join n P (wd_R n m M lz B M)).length ≤ 64) :
    cn_s (fun j => po_U (wd_join n P (po_Q n B m j))) M ≤ 64 * po_F h := by
  have hj : ∀ j, po_U (wd_join n P (po_Q n B m j)) ≤ h * po_U (po_Q n B m j) := by
    intro j
    have a1 := po_U_join n hn6 (po_Q n B m j) P (fun w hw => by have := (gP.2 w hw).2; omega)
    have a2 : po_U P * po_U (po_Q n B m j) ≤ 64 * h * po_U (po_Q n B m j) := Nat.mul_le_mul_right _ hU
    rw [Nat.mul_assoc] at a2
    omega
  have s1 : cn_s (fun j => po_U (wd_join n P (po_Q n B m j))) M ≤ h * cn_s (fun j => po_U (po_Q n B m j)) M := by
    rw [← po_cn_mul]; exact po_cn_mono (fun i _ => hj i)
  by_cases z0 : wd_cn B 0 = 0
  · have l : ∀ j, j ≤ M → (po_Q n B m j).length ≤ 64 := by
      intro j hj
      refine Nat.le_trans ?_ (hR j hj)
      rw [← po_ks_len (po_Q_ok hB j), ← po_ks_len (wd_R_ok hB j)]
      exact po_Q_R z0 j n (Nat.le_refl _)
    have s2 := po_Z0 hn6 hM z0 l
    have s3 : h * cn_s (fun j => po_U (po_Q n B m j)) M ≤ h * 1600 := Nat.mul_le_mul_left _ s2
    have s4 : 25 * h ≤ po_F h := Nat.le_max_left _ _
    omega
  · have hz1 : 1 ≤ wd_cn B 0 := by omega
    have v1 := (po_V_last gP.2 hB h64).2 hz1
    have e1 : wd_join n [[]] (wd_R n m M lz B M) = wd_R n m M lz B M := po_unit_join (wd_R_ok hB M)
    have v2 := (po_V_last (P := [[]]) (m := m) (M := M) (lz := lz) wd_unit_ok hB (by rw [e1]; exact hR M (Nat.le_refl _))).2 hz1
    have q1 : ∀ j, j ≤ M → (po_Q n B m j).length ≤ 64 := by
      intro j hj
      have := v2 j hj
      rw [po_unit_join (po_Q_ok hB j)] at this
      exact this
    have t1 : cn_s (fun j => po_U (wd_join n P (po_Q n B m j))) M ≤ 4096 * M := by
      rw [← po_cn_const]
      refine po_cn_mono (fun i hi => ?_)
      have b1 := po_U_le (wd_join n P (po_Q n B m i))
      have b2 := v1 i (by omega)
      show po_U (wd_join n P (po_Q n B m i)) ≤ 4096
      omega
    have t2 : cn_s (fun j => po_U (po_Q n B m j)) M ≤ 64 + 2080 * 5 := by
      have hu : ∀ i, i < M → po_U (po_Q n B m i) ≤ 2080 := fun i hi => po_U_z (q1 i (by omega)) (po_Q_z hz i)
      have u0 := po_U0 (n := n) (m := m) (B := B)
      have tt : ∀ d, d ≤ M → cn_s (fun j => po_U (po_Q n B m j)) d ≤ 64 + 2080 * (d - 1) := by
        intro d
        induction d with
        | zero => intro _; exact Nat.zero_le _
        | succ d ih =>
          intro hd
          rw [cn_s]
          have i1 := ih (by omega)
          rcases Nat.eq_zero_or_pos d with q | q
          · subst q
            show 0 + po_U (po_Q n B m 0) ≤ _
            omega
          · have := hu d (by omega)
            show cn_s (fun j => po_U (po_Q n B m j)) d + po_U (po_Q n B m d) ≤ _
            omega
      have := tt M (Nat.le_refl _)
      omega
    have t3 : h * cn_s (fun j => po_U (po_Q n B m j)) M ≤ h * (64 + 2080 * 5) := Nat.mul_le_mul_left _ t2
    have t4 : min (164 * h) 384 ≤ po_F h := Nat.le_max_right _ _
    have t5 : cn_s (fun j => po_U (wd_join n P (po_Q n B m j))) M ≤ 64 * min (164 * h) 384 := by
      rcases Nat.le_total (164 * h) 384 with q | q
      · rw [Nat.min_eq_left q]; omega
      · rw [Nat.min_eq_right q]; omega
    omega
theorem po_loopK {n m M h r K H : Nat} {lz : Bool} {B P : List (List Nat)} {k : Nat → Nat} (hn6 : n ≤ 6) (hM : M ≤ n) (hB : ∀ w, w ∈ B → wd_ok n w) (gP : pe_g n P) (hU : po_U P ≤ 64 * h) (hH : po_U B ≤ 64 * H) (hk : ∀ q, q ≤ n → k q ≤ 2 ^ q * K) (hR : ∀ d, d ≤ M → (wd_R n m M lz B d).length ≤ 64) (h64 : (wd_join n P (wd_R n m M lz B M)).length ≤ 64) (hr : r ≤ n) :
    bk_ks P (fun r => 1 + bk_L B k m M M r) r ≤ 2 ^ r * max (po_F h * (K + 3) + h + 128) (127 * (K + 2) + 64 * H + h + 128) := by
  have e0 : bk_ks P (fun r => 1 + bk_L B k m M M r) r = bk_ks P (fun _ => 1) r + bk_ks P (bk_L B k m M M) r := po_ks_add _ _ r P
  have p1 := po_pow r
  by_cases hz : wd_cn B 0 ≤ 1
  · refine Nat.le_trans ?_ (po_lift r (Nat.le_max_left _ _))
    have s := po_S (K := K) (b := fun j => po_U (wd_join n P (po_Q n B m j))) hn6 hr (fun q hq => hk q (by omega)) hz (po_V_last gP.2 hB h64).1 (fun j _ => Nat.le_refl _) M 0 (by omega)
    have e1 : ∀ f, bk_ks (wd_join n P (po_Q n B m 0)) f r = bk_ks P f r := by
      intro f
      rw [po_ks_join hr]
      apply po_ks_ext
      intro q _
      rw [po_Q, po_ks_unit]
    rw [e1, e1] at s
    have s2 : 2 ^ r * (K + 3) * cn_s (fun j => po_U (wd_join n P (po_Q n B m j))) M ≤ 2 ^ r * (K + 3) * (64 * po_F h) := Nat.mul_le_mul_left _ (po_sumU hn6 hM hB gP hU hz hR h64)
    have s3 : 2 ^ r * (K + 3) * (64 * po_F h) = 64 * (2 ^ r * (po_F h * (K + 3))) := by
      rw [Nat.mul_left_comm, Nat.mul_assoc (2 ^ r), Nat.mul_comm (K + 3)]
    have s4 : 2 ^ r * (po_F h * (K + 3) + h + 128) = 2 ^ r * (po_F h * (K + 3)) + 2 ^ r * h + 2 ^ r * 128 := by rw [Nat.mul_add, Nat.mul_add]
    rw [e0]
    omega
  · refine Nat.le_trans ?_ (po_lift r (Nat.le_max_right _ _))
    have s := po_Z2 (m := m) (M := M) (lz := lz) (K := K) hB hr (fun q hq => Nat.le_trans (hk q (by omega)) (Nat.mul_le_mul_right K (Nat.pow_le_pow_right (by omega) hq))) (by omega) M P gP.2
    have e1 : bk_ks P (fun q => bk_ks (wd_R n m M lz B M) (fun _ => 1) q) n ≤ 64 := by
      rw [← po_ks_join (Nat.le_refl n), po_ks_len (wd_join_ok gP.2 (wd_R_ok hB M))]; exact h64
    have hzH : wd_cn B 0 ≤ H := by
      have := po_U_cn B
      omega
    have c1 := po_ct_le P r
    have s2 : (2 * (2 ^ r * K + 2) + wd_cn B 0) * bk_ks P (fun q => bk_ks (wd_R n m M lz B M) (fun _ => 1) q) n ≤ (2 * (2 ^ r * K + 2) + H) * 64 := Nat.mul_le_mul (by omega) e1
    have s4 : 2 ^ r * (127 * (K + 2) + 64 * H + h + 128) = 127 * (2 ^ r * K) + 254 * 2 ^ r + 64 * (2 ^ r * H) + 2 ^ r * h + 2 ^ r * 128 := by
      rw [Nat.mul_add, Nat.mul_add, Nat.mul_add, Nat.mul_left_comm, Nat.mul_add, Nat.mul_left_comm (2 ^ r) 64]
      omega
    have s5 : 1 * H ≤ 2 ^ r * H := Nat.mul_le_mul_right _ p1
    rcases Nat.eq_zero_or_pos P.length with q | q
    · have : P = [] := List.length_eq_zero_iff.mp q
      subst this
      rw [po_ks_nil]
      exact Nat.zero_le _
    · have s6 : (2 ^ r * K + 2) * 1 ≤ (2 ^ r * K + 2) * P.length := Nat.mul_le_mul_left _ q
      rw [e0]
      omega
theorem po_loopG {n v t m M : Nat} {lz : Bool} {B : List (List Nat)} {k : Nat → Nat} {S : Nat} (hn : 2 ≤ n) (hn6 : n ≤ 6) (hv : v < 3) (ht : t + 3 ≤ 24) (ht1 : 1 ≤ t) (hm : m ≤ M) (hM : M ≤ n) (hM1 : 1 ≤ M) (h : po_A n (v + 1) t B k S) (h64 : ∀ d, d ≤ M → (wd_R n m M lz B d).length ≤ 64) : po_I n v (t + 3) (wd_R n m M lz B M) (fun r => 1 + bk_L B k m M M r) (M * S + 1) := by
  obtain ⟨⟨gB, zB, oB, uB⟩, UB, SB, kB⟩ := h
  have k6 := po_or (po_and (po_ckE po_k6 (show v < 4 by omega) (show 0 < 25 by omega) (show 0 < 25 by omega))).2 (decide_eq_false (by omega))
  have H4 : po_H v 4 = 4 := of_decide_eq_true (po_and (po_and k6).1).1
  have H5 : po_H v 5 = 33 := of_decide_eq_true (po_and (po_and k6).1).2
  have A1 : po_AB (v + 1) 1 = 2 := of_decide_eq_true (po_and k6).2
  refine ⟨⟨⟨h64 M (Nat.le_refl _), wd_R_ok gB.2 M⟩, fun h => absurd h (by omega), fun h => absurd h (by omega), fun h => absurd h (by omega)⟩, ?_, ?_, fun P h gP hU h1 hh jl r hr => ?_⟩
  · by_cases t1 : t = 1
    · obtain ⟨w, e, hw⟩ := oB t1
      subst e
      have := po_R_one2 (m := m) (M := M) (lz := lz) hn6 (gB.2 w (List.mem_singleton.mpr rfl)) hw M
      subst t1
      show po_U _ ≤ 64 * po_H v 4
      rw [H4]; omega
    · by_cases t2 : t = 2
      · have := po_U_z (h64 M (Nat.le_refl _)) (po_R_z (m := m) (M := M) (n := n) (lz := lz) (zB (by clear oB; omega)) M)
        subst t2
        show po_U _ ≤ 64 * po_H v 5
        rw [H5]; clear oB; omega
      · have c := of_decide_eq_true (po_or (po_ckE po_k7 (show v < 4 by omega) (show t + 3 < 25 by omega) (show 0 < 25 by omega)) (by rw [decide_eq_false (show ¬ v = 3 by omega), decide_eq_false (show ¬ t + 3 < 6 by clear oB; omega)]; rfl))
        rw [c]
        have a1 := po_U_le (wd_R n m M lz B M)
        have a2 := h64 M (Nat.le_refl _)
        clear oB
        omega
  · clear oB zB uB
    have hMS : M * S ≤ 6 * S := Nat.mul_le_mul_right _ (by omega)
    unfold po_SA at SB
    unfold po_SC
    rw [if_neg (show ¬ v = 3 by omega)]
    rcases (show v = 0 ∨ v = 1 ∨ v = 2 by omega) with q | q | q
    · subst q
      rw [if_neg (by omega), if_neg (by omega)]
      rw [if_neg (by omega), if_neg (by omega), if_pos rfl] at SB
      omega
    · subst q
      rw [if_neg (by omega), if_pos rfl]
      rw [if_neg (by omega), if_pos rfl] at SB
      omega
    · subst q
      rw [if_pos rfl]
      rw [if_pos rfl] at SB
      omega
  · unfold po_X
    by_cases t1 : t = 1
    · obtain ⟨w, e, hw⟩ := oB t1
      subst e
      subst t1
      rw [A1] at kB
      have := po_L1k (m := m) (M := M) (w := w) (c := 2) (r := r) hn6 hM kB hU hr
      refine Nat.le_trans this (po_lift r ?_)
      rw [if_neg (by omega), if_neg (by omega), if_neg (by omega), if_neg (by omega), if_neg (by omega), if_pos (by omega)]
      refine Nat.le_trans ?_ (Nat.le_max_right _ _)
      omega
    · clear oB zB uB
      have := po_loopK (K := po_AB (v + 1) t) (H := po_H (v + 1) t) hn6 hM gB.2 gP hU UB kB h64 jl hr
      refine Nat.le_trans this (po_lift r ?_)
      rw [if_neg (by omega), if_neg (by omega), if_neg (by omega), if_neg (by omega), if_neg (by omega), if_neg (by omega), show t + 3 - 3 = t by omega]
      exact Nat.le_max_right _ _
end
section
/-! ===== making code: the small calls ===== -/
theorem em_ne {op arg lev lo hi lz : Nat → Int32} {cl pc : Nat} {p0 p1 p2 : Int32} (h : pc ≠ cl) : sr_C (upd op cl p0) (upd arg cl p1) (upd lev cl p2) lo hi lz pc = sr_C op arg lev lo hi lz pc := by
  unfold sr_C; rw [pk_un h, pk_un h, pk_un h]
theorem em_eq {op arg lev lo hi lz : Nat → Int32} {cl : Nat} {p0 p1 p2 : Int32} : sr_C (upd op cl p0) (upd arg cl p1) (upd lev cl p2) lo hi lz cl = (p0, p1, p2, lo cl, hi cl, lz cl) := by
  unfold sr_C; rw [pk_us, pk_us, pk_us]
/-- the chain of a group's jumps -/
def em_ch (C : Nat → bk_I) : List Nat → Int32 → Prop
  | [], x => x = -1
  | q :: js, x => x = nI q ∧ em_ch C js (C q).2.1
def em_dec : Nat → List Nat → Prop
  | _, [] => True
  | b, q :: js => q < b ∧ em_dec q js
theorem em_dec_mem : ∀ {js : List Nat} {b q : Nat}, em_dec b js → q ∈ js → q < b := by
  intro js
  induction js with
  | nil => intro b q _ hq; cases hq
  | cons a js ih =>
    intro b q h hq
    rcases List.mem_cons.mp hq with e | e
    · rw [e]; exact h.1
    · have := ih h.2 e; have := h.1; omega
theorem em_dec_mono : ∀ {js : List Nat} {b b' : Nat}, b ≤ b' → em_dec b js → em_dec b' js := by
  intro js
  cases js with
  | nil => intro _ _ _ _; trivial
  | cons a js => intro b b' h hh; exact ⟨by have := hh.1; omega, hh.2⟩
theorem em_ch_keep {C C' : Nat → bk_I} : ∀ {js : List Nat} {x : Int32}, (∀ q, q ∈ js → C' q = C q) → em_ch C js x → em_ch C' js x := by
  intro js
  induction js with
  | nil => intro x _ h; exact h
  | cons a js ih =>
    intro x hk h
    refine ⟨h.1, ?_⟩
    rw [hk a List.mem_cons_self]
    exact ih (fun q hq => hk q (List.mem_cons_of_mem _ hq)) h.2
section
variable {f_opRow f_opFirst f_opFinal f_opBranch f_opJump f_opEnter f_opNext f_opDecide f_opDone f_catSlot f_itemSlot f_rowsSlot f_timesSlot f_scratchSlot f_size f_bufLen f_openCount f_patLen f_codeLen f_depth f_excluded f_termCount f_skipMode f_skipVar f_resPart f_resRows f_resCount f_top f_pc f_pos f_from : Int32} {a_vec a_buf a_opened a_pat a_reads a_op a_arg a_lev a_lo a_hi a_lazy a_useMax a_branchAt a_jumpAt a_enterAt a_terms a_cells a_rowCount a_startOf a_lengthOf a_labels a_outcome a_loop : Nat → Int32} {a_stack : Nat → Int64}
theorem xm_emit {post : Int32 → SX → Prop} {cl d : Nat} {p0 p1 : Int32} (hcl : cl < 64) (h : post (nI cl) (f_opRow, f_opFirst, f_opFinal, f_opBranch, f_opJump, f_opEnter, f_opNext, f_opDecide, f_opDone, f_catSlot, f_itemSlot, f_rowsSlot, f_timesSlot, f_scratchSlot, f_size, f_bufLen, f_openCount, f_patLen, nI (cl + 1), nI d, f_excluded, f_termCount, f_skipMode, f_skipVar, f_resPart, f_resRows, f_resCount, f_top, f_pc, f_pos, f_from, a_vec, a_buf, a_opened, a_pat, a_reads, upd a_op cl p0, upd a_arg cl p1, upd a_lev cl (nI d), a_lo, a_hi, a_lazy, a_useMax, a_branchAt, a_jumpAt, a_enterAt, a_terms, a_cells, a_rowCount, a_startOf, a_lengthOf, a_labels, a_outcome, a_loop, a_stack)) : wpX_emit post (f_opRow, f_opFirst, f_opFinal, f_opBranch, f_opJump, f_opEnter, f_opNext, f_opDecide, f_opDone, f_catSlot, f_itemSlot, f_rowsSlot, f_timesSlot, f_scratchSlot, f_size, f_bufLen, f_openCount, f_patLen, nI cl, nI d, f_excluded, f_termCount, f_skipMode, f_skipVar, f_resPart, f_resRows, f_resCount, f_top, f_pc, f_pos, f_from, a_vec, a_buf, a_opened, a_pat, a_reads, a_op, a_arg, a_lev, a_lo, a_hi, a_lazy, a_useMax, a_branchAt, a_jumpAt, a_enterAt, a_terms, a_cells, a_rowCount, a_startOf, a_lengthOf, a_labels, a_outcome, a_loop, a_stack) p0 p1 := by
  unfold wpX_emit
  dsimp only
  rw [nI_clamp (n := cl) (by omega)]
  exact ⟨vp_in_nI hcl (by omega), nm_e ⟨vp_in_nI hcl (by omega), nm_e ⟨vp_in_nI hcl (by omega), nm_e (nm_r (nI_1 cl) h)⟩⟩⟩
theorem xm_open {post : SX → Prop} {cl d : Nat} (hcl : cl < 64) (hd : d < 4) (h : post (f_opRow, f_opFirst, f_opFinal, f_opBranch, f_opJump, f_opEnter, f_opNext, f_opDecide, f_opDone, f_catSlot, f_itemSlot, f_rowsSlot, f_timesSlot, f_scratchSlot, f_size, f_bufLen, f_openCount, f_patLen, nI (cl + 1), nI d, f_excluded, f_termCount, f_skipMode, f_skipVar, f_resPart, f_resRows, f_resCount, f_top, f_pc, f_pos, f_from, a_vec, a_buf, a_opened, a_pat, a_reads, upd a_op cl 3, upd a_arg cl (-1), upd a_lev cl (nI d), a_lo, a_hi, a_lazy, a_useMax, upd a_branchAt d (nI cl), upd a_jumpAt d (-1), a_enterAt, a_terms, a_cells, a_rowCount, a_startOf, a_lengthOf, a_labels, a_outcome, a_loop, a_stack)) : wpX_openCode post (f_opRow, f_opFirst, f_opFinal, f_opBranch, f_opJump, f_opEnter, f_opNext, f_opDecide, f_opDone, f_catSlot, f_itemSlot, f_rowsSlot, f_timesSlot, f_scratchSlot, f_size, f_bufLen, f_openCount, f_patLen, nI cl, nI d, f_excluded, f_termCount, f_skipMode, f_skipVar, f_resPart, f_resRows, f_resCount, f_top, f_pc, f_pos, f_from, a_vec, a_buf, a_opened, a_pat, a_reads, a_op, a_arg, a_lev, a_lo, a_hi, a_lazy, a_useMax, a_branchAt, a_jumpAt, a_enterAt, a_terms, a_cells, a_rowCount, a_startOf, a_lengthOf, a_labels, a_outcome, a_loop, a_stack) := by
  unfold wpX_openCode
  dsimp only
  refine xm_emit hcl ?_
  dsimp only
  rw [nI_clamp (n := d) (by omega)]
  exact ⟨vp_in_nI hd (by omega), nm_e ⟨vp_in_nI hd (by omega), nm_e h⟩⟩
theorem xm_bar {post : SX → Prop} {cl d x : Nat} (hcl : cl + 1 < 64) (hd : d < 4) (hx : x < 64) (hb : a_branchAt d = nI x)
    (h : post (f_opRow, f_opFirst, f_opFinal, f_opBranch, f_opJump, f_opEnter, f_opNext, f_opDecide, f_opDone, f_catSlot, f_itemSlot, f_rowsSlot, f_timesSlot, f_scratchSlot, f_size, f_bufLen, f_openCount, f_patLen, nI (cl + 2), nI d, f_excluded, f_termCount, f_skipMode, f_skipVar, f_resPart, f_resRows, f_resCount, f_top, f_pc, f_pos, f_from, a_vec, a_buf, a_opened, a_pat, a_reads, upd (upd a_op cl 4) (cl + 1) 3, upd (upd (upd a_arg cl (a_jumpAt d)) (cl + 1) (-1)) x (nI (cl + 1)), upd (upd a_lev cl (nI d)) (cl + 1) (nI d), a_lo, a_hi, a_lazy, a_useMax, upd a_branchAt d (nI (cl + 1)), upd a_jumpAt d (nI cl), a_enterAt, a_terms, a_cells, a_rowCount, a_startOf, a_lengthOf, a_labels, a_outcome, a_loop, a_stack)) : wpX_emitBar post (f_opRow, f_opFirst, f_opFinal, f_opBranch, f_opJump, f_opEnter, f_opNext, f_opDecide, f_opDone, f_catSlot, f_itemSlot, f_rowsSlot, f_timesSlot, f_scratchSlot, f_size, f_bufLen, f_openCount, f_patLen, nI cl, nI d, f_excluded, f_termCount, f_skipMode, f_skipVar, f_resPart, f_resRows, f_resCount, f_top, f_pc, f_pos, f_from, a_vec, a_buf, a_opened, a_pat, a_reads, a_op, a_arg, a_lev, a_lo, a_hi, a_lazy, a_useMax, a_branchAt, a_jumpAt, a_enterAt, a_terms, a_cells, a_rowCount, a_startOf, a_lengthOf, a_labels, a_outcome, a_loop, a_stack) := by
  unfold wpX_emitBar
  dsimp only
  rw [nI_clamp (n := d) (by omega)]
  refine ⟨vp_in_nI hd (by omega), ?_⟩
  refine xm_emit (by omega) ?_
  dsimp only
  refine ⟨vp_in_nI hd (by omega), nm_e ?_⟩
  refine xm_emit hcl ?_
  dsimp only
  rw [nI_clamp (n := d) (by omega), hb, nI_clamp (n := x) (by omega)]
  exact ⟨vp_in_nI hd (by omega), vp_in_nI hx (by omega), nm_e ⟨vp_in_nI hd (by omega), nm_e h⟩⟩
theorem xm_patchL {post : SX → Prop} {cl d : Nat} (hd : d < 4) : ∀ (js : List Nat) (b i : Nat) (arg : Nat → Int32) (x : Int32), em_dec b js → b ≤ 64 → i + js.length ≤ 23 → em_ch (sr_C a_op arg a_lev a_lo a_hi a_lazy) js x → (∀ arg' : Nat → Int32, (∀ q, q ∈ js → arg' q = nI cl) → (∀ q, q ∉ js → arg' q = arg q) → post (f_opRow, f_opFirst, f_opFinal, f_opBranch, f_opJump, f_opEnter, f_opNext, f_opDecide, f_opDone, f_catSlot, f_itemSlot, f_rowsSlot, f_timesSlot, f_scratchSlot, f_size, f_bufLen, f_openCount, f_patLen, nI cl, nI d, f_excluded, f_termCount, f_skipMode, f_skipVar, f_resPart, f_resRows, f_resCount, f_top, f_pc, f_pos, f_from, a_vec, a_buf, a_opened, a_pat, a_reads, a_op, arg', a_lev, a_lo, a_hi, a_lazy, a_useMax, a_branchAt, a_jumpAt, a_enterAt, a_terms, a_cells, a_rowCount, a_startOf, a_lengthOf, a_labels, a_outcome, a_loop, a_stack)) → wX_patchJumps_12 post f_opRow f_opFirst f_opFinal f_opBranch f_opJump f_opEnter f_opNext f_opDecide f_opDone f_catSlot f_itemSlot f_rowsSlot f_timesSlot f_scratchSlot f_size f_bufLen f_openCount f_patLen (nI cl) (nI d) f_excluded f_termCount f_skipMode f_skipVar f_resPart f_resRows f_resCount f_top f_pc f_pos f_from (js.length + 1) x (nI i) a_vec a_buf a_opened a_pat a_reads a_op arg a_lev a_lo a_hi a_lazy a_useMax a_branchAt a_jumpAt a_enterAt a_terms a_cells a_rowCount a_startOf a_lengthOf a_labels a_outcome a_loop a_stack := by
  intro js
  induction js with
  | nil =>
    intro b i arg x _ _ hi hc h
    have hx : x = -1 := hc
    subst hx
    exact br_f (nI_ge (b := 24) (by rw [List.length_nil] at hi; omega) (by omega)) (br_t (by decide) (h arg (fun q hq => nomatch hq) (fun _ _ => rfl)))
  | cons a js ih =>
    intro b i arg x hdc hb hi hc h
    obtain ⟨hx, hc⟩ := hc
    subst hx
    rw [List.length_cons] at hi
    have ha := hdc.1
    refine br_f (nI_ge (b := 24) (by omega) (by omega)) (br_f (nI_pos (by omega)) ⟨vp_in_nI (by omega) (by omega), ?_⟩)
    rw [nI_clamp (n := a) (by omega)]
    refine nm_e ⟨vp_in_nI (by omega) (by omega), nm_e (nm_r (nI_1 i) ?_)⟩
    refine ih a (i + 1) (upd arg a (nI cl)) (arg a) hdc.2 (by omega) (by omega) (em_ch_keep (fun q hq => ?_) hc) (fun arg' g1 g2 => h arg' (fun q hq => ?_) (fun q hq => ?_))
    · have := em_dec_mem hdc.2 hq
      unfold sr_C
      rw [pk_un (by omega)]
    · rcases List.mem_cons.mp hq with e | e
      · subst e
        by_cases hm : q ∈ js
        · exact g1 q hm
        · rw [g2 q hm, pk_us]
      · exact g1 q e
    · rw [g2 q (fun hm => hq (List.mem_cons_of_mem _ hm)), pk_un (fun e => hq (by rw [e]; exact List.mem_cons_self))]
theorem xm_patch {post : SX → Prop} {cl d b : Nat} {js : List Nat} (hd : d < 4) (hdc : em_dec b js) (hb : b ≤ 64) (hl : js.length ≤ 23) (hc : em_ch (sr_C a_op a_arg a_lev a_lo a_hi a_lazy) js (a_jumpAt d))
    (h : ∀ arg' : Nat → Int32, (∀ q, q ∈ js → arg' q = nI cl) → (∀ q, q ∉ js → arg' q = a_arg q) → post (f_opRow, f_opFirst, f_opFinal, f_opBranch, f_opJump, f_opEnter, f_opNext, f_opDecide, f_opDone, f_catSlot, f_itemSlot, f_rowsSlot, f_timesSlot, f_scratchSlot, f_size, f_bufLen, f_openCount, f_patLen, nI cl, nI d, f_excluded, f_termCount, f_skipMode, f_skipVar, f_resPart, f_resRows, f_resCount, f_top, f_pc, f_pos, f_from, a_vec, a_buf, a_opened, a_pat, a_reads, a_op, arg', a_lev, a_lo, a_hi, a_lazy, a_useMax, a_branchAt, a_jumpAt, a_enterAt, a_terms, a_cells, a_rowCount, a_startOf, a_lengthOf, a_labels, a_outcome, a_loop, a_stack)) : wpX_patchJumps post (f_opRow, f_opFirst, f_opFinal, f_opBranch, f_opJump, f_opEnter, f_opNext, f_opDecide, f_opDone, f_catSlot, f_itemSlot, f_rowsSlot, f_timesSlot, f_scratchSlot, f_size, f_bufLen, f_openCount, f_patLen, nI cl, nI d, f_excluded, f_termCount, f_skipMode, f_skipVar, f_resPart, f_resRows, f_resCount, f_top, f_pc, f_pos, f_from, a_vec, a_buf, a_opened, a_pat, a_reads, a_op, a_arg, a_lev, a_lo, a_hi, a_lazy, a_useMax, a_branchAt, a_jumpAt, a_enterAt, a_terms, a_cells, a_rowCount, a_startOf, a_lengthOf, a_labels, a_outcome, a_loop, a_stack) := by
  unfold wpX_patchJumps
  dsimp only
  rw [nI_clamp (n := d) (by omega)]
  exact ⟨vp_in_nI hd (by omega), nm_e ⟨js.length + 1, xm_patchL hd js b 0 a_arg (a_jumpAt d) hdc hb (by omega) hc h⟩⟩
theorem xm_loop {post : SX → Prop} {n cl d c i t u : Nat} (hn : n ≤ 6) (hcl : cl + 1 < 64) (hd : d < 4) (hc : c < 64) (hi : i < 24) (he : a_enterAt d = nI c) (hp : a_pat i = nI t) (ht : tk_q n t) (hu : a_useMax i = nI u)
    (h : post (f_opRow, f_opFirst, f_opFinal, f_opBranch, f_opJump, f_opEnter, f_opNext, f_opDecide, f_opDone, f_catSlot, f_itemSlot, f_rowsSlot, f_timesSlot, f_scratchSlot, f_size, f_bufLen, f_openCount, f_patLen, nI (cl + 2), nI d, f_excluded, f_termCount, f_skipMode, f_skipVar, f_resPart, f_resRows, f_resCount, f_top, f_pc, f_pos, f_from, a_vec, a_buf, a_opened, a_pat, a_reads, upd (upd a_op cl 6) (cl + 1) 7, upd (upd (upd a_arg cl 0) (cl + 1) (nI (c + 1))) c (nI (cl + 1)), upd (upd a_lev cl (nI d)) (cl + 1) (nI d), upd (upd a_lo cl (nI (pe_mn t))) (cl + 1) (nI (pe_mn t)), upd a_hi (cl + 1) (nI u), upd a_lazy (cl + 1) (nI ((t - 100) % 2)), a_useMax, a_branchAt, a_jumpAt, a_enterAt, a_terms, a_cells, a_rowCount, a_startOf, a_lengthOf, a_labels, a_outcome, a_loop, a_stack)) : wpX_emitLoop post (f_opRow, f_opFirst, f_opFinal, f_opBranch, f_opJump, f_opEnter, f_opNext, f_opDecide, f_opDone, f_catSlot, f_itemSlot, f_rowsSlot, f_timesSlot, f_scratchSlot, f_size, f_bufLen, f_openCount, f_patLen, nI cl, nI d, f_excluded, f_termCount, f_skipMode, f_skipVar, f_resPart, f_resRows, f_resCount, f_top, f_pc, f_pos, f_from, a_vec, a_buf, a_opened, a_pat, a_reads, a_op, a_arg, a_lev, a_lo, a_hi, a_lazy, a_useMax, a_branchAt, a_jumpAt, a_enterAt, a_terms, a_cells, a_rowCount, a_startOf, a_lengthOf, a_labels, a_outcome, a_loop, a_stack) (nI i) := by
  obtain ⟨mn, mx, z, e, hm, hx1, hx2, hz⟩ := ht
  have q1 : pe_mn t = (t - 100) / 20 := rfl
  have e1 : nI t - 100 = nI (t - 100) := pk_sub (b := 100) (by omega)
  have e2 : nI (t - 100) / 20 = nI (pe_mn t) := pk_div (a := t - 100) (d := 20) (by omega) (by omega) (by omega)
  have e3 : nI (t - 100) - nI (t - 100) / 2 * 2 = nI ((t - 100) % 2) := pk_rem (a := t - 100) (d := 2) (by omega) (by omega) (by omega)
  unfold wpX_emitLoop
  dsimp only
  rw [nI_clamp (n := i) (by omega), nI_clamp (n := d) (by omega), hp, he]
  refine ⟨vp_in_nI hi (by omega), nm_r e1 ⟨vp_in_nI hd (by omega), nm_e ?_⟩⟩
  refine xm_emit (by omega) ?_
  dsimp only
  rw [nI_clamp (n := cl) (by omega), e2]
  refine ⟨by decide, vp_in_nI (by omega) (by omega), nm_e ?_⟩
  refine xm_emit hcl ?_
  dsimp only
  rw [nI_clamp (n := cl + 1) (by omega), hu, e3, nI_clamp (n := c) (by omega), nI_1]
  refine ⟨by decide, vp_in_nI (by omega) (by omega), nm_e ⟨vp_in_nI hi (by omega), vp_in_nI (by omega) (by omega), nm_e ⟨by decide, pk_eq ((t - 100) % 2) 1 (fun q => ?_) (fun q => ?_)⟩⟩⟩
  · rw [q] at h
    exact ⟨vp_in_nI (by omega) (by omega), nm_e ⟨vp_in_nI (by omega) (by omega), nm_e h⟩⟩
  · have q0 : (t - 100) % 2 = 0 := by omega
    rw [q0] at h
    exact ⟨vp_in_nI (by omega) (by omega), nm_e ⟨vp_in_nI (by omega) (by omega), nm_e h⟩⟩
end
/-! ===== looking ahead for a quantifier ===== -/
def em_nx (t m : Nat) : Nat := if t = 6 ∨ t = 8 then m + 1 else if t = 7 ∨ t = 9 then m - 1 else m
def em_hq : List Nat → Bool
  | [] => false
  | q :: _ => decide (100 ≤ q)
def em_sc : List Nat → Nat → Bool
  | [], _ => false
  | t :: rs, m => if em_nx t m = 0 then em_hq rs else em_sc rs (em_nx t m)
section
variable {f_opRow f_opFirst f_opFinal f_opBranch f_opJump f_opEnter f_opNext f_opDecide f_opDone f_catSlot f_itemSlot f_rowsSlot f_timesSlot f_scratchSlot f_size f_bufLen f_openCount f_patLen f_codeLen f_depth f_excluded f_termCount f_skipMode f_skipVar f_resPart f_resRows f_resCount f_top f_pc f_pos f_from : Int32} {a_vec a_buf a_opened a_pat a_reads a_op a_arg a_lev a_lo a_hi a_lazy a_useMax a_branchAt a_jumpAt a_enterAt a_terms a_cells a_rowCount a_startOf a_lengthOf a_labels a_outcome a_loop : Nat → Int32} {a_stack : Nat → Int64}
theorem xm_iq {post : Int32 → Prop} {pl : Nat} {F : List Nat} (hF : F.length = pl) (hpl : pl ≤ 24) (htok : ∀ t, t ∈ F → t < 240) (hp : ∀ i, i < pl → a_pat i = nI (F.getD i 0)) :
    ∀ (rs : List Nat) (j m : Nat), F.drop j = rs → j ≤ pl → (m = 0 → ∃ t r, rs = t :: r ∧ t ≠ 7 ∧ t ≠ 9) → m ≤ 100 → m + rs.length ≤ 100 → post (hv_b (em_sc rs m)) → wX_isQuantified_4 post f_opRow f_opFirst f_opFinal f_opBranch f_opJump f_opEnter f_opNext f_opDecide f_opDone f_catSlot f_itemSlot f_rowsSlot f_timesSlot f_scratchSlot f_size f_bufLen f_openCount (nI pl) f_codeLen f_depth f_excluded f_termCount f_skipMode f_skipVar f_resPart f_resRows f_resCount f_top f_pc f_pos f_from a_vec a_buf a_opened a_pat a_reads a_op a_arg a_lev a_lo a_hi a_lazy a_useMax a_branchAt a_jumpAt a_enterAt a_terms a_cells a_rowCount a_startOf a_lengthOf a_labels a_outcome a_loop a_stack (rs.length + 1) (nI m) (nI j) := by
  intro rs
  induction rs with
  | nil =>
    intro j m hd hj hm hm1 hm2 hpost
    have hjl : pl ≤ j := by
      have := congrArg List.length hd
      rw [List.length_drop, hF, List.length_nil] at this
      omega
    exact br_t (nI_le hjl (by omega)) hpost
  | cons t rs ih =>
    intro j m hd hj hm hm1 hm2 hpost
    have hjl : j < pl := by
      have := congrArg List.length hd
      rw [List.length_drop, hF, List.length_cons] at this
      omega
    have hget : F.getD j 0 = t := by
      have h1 : (F.drop j)[0]? = some t := by rw [hd]; rfl
      rw [List.getElem?_drop, Nat.add_zero] at h1
      rw [List.getD_eq_getElem?_getD, h1]; rfl
    have ht : t < 240 := by
      apply htok
      have h1 : (F.drop j)[0]? = some t := by rw [hd]; rfl
      rw [List.getElem?_drop, Nat.add_zero] at h1
      exact List.mem_of_getElem? h1
    have hd2 : F.drop (j + 1) = rs := by
      rw [← List.drop_drop, hd]; rfl
    have hpj := hp j hjl
    rw [hget] at hpj
    rw [List.length_cons] at hm2
    rw [em_sc] at hpost
    refine br_f (nI_ge hjl (by omega)) ⟨vp_in_nI (by omega) (by omega), ?_⟩
    rw [nI_clamp (n := j) (by omega), hpj]
    refine nm_e ?_
    have k54 : ∀ m' : Nat, m' = em_nx t m → wX_isQuantified_54 post (wX_isQuantified_4 post f_opRow f_opFirst f_opFinal f_opBranch f_opJump f_opEnter f_opNext f_opDecide f_opDone f_catSlot f_itemSlot f_rowsSlot f_timesSlot f_scratchSlot f_size f_bufLen f_openCount (nI pl) f_codeLen f_depth f_excluded f_termCount f_skipMode f_skipVar f_resPart f_resRows f_resCount f_top f_pc f_pos f_from a_vec a_buf a_opened a_pat a_reads a_op a_arg a_lev a_lo a_hi a_lazy a_useMax a_branchAt a_jumpAt a_enterAt a_terms a_cells a_rowCount a_startOf a_lengthOf a_labels a_outcome a_loop a_stack (rs.length + 1)) (nI m') (nI j) f_opRow f_opFirst f_opFinal f_opBranch f_opJump f_opEnter f_opNext f_opDecide f_opDone f_catSlot f_itemSlot f_rowsSlot f_timesSlot f_scratchSlot f_size f_bufLen f_openCount (nI pl) f_codeLen f_depth f_excluded f_termCount f_skipMode f_skipVar f_resPart f_resRows f_resCount f_top f_pc f_pos f_from a_vec a_buf a_opened a_pat a_reads a_op a_arg a_lev a_lo a_hi a_lazy a_useMax a_branchAt a_jumpAt a_enterAt a_terms a_cells a_rowCount a_startOf a_lengthOf a_labels a_outcome a_loop a_stack := by
      intro m' hm'
      have hle : m' ≤ m + 1 := by rw [hm']; unfold em_nx; split; omega; split <;> omega
      refine pk_eq m' 0 (fun q => ?_) (fun q => ?_)
      · rw [← hm', if_pos q] at hpost
        rw [nI_1]
        cases rs with
        | nil =>
          have hjl2 : pl ≤ j + 1 := by
            have := congrArg List.length hd2
            rw [List.length_drop, hF, List.length_nil] at this
            omega
          exact br_t (nI_le hjl2 (by omega)) hpost
        | cons s rs =>
          have hjl2 : j + 1 < pl := by
            have := congrArg List.length hd2
            rw [List.length_drop, hF, List.length_cons] at this
            omega
          have h1 : (F.drop (j + 1))[0]? = some s := by rw [hd2]; rfl
          rw [List.getElem?_drop, Nat.add_zero] at h1
          have hget2 : F.getD (j + 1) 0 = s := by rw [List.getD_eq_getElem?_getD, h1]; rfl
          have hs := htok s (List.mem_of_getElem? h1)
          have hpj2 := hp (j + 1) hjl2
          rw [hget2] at hpj2
          refine br_f (nI_ge hjl2 (by omega)) ?_
          rw [nI_clamp (n := j + 1) (by omega), hpj2]
          have hh : hv_b (em_hq (s :: rs)) = hv_b (decide (100 ≤ s)) := rfl
          rw [hh] at hpost
          refine ⟨vp_in_nI (by omega) (by omega), pk_lt s 100 (fun q1 => ?_) (fun q1 => ?_)⟩
          · rw [decide_eq_false (by omega)] at hpost; exact hpost
          · rw [decide_eq_true q1] at hpost; exact hpost
      · rw [← hm', if_neg q] at hpost
        exact nm_r (nI_1 j) (ih (j + 1) m' hd2 (by omega) (fun h0 => absurd h0 q) (by omega) (by omega) hpost)
    have k37 : ∀ m' : Nat, (t = 6 ∨ t = 8 → m' = em_nx t m) → (¬ (t = 6 ∨ t = 8) → m' = m) → wX_isQuantified_37 post (wX_isQuantified_4 post f_opRow f_opFirst f_opFinal f_opBranch f_opJump f_opEnter f_opNext f_opDecide f_opDone f_catSlot f_itemSlot f_rowsSlot f_timesSlot f_scratchSlot f_size f_bufLen f_openCount (nI pl) f_codeLen f_depth f_excluded f_termCount f_skipMode f_skipVar f_resPart f_resRows f_resCount f_top f_pc f_pos f_from a_vec a_buf a_opened a_pat a_reads a_op a_arg a_lev a_lo a_hi a_lazy a_useMax a_branchAt a_jumpAt a_enterAt a_terms a_cells a_rowCount a_startOf a_lengthOf a_labels a_outcome a_loop a_stack (rs.length + 1)) (nI m') (nI j) (nI t) f_opRow f_opFirst f_opFinal f_opBranch f_opJump f_opEnter f_opNext f_opDecide f_opDone f_catSlot f_itemSlot f_rowsSlot f_timesSlot f_scratchSlot f_size f_bufLen f_openCount (nI pl) f_codeLen f_depth f_excluded f_termCount f_skipMode f_skipVar f_resPart f_resRows f_resCount f_top f_pc f_pos f_from a_vec a_buf a_opened a_pat a_reads a_op a_arg a_lev a_lo a_hi a_lazy a_useMax a_branchAt a_jumpAt a_enterAt a_terms a_cells a_rowCount a_startOf a_lengthOf a_labels a_outcome a_loop a_stack := by
      intro m' h1 h2
      have k51 : t = 7 ∨ t = 9 → wX_isQuantified_51 post (wX_isQuantified_4 post f_opRow f_opFirst f_opFinal f_opBranch f_opJump f_opEnter f_opNext f_opDecide f_opDone f_catSlot f_itemSlot f_rowsSlot f_timesSlot f_scratchSlot f_size f_bufLen f_openCount (nI pl) f_codeLen f_depth f_excluded f_termCount f_skipMode f_skipVar f_resPart f_resRows f_resCount f_top f_pc f_pos f_from a_vec a_buf a_opened a_pat a_reads a_op a_arg a_lev a_lo a_hi a_lazy a_useMax a_branchAt a_jumpAt a_enterAt a_terms a_cells a_rowCount a_startOf a_lengthOf a_labels a_outcome a_loop a_stack (rs.length + 1)) (nI m') (nI j) f_opRow f_opFirst f_opFinal f_opBranch f_opJump f_opEnter f_opNext f_opDecide f_opDone f_catSlot f_itemSlot f_rowsSlot f_timesSlot f_scratchSlot f_size f_bufLen f_openCount (nI pl) f_codeLen f_depth f_excluded f_termCount f_skipMode f_skipVar f_resPart f_resRows f_resCount f_top f_pc f_pos f_from a_vec a_buf a_opened a_pat a_reads a_op a_arg a_lev a_lo a_hi a_lazy a_useMax a_branchAt a_jumpAt a_enterAt a_terms a_cells a_rowCount a_startOf a_lengthOf a_labels a_outcome a_loop a_stack := by
        intro h79
        have hm' := h2 (by omega)
        have hm0 : m ≠ 0 := fun h0 => by
          obtain ⟨t', r', e, e7, e9⟩ := hm h0
          obtain ⟨e1, e2⟩ := List.cons.inj e
          omega
        have e1 : nI m' + (-1) = nI (m - 1) := by rw [hm']; exact sb_m1 (by omega)
        exact nm_r e1 (k54 (m - 1) (by unfold em_nx; rw [if_neg (by omega), if_pos h79]))
      refine pk_eq t 7 (fun q => k51 (Or.inl q)) (fun q7 => pk_eq t 9 (fun q => k51 (Or.inr q)) (fun q9 => k54 m' ?_))
      by_cases h68 : t = 6 ∨ t = 8
      · exact h1 h68
      · rw [h2 h68]; unfold em_nx; rw [if_neg h68, if_neg (by omega)]
    have k34 : t = 6 ∨ t = 8 → wX_isQuantified_34 post (wX_isQuantified_4 post f_opRow f_opFirst f_opFinal f_opBranch f_opJump f_opEnter f_opNext f_opDecide f_opDone f_catSlot f_itemSlot f_rowsSlot f_timesSlot f_scratchSlot f_size f_bufLen f_openCount (nI pl) f_codeLen f_depth f_excluded f_termCount f_skipMode f_skipVar f_resPart f_resRows f_resCount f_top f_pc f_pos f_from a_vec a_buf a_opened a_pat a_reads a_op a_arg a_lev a_lo a_hi a_lazy a_useMax a_branchAt a_jumpAt a_enterAt a_terms a_cells a_rowCount a_startOf a_lengthOf a_labels a_outcome a_loop a_stack (rs.length + 1)) (nI m) (nI j) (nI t) f_opRow f_opFirst f_opFinal f_opBranch f_opJump f_opEnter f_opNext f_opDecide f_opDone f_catSlot f_itemSlot f_rowsSlot f_timesSlot f_scratchSlot f_size f_bufLen f_openCount (nI pl) f_codeLen f_depth f_excluded f_termCount f_skipMode f_skipVar f_resPart f_resRows f_resCount f_top f_pc f_pos f_from a_vec a_buf a_opened a_pat a_reads a_op a_arg a_lev a_lo a_hi a_lazy a_useMax a_branchAt a_jumpAt a_enterAt a_terms a_cells a_rowCount a_startOf a_lengthOf a_labels a_outcome a_loop a_stack := by
      intro h68
      exact nm_r (nI_1 m) (k37 (m + 1) (fun _ => by unfold em_nx; rw [if_pos h68]) (fun hh => absurd h68 hh))
    exact pk_eq t 6 (fun q => k34 (Or.inl q)) (fun q6 => pk_eq t 8 (fun q => k34 (Or.inr q)) (fun q8 => k37 m (fun hh => by omega) (fun _ => rfl)))
end
end
section
/-! ===== making code: what stands so far ===== -/
def em_mk (x : Bool) (E : List (List Nat)) : List (List Nat) := if x = true then E.map wd_ex else E
def em_n (fs : List (Nat × List (List Nat) × List (List Nat))) : Nat := (fs.filter (fun f => decide (f.1 = 8))).length
def em_x (fs : List (Nat × List (List Nat) × List (List Nat))) : Bool := decide (0 < em_n fs)
theorem em_mk_join (x : Bool) (n : Nat) (P Q : List (List Nat)) : em_mk x (wd_join n P Q) = wd_join n (em_mk x P) (em_mk x Q) := by
  unfold em_mk
  cases x with
  | true => exact wd_ex_join n Q P
  | false => rfl
theorem em_mk_app (x : Bool) (P Q : List (List Nat)) : em_mk x (P ++ Q) = em_mk x P ++ em_mk x Q := by
  unfold em_mk
  cases x with
  | true => exact List.map_append
  | false => rfl
theorem em_mk_len (x : Bool) (P : List (List Nat)) : (em_mk x P).length = P.length := by
  unfold em_mk
  cases x with
  | true => exact List.length_map _
  | false => rfl
theorem em_mk_unit (x : Bool) : em_mk x [[]] = [[]] := by cases x <;> rfl
theorem em_mk_nil (x : Bool) : em_mk x [] = [] := by cases x <;> rfl
theorem em_mk_ok {x : Bool} {n : Nat} {P : List (List Nat)} (h : ∀ w, w ∈ P → wd_ok n w) : ∀ w, w ∈ em_mk x P → wd_ok n w := by
  cases x with
  | true =>
    intro w hw
    obtain ⟨b, hb, rfl⟩ := List.mem_map.mp hw
    exact wd_ex_ok (h b hb)
  | false => exact h
theorem em_mk_R (x : Bool) (n m M : Nat) (lz : Bool) (B : List (List Nat)) (d : Nat) : em_mk x (wd_R n m M lz B d) = wd_R n m M lz (em_mk x B) d := by
  unfold em_mk
  cases x with
  | true => exact wd_ex_R n m M lz B d
  | false => rfl
theorem em_mk_rows (x : Bool) (B : List (List Nat)) : wd_rows (em_mk x B) = [] ↔ wd_rows B = [] := by
  cases x with
  | true =>
    show wd_rows (B.map wd_ex) = [] ↔ _
    rw [← wd_ex_rows]
    exact List.map_eq_nil_iff
  | false => exact Iff.rfl
/-- a group's code: first branch a, last branch x, the cat's items to c, jumps js, whether an enter stands before it; tokens, costs, stack needs of the alternatives and of the cat -/
abbrev em_G : Type := Nat × Nat × Nat × List Nat × Bool × Nat × (Nat → Nat) × Nat × Nat × (Nat → Nat) × Nat
def em_fr (n : Nat) (C : Nat → bk_I) (v : Nat) (ex : Bool) (A Cw : List (List Nat)) : em_G → Prop
  | (a, x, c, js, _, tA, kA, SA, tC, kC, SC) => a ≤ x ∧ x + 1 ≤ c ∧ (C x).1 = 3 ∧ (C x).2.1 = -1 ∧ em_dec x js ∧ js.length ≤ tA ∧ (∀ q, q ∈ js → a ≤ q ∧ (C q).1 = 4) ∧ bk_Pre C n a x js (em_mk ex A) kA SA (4 - v) (2 * v) ∧ bk_Blk C n (x + 1) c (em_mk ex Cw) kC SC (4 - v) (2 * v) ∧ po_P n v tA (em_mk ex A) kA SA ∧ po_C n v tC (em_mk ex Cw) kC SC ∧ tA ≠ 1
def em_c : List em_G → Nat
  | [] => 0
  | (_, _, c, _) :: _ => c
def em_F (n : Nat) (C : Nat → bk_I) (br ju en : Nat → Int32) : List (Nat × List (List Nat) × List (List Nat)) → List em_G → Prop
  | [], [] => True
  | (k, A, Cw) :: fs, (a, x, c, js, fq, tA, kA, SA, tC, kC, SC) :: gs => em_fr n C fs.length (em_x ((k, A, Cw) :: fs)) A Cw (a, x, c, js, fq, tA, kA, SA, tC, kC, SC) ∧ br fs.length = nI x ∧ em_ch C js (ju fs.length) ∧
      (a = em_c gs + (if fq = true then 1 else 0) ∧ (fq = true → gs ≠ [] ∧ (C (em_c gs)).1 = 5 ∧ (C (em_c gs)).2.2.1 = nI (fs.length - 1) ∧ en (fs.length - 1) = nI (em_c gs))) ∧ em_F n C br ju en fs gs
  | _, _ => False
def em_Q (rest : List Nat) : Nat → List em_G → Prop
  | _, [] => True
  | m, (_, _, _, _, fq, _) :: gs => (gs ≠ [] → fq = em_sc rest m) ∧ em_Q rest (m + 1) gs
def em_t : List em_G → Nat
  | [] => 0
  | (_, _, _, _, _, tA, _, _, tC, _, _) :: gs => tA + tC + (if gs = [] then 0 else 1) + em_t gs
def em_P (n : Nat) (C : Nat → bk_I) (en : Nat → Int32) (d c cl : Nat) (V : List (List Nat)) (nq : Bool) (t : Nat) (k : Nat → Nat) (S : Nat) : Prop :=
  (nq = false → bk_Blk C n c cl V k S (4 - d) (2 * d) ∧ po_I n d t V k S) ∧
  (nq = true → (C c).1 = 5 ∧ (C c).2.2.1 = nI d ∧ en d = nI c ∧ c + 1 ≤ cl ∧ ((∃ w, V = [w] ∧ wd_ok n w ∧ wd_sz w ≤ 1 ∧ t = 1 ∧ bk_Blk C n (c + 1) cl [w] (fun _ => 1) 0 0 (2 * d + 2)) ∨ (d < 3 ∧ ∃ tB, t = tB + 2 ∧ 1 ≤ tB ∧ bk_Blk C n (c + 1) cl V k S (3 - d) (2 * d + 2) ∧ po_A n (d + 1) tB V k S)))
/-- all of it, behind the tokens r -/
def em_E (n : Nat) (C : Nat → bk_I) (br ju en : Nat → Int32) (cl : Nat) (r rest : List Nat) (nq : Bool) : Prop :=
  ∃ (gs : List em_G) (t : Nat) (k : Nat → Nat) (S : Nat), em_F n C br ju en (pe n r).1 gs ∧ em_Q rest 1 gs ∧ em_P n C en ((pe n r).1.length - 1) (em_c gs) cl (em_mk (em_x (pe n r).1) (pe n r).2) nq t k S ∧ em_c gs ≤ cl ∧ cl ≤ 2 * r.length + 1 ∧ em_t gs + t = r.length ∧ (tk_ie r → 1 ≤ t)
theorem em_frK {n : Nat} {C C' : Nat → bk_I} {v : Nat} {ex : Bool} {A Cw : List (List Nat)} {a x c : Nat} {js : List Nat} {fq : Bool} {tA : Nat} {kA : Nat → Nat} {SA tC : Nat} {kC : Nat → Nat} {SC : Nat} (h : em_fr n C v ex A Cw (a, x, c, js, fq, tA, kA, SA, tC, kC, SC)) (hk : ∀ pc, pc < c → C' pc = C pc) : em_fr n C' v ex A Cw (a, x, c, js, fq, tA, kA, SA, tC, kC, SC) := by
  obtain ⟨h1, h2, h3, h4, h5, h6, h7, h8, h9, h10, h11, h12⟩ := h
  have hx := hk x (by omega)
  refine ⟨h1, h2, by rw [hx]; exact h3, by rw [hx]; exact h4, h5, h6, fun q hq => ⟨(h7 q hq).1, ?_⟩, bk_preLoc h8 (fun pc p1 p2 _ => hk pc (by omega)), bk_loc h9 (fun pc p1 p2 => hk pc p2), h10, h11, h12⟩
  rw [hk q (by have := em_dec_mem h5 hq; omega)]
  exact (h7 q hq).2
theorem em_FK {n : Nat} {C C' : Nat → bk_I} {br br' ju ju' en en' : Nat → Int32} : ∀ {fs : List (Nat × List (List Nat) × List (List Nat))} {gs : List em_G}, em_F n C br ju en fs gs → (∀ pc, pc < em_c gs → C' pc = C pc) → (∀ j, j < fs.length → br' j = br j ∧ ju' j = ju j) → (∀ j, j + 1 < fs.length → en' j = en j) → em_F n C' br' ju' en' fs gs := by
  intro fs
  induction fs with
  | nil =>
    intro gs h _ _ _
    cases gs with
    | nil => trivial
    | cons g gs => exact h
  | cons f fs ih =>
    intro gs h hC hb he
    obtain ⟨k, A, Cw⟩ := f
    cases gs with
    | nil => exact h
    | cons g gs =>
      obtain ⟨a, x, c, js, fq, tA, kA, SA, tC, kC, SC⟩ := g
      obtain ⟨h1, h2, h3, ⟨h4, h5⟩, h6⟩ := h
      have hC' : ∀ pc, pc < c → C' pc = C pc := hC
      have hax : a ≤ x := h1.1
      have hxc : x + 1 ≤ c := h1.2.1
      have hjs : em_dec x js := h1.2.2.2.2.1
      rw [List.length_cons] at hb he
      refine ⟨em_frK h1 hC', by rw [(hb _ (by omega)).1]; exact h2, ?_, ⟨h4, fun hf => ?_⟩, ih h6 (fun pc hp => hC' pc (by omega)) (fun j hj => hb j (by omega)) (fun j hj => he j (by omega))⟩
      · rw [(hb _ (by omega)).2]
        exact em_ch_keep (fun q hq => hC' q (by have := em_dec_mem hjs hq; omega)) h3
      · obtain ⟨g1, g2, g3, g4⟩ := h5 hf
        rw [if_pos hf] at h4
        rw [hC' (em_c gs) (by omega)]
        refine ⟨g1, g2, g3, ?_⟩
        cases fs with
        | nil =>
          cases gs with
          | nil => exact absurd rfl g1
          | cons g2 gs2 => exact absurd h6 (fun hh => hh)
        | cons f2 fs2 => rw [he _ (by rw [List.length_cons]; omega)]; exact g4
theorem em_QK {rest rest' : List Nat} : ∀ {gs : List em_G} {m m' : Nat}, (∀ q, em_sc rest (m + q) = em_sc rest' (m' + q)) → em_Q rest m gs → em_Q rest' m' gs := by
  intro gs
  induction gs with
  | nil => intro m m' _ _; trivial
  | cons g gs ih =>
    obtain ⟨a, x, c, js, fq, tA, kA, SA, tC, kC, SC⟩ := g
    intro m m' hq h
    refine ⟨fun hn => by rw [h.1 hn]; exact hq 0, ih (fun q => ?_) h.2⟩
    have := hq (1 + q)
    rw [← Nat.add_assoc, ← Nat.add_assoc] at this
    exact this
/-- the pending item joins its cat -/
theorem em_mg {n : Nat} {C : Nat → bk_I} {v cl : Nat} {ex : Bool} {A Cw I : List (List Nat)} {a x c : Nat} {js : List Nat} {fq : Bool} {tA : Nat} {kA : Nat → Nat} {SA tC : Nat} {kC : Nat → Nat} {SC t : Nat} {k : Nat → Nat} {S : Nat} (hn6 : n ≤ 6) (hv : v < 4) (h : em_fr n C v ex A Cw (a, x, c, js, fq, tA, kA, SA, tC, kC, SC)) (hcl : c ≤ cl) (ht : tC + t ≤ 24) (hB : bk_Blk C n c cl (em_mk ex I) k S (4 - v) (2 * v)) (hp : po_I n v t (em_mk ex I) k S) (h64 : (wd_join n Cw I).length ≤ 64) :
    em_fr n C v ex A (wd_join n Cw I) (a, x, cl, js, fq, tA, kA, SA, tC + t, (fun r => kC r + bk_ks (em_mk ex Cw) k r), SC + S) := by
  obtain ⟨h1, h2, h3, h4, h5, h6, h7, h8, h9, h10, h11, h12⟩ := h
  refine ⟨h1, by omega, h3, h4, h5, h6, h7, h8, ?_, h10, ?_, h12⟩
  · rw [em_mk_join]; exact bk_cat h2 hcl h9 hB
  · rw [em_mk_join]; exact po_cat hn6 hv ht h11 hp (by rw [← em_mk_join, em_mk_len]; exact h64)
end
section
/-! ===== making code: one token, without the program ===== -/
section
variable {n : Nat} {C C' : Nat → bk_I} {br br' ju ju' en en' : Nat → Int32} {cl cl' t k : Nat} {r rest : List Nat} {nq : Bool} {A Cw I : List (List Nat)} {fs : List (Nat × List (List Nat) × List (List Nat))}
theorem em_scS {t : Nat} {rest : List Nat} {m m' : Nat} (h : em_nx t m = m') (h0 : m' ≠ 0) : em_sc (t :: rest) m = em_sc rest m' := by
  rw [em_sc, h, if_neg h0]
theorem em_xc {k : Nat} {A B A' B' : List (List Nat)} {fs : List (Nat × List (List Nat) × List (List Nat))} : em_x ((k, A, B) :: fs) = em_x ((k, A', B') :: fs) := by
  unfold em_x em_n
  by_cases h : k = 8
  · rw [List.filter_cons_of_pos (by exact decide_eq_true h), List.filter_cons_of_pos (by exact decide_eq_true h)]; rfl
  · rw [List.filter_cons_of_neg (by rw [decide_eq_false h]; decide), List.filter_cons_of_neg (by rw [decide_eq_false h]; decide)]
theorem em_Flen : ∀ {fs : List (Nat × List (List Nat) × List (List Nat))} {gs : List em_G}, em_F n C br ju en fs gs → gs.length = fs.length := by
  intro fs
  induction fs with
  | nil =>
    intro gs h
    cases gs with
    | nil => rfl
    | cons g gs => exact absurd h (fun hh => hh)
  | cons f fs ih =>
    intro gs h
    obtain ⟨k, A, Cw⟩ := f
    cases gs with
    | nil => exact absurd h (fun hh => hh)
    | cons g gs =>
      obtain ⟨a, x, c, js, fq, tA, kA, SA, tC, kC, SC⟩ := g
      rw [List.length_cons, List.length_cons, ih h.2.2.2.2]
theorem em_merge (hn6 : n ≤ 6) (hV : tk_V n r) (hE : em_E n C br ju en cl r rest false) (hp : pe n r = ((k, A, Cw) :: fs, I)) (h64 : (wd_join n Cw I).length ≤ 64) (hr : r.length ≤ 24) :
    ∃ (a x : Nat) (js : List Nat) (fq : Bool) (tA : Nat) (kA : Nat → Nat) (SA tC : Nat) (kC : Nat → Nat) (SC : Nat) (gs : List em_G), em_F n C br ju en ((k, A, wd_join n Cw I) :: fs) ((a, x, cl, js, fq, tA, kA, SA, tC, kC, SC) :: gs) ∧ em_Q rest 1 ((a, x, cl, js, fq, tA, kA, SA, tC, kC, SC) :: gs) ∧ em_t ((a, x, cl, js, fq, tA, kA, SA, tC, kC, SC) :: gs) = r.length ∧ cl ≤ 2 * r.length + 1 ∧ (tk_ie r → 1 ≤ tC) ∧ gs.length = fs.length := by
  obtain ⟨gs, t, kk, S, hF, hQ, hP, hc, hcl, ht, hie⟩ := hE
  have hPL := pe_len hV
  have hS := tk_S68 hV
  rw [hp] at hF hP hPL
  have hlen : fs.length = (tk_S r).length := by
    have h3 : fs.length + 1 = (tk_S r).length + 1 := hPL.1
    omega
  cases gs with
  | nil => exact absurd hF (fun hh => hh)
  | cons g gs =>
    obtain ⟨a, x, c, js, fq, tA, kA, SA, tC, kC, SC⟩ := g
    obtain ⟨h1, h2, h3, h4, h5⟩ := hF
    have hdd : ((k, A, Cw) :: fs).length - 1 = fs.length := by rw [List.length_cons]; omega
    have hP' := hP.1 rfl
    have hP2 : bk_Blk C n c cl (em_mk (em_x ((k, A, Cw) :: fs)) I) kk S (4 - (((k, A, Cw) :: fs).length - 1)) (2 * (((k, A, Cw) :: fs).length - 1)) ∧ po_I n (((k, A, Cw) :: fs).length - 1) t (em_mk (em_x ((k, A, Cw) :: fs)) I) kk S := hP'
    rw [hdd] at hP2
    have htt : tA + tC + (if gs = [] then 0 else 1) + em_t gs + t = r.length := ht
    have hgl : gs.length = fs.length := em_Flen h5
    refine ⟨a, x, js, fq, tA, kA, SA, tC + t, (fun r => kC r + bk_ks (em_mk (em_x ((k, A, wd_join n Cw I) :: fs)) Cw) kk r), SC + S, gs, ⟨?_, h2, h3, h4, h5⟩, hQ, ?_, hcl, fun h => by have := hie h; omega, hgl⟩
    · have := em_mg hn6 (by omega) h1 hc (by omega) hP2.1 hP2.2 h64
      rw [em_xc (A' := A) (B' := wd_join n Cw I)] at this
      exact this
    · show tA + (tC + t) + (if gs = [] then 0 else 1) + em_t gs = r.length
      omega
/-- an atom -/
theorem em_atom (hn2 : 2 ≤ n) (hn6 : n ≤ 6) (hV : tk_V n (t :: r)) (hE : em_E n C br ju en cl r (t :: rest) false) (hp : pe n r = ((k, A, Cw) :: fs, I)) (ht : t ≤ 5) (h64 : (wd_join n Cw I).length ≤ 64) (hr : r.length < 24)
    (hC : ∀ pc, pc < cl → C' pc = C pc) (hen : ∀ j, j ≠ fs.length → en' j = en j) (hcl : cl' = cl + (if nq = true then 2 else 1)) (hq : nq = true → (C' cl).1 = 5 ∧ (C' cl).2.2.1 = nI fs.length ∧ en' fs.length = nI cl)
    (hat : (t < 4 → (C' (cl' - 1)).1 = 0 ∧ (C' (cl' - 1)).2.1 = nI (if em_x ((k, A, Cw) :: fs) = true then t + 4 else t)) ∧ (t = 4 → (C' (cl' - 1)).1 = 1) ∧ (t = 5 → (C' (cl' - 1)).1 = 2)) : em_E n C' br ju en' cl' (t :: r) rest nq := by
  obtain ⟨a, x, js, fq, tA, kA, SA, tC, kC, SC, gs, hF, hQ, hT, hcl2, hie, hgl⟩ := em_merge hn6 hV.2 hE hp h64 (by omega)
  have e2 : pe n (t :: r) = ((k, A, wd_join n Cw I) :: fs, [[pe_at t]]) := by
    rw [pe, hp]; unfold pe_step
    simp only [if_neg (show ¬ 100 ≤ t by omega), if_neg (show ¬ t = 10 by omega), if_neg (show ¬ (t = 7 ∨ t = 9) by omega), if_neg (show ¬ (t = 6 ∨ t = 8) by omega)]
  have hPL := pe_len hV.2
  have hS := tk_S68 hV.2
  rw [hp] at hPL
  have hlen : fs.length = (tk_S r).length := by
    have h3 : fs.length + 1 = (tk_S r).length + 1 := hPL.1
    omega
  have hx : em_x ((k, A, wd_join n Cw I) :: fs) = em_x ((k, A, Cw) :: fs) := em_xc
  have hdd : ((k, A, wd_join n Cw I) :: fs).length - 1 = fs.length := by rw [List.length_cons]; omega
  have hF' := em_FK (C' := C') (br' := br) (ju' := ju) (en' := en') hF hC (fun _ _ => ⟨rfl, rfl⟩) (fun j hj => hen j (by rw [List.length_cons] at hj; omega))
  /- the atom's word and its block -/
  have hw : ∃ c, em_mk (em_x ((k, A, Cw) :: fs)) [[pe_at t]] = [[c]] ∧ c ≤ 9 ∧ ∀ sl, bk_Blk C' n (cl' - 1) (cl' - 1 + 1) [[c]] (fun _ => 1) 0 0 sl := by
    rcases Nat.lt_or_ge t 4 with q | q
    · obtain ⟨i1, i2⟩ := hat.1 q
      have e3 : pe_at t = t := by unfold pe_at; rw [if_pos q]
      cases hxx : em_x ((k, A, Cw) :: fs) with
      | true =>
        rw [hxx, if_pos rfl] at i2
        refine ⟨t + 4, ?_, by omega, fun sl => bk_row (by omega) i1 i2⟩
        rw [e3]
        show [[wd_ec t]] = [[t + 4]]
        have : wd_ec t = t + 4 := by unfold wd_ec; rw [if_pos (by omega)]; omega
        rw [this]
      | false =>
        rw [hxx, if_neg (by decide)] at i2
        refine ⟨t, ?_, by omega, fun sl => bk_row (by omega) i1 i2⟩
        rw [e3]; rfl
    · have e3 : pe_at t = t + 4 := by unfold pe_at; rw [if_neg (by omega)]
      have e4 : em_mk (em_x ((k, A, Cw) :: fs)) [[pe_at t]] = [[t + 4]] := by
        rw [e3]
        cases em_x ((k, A, Cw) :: fs) with
        | true =>
          show [[wd_ec (t + 4)]] = [[t + 4]]
          have : wd_ec (t + 4) = t + 4 := by unfold wd_ec; rw [if_neg (by omega)]
          rw [this]
        | false => rfl
      rcases Nat.lt_or_ge t 5 with q5 | q5
      · have : t = 4 := by omega
        subst this
        exact ⟨8, e4, by omega, fun sl => bk_fi (hat.2.1 rfl)⟩
      · have : t = 5 := by omega
        subst this
        exact ⟨9, e4, by omega, fun sl => bk_la (hat.2.2 rfl)⟩
  obtain ⟨c, hwc, hc9, hBl⟩ := hw
  have hcl1 : cl' - 1 + 1 = cl' := by rw [hcl]; split <;> omega
  rw [hcl1] at hBl
  have okc : wd_ok n [c] := ⟨fun z hz => by rw [List.mem_singleton.mp hz]; exact hc9, by rw [wd_sz_cons, wd_sz_nil]; split <;> omega⟩
  refine ⟨(a, x, cl, js, fq, tA, kA, SA, tC, kC, SC) :: gs, 1, (fun _ => 1), 0, by rw [e2]; exact hF', em_QK (m := 1) (m' := 1) (fun q => em_scS (by unfold em_nx; rw [if_neg (by omega), if_neg (by omega)]) (by omega)) hQ, ?_, by show cl ≤ cl'; rw [hcl]; split <;> omega, by rw [hcl, List.length_cons]; split <;> omega, by rw [hT]; rfl, fun _ => Nat.le_refl _⟩
  rw [e2]
  show em_P n C' en' (((k, A, wd_join n Cw I) :: fs).length - 1) cl cl' (em_mk (em_x ((k, A, wd_join n Cw I) :: fs)) [[pe_at t]]) nq 1 (fun _ => 1) 0
  rw [hdd, hx, hwc]
  refine ⟨fun hf => ?_, fun hf => ?_⟩
  · rw [hf, if_neg (by decide)] at hcl
    have e5 : cl' - 1 = cl := by omega
    rw [e5] at hBl
    exact ⟨bk_weak (hBl (2 * fs.length)) (fun _ _ => Nat.le_refl _) (Nat.le_refl _) (Nat.zero_le _) (Nat.le_refl _), po_atomI hn2 hn6 (by omega) hc9⟩
  · rw [hf, if_pos rfl] at hcl
    have e5 : cl' - 1 = cl + 1 := by omega
    rw [e5] at hBl
    obtain ⟨q1, q2, q3⟩ := hq hf
    exact ⟨q1, q2, q3, by omega, Or.inl ⟨[c], rfl, okc, by rw [wd_sz_cons, wd_sz_nil]; split <;> omega, rfl, hBl _⟩⟩
/-- a group opens -/
theorem em_open {fq : Bool} (hn6 : n ≤ 6) (hV : tk_V n (t :: r)) (hE : em_E n C br ju en cl r (t :: rest) false) (hp : pe n r = ((k, A, Cw) :: fs, I)) (ht : t = 6 ∨ t = 8) (h64 : (wd_join n Cw I).length ≤ 64) (hr : r.length < 24)
    (hC : ∀ pc, pc < cl → C' pc = C pc) (hen : ∀ j, j ≠ fs.length → en' j = en j) (hbr : ∀ j, j ≠ fs.length + 1 → br' j = br j) (hju : ∀ j, j ≠ fs.length + 1 → ju' j = ju j) (hcl : cl' = cl + (if fq = true then 2 else 1)) (hq : fq = true → (C' cl).1 = 5 ∧ (C' cl).2.2.1 = nI fs.length ∧ en' fs.length = nI cl)
    (h1 : (C' (cl' - 1)).1 = 3) (h2 : (C' (cl' - 1)).2.1 = -1) (h3 : br' (fs.length + 1) = nI (cl' - 1)) (h4 : ju' (fs.length + 1) = -1) (hfq : fq = em_sc (t :: rest) 0) : em_E n C' br' ju' en' cl' (t :: r) rest false := by
  obtain ⟨a, x, js, fq0, tA, kA, SA, tC, kC, SC, gs, hF, hQ, hT, hcl2, hie, hgl⟩ := em_merge hn6 hV.2 hE hp h64 (by omega)
  have e2 : pe n (t :: r) = ((t, [], [[]]) :: (k, A, wd_join n Cw I) :: fs, [[]]) := by
    rw [pe, hp]; unfold pe_step
    simp only [if_neg (show ¬ 100 ≤ t by omega), if_neg (show ¬ t = 10 by omega), if_neg (show ¬ (t = 7 ∨ t = 9) by omega), if_pos ht]
  have hPL := pe_len hV
  have hS := tk_S68 hV
  rw [e2] at hPL
  have hlen : fs.length + 1 = (tk_S (t :: r)).length := by
    have h3 : fs.length + 1 + 1 = (tk_S (t :: r)).length + 1 := hPL.1
    omega
  have hF' := em_FK (C' := C') (br' := br') (ju' := ju') (en' := en') hF hC (fun j hj => by rw [List.length_cons] at hj; exact ⟨hbr j (by omega), hju j (by omega)⟩) (fun j hj => hen j (by rw [List.length_cons] at hj; omega))
  have hscT : em_sc (t :: rest) 0 = em_sc rest 1 := em_scS (by unfold em_nx; rw [if_pos ht]) (by omega)
  have hdd : ((t, [], [[]]) :: (k, A, wd_join n Cw I) :: fs).length - 1 = fs.length + 1 := by rw [List.length_cons, List.length_cons]; omega
  refine ⟨(cl' - 1, cl' - 1, cl', [], fq, 0, (fun _ => 0), 0, 0, (fun _ => 0), 0) :: (a, x, cl, js, fq0, tA, kA, SA, tC, kC, SC) :: gs, 0, (fun _ => 0), 0, ?_, ⟨fun _ => by rw [hfq, hscT], em_QK (m := 1) (m' := 2) (fun q => em_scS (by unfold em_nx; rw [if_pos ht]; omega) (by omega)) hQ⟩, ?_, Nat.le_refl _, by rw [hcl, List.length_cons]; split <;> omega, ?_, fun hh => ?_⟩
  · rw [e2]
    refine ⟨⟨Nat.le_refl _, by rw [hcl]; split <;> omega, h1, h2, trivial, Nat.zero_le _, (fun q hq => nomatch hq), ?_, ?_, ?_, ?_, by omega⟩, h3, h4, ⟨?_, fun hf => ?_⟩, hF'⟩
    · rw [em_mk_nil]; exact bk_pre0
    · have e5 : cl' - 1 + 1 = cl' := by rw [hcl]; split <;> omega
      rw [em_mk_unit, e5]
      exact bk_weak bk_unit (fun _ _ => Nat.le_refl _) (Nat.le_refl _) (Nat.zero_le _) (Nat.le_refl _)
    · rw [em_mk_nil]; exact po_P0
    · rw [em_mk_unit]; exact po_unitC hn6 (by rw [List.length_cons]; omega)
    · show cl' - 1 = cl + _
      rw [hcl]; split <;> omega
    · obtain ⟨q1, q2, q3⟩ := hq hf
      exact ⟨by simp, q1, q2, q3⟩
  · rw [e2]
    show em_P n C' en' (((t, [], [[]]) :: (k, A, wd_join n Cw I) :: fs).length - 1) cl' cl' (em_mk _ [[]]) false 0 (fun _ => 0) 0
    rw [hdd, em_mk_unit]
    exact ⟨fun _ => ⟨bk_weak bk_unit (fun _ _ => Nat.le_refl _) (Nat.le_refl _) (Nat.zero_le _) (Nat.le_refl _), po_unitI hn6 (by omega)⟩, fun hf => absurd hf (by decide)⟩
  · show 0 + 0 + (if ((a, x, cl, js, fq0, tA, kA, SA, tC, kC, SC) :: gs) = [] then 0 else 1) + em_t ((a, x, cl, js, fq0, tA, kA, SA, tC, kC, SC) :: gs) + 0 = (t :: r).length
    rw [if_neg (by simp), hT, List.length_cons]; omega
  · exfalso
    rcases hh with hh | hh | hh | hh <;> omega
/-- a bar -/
theorem em_bar (hn6 : n ≤ 6) (hV : tk_V n (t :: r)) (hE : em_E n C br ju en cl r (t :: rest) false) (hp : pe n r = ((k, A, Cw) :: fs, I)) (ht : t = 10) (hie0 : tk_ie r) (h64 : (wd_join n Cw I).length ≤ 64) (hA64 : (A ++ wd_join n Cw I).length ≤ 64) (hr : r.length < 24)
    (hx : ∃ x, br fs.length = nI x ∧ x < cl ∧ ∀ x', br fs.length = nI x' → x' < 64 → x' = x → ((∀ pc, pc < cl → pc ≠ x' → C' pc = C pc) ∧ (C' x').1 = (C x').1 ∧ (C' x').2.1 = nI (cl + 1)))
    (h1 : (C' cl).1 = 4) (h2 : (C' cl).2.1 = ju fs.length) (h3 : (C' (cl + 1)).1 = 3) (h4 : (C' (cl + 1)).2.1 = -1) (hbr : ∀ j, j ≠ fs.length → br' j = br j) (hju : ∀ j, j ≠ fs.length → ju' j = ju j) (h5 : br' fs.length = nI (cl + 1)) (h6 : ju' fs.length = nI cl) : em_E n C' br' ju' en (cl + 2) (t :: r) rest false := by
  obtain ⟨a, x, js, fq, tA, kA, SA, tC, kC, SC, gs, hF, hQ, hT, hcl2, hie, hgl⟩ := em_merge hn6 hV.2 hE hp h64 (by omega)
  have e2 : pe n (t :: r) = ((k, A ++ wd_join n Cw I, [[]]) :: fs, [[]]) := by
    rw [pe, hp]; unfold pe_step
    simp only [if_neg (show ¬ 100 ≤ t by omega), if_pos ht]
  have hPL := pe_len hV.2
  have hS := tk_S68 hV.2
  rw [hp] at hPL
  have hlen : fs.length = (tk_S r).length := by
    have h3 : fs.length + 1 = (tk_S r).length + 1 := hPL.1
    omega
  obtain ⟨hfr, hb, hch, ⟨ha, hlk⟩, hFt⟩ := hF
  obtain ⟨f1, f2, f3, f4, f5, f6, f7, f8, f9, f10, f11, f12⟩ := hfr
  obtain ⟨x0, hx0, hx1, hx2⟩ := hx
  have hxe : x = x0 := (nI_eq (by omega) (by omega)).mp (hb.symm.trans hx0)
  obtain ⟨g1, g2, g3⟩ := hx2 x hb (by omega) hxe
  have hxx : em_x ((k, A, wd_join n Cw I) :: fs) = em_x ((k, A ++ wd_join n Cw I, [[]]) :: fs) := em_xc
  have hT' : tA + tC + (if gs = [] then 0 else 1) + em_t gs = r.length := hT
  have htC := hie hie0
  have hdd : ((k, A ++ wd_join n Cw I, [[]]) :: fs).length - 1 = fs.length := by rw [List.length_cons]; omega
  have hcg : em_c gs ≤ a := by rw [ha]; omega
  have hFt' := em_FK (C' := C') (br' := br') (ju' := ju') (en' := en) hFt (fun pc hpc => g1 pc (by omega) (by omega)) (fun j hj => ⟨hbr j (by omega), hju j (by omega)⟩) (fun _ _ => rfl)
  refine ⟨(a, cl + 1, cl + 2, cl :: js, fq, tA + tC + 1, (fun r => kA r + (1 + kC r + bk_ct (em_mk (em_x ((k, A, wd_join n Cw I) :: fs)) (wd_join n Cw I)) r)), SA + (1 + SC), 0, (fun _ => 0), 0) :: gs, 0, (fun _ => 0), 0, ?_, em_QK (m := 1) (m' := 1) (fun q => em_scS (by unfold em_nx; rw [if_neg (by omega), if_neg (by omega)]) (by omega)) (show em_Q (t :: rest) 1 ((a, cl + 1, cl + 2, cl :: js, fq, tA + tC + 1, (fun r => kA r + (1 + kC r + bk_ct (em_mk (em_x ((k, A, wd_join n Cw I) :: fs)) (wd_join n Cw I)) r)), SA + (1 + SC), 0, (fun _ => 0), 0) :: gs) from hQ), ?_, Nat.le_refl _, by rw [List.length_cons]; omega, ?_, fun hh => ?_⟩
  · rw [e2]
    refine ⟨⟨by omega, Nat.le_refl _, h3, h4, ⟨by omega, em_dec_mono (by omega) f5⟩, by rw [List.length_cons]; omega, fun q hq => ?_, ?_, ?_, ?_, ?_, by omega⟩, h5, ⟨h6, ?_⟩, ⟨ha, fun hf => ?_⟩, hFt'⟩
    · rcases List.mem_cons.mp hq with e | e
      · rw [e]; exact ⟨by omega, h1⟩
      · have := em_dec_mem f5 e
        rw [g1 q (by omega) (by omega)]; exact f7 q e
    · rw [← hxx, em_mk_app]
      exact bk_preBar f1 f2 f8 (fun q hq => em_dec_mem f5 hq) (fun pc p1 p2 p3 => g1 pc p2 p3) (by rw [g2]; exact f3) g3 f9
    · rw [em_mk_unit]
      exact bk_weak bk_unit (fun _ _ => Nat.le_refl _) (Nat.le_refl _) (Nat.zero_le _) (Nat.le_refl _)
    · rw [← hxx, em_mk_app]
      exact po_bar hn6 (by omega) (by omega) htC f10 f11 (by rw [← em_mk_app, em_mk_len]; exact hA64)
    · rw [em_mk_unit]; exact po_unitC hn6 (by omega)
    · rw [h2]
      exact em_ch_keep (fun q hq => g1 q (by have := em_dec_mem f5 hq; omega) (by have := em_dec_mem f5 hq; omega)) hch
    · obtain ⟨q1, q2, q3, q4⟩ := hlk hf
      rw [if_pos hf] at ha
      rw [g1 (em_c gs) (by omega) (by omega)]
      exact ⟨q1, q2, q3, q4⟩
  · rw [e2]
    show em_P n C' en (((k, A ++ wd_join n Cw I, [[]]) :: fs).length - 1) (cl + 2) (cl + 2) (em_mk _ [[]]) false 0 (fun _ => 0) 0
    rw [hdd, em_mk_unit]
    exact ⟨fun _ => ⟨bk_weak bk_unit (fun _ _ => Nat.le_refl _) (Nat.le_refl _) (Nat.zero_le _) (Nat.le_refl _), po_unitI hn6 (by omega)⟩, fun hf => absurd hf (by decide)⟩
  · show tA + tC + 1 + 0 + (if gs = [] then 0 else 1) + em_t gs + 0 = (t :: r).length
    rw [List.length_cons]; omega
  · exfalso
    rcases hh with hh | hh | hh | hh <;> omega
end
end
section
/-! ===== making code: closing a group, a quantifier ===== -/
section
variable {n : Nat} {C : Nat → bk_I} {br ju en : Nat → Int32} {cl t k : Nat} {r rest : List Nat} {A Cw I : List (List Nat)} {fs : List (Nat × List (List Nat) × List (List Nat))}
theorem em_cls (hn6 : n ≤ 6) (hV : tk_V n (t :: r)) (hE : em_E n C br ju en cl r (t :: rest) false) (hp : pe n r = ((k, A, Cw) :: fs, I)) (ht : t = 7 ∨ t = 9) (hie0 : tk_ie r) (h64 : (wd_join n Cw I).length ≤ 64) (hA64 : (A ++ wd_join n Cw I).length ≤ 64) (hok : ∀ w, w ∈ A ++ wd_join n Cw I → wd_ok n w) (hr : r.length < 24) :
    ∃ js, em_dec cl js ∧ js.length ≤ 23 ∧ em_ch C js (ju fs.length) ∧ ∀ C' : Nat → bk_I, (∀ pc, pc ∉ js → C' pc = C pc) → (∀ q, q ∈ js → (C' q).1 = (C q).1 ∧ (C' q).2.1 = nI cl) → em_E n C' br ju en cl (t :: r) rest (em_hq rest) := by
  obtain ⟨a, x, js, fq, tA, kA, SA, tC, kC, SC, gs, hF, hQ, hT, hcl2, hie, hgl⟩ := em_merge hn6 hV.2 hE hp h64 (by omega)
  have e2 : pe n (t :: r) = (fs, pe_cl t (A ++ wd_join n Cw I)) := by
    rw [pe, hp]; unfold pe_step
    simp only [if_neg (show ¬ 100 ≤ t by omega), if_neg (show ¬ t = 10 by omega), if_pos ht]
  have hPL := pe_len hV.2
  have hPL' := pe_len hV
  have hS := tk_S68 hV.2
  rw [hp] at hPL
  rw [e2] at hPL'
  have hlen : fs.length = (tk_S r).length := by
    have h3 : fs.length + 1 = (tk_S r).length + 1 := hPL.1
    omega
  have hd1 : 1 ≤ fs.length := by
    have h3 : fs.length = (tk_S (t :: r)).length + 1 := hPL'.1
    omega
  have hk : k = t - 1 := by
    have hc := hV.1
    unfold tk_c at hc
    have hh : (tk_S r).head? = some (t - 1) := by
      rcases hc with c | c | c | c | c
      · omega
      · omega
      · exact c.2.2
      · omega
      · obtain ⟨mn, mx, z, e, _⟩ := c.1; omega
    cases hS2 : tk_S r with
    | nil => rw [hS2] at hh; cases hh
    | cons s0 s1 =>
      rw [hS2] at hh
      have h5 : s0 = t - 1 := Option.some.inj hh
      have h6 : k :: fs.map (fun f => f.1) = tk_S r ++ [0] := hPL.2
      rw [hS2, List.cons_append] at h6
      have := (List.cons.inj h6).1
      omega
  obtain ⟨hfr, hb, hch, ⟨ha, hlk⟩, hFt⟩ := hF
  obtain ⟨f1, f2, f3, f4, f5, f6, f7, f8, f9, f10, f11, f12⟩ := hfr
  have hT' : tA + tC + (if gs = [] then 0 else 1) + em_t gs = r.length := hT
  have hgne : gs ≠ [] := fun h => by rw [h] at hgl; have : fs.length = 0 := hgl.symm; omega
  rw [if_neg hgne] at hT'
  have htC := hie hie0
  have hV64 : em_mk (em_x fs) (pe_cl t (A ++ wd_join n Cw I)) = em_mk (em_x ((k, A, wd_join n Cw I) :: fs)) (A ++ wd_join n Cw I) := by
    rcases ht with h7 | h9
    · have e3 : em_x ((k, A, wd_join n Cw I) :: fs) = em_x fs := by
        unfold em_x em_n
        rw [List.filter_cons_of_neg (by rw [decide_eq_false (show ¬ k = 8 by omega)]; decide)]
      rw [e3]
      unfold pe_cl
      rw [if_neg (by omega)]
    · have e3 : em_x ((k, A, wd_join n Cw I) :: fs) = true := by
        unfold em_x em_n
        rw [List.filter_cons_of_pos (by exact decide_eq_true (show k = 8 by omega)), List.length_cons]
        exact decide_eq_true (by omega)
      rw [e3]
      unfold pe_cl
      rw [if_pos h9]
      show em_mk (em_x fs) ((A ++ wd_join n Cw I).map wd_ex) = (A ++ wd_join n Cw I).map wd_ex
      cases em_x fs with
      | true =>
        show ((A ++ wd_join n Cw I).map wd_ex).map wd_ex = _
        rw [List.map_map]
        apply List.map_congr_left
        intro w _
        exact wd_ex_ex w
      | false => rfl
  refine ⟨js, em_dec_mono (by omega) f5, by omega, hch, fun C' hC hj => ?_⟩
  have hBlk := bk_preEnd (C := C) (C' := C') (e := cl) f2 (by omega) f8 (fun q hq => em_dec_mem f5 hq) (fun pc _ _ p3 => hC pc p3) f1 (fun q hq => ⟨by rw [(hj q hq).1]; exact (f7 q hq).2, (hj q hq).2⟩) f3 f4 f9
  rw [← em_mk_app] at hBlk
  have hpo := po_end hn6 (by omega) (show tA + tC ≤ 24 by omega) htC f12 f10 f11 (by rw [← em_mk_app, em_mk_len]; exact hA64) (by rw [← em_mk_app]; exact em_mk_ok hok)
  rw [← em_mk_app] at hpo
  have hfq : fq = em_hq rest := by
    have h3 : fq = em_sc (t :: rest) 1 := hQ.1 hgne
    rw [h3, em_sc]
    have : em_nx t 1 = 0 := by unfold em_nx; rw [if_neg (by omega), if_pos ht]
    rw [this, if_pos rfl]
  have hnj : ∀ pc, pc < a → C' pc = C pc := fun pc hpc => hC pc (fun hm => by have := (f7 pc hm).1; omega)
  have hcg : em_c gs ≤ a := by rw [ha]; omega
  have hFt' := em_FK (C' := C') (br' := br) (ju' := ju) (en' := en) hFt (fun pc hpc => hnj pc (by omega)) (fun _ _ => ⟨rfl, rfl⟩) (fun _ _ => rfl)
  obtain ⟨d', hd'⟩ : ∃ d', fs.length = d' + 1 := ⟨fs.length - 1, by omega⟩
  refine ⟨gs, tA + tC + 2, (fun r => kA r + (kC r + 1)), SA + SC, by rw [e2]; exact hFt', em_QK (m := 2) (m' := 1) (fun q => em_scS (by unfold em_nx; rw [if_neg (by omega), if_pos ht]; omega) (by omega)) hQ.2, ?_, by omega, by rw [List.length_cons]; omega, by rw [List.length_cons]; omega, fun _ => by omega⟩
  rw [e2]
  show em_P n C' en (fs.length - 1) (em_c gs) cl (em_mk (em_x fs) (pe_cl t (A ++ wd_join n Cw I))) (em_hq rest) (tA + tC + 2) (fun r => kA r + (kC r + 1)) (SA + SC)
  rw [hV64, ← hfq]
  rw [hd'] at hBlk hpo ⊢
  have e5 : d' + 1 - 1 = d' := by omega
  rw [e5]
  have hlk' := hlk
  rw [hd', e5] at hlk'
  refine ⟨fun hf => ?_, fun hf => ?_⟩
  · rw [hf, if_neg (by decide), Nat.add_zero] at ha
    rw [← ha]
    exact ⟨bk_weak hBlk (fun _ _ => Nat.le_refl _) (Nat.le_refl _) (by omega) (by omega), po_group hn6 (by omega) (by omega) (by omega) hpo⟩
  · rw [hf, if_pos rfl] at ha
    obtain ⟨q1, q2, q3, q4⟩ := hlk' hf
    rw [hnj (em_c gs) (by omega)]
    refine ⟨q2, q3, q4, by omega, Or.inr ⟨by omega, tA + tC, rfl, by omega, ?_, hpo⟩⟩
    rw [← ha]
    have e6 : 4 - (d' + 1) = 3 - d' := by omega
    have e7 : 2 * (d' + 1) = 2 * d' + 2 := by omega
    rw [e6, e7] at hBlk
    exact hBlk
theorem em_quant (hn2 : 2 ≤ n) (hn6 : n ≤ 6) (hV : tk_V n (t :: r)) (hE : em_E n C br ju en cl r (t :: rest) true) (hp : pe n r = ((k, A, Cw) :: fs, I)) (ht : tk_q n t) (h64 : ∀ d, d ≤ pe_mx t → (wd_R n (pe_mn t) (pe_mx t) (pe_lz t) I d).length ≤ 64) (hr : r.length < 24) :
    ∃ c, en fs.length = nI c ∧ c + 1 ≤ cl ∧ cl ≤ 47 ∧ ∀ C' : Nat → bk_I, (∀ pc, pc < cl → pc ≠ c → C' pc = C pc) → (C' c).1 = (C c).1 → (C' c).2.1 = nI (cl + 1) → (C' c).2.2.1 = (C c).2.2.1 → (C' cl).1 = 6 → (C' cl).2.2.1 = nI fs.length → (C' cl).2.2.2.1 = nI (pe_mn t) →
      (C' (cl + 1)).1 = 7 → (C' (cl + 1)).2.1 = nI (c + 1) → (C' (cl + 1)).2.2.1 = nI fs.length → (C' (cl + 1)).2.2.2.1 = nI (pe_mn t) → (C' (cl + 1)).2.2.2.2.1 = nI (if wd_rows I = [] then pe_mn t else pe_mx t) → (C' (cl + 1)).2.2.2.2.2 = nI ((t - 100) % 2) → em_E n C' br ju en (cl + 2) (t :: r) rest false := by
  obtain ⟨gs, tt, kk, S, hF, hQ, hP, hc, hcl, hT, hie⟩ := hE
  have hq := ht
  obtain ⟨mn, mx, z, e, hm, hx1, hx2, hz⟩ := ht
  have q100 : 100 ≤ t := by omega
  have q1 : pe_mn t = mn := by unfold pe_mn; omega
  have q2 : pe_mx t = mx := by unfold pe_mx; omega
  have e2 : pe n (t :: r) = ((k, A, Cw) :: fs, pe_rep n t I) := by
    rw [pe, hp]; unfold pe_step
    simp only [if_pos q100]
  have hPL := pe_len hV.2
  have hS := tk_S68 hV.2
  rw [hp] at hPL hF hP
  have hlen : fs.length = (tk_S r).length := by
    have h3 : fs.length + 1 = (tk_S r).length + 1 := hPL.1
    omega
  have hdd : ((k, A, Cw) :: fs).length - 1 = fs.length := by rw [List.length_cons]; omega
  have hP2 := hP.2 rfl
  have hP3 : (C (em_c gs)).1 = 5 ∧ (C (em_c gs)).2.2.1 = nI (((k, A, Cw) :: fs).length - 1) ∧ en (((k, A, Cw) :: fs).length - 1) = nI (em_c gs) ∧ em_c gs + 1 ≤ cl ∧ ((∃ w, em_mk (em_x ((k, A, Cw) :: fs)) I = [w] ∧ wd_ok n w ∧ wd_sz w ≤ 1 ∧ tt = 1 ∧ bk_Blk C n (em_c gs + 1) cl [w] (fun _ => 1) 0 0 (2 * (((k, A, Cw) :: fs).length - 1) + 2)) ∨ (((k, A, Cw) :: fs).length - 1 < 3 ∧ ∃ tB, tt = tB + 2 ∧ 1 ≤ tB ∧ bk_Blk C n (em_c gs + 1) cl (em_mk (em_x ((k, A, Cw) :: fs)) I) kk S (3 - (((k, A, Cw) :: fs).length - 1)) (2 * (((k, A, Cw) :: fs).length - 1) + 2) ∧ po_A n (((k, A, Cw) :: fs).length - 1 + 1) tB (em_mk (em_x ((k, A, Cw) :: fs)) I) kk S)) := hP2
  rw [hdd] at hP3
  obtain ⟨p1, p2, p3, p4, p5⟩ := hP3
  refine ⟨em_c gs, p3, p4, by omega, fun C' c1 c2 c3 c4 n1 n2 n3 d1 d2 d3 d4 d5 d6 => ?_⟩
  have hFt' := em_FK (C' := C') (br' := br) (ju' := ju) (en' := en) hF (fun pc hpc => c1 pc (by omega) (by omega)) (fun _ _ => ⟨rfl, rfl⟩) (fun _ _ => rfl)
  have hQ' : em_Q rest 1 gs := em_QK (m := 1) (m' := 1) (fun q => em_scS (by unfold em_nx; rw [if_neg (by omega), if_neg (by omega)]) (by omega)) hQ
  have hz2 : (t - 100) % 2 < 2 := Nat.mod_lt _ (by omega)
  have hrow : (if wd_rows I = [] then pe_mn t else pe_mx t) = if wd_rows (em_mk (em_x ((k, A, Cw) :: fs)) I) = [] then pe_mn t else pe_mx t := by
    by_cases hh : wd_rows I = []
    · rw [if_pos hh, if_pos ((em_mk_rows _ _).mpr hh)]
    · rw [if_neg hh, if_neg (fun h => hh ((em_mk_rows _ _).mp h))]
  have hVV : em_mk (em_x ((k, A, Cw) :: fs)) (pe_rep n t I) = wd_R n (pe_mn t) (pe_mx t) (decide ((t - 100) % 2 = 1)) (em_mk (em_x ((k, A, Cw) :: fs)) I) (pe_mx t) := by
    unfold pe_rep
    rw [em_mk_R]; rfl
  have h64' : ∀ d, d ≤ pe_mx t → (wd_R n (pe_mn t) (pe_mx t) (decide ((t - 100) % 2 = 1)) (em_mk (em_x ((k, A, Cw) :: fs)) I) d).length ≤ 64 := by
    intro d hd
    have := h64 d hd
    rw [← em_mk_len (em_x ((k, A, Cw) :: fs)), em_mk_R] at this
    exact this
  rcases p5 with ⟨w, hw, okw, szw, ht1, hB⟩ | ⟨hd3, tB, htB, htB1, hB, hpo⟩
  · rw [hw] at hVV hrow
    have hB' : bk_Blk C' n (em_c gs + 1) cl [w] (fun _ => 1) 0 0 (2 * fs.length + 2) := bk_loc hB (fun pc x1 x2 => c1 pc x2 (by omega))
    have hL := bk_loop (m := pe_mn t) (M := pe_mx t) (z := (t - 100) % 2) p4 (by omega) (by omega) (by omega) (by omega) hz2 (by rw [c2]; exact p1) c3 (by rw [c4]; exact p2) hB' n1 n2 n3 d1 d2 d3 d4 d5 d6 hrow
    refine ⟨gs, 2, (fun r => 1 + bk_L [w] (fun _ => 1) (pe_mn t) (pe_mx t) (pe_mx t) r), pe_mx t * 0 + 1, by rw [e2]; exact hFt', hQ', ?_, by omega, by rw [List.length_cons]; omega, by rw [List.length_cons]; omega, fun _ => by omega⟩
    rw [e2]
    show em_P n C' en (((k, A, Cw) :: fs).length - 1) (em_c gs) (cl + 2) (em_mk (em_x ((k, A, Cw) :: fs)) (pe_rep n t I)) false 2 (fun r => 1 + bk_L [w] (fun _ => 1) (pe_mn t) (pe_mx t) (pe_mx t) r) (pe_mx t * 0 + 1)
    rw [hdd, hVV]
    exact ⟨fun _ => ⟨bk_weak hL (fun _ _ => Nat.le_refl _) (Nat.le_refl _) (by omega) (Nat.le_refl _), po_loopA hn2 hn6 (by omega) (by omega) (by omega) (by omega) okw szw (by omega)⟩, fun hf => absurd hf (by decide)⟩
  · have hB' : bk_Blk C' n (em_c gs + 1) cl (em_mk (em_x ((k, A, Cw) :: fs)) I) kk S (3 - fs.length) (2 * fs.length + 2) := bk_loc hB (fun pc x1 x2 => c1 pc x2 (by omega))
    have hL := bk_loop (m := pe_mn t) (M := pe_mx t) (z := (t - 100) % 2) p4 (by omega) (by omega) (by omega) (by omega) hz2 (by rw [c2]; exact p1) c3 (by rw [c4]; exact p2) hB' n1 n2 n3 d1 d2 d3 d4 d5 d6 hrow
    refine ⟨gs, tB + 3, (fun r => 1 + bk_L (em_mk (em_x ((k, A, Cw) :: fs)) I) kk (pe_mn t) (pe_mx t) (pe_mx t) r), pe_mx t * S + 1, by rw [e2]; exact hFt', hQ', ?_, by omega, by rw [List.length_cons]; omega, by rw [List.length_cons]; omega, fun _ => by omega⟩
    rw [e2]
    show em_P n C' en (((k, A, Cw) :: fs).length - 1) (em_c gs) (cl + 2) (em_mk (em_x ((k, A, Cw) :: fs)) (pe_rep n t I)) false (tB + 3) (fun r => 1 + bk_L (em_mk (em_x ((k, A, Cw) :: fs)) I) kk (pe_mn t) (pe_mx t) (pe_mx t) r) (pe_mx t * S + 1)
    rw [hdd, hVV]
    exact ⟨fun _ => ⟨bk_weak hL (fun _ _ => Nat.le_refl _) (Nat.le_refl _) (by omega) (Nat.le_refl _), po_loopG hn2 hn6 hd3 (by omega) htB1 (by omega) (by omega) (by omega) hpo h64'⟩, fun hf => absurd hf (by decide)⟩
end
end
section
/-! ===== making code: one token in the component ===== -/
theorem em_brx {n : Nat} {C : Nat → bk_I} {br ju en : Nat → Int32} {cl k : Nat} {r rest : List Nat} {nq : Bool} {A Cw I : List (List Nat)} {fs : List (Nat × List (List Nat) × List (List Nat))} (hE : em_E n C br ju en cl r rest nq) (hp : pe n r = ((k, A, Cw) :: fs, I)) : (∃ x, br fs.length = nI x ∧ x < cl) ∧ cl ≤ 2 * r.length + 1 := by
  obtain ⟨gs, t, kk, S, hF, hQ, hP, hc, hcl, ht, hie⟩ := hE
  rw [hp] at hF
  cases gs with
  | nil => exact absurd hF (fun hh => hh)
  | cons g gs =>
    obtain ⟨a, x, c, js, fq, tA, kA, SA, tC, kC, SC⟩ := g
    obtain ⟨h1, h2, h3, h4, h5⟩ := hF
    have h6 : x + 1 ≤ c := h1.2.1
    have h7 : c ≤ cl := hc
    exact ⟨⟨x, h2, by omega⟩, hcl⟩
theorem em_nc {k : Nat} {A B A' B' : List (List Nat)} {fs : List (Nat × List (List Nat) × List (List Nat))} : em_n ((k, A, B) :: fs) = em_n ((k, A', B') :: fs) := by
  unfold em_n
  by_cases h : k = 8
  · rw [List.filter_cons_of_pos (by exact decide_eq_true h), List.filter_cons_of_pos (by exact decide_eq_true h)]; rfl
  · rw [List.filter_cons_of_neg (by rw [decide_eq_false h]; decide), List.filter_cons_of_neg (by rw [decide_eq_false h]; decide)]
theorem em_n8 {A B : List (List Nat)} {fs : List (Nat × List (List Nat) × List (List Nat))} : em_n ((8, A, B) :: fs) = em_n fs + 1 := by
  unfold em_n
  rw [List.filter_cons_of_pos (by exact decide_eq_true rfl), List.length_cons]
theorem em_nn {k : Nat} (h : ¬ k = 8) {A B : List (List Nat)} {fs : List (Nat × List (List Nat) × List (List Nat))} : em_n ((k, A, B) :: fs) = em_n fs := by
  unfold em_n
  rw [List.filter_cons_of_neg (by rw [decide_eq_false h]; decide)]
theorem em_nle (fs : List (Nat × List (List Nat) × List (List Nat))) : em_n fs ≤ fs.length := List.length_filter_le _ _
section
variable {f_opRow f_opFirst f_opFinal f_opBranch f_opJump f_opEnter f_opNext f_opDecide f_opDone f_catSlot f_itemSlot f_rowsSlot f_timesSlot f_scratchSlot f_size f_bufLen f_openCount f_patLen f_codeLen f_depth f_excluded f_termCount f_skipMode f_skipVar f_resPart f_resRows f_resCount f_top f_pc f_pos f_from : Int32} {a_vec a_buf a_opened a_pat a_reads a_op a_arg a_lev a_lo a_hi a_lazy a_useMax a_branchAt a_jumpAt a_enterAt a_terms a_cells a_rowCount a_startOf a_lengthOf a_labels a_outcome a_loop : Nat → Int32} {a_stack : Nat → Int64}
variable {n : Nat}
theorem xm_tok {post : SX → Prop} {t pl cl : Nat} {r rest F : List Nat} (hn2 : 2 ≤ n) (hn6 : n ≤ 6) (hV : tk_V n (t :: r)) (hG : pe_G n (pe n r)) (hchk : pe_chk n t (pe n r)) (hr : r.length < 24) (hF : F.length = pl) (hpl : pl ≤ 24) (htok : ∀ z, z ∈ F → z < 240) (hpat : ∀ i, i < pl → a_pat i = nI (F.getD i 0)) (hFd : F.drop r.length = t :: rest)
    (hum : 100 ≤ t → a_useMax r.length = nI (if wd_rows (pe n r).2 = [] then pe_mn t else pe_mx t)) (hnq : em_hq rest = true → tk_ae (t :: r)) (hE : em_E n (sr_C a_op a_arg a_lev a_lo a_hi a_lazy) a_branchAt a_jumpAt a_enterAt cl r (t :: rest) (decide (100 ≤ t)))
    (h : ∀ (op arg lev lo hi lz br ju en : Nat → Int32) (cl' : Nat), em_E n (sr_C op arg lev lo hi lz) br ju en cl' (t :: r) rest (em_hq rest) → post (f_opRow, f_opFirst, f_opFinal, f_opBranch, f_opJump, f_opEnter, f_opNext, f_opDecide, f_opDone, f_catSlot, f_itemSlot, f_rowsSlot, f_timesSlot, f_scratchSlot, f_size, f_bufLen, f_openCount, nI pl, nI cl', nI ((pe n (t :: r)).1.length - 1), nI (em_n (pe n (t :: r)).1), f_termCount, f_skipMode, f_skipVar, f_resPart, f_resRows, f_resCount, f_top, f_pc, f_pos, f_from, a_vec, a_buf, a_opened, a_pat, a_reads, op, arg, lev, lo, hi, lz, a_useMax, br, ju, en, a_terms, a_cells, a_rowCount, a_startOf, a_lengthOf, a_labels, a_outcome, a_loop, a_stack)) :
    wpX_emitToken post (f_opRow, f_opFirst, f_opFinal, f_opBranch, f_opJump, f_opEnter, f_opNext, f_opDecide, f_opDone, f_catSlot, f_itemSlot, f_rowsSlot, f_timesSlot, f_scratchSlot, f_size, f_bufLen, f_openCount, nI pl, nI cl, nI ((pe n r).1.length - 1), nI (em_n (pe n r).1), f_termCount, f_skipMode, f_skipVar, f_resPart, f_resRows, f_resCount, f_top, f_pc, f_pos, f_from, a_vec, a_buf, a_opened, a_pat, a_reads, a_op, a_arg, a_lev, a_lo, a_hi, a_lazy, a_useMax, a_branchAt, a_jumpAt, a_enterAt, a_terms, a_cells, a_rowCount, a_startOf, a_lengthOf, a_labels, a_outcome, a_loop, a_stack) (nI r.length) := by
  have hjl : r.length < pl := by
    have := congrArg List.length hFd
    rw [List.length_drop, hF, List.length_cons] at this
    omega
  have hget : F.getD r.length 0 = t := by
    have h1 : (F.drop r.length)[0]? = some t := by rw [hFd]; rfl
    rw [List.getElem?_drop, Nat.add_zero] at h1
    rw [List.getD_eq_getElem?_getD, h1]; rfl
  have htt : t < 240 := tk_tok hn6 hV t List.mem_cons_self
  have hpt := hpat r.length hjl
  rw [hget] at hpt
  have hPL := pe_len hV.2
  have hPL' := pe_len hV
  have hS := tk_S68 hV.2
  have hc := hV.1
  unfold tk_c at hc
  cases hp : pe n r with
  | mk fs0 I =>
    rw [hp] at hPL hG hchk hum
    cases fs0 with
    | nil => exact absurd hPL.1 (by show ¬ 0 = _ + 1; omega)
    | cons f fs =>
      obtain ⟨k, A, Cw⟩ := f
      have hlen : fs.length = (tk_S r).length := by
        have h3 : fs.length + 1 = (tk_S r).length + 1 := hPL.1
        omega
      obtain ⟨⟨gA, gC, gF⟩, gI⟩ := hG
      obtain ⟨⟨x, hbx, hxc⟩, hcl⟩ := em_brx hE hp
      have hnl := em_nle ((k, A, Cw) :: fs)
      rw [List.length_cons] at hnl
      show wpX_emitToken post (f_opRow, f_opFirst, f_opFinal, f_opBranch, f_opJump, f_opEnter, f_opNext, f_opDecide, f_opDone, f_catSlot, f_itemSlot, f_rowsSlot, f_timesSlot, f_scratchSlot, f_size, f_bufLen, f_openCount, nI pl, nI cl, nI (((k, A, Cw) :: fs).length - 1), nI (em_n ((k, A, Cw) :: fs)), f_termCount, f_skipMode, f_skipVar, f_resPart, f_resRows, f_resCount, f_top, f_pc, f_pos, f_from, a_vec, a_buf, a_opened, a_pat, a_reads, a_op, a_arg, a_lev, a_lo, a_hi, a_lazy, a_useMax, a_branchAt, a_jumpAt, a_enterAt, a_terms, a_cells, a_rowCount, a_startOf, a_lengthOf, a_labels, a_outcome, a_loop, a_stack) (nI r.length)
      have hdd : ((k, A, Cw) :: fs).length - 1 = fs.length := by rw [List.length_cons]; omega
      rw [hdd]
      unfold wpX_emitToken
      dsimp only
      rw [nI_clamp (n := r.length) (by omega), hpt]
      have nqF : ¬ tk_ae (t :: r) → em_hq rest = false := fun hh => by
        cases hx : em_hq rest with
        | false => rfl
        | true => exact absurd (hnq hx) hh
      refine ⟨vp_in_nI (by omega) (by omega), nm_e (pk_lt t 100 (fun q => ?_) (fun q => ?_))⟩
      · have q100 : ¬ 100 ≤ t := by omega
        have hdec : decide (100 ≤ t) = false := decide_eq_false q100
        rw [hdec] at hE
        have eC : pe_chk n t ((k, A, Cw) :: fs, I) = ((wd_join n Cw I).length ≤ 64 ∧ (t = 7 ∨ t = 9 ∨ t = 10 → (A ++ wd_join n Cw I).length ≤ 64)) := by unfold pe_chk; exact if_neg q100
        rw [eC] at hchk
        have hie : t = 7 ∨ t = 9 ∨ t = 10 → tk_ie r := by
          intro h7
          rcases hc with c | c | c | c | c
          · omega
          · omega
          · exact c.2.1
          · exact c.2
          · obtain ⟨mn, mx, z, e, _⟩ := c.1; omega
        have okA : ∀ w, w ∈ A ++ wd_join n Cw I → wd_ok n w := fun w hw => by
          rcases List.mem_append.mp hw with hh | hh
          · exact gA.2 w hh
          · exact wd_join_ok gC.2 gI.2 w hh
        have clo : t = 7 ∨ t = 9 → wX_emitToken_46 post (nI t) f_opRow f_opFirst f_opFinal f_opBranch f_opJump f_opEnter f_opNext f_opDecide f_opDone f_catSlot f_itemSlot f_rowsSlot f_timesSlot f_scratchSlot f_size f_bufLen f_openCount (nI pl) (nI cl) (nI fs.length) (nI (em_n ((k, A, Cw) :: fs))) f_termCount f_skipMode f_skipVar f_resPart f_resRows f_resCount f_top f_pc f_pos f_from a_vec a_buf a_opened a_pat a_reads a_op a_arg a_lev a_lo a_hi a_lazy a_useMax a_branchAt a_jumpAt a_enterAt a_terms a_cells a_rowCount a_startOf a_lengthOf a_labels a_outcome a_loop a_stack := by
          intro h79
          have e2 : pe n (t :: r) = (fs, pe_cl t (A ++ wd_join n Cw I)) := by
            rw [pe, hp]; unfold pe_step
            simp only [if_neg q100, if_neg (show ¬ t = 10 by omega), if_pos h79]
          have hd1 : 1 ≤ fs.length := by
            rw [e2] at hPL'
            have h3 : fs.length = (tk_S (t :: r)).length + 1 := hPL'.1
            omega
          obtain ⟨js, j1, j2, j3, j4⟩ := em_cls hn6 hV hE hp h79 (hie (by omega)) hchk.1 (hchk.2 (by omega)) okA hr
          have hk : k = t - 1 := by
            have hh : (tk_S r).head? = some (t - 1) := by
              rcases hc with c | c | c | c | c
              · omega
              · omega
              · exact c.2.2
              · omega
              · obtain ⟨mn, mx, z, e, _⟩ := c.1; omega
            cases hS2 : tk_S r with
            | nil => rw [hS2] at hh; cases hh
            | cons s0 s1 =>
              rw [hS2] at hh
              have h5 : s0 = t - 1 := Option.some.inj hh
              have h6 : k :: fs.map (fun f => f.1) = tk_S r ++ [0] := hPL.2
              rw [hS2, List.cons_append] at h6
              have := (List.cons.inj h6).1
              omega
          have ed : nI fs.length - 1 = nI (fs.length - 1) := pk_sub (b := 1) hd1
          refine xm_patch (b := cl) (by omega) j1 (by omega) j2 j3 (fun arg' a1 a2 => ?_)
          refine nm_r ed ?_
          have hE' := j4 (sr_C a_op arg' a_lev a_lo a_hi a_lazy) (fun pc hpc => by unfold sr_C; rw [a2 pc hpc]) (fun q0 hq0 => ⟨rfl, a1 q0 hq0⟩)
          have hh := h a_op arg' a_lev a_lo a_hi a_lazy a_branchAt a_jumpAt a_enterAt cl hE'
          rw [e2] at hh
          refine pk_eq t 9 (fun q9 => ?_) (fun q9 => ?_)
          · have k8 : k = 8 := by omega
            subst k8
            have e5 : nI (em_n ((8, A, Cw) :: fs)) - 1 = nI (em_n fs) := by rw [em_n8]; exact nI_pred _
            exact nm_r e5 hh
          · have e5 : em_n ((k, A, Cw) :: fs) = em_n fs := em_nn (by omega)
            rw [e5]
            exact hh
        refine pk_eq t 10 (fun q10 => ?_) (fun q10 => pk_eq t 7 (fun q7 => clo (Or.inl q7)) (fun q7 => pk_eq t 9 (fun q9 => clo (Or.inr q9)) (fun q9 => ?_)))
        · have e2 : pe n (t :: r) = ((k, A ++ wd_join n Cw I, [[]]) :: fs, [[]]) := by
            rw [pe, hp]; unfold pe_step
            simp only [if_neg q100, if_pos q10]
          have hf := nqF (fun hh => by rcases hh with hh | hh | hh <;> omega)
          refine xm_bar (x := x) (by omega) (by omega) (by omega) hbx ?_
          have hE' := em_bar (C' := sr_C (upd (upd a_op cl 4) (cl + 1) 3) (upd (upd (upd a_arg cl (a_jumpAt fs.length)) (cl + 1) (-1)) x (nI (cl + 1))) (upd (upd a_lev cl (nI fs.length)) (cl + 1) (nI fs.length)) a_lo a_hi a_lazy) (br' := upd a_branchAt fs.length (nI (cl + 1))) (ju' := upd a_jumpAt fs.length (nI cl)) (cl := cl) hn6 hV hE hp q10 (hie (by omega)) hchk.1 (hchk.2 (by omega)) hr ⟨x, hbx, hxc, fun x' g1 g2 g3 => by
            subst g3
            refine ⟨fun pc p1 p2 => ?_, ?_, ?_⟩
            · unfold sr_C
              rw [pk_un (by omega), pk_un (by omega), pk_un p2, pk_un (by omega), pk_un (by omega), pk_un (by omega), pk_un (by omega)]
            · unfold sr_C
              show upd (upd a_op cl 4) (cl + 1) 3 x' = a_op x'
              rw [pk_un (by omega), pk_un (by omega)]
            · unfold sr_C; exact pk_us⟩ (by unfold sr_C; show upd (upd a_op cl 4) (cl + 1) 3 cl = 4; rw [pk_un (by omega), pk_us]) (by unfold sr_C; show upd (upd (upd a_arg cl (a_jumpAt fs.length)) (cl + 1) (-1)) x (nI (cl + 1)) cl = a_jumpAt fs.length; rw [pk_un (by omega), pk_un (by omega), pk_us]) (by unfold sr_C; exact pk_us) (by unfold sr_C; show upd (upd (upd a_arg cl (a_jumpAt fs.length)) (cl + 1) (-1)) x (nI (cl + 1)) (cl + 1) = -1; rw [pk_un (by omega), pk_us]) (fun j hj => pk_un hj) (fun j hj => pk_un hj) pk_us pk_us
          rw [← hf] at hE'
          have hh := h _ _ _ _ _ _ _ _ _ _ hE'
          rw [e2] at hh
          have e5 : em_n ((k, A ++ wd_join n Cw I, [[]]) :: fs) = em_n ((k, A, Cw) :: fs) := em_nc
          have e6 : ((k, A ++ wd_join n Cw I, [[]]) :: fs).length - 1 = fs.length := by rw [List.length_cons]; omega
          rw [e5, e6] at hh
          exact hh
        · /- an atom or an opening -/
          have ht8 : t ≤ 5 ∨ t = 6 ∨ t = 8 := by
            rcases hc with c | c | c | c | c
            · omega
            · omega
            · omega
            · omega
            · obtain ⟨mn, mx, z, e, _⟩ := c.1; omega
          have fin : ∀ (fq : Bool) (op arg lev en : Nat → Int32) (c0 : Nat), c0 = cl + (if fq = true then 1 else 0) → fq = em_sc (t :: rest) 0 → (∀ pc, pc < cl → sr_C op arg lev a_lo a_hi a_lazy pc = (sr_C a_op a_arg a_lev a_lo a_hi a_lazy) pc) → (∀ j, j ≠ fs.length → en j = a_enterAt j) → (fq = true → op cl = 5 ∧ lev cl = nI fs.length ∧ en fs.length = nI cl) → wX_emitToken_102 post (nI t) f_opRow f_opFirst f_opFinal f_opBranch f_opJump f_opEnter f_opNext f_opDecide f_opDone f_catSlot f_itemSlot f_rowsSlot f_timesSlot f_scratchSlot f_size f_bufLen f_openCount (nI pl) (nI c0) (nI fs.length) (nI (em_n ((k, A, Cw) :: fs))) f_termCount f_skipMode f_skipVar f_resPart f_resRows f_resCount f_top f_pc f_pos f_from a_vec a_buf a_opened a_pat a_reads op arg lev a_lo a_hi a_lazy a_useMax a_branchAt a_jumpAt en a_terms a_cells a_rowCount a_startOf a_lengthOf a_labels a_outcome a_loop a_stack := by
            intro fq op arg lev en c0 hc0 hfq hCk hen hq5
            have hc50 : c0 ≤ cl + 1 := by rw [hc0]; split <;> omega
            have hc5 : cl ≤ c0 := by rw [hc0]; omega
            unfold wX_emitToken_102 wpX_emitAtom
            dsimp only
            have opn : t = 6 ∨ t = 8 → wX_emitAtom_12 (fun u => match u with | (f_opRow_9, f_opFirst_9, f_opFinal_9, f_opBranch_9, f_opJump_9, f_opEnter_9, f_opNext_9, f_opDecide_9, f_opDone_9, f_catSlot_9, f_itemSlot_9, f_rowsSlot_9, f_timesSlot_9, f_scratchSlot_9, f_size_9, f_bufLen_9, f_openCount_9, f_patLen_9, f_codeLen_9, f_depth_9, f_excluded_9, f_termCount_9, f_skipMode_9, f_skipVar_9, f_resPart_9, f_resRows_9, f_resCount_9, f_top_9, f_pc_9, f_pos_9, f_from_9, a_vec_9, a_buf_9, a_opened_9, a_pat_9, a_reads_9, a_op_9, a_arg_9, a_lev_9, a_lo_9, a_hi_9, a_lazy_9, a_useMax_9, a_branchAt_9, a_jumpAt_9, a_enterAt_9, a_terms_9, a_cells_9, a_rowCount_9, a_startOf_9, a_lengthOf_9, a_labels_9, a_outcome_9, a_loop_9, a_stack_9) => post (f_opRow_9, f_opFirst_9, f_opFinal_9, f_opBranch_9, f_opJump_9, f_opEnter_9, f_opNext_9, f_opDecide_9, f_opDone_9, f_catSlot_9, f_itemSlot_9, f_rowsSlot_9, f_timesSlot_9, f_scratchSlot_9, f_size_9, f_bufLen_9, f_openCount_9, f_patLen_9, f_codeLen_9, f_depth_9, f_excluded_9, f_termCount_9, f_skipMode_9, f_skipVar_9, f_resPart_9, f_resRows_9, f_resCount_9, f_top_9, f_pc_9, f_pos_9, f_from_9, a_vec_9, a_buf_9, a_opened_9, a_pat_9, a_reads_9, a_op_9, a_arg_9, a_lev_9, a_lo_9, a_hi_9, a_lazy_9, a_useMax_9, a_branchAt_9, a_jumpAt_9, a_enterAt_9, a_terms_9, a_cells_9, a_rowCount_9, a_startOf_9, a_lengthOf_9, a_labels_9, a_outcome_9, a_loop_9, a_stack_9)) (nI t) f_opRow f_opFirst f_opFinal f_opBranch f_opJump f_opEnter f_opNext f_opDecide f_opDone f_catSlot f_itemSlot f_rowsSlot f_timesSlot f_scratchSlot f_size f_bufLen f_openCount (nI pl) (nI c0) (nI fs.length) (nI (em_n ((k, A, Cw) :: fs))) f_termCount f_skipMode f_skipVar f_resPart f_resRows f_resCount f_top f_pc f_pos f_from a_vec a_buf a_opened a_pat a_reads op arg lev a_lo a_hi a_lazy a_useMax a_branchAt a_jumpAt en a_terms a_cells a_rowCount a_startOf a_lengthOf a_labels a_outcome a_loop a_stack := by
              intro h68
              have e2 : pe n (t :: r) = ((t, [], [[]]) :: (k, A, wd_join n Cw I) :: fs, [[]]) := by
                rw [pe, hp]; unfold pe_step
                simp only [if_neg q100, if_neg q10, if_neg (show ¬ (t = 7 ∨ t = 9) by omega), if_pos h68]
              have hf := nqF (fun hh => by rcases hh with hh | hh | hh <;> omega)
              have hd3 : fs.length + 1 < 4 := by
                rcases hc with c | c | c | c | c
                · omega
                · omega
                · omega
                · omega
                · obtain ⟨mn, mx, z, e, _⟩ := c.1; omega
              have hE' := em_open (C' := sr_C (upd op c0 3) (upd arg c0 (-1)) (upd lev c0 (nI (fs.length + 1))) a_lo a_hi a_lazy) (br' := upd a_branchAt (fs.length + 1) (nI c0)) (ju' := upd a_jumpAt (fs.length + 1) (-1)) (en' := en) (cl' := c0 + 1) (fq := fq) hn6 hV hE hp h68 hchk.1 hr (fun pc hpc => by rw [em_ne (by omega)]; exact hCk pc hpc) hen (fun j hj => pk_un hj) (fun j hj => pk_un hj) (by rw [hc0]; split <;> omega) (fun hf1 => by
                have h3 := hq5 hf1
                rw [hf1, if_pos rfl] at hc0
                rw [em_ne (by omega)]
                exact h3) (by rw [show c0 + 1 - 1 = c0 by omega, em_eq]) (by rw [show c0 + 1 - 1 = c0 by omega, em_eq]) (by rw [show c0 + 1 - 1 = c0 by omega]; exact pk_us) pk_us hfq
              rw [← hf] at hE'
              have hh := h _ _ _ _ _ _ _ _ _ _ hE'
              rw [e2] at hh
              have e6 : ((t, [], [[]]) :: (k, A, wd_join n Cw I) :: fs).length - 1 = fs.length + 1 := by rw [List.length_cons, List.length_cons]; omega
              rw [e6] at hh
              refine nm_r (nI_1 fs.length) (pk_eq t 8 (fun q8 => ?_) (fun q8 => ?_))
              · subst q8
                have e5 : em_n ((8, [], [[]]) :: (k, A, wd_join n Cw I) :: fs) = em_n ((k, A, Cw) :: fs) + 1 := by
                  rw [em_n8, em_nc (A' := A) (B' := Cw)]
                rw [e5] at hh
                exact nm_r (nI_1 _) (xm_open (by omega) hd3 hh)
              · have e5 : em_n ((t, [], [[]]) :: (k, A, wd_join n Cw I) :: fs) = em_n ((k, A, Cw) :: fs) := by
                  rw [em_nn q8, em_nc (A' := A) (B' := Cw)]
                rw [e5] at hh
                exact xm_open (by omega) hd3 hh
            refine pk_eq t 6 (fun q6 => opn (Or.inl q6)) (fun q6 => pk_eq t 8 (fun q8 => opn (Or.inr q8)) (fun q8 => ?_))
            have ht5 : t ≤ 5 := by omega
            have e2 : pe n (t :: r) = ((k, A, wd_join n Cw I) :: fs, [[pe_at t]]) := by
              rw [pe, hp]; unfold pe_step
              simp only [if_neg q100, if_neg q10, if_neg (show ¬ (t = 7 ∨ t = 9) by omega), if_neg (show ¬ (t = 6 ∨ t = 8) by omega)]
            have hnqv : em_hq rest = fq := by
              rw [hfq, em_sc]
              have : em_nx t 0 = 0 := by unfold em_nx; rw [if_neg (by omega), if_neg (by omega)]
              rw [this, if_pos rfl]
            have e6 : ((k, A, wd_join n Cw I) :: fs).length - 1 = fs.length := by rw [List.length_cons]; omega
            have e5 : em_n ((k, A, wd_join n Cw I) :: fs) = em_n ((k, A, Cw) :: fs) := em_nc
            have go : ∀ p0 p1 : Int32, ((t < 4 → p0 = 0 ∧ p1 = nI (if em_x ((k, A, Cw) :: fs) = true then t + 4 else t)) ∧ (t = 4 → p0 = 1) ∧ (t = 5 → p0 = 2)) → post (f_opRow, f_opFirst, f_opFinal, f_opBranch, f_opJump, f_opEnter, f_opNext, f_opDecide, f_opDone, f_catSlot, f_itemSlot, f_rowsSlot, f_timesSlot, f_scratchSlot, f_size, f_bufLen, f_openCount, nI pl, nI (c0 + 1), nI fs.length, nI (em_n ((k, A, Cw) :: fs)), f_termCount, f_skipMode, f_skipVar, f_resPart, f_resRows, f_resCount, f_top, f_pc, f_pos, f_from, a_vec, a_buf, a_opened, a_pat, a_reads, upd op c0 p0, upd arg c0 p1, upd lev c0 (nI fs.length), a_lo, a_hi, a_lazy, a_useMax, a_branchAt, a_jumpAt, en, a_terms, a_cells, a_rowCount, a_startOf, a_lengthOf, a_labels, a_outcome, a_loop, a_stack) := by
              intro p0 p1 hp01
              have hE' := em_atom (C' := sr_C (upd op c0 p0) (upd arg c0 p1) (upd lev c0 (nI fs.length)) a_lo a_hi a_lazy) (en' := en) (cl' := c0 + 1) (nq := fq) hn2 hn6 hV hE hp ht5 hchk.1 hr (fun pc hpc => by rw [em_ne (by omega)]; exact hCk pc hpc) hen (by rw [hc0]; split <;> omega) (fun hf1 => by
                have h3 := hq5 hf1
                rw [hf1, if_pos rfl] at hc0
                rw [em_ne (by omega)]
                exact h3) (by
                rw [show c0 + 1 - 1 = c0 by omega, em_eq]
                exact hp01)
              rw [← hnqv] at hE'
              have hh := h _ _ _ _ _ _ _ _ _ _ hE'
              rw [e2] at hh
              rw [e6, e5] at hh
              exact hh
            refine pk_lt 3 t (fun q3 => pk_eq t 4 (fun q4 => ?_) (fun q4 => ?_)) (fun q3 => pk_le (em_n ((k, A, Cw) :: fs)) 0 (fun q0 => ?_) (fun q0 => ?_))
            · exact xm_emit (by omega) (go 1 0 ⟨fun hh => by omega, fun _ => rfl, fun hh => by omega⟩)
            · exact xm_emit (by omega) (go 2 0 ⟨fun hh => by omega, fun hh => absurd hh q4, fun _ => rfl⟩)
            · have hx0 : em_x ((k, A, Cw) :: fs) = false := decide_eq_false (by omega)
              exact xm_emit (by omega) (go 0 (nI t) ⟨fun _ => ⟨rfl, by rw [hx0]; rfl⟩, fun hh => by omega, fun hh => by omega⟩)
            · have hx0 : em_x ((k, A, Cw) :: fs) = true := decide_eq_true q0
              have e7 : nI t + 4 = nI (t + 4) := nI_add t 4
              unfold wX_emitAtom_66
              rw [e7]
              exact xm_emit (by omega) (go 0 (nI (t + 4)) ⟨fun _ => ⟨rfl, by rw [hx0]; rfl⟩, fun hh => by omega, fun hh => by omega⟩)
          refine ⟨(t :: rest).length + 1, ?_⟩
          refine xm_iq hF hpl htok hpat (t :: rest) r.length 0 hFd (by omega) (fun _ => ⟨t, rest, rfl, by omega, by omega⟩) (by omega) ?_ ?_
          · have := congrArg List.length hFd
            rw [List.length_drop, hF] at this
            omega
          · cases hsc : em_sc (t :: rest) 0 with
            | false =>
              refine br_t rfl ?_
              exact fin false a_op a_arg a_lev a_enterAt cl rfl hsc.symm (fun _ _ => rfl) (fun _ _ => rfl) (fun hh => absurd hh (by decide))
            | true =>
              refine br_f (by decide) ?_
              refine xm_emit (by omega) ?_
              dsimp only
              rw [nI_clamp (n := fs.length) (by omega)]
              refine ⟨vp_in_nI (by omega) (by omega), nm_e ?_⟩
              exact fin true (upd a_op cl 5) (upd a_arg cl 0) (upd a_lev cl (nI fs.length)) (upd a_enterAt fs.length (nI cl)) (cl + 1) rfl hsc.symm (fun pc hpc => em_ne (by omega)) (fun j hj => pk_un hj) (fun _ => ⟨pk_us, pk_us, pk_us⟩)
      · have q100 : 100 ≤ t := q
        have hdec : decide (100 ≤ t) = true := decide_eq_true q100
        rw [hdec] at hE
        have hq : tk_q n t := by
          rcases hc with c | c | c | c | c
          · omega
          · omega
          · omega
          · omega
          · exact c.1
        have eC : pe_chk n t ((k, A, Cw) :: fs, I) = (∀ d, d ≤ pe_mx t → (wd_R n (pe_mn t) (pe_mx t) (pe_lz t) I d).length ≤ 64) := by unfold pe_chk; exact if_pos q100
        rw [eC] at hchk
        have e2 : pe n (t :: r) = ((k, A, Cw) :: fs, pe_rep n t I) := by
          rw [pe, hp]; unfold pe_step
          simp only [if_pos q100]
        have hf := nqF (fun hh => by rcases hh with hh | hh | hh <;> omega)
        obtain ⟨c, g1, g2, g3, g4⟩ := em_quant hn2 hn6 hV hE hp hq hchk hr
        refine xm_loop (n := n) (c := c) (t := t) hn6 (by omega) (by omega) (by omega) hr g1 hpt hq (hum q100) ?_
        have hE' := g4 (sr_C (upd (upd a_op cl 6) (cl + 1) 7) (upd (upd (upd a_arg cl 0) (cl + 1) (nI (c + 1))) c (nI (cl + 1))) (upd (upd a_lev cl (nI fs.length)) (cl + 1) (nI fs.length)) (upd (upd a_lo cl (nI (pe_mn t))) (cl + 1) (nI (pe_mn t))) (upd a_hi (cl + 1) (nI (if wd_rows I = [] then pe_mn t else pe_mx t))) (upd a_lazy (cl + 1) (nI ((t - 100) % 2)))) (fun pc p1 p2 => by
          unfold sr_C
          rw [pk_un (by omega), pk_un (by omega), pk_un p2, pk_un (by omega), pk_un (by omega), pk_un (by omega), pk_un (by omega), pk_un (by omega), pk_un (by omega), pk_un (by omega), pk_un (by omega)])
          (by show upd (upd a_op cl 6) (cl + 1) 7 c = a_op c; rw [pk_un (by omega), pk_un (by omega)]) pk_us
          (by show upd (upd a_lev cl (nI fs.length)) (cl + 1) (nI fs.length) c = a_lev c; rw [pk_un (by omega), pk_un (by omega)])
          (by show upd (upd a_op cl 6) (cl + 1) 7 cl = 6; rw [pk_un (by omega), pk_us]) (by show upd (upd a_lev cl (nI fs.length)) (cl + 1) (nI fs.length) cl = _; rw [pk_un (by omega), pk_us]) (by show upd (upd a_lo cl (nI (pe_mn t))) (cl + 1) (nI (pe_mn t)) cl = _; rw [pk_un (by omega), pk_us])
          pk_us (by show upd (upd (upd a_arg cl 0) (cl + 1) (nI (c + 1))) c (nI (cl + 1)) (cl + 1) = _; rw [pk_un (by omega), pk_us]) pk_us pk_us pk_us pk_us
        rw [← hf] at hE'
        have hh := h _ _ _ _ _ _ _ _ _ _ hE'
        rw [e2] at hh
        have e6 : ((k, A, Cw) :: fs).length - 1 = fs.length := by rw [List.length_cons]; omega
        rw [e6] at hh
        exact hh
end
end
section
/-! ===== install ===== -/
theorem bk_kn {C : Nat → bk_I} {n a b : Nat} {E : List (List Nat)} {k k' : Nat → Nat} {S D sl : Nat} (h : bk_Blk C n a b E k S D sl) (hk : ∀ r, r ≤ n → k r ≤ k' r) : bk_Blk C n a b E k' S D sl := by
  intro N ok fi la Ok Fl e hM f l K hl hb Y H h0 hx hY
  have hN : N ≤ n := e.1
  exact e.2.2.2.1 _ _ _ _ _ _ (Nat.add_le_add_left (hk _ (by omega)) _) (h N ok fi la Ok Fl e hM f l K hl hb Y H h0 hx hY)
def in_p (bl : Nat) (buf pat : Nat → Int32) : Nat → Int32 := fun j => if j < bl then buf j else pat j
theorem in_ps {i : Nat} {buf pat : Nat → Int32} : upd (in_p i buf pat) i (buf i) = in_p (i + 1) buf pat := by
  funext j
  unfold in_p
  by_cases h : j = i
  · rw [h, pk_us, if_pos (by omega)]
  · rw [pk_un h]
    by_cases h2 : j < i
    · rw [if_pos h2, if_pos (by omega)]
    · rw [if_neg h2, if_neg (by omega)]
theorem in_p0 {buf pat : Nat → Int32} : in_p 0 buf pat = pat := by
  funext j; unfold in_p; rw [if_neg (by omega)]
theorem em_hqd {T : List Nat} {i : Nat} (hi : i ≤ T.length) : T.reverse.drop i = (T.take (T.length - i)).reverse := by
  rw [List.drop_reverse]
section
variable {f_opRow f_opFirst f_opFinal f_opBranch f_opJump f_opEnter f_opNext f_opDecide f_opDone f_catSlot f_itemSlot f_rowsSlot f_timesSlot f_scratchSlot f_size f_bufLen f_openCount f_patLen f_codeLen f_depth f_excluded f_termCount f_skipMode f_skipVar f_resPart f_resRows f_resCount f_top f_pc f_pos f_from : Int32} {a_vec a_buf a_opened a_pat a_reads a_op a_arg a_lev a_lo a_hi a_lazy a_useMax a_branchAt a_jumpAt a_enterAt a_terms a_cells a_rowCount a_startOf a_lengthOf a_labels a_outcome a_loop : Nat → Int32} {a_stack : Nat → Int64}
variable {n : Nat}
theorem xm_inst {post : SX → Prop} {T : List Nat} (hn2 : 2 ≤ n) (hn6 : n ≤ 6) (hV : tk_V n T) (hl : T.length ≤ 24) (hie : tk_ie T) (hb : ∀ i, i < T.length → a_buf i = nI (T.getD (T.length - 1 - i) 0)) (hS : tk_S T = []) (hok : pe_ok n T) (hfin : pe_fin n (pe n T)) (hvec : an_V n a_vec 0 (pe_end n (pe n T))) (hum : an_Um n a_useMax T)
    (h : ∀ (reads op arg lev lo hi lz br ju en : Nat → Int32) (cl dep exc : Int32) (e : Nat) (k : Nat → Nat) (S D : Nat), (∀ z, z ≤ n → reads z = nI (wd_cn (pe_end n (pe n T)) z)) → e < 63 → op e = 8 → bk_Blk (sr_C op arg lev lo hi lz) n 0 e (pe_end n (pe n T)) k S D 0 → S + D * 6 ≤ 4096 → (∀ r, r ≤ 6 → k r < 999999999999) →
      post (f_opRow, f_opFirst, f_opFinal, f_opBranch, f_opJump, f_opEnter, f_opNext, f_opDecide, f_opDone, f_catSlot, f_itemSlot, f_rowsSlot, f_timesSlot, f_scratchSlot, nI n, f_bufLen, f_openCount, nI T.length, cl, dep, exc, f_termCount, f_skipMode, f_skipVar, f_resPart, f_resRows, f_resCount, f_top, f_pc, f_pos, f_from, a_vec, a_buf, a_opened, in_p T.length a_buf a_pat, reads, op, arg, lev, lo, hi, lz, a_useMax, br, ju, en, a_terms, a_cells, a_rowCount, a_startOf, a_lengthOf, a_labels, a_outcome, a_loop, a_stack)) :
    wpX_install post (f_opRow, f_opFirst, f_opFinal, f_opBranch, f_opJump, f_opEnter, f_opNext, f_opDecide, f_opDone, f_catSlot, f_itemSlot, f_rowsSlot, f_timesSlot, f_scratchSlot, nI n, f_bufLen, f_openCount, f_patLen, f_codeLen, f_depth, f_excluded, f_termCount, f_skipMode, f_skipVar, f_resPart, f_resRows, f_resCount, f_top, f_pc, f_pos, f_from, a_vec, a_buf, a_opened, a_pat, a_reads, a_op, a_arg, a_lev, a_lo, a_hi, a_lazy, a_useMax, a_branchAt, a_jumpAt, a_enterAt, a_terms, a_cells, a_rowCount, a_startOf, a_lengthOf, a_labels, a_outcome, a_loop, a_stack) (nI T.length) := by
  have hFl : T.reverse.length = T.length := List.length_reverse
  have htokF : ∀ z, z ∈ T.reverse → z < 240 := fun z hz => tk_tok hn6 hV z (List.mem_reverse.mp hz)
  have hgetF : ∀ i, i < T.length → T.reverse.getD i 0 = T.getD (T.length - 1 - i) 0 := by
    intro i hi
    rw [List.getD_eq_getElem?_getD, List.getD_eq_getElem?_getD, List.getElem?_reverse hi]
  have hpatF : ∀ i, i < T.length → in_p T.length a_buf a_pat i = nI (T.reverse.getD i 0) := by
    intro i hi
    unfold in_p
    rw [if_pos hi, hb i hi, hgetF i hi]
  /- the tokens -/
  have L3 : ∀ d i, i + d = T.length → ∀ (reads op arg lev lo hi lz br ju en : Nat → Int32) (cl : Nat), (∀ z, z ≤ n → reads z = nI (wd_cn (pe_end n (pe n T)) z)) → em_E n (sr_C op arg lev lo hi lz) br ju en cl (T.drop (T.length - i)) (T.reverse.drop i) (em_hq (T.reverse.drop i)) → wX_install_79 post (nI T.length) (d + 1) (nI i) f_opRow f_opFirst f_opFinal f_opBranch f_opJump f_opEnter f_opNext f_opDecide f_opDone f_catSlot f_itemSlot f_rowsSlot f_timesSlot f_scratchSlot (nI n) f_bufLen f_openCount (nI T.length) (nI cl) (nI ((pe n (T.drop (T.length - i))).1.length - 1)) (nI (em_n (pe n (T.drop (T.length - i))).1)) f_termCount f_skipMode f_skipVar f_resPart f_resRows f_resCount f_top f_pc f_pos f_from a_vec a_buf a_opened (in_p T.length a_buf a_pat) reads op arg lev lo hi lz a_useMax br ju en a_terms a_cells a_rowCount a_startOf a_lengthOf a_labels a_outcome a_loop a_stack := by
    intro d
    induction d with
    | zero =>
      intro i hi reads op arg lev lo hi2 lz br ju en cl hrd hE
      have : i = T.length := by omega
      subst this
      have e0 : T.reverse.drop T.length = [] := by rw [← hFl]; exact List.drop_length
      rw [Nat.sub_self, List.drop_zero, e0] at hE
      rw [Nat.sub_self, List.drop_zero]
      have hPL := pe_len hV
      rw [hS] at hPL
      cases hp : pe n T with
      | mk fs0 I =>
        rw [hp] at hPL hfin h hrd
        cases fs0 with
        | nil => exact absurd hPL.1 (by show ¬ 0 = 1; omega)
        | cons f fs =>
          obtain ⟨k, A, Cw⟩ := f
          have hfs : fs = [] := by
            have h3 : fs.length + 1 = 0 + 1 := hPL.1
            exact List.length_eq_zero_iff.mp (by omega)
          subst hfs
          have hk0 : k = 0 := by
            have h6 : [k] = [0] := hPL.2
            exact (List.cons.inj h6).1
          subst hk0
          have hG := pe_G_all hn2 hV hok
          rw [hp] at hG
          obtain ⟨⟨gA, gC, gF⟩, gI⟩ := hG
          obtain ⟨a, x, js, fq, tA, kA, SA, tC, kC, SC, gs, hF, hQ, hT, hcl2, hieC, hgl⟩ := em_merge hn6 hV hE hp hfin.1 hl
          have hgs : gs = [] := List.length_eq_zero_iff.mp hgl
          subst hgs
          obtain ⟨hfr, hbr, hch, ⟨ha, hlk⟩, hFt⟩ := hF
          obtain ⟨f1, f2, f3, f4, f5, f6, f7, f8, f9, f10, f11, f12⟩ := hfr
          have hfq : ¬ fq = true := fun hh => (hlk hh).1 rfl
          have ha0 : a = 0 := by rw [ha, if_neg hfq]; rfl
          subst ha0
          have hT' : tA + tC + 0 + 0 = T.length := hT
          have htC := hieC hie
          have hx : em_x [((0 : Nat), A, wd_join n Cw I)] = false := by
            unfold em_x
            rw [em_nn (by omega)]
            rfl
          rw [hx] at f8 f9 f10 f11
          have m1 : ∀ E : List (List Nat), em_mk false E = E := fun _ => rfl
          rw [m1] at f8 f9 f10 f11
          have m2 : ∀ E : List (List Nat), em_mk false E = E := fun _ => rfl
          have okA : ∀ w, w ∈ A ++ wd_join n Cw I → wd_ok n w := fun w hw => by
            rcases List.mem_append.mp hw with hh | hh
            · exact gA.2 w hh
            · exact wd_join_ok gC.2 gI.2 w hh
          refine br_t (nI_le (Nat.le_refl _) (by omega)) ?_
          show wpX_patchJumps _ (f_opRow, f_opFirst, f_opFinal, f_opBranch, f_opJump, f_opEnter, f_opNext, f_opDecide, f_opDone, f_catSlot, f_itemSlot, f_rowsSlot, f_timesSlot, f_scratchSlot, nI n, f_bufLen, f_openCount, nI T.length, nI cl, nI ([((0 : Nat), A, Cw)].length - 1), nI (em_n [((0 : Nat), A, Cw)]), f_termCount, f_skipMode, f_skipVar, f_resPart, f_resRows, f_resCount, f_top, f_pc, f_pos, f_from, a_vec, a_buf, a_opened, in_p T.length a_buf a_pat, reads, op, arg, lev, lo, hi2, lz, a_useMax, br, ju, en, a_terms, a_cells, a_rowCount, a_startOf, a_lengthOf, a_labels, a_outcome, a_loop, a_stack)
          refine xm_patch (d := 0) (b := cl) (by omega) (em_dec_mono (by omega) f5) (by omega) (by omega) hch (fun arg' g1 g2 => ?_)
          dsimp only
          refine xm_emit (d := 0) (by omega) ?_
          have hCk : ∀ pc, pc < cl → pc ∉ js → sr_C (upd op cl 8) (upd arg' cl 0) (upd lev cl (nI 0)) lo hi2 lz pc = sr_C op arg lev lo hi2 lz pc := by
            intro pc p1 p2
            rw [em_ne (by omega)]
            unfold sr_C
            rw [g2 pc p2]
          have hBlk := bk_preEnd (C := sr_C op arg lev lo hi2 lz) (C' := sr_C (upd op cl 8) (upd arg' cl 0) (upd lev cl (nI 0)) lo hi2 lz) (e := cl) f2 (by omega) f8 (fun q hq => em_dec_mem f5 hq) (fun pc _ p2 p3 => hCk pc p2 p3) f1 (fun q hq => by
            have hql := em_dec_mem f5 hq
            rw [em_ne (by omega)]
            exact ⟨(f7 q hq).2, g1 q hq⟩) f3 f4 f9
          have hpo := po_end hn6 (show (0 : Nat) < 4 by omega) (show tA + tC ≤ 24 by omega) htC f12 f10 f11 hfin.2 okA
          obtain ⟨z1, z2⟩ := po_fin hn6 (by omega) hpo
          refine h reads (upd op cl 8) (upd arg' cl 0) (upd lev cl (nI 0)) lo hi2 lz br ju en _ _ _ cl (fun r => if r ≤ n then kA r + (kC r + 1) else 0) (SA + SC) 4 hrd (by omega) pk_us (bk_kn hBlk (fun r hr => by rw [if_pos hr]; exact Nat.le_refl _)) (by omega) (fun r hr => ?_)
          split
          · rename_i hrn; exact z2 r hrn
          · omega
    | succ d ih =>
      intro i hi reads op arg lev lo hi2 lz br ju en cl hrd hE
      obtain ⟨t, e1, e2, e3⟩ := tk_next (T := T) (i := i) (by omega)
      have nx := ih (i + 1) (by omega)
      rw [e1] at nx
      have hV' := tk_V_drop (T.length - (i + 1)) hV
      rw [e1] at hV'
      have hok' := pe_ok_drop (T.length - (i + 1)) hok
      rw [e1] at hok'
      have hG := pe_G_all hn2 hV'.2 hok'.1
      have hi' : i < T.reverse.length := by rw [hFl]; omega
      have e4 : T.reverse.drop i = t :: T.reverse.drop (i + 1) := by
        rw [List.drop_eq_getElem_cons hi']
        congr 1
        have h5 := hgetF i (by omega)
        rw [e2, List.getD_eq_getElem?_getD, List.getElem?_eq_getElem hi'] at h5
        exact h5
      have humd : an_Um n a_useMax (t :: T.drop (T.length - i)) := by
        rw [← e1]
        clear nx ih hE hV' hok' hG e4 h hvec hfin hS hie hok hrd
        generalize T.length - (i + 1) = q
        revert hum
        clear hpatF hgetF htokF hFl e1 e2 e3 hi hi' hb hl hV
        induction q generalizing T with
        | zero => intro hum; exact hum
        | succ q ihq =>
          intro hum
          cases T with
          | nil => exact hum
          | cons a T => exact ihq hum.2
      rw [e4] at hE
      refine br_f (nI_ge (by omega) (by omega)) ?_
      have ei : nI i = nI (T.drop (T.length - i)).length := by rw [e3]
      rw [ei]
      refine xm_tok (pl := T.length) (F := T.reverse) (t := t) (rest := T.reverse.drop (i + 1)) hn2 hn6 hV' hG hok'.2 (by omega) hFl hl htokF hpatF (by rw [e3]; exact e4) humd.1 ?_ hE ?_
      · intro hh
        have hlt : i + 1 < T.length := by
          rcases Nat.lt_or_ge (i + 1) T.length with h5 | h5
          · exact h5
          · rw [List.drop_eq_nil_of_le (by rw [hFl]; exact h5)] at hh
            exact absurd hh (by decide)
        obtain ⟨t2, f1, f2, f3⟩ := tk_next (T := T) (i := i + 1) hlt
        have hV2 := tk_V_drop (T.length - (i + 1 + 1)) hV
        rw [f1, e1] at hV2
        have hi2' : i + 1 < T.reverse.length := by rw [hFl]; exact hlt
        rw [List.drop_eq_getElem_cons hi2'] at hh
        have h6 : 100 ≤ T.reverse[i + 1] := of_decide_eq_true hh
        have h5 := hgetF (i + 1) hlt
        rw [f2, List.getD_eq_getElem?_getD, List.getElem?_eq_getElem hi2'] at h5
        have h7 : T.reverse[i + 1] = t2 := h5
        rw [h7] at h6
        have hc := hV2.1
        unfold tk_c at hc
        rcases hc with c | c | c | c | c
        · omega
        · omega
        · omega
        · omega
        · exact c.2
      · intro op' arg' lev' lo' hi' lz' br' ju' en' cl' hE'
        exact nm_r (e' := nI (i + 1)) (by rw [e3]; exact nI_1 i) (nx reads op' arg' lev' lo' hi' lz' br' ju' en' cl' hrd hE')
  /- the counts -/
  have L2 : ∀ d k, k + d = n + 1 → ∀ reads : Nat → Int32, (∀ z, z < k → reads z = nI (wd_cn (pe_end n (pe n T)) z)) → wX_install_32 post (nI T.length) f_opRow f_opFirst f_opFinal f_opBranch f_opJump f_opEnter f_opNext f_opDecide f_opDone f_catSlot f_itemSlot f_rowsSlot f_timesSlot f_scratchSlot (nI n) f_bufLen f_openCount (nI T.length) f_codeLen f_depth f_excluded f_termCount f_skipMode f_skipVar f_resPart f_resRows f_resCount f_top f_pc f_pos f_from (d + 1) (nI k) a_vec a_buf a_opened (in_p T.length a_buf a_pat) reads a_op a_arg a_lev a_lo a_hi a_lazy a_useMax a_branchAt a_jumpAt a_enterAt a_terms a_cells a_rowCount a_startOf a_lengthOf a_labels a_outcome a_loop a_stack := by
    intro d
    induction d with
    | zero =>
      intro k hk reads hrd
      refine br_t (nI_lt (by omega) (by omega)) ?_
      refine xm_open (cl := 0) (d := 0) (by omega) (by omega) ?_
      have hE0 : em_E n (sr_C (upd a_op 0 3) (upd a_arg 0 (-1)) (upd a_lev 0 (nI 0)) a_lo a_hi a_lazy) (upd a_branchAt 0 (nI 0)) (upd a_jumpAt 0 (-1)) a_enterAt 1 (T.drop (T.length - 0)) (T.reverse.drop 0) (em_hq (T.reverse.drop 0)) := by
        have e0 : T.drop (T.length - 0) = [] := by rw [Nat.sub_zero]; exact List.drop_length
        have hq0 : em_hq (T.reverse.drop 0) = false := by
          rw [List.drop_zero]
          cases hrv : T.reverse with
          | nil => rfl
          | cons z zs =>
            have hlt : 0 < T.length := by
              rw [← hFl, hrv]; exact Nat.succ_pos _
            obtain ⟨t2, f1, f2, f3⟩ := tk_next (T := T) (i := 0) hlt
            have hV2 := tk_V_drop (T.length - (0 + 1)) hV
            rw [f1, e0] at hV2
            have h5 := hgetF 0 hlt
            rw [f2, hrv] at h5
            have h7 : z = t2 := h5
            have hc := hV2.1
            unfold tk_c at hc
            refine decide_eq_false (fun hh => ?_)
            rcases hc with c | c | c | c | c
            · omega
            · omega
            · omega
            · omega
            · exact c.2
        rw [e0, hq0]
        refine ⟨[(0, 0, 1, [], false, 0, (fun _ => 0), 0, 0, (fun _ => 0), 0)], 0, (fun _ => 0), 0, ⟨⟨Nat.le_refl _, Nat.le_refl _, by rw [em_eq], by rw [em_eq], trivial, Nat.zero_le _, (fun q hq => nomatch hq), by rw [em_mk_nil]; exact bk_pre0, by rw [em_mk_unit]; exact bk_weak bk_unit (fun _ _ => Nat.le_refl _) (Nat.le_refl _) (Nat.zero_le _) (Nat.le_refl _), by rw [em_mk_nil]; exact po_P0, by rw [em_mk_unit]; exact po_unitC hn6 (by show 0 < 4; omega), by omega⟩, pk_us, pk_us, ⟨rfl, fun hh => absurd hh (by decide)⟩, trivial⟩, ⟨fun hh => absurd rfl hh, trivial⟩, ⟨fun _ => ?_, fun hh => absurd hh (by decide)⟩, Nat.le_refl _, Nat.le_refl _, rfl, fun hh => absurd hh (fun q => q)⟩
        show bk_Blk _ n 1 1 (em_mk _ [[]]) (fun _ => 0) 0 (4 - 0) (2 * 0) ∧ po_I n 0 0 (em_mk _ [[]]) (fun _ => 0) 0
        rw [em_mk_unit]
        exact ⟨bk_weak bk_unit (fun _ _ => Nat.le_refl _) (Nat.le_refl _) (Nat.zero_le _) (Nat.le_refl _), po_unitI hn6 (by omega)⟩
      have h3 := L3 T.length 0 (by omega) reads _ _ _ _ _ _ _ _ _ 1 (fun z hz => hrd z (by omega)) hE0
      have e0 : T.drop (T.length - 0) = [] := by rw [Nat.sub_zero]; exact List.drop_length
      rw [e0] at h3
      exact ⟨T.length + 1, h3⟩
    | succ d ih =>
      intro k hk reads hrd
      refine br_f (nI_nlt (by omega) (by omega)) ?_
      rw [nI_clamp (n := k) (by omega)]
      have hv := hvec k (by omega)
      rw [Nat.mul_zero, Nat.zero_add] at hv
      rw [hv]
      refine ⟨vp_in_nI (by omega) (by omega), vp_in_nI (by omega) (by omega), nm_e (nm_r (nI_1 k) (ih (k + 1) (by omega) _ (fun z hz => ?_)))⟩
      by_cases hzk : z = k
      · rw [hzk, pk_us]
      · rw [pk_un hzk]; exact hrd z (by omega)
  have L1 : ∀ d i, i + d = T.length → wX_install_7 post (nI T.length) f_opRow f_opFirst f_opFinal f_opBranch f_opJump f_opEnter f_opNext f_opDecide f_opDone f_catSlot f_itemSlot f_rowsSlot f_timesSlot f_scratchSlot (nI n) f_bufLen f_openCount (nI T.length) f_codeLen f_depth f_excluded f_termCount f_skipMode f_skipVar f_resPart f_resRows f_resCount f_top f_pc f_pos f_from (d + 1) (nI i) a_vec a_buf a_opened (in_p i a_buf a_pat) a_reads a_op a_arg a_lev a_lo a_hi a_lazy a_useMax a_branchAt a_jumpAt a_enterAt a_terms a_cells a_rowCount a_startOf a_lengthOf a_labels a_outcome a_loop a_stack := by
    intro d
    induction d with
    | zero =>
      intro i hi
      have : i = T.length := by omega
      subst this
      exact br_t (nI_le (Nat.le_refl _) (by omega)) ⟨n + 2, L2 (n + 1) 0 (by omega) a_reads (fun z hz => by omega)⟩
    | succ d ih =>
      intro i hi
      refine br_f (nI_ge (by omega) (by omega)) ?_
      rw [nI_clamp (n := i) (by omega), in_ps]
      exact ⟨vp_in_nI (by omega) (by omega), vp_in_nI (by omega) (by omega), nm_e (nm_r (nI_1 i) (ih (i + 1) (by omega)))⟩
  have hL := L1 T.length 0 (by omega)
  rw [in_p0] at hL
  exact ⟨T.length + 1, hL⟩
end
end
section
/-! ===== compile ===== -/
theorem i_vc_compile {k : Nat} {u : SX} {v : SY} (I : i_Rel k u v) (hk : k + 5 ≤ 2561) : wpX_compile (fun r u' => wpY_compile (fun r' v' => r' = r ∧ i_Rel (k + 5) u' v') v) u := by
  refine I (fun u v => wpX_compile (fun r u' => wpY_compile (fun r' v' => r' = r ∧ i_Rel (k + 5) u' v') v) u) ?_
  intro n bl oc pl tc sm sv R rc T Ms f_opRow f_opFirst f_opFinal f_opBranch f_opJump f_opEnter f_opNext f_opDecide f_opDone f_catSlot f_itemSlot f_rowsSlot f_timesSlot f_scratchSlot f_codeLen f_depth f_excluded f_resPart f_top f_pc f_pos f_from yf_resPart yf_tooBig a_vec a_buf a_opened a_pat a_reads a_op a_arg a_lev a_lo a_hi a_lazy a_useMax a_branchAt a_jumpAt a_enterAt a_terms a_cells a_rowCount a_startOf a_lengthOf a_labels a_outcome a_loop ya_len ya_tried a_stack ya_lists ya_matchEntry hF
  have h2 := hF.1.1
  have h6 := hF.1.2
  obtain ⟨b1, b2, b3, b4, b5, b6⟩ := hF.2.2.1
  subst b1
  subst b5
  have h68 := tk_S68 b3
  have hempty : rl_B n 0 0 [] a_buf a_opened := ⟨rfl, by omega, trivial, fun i hi => by omega, rfl, fun i hi => by omega⟩
  have hF0 : rl_F n 0 0 pl tc sm sv R rc [] Ms f_resPart yf_resPart a_buf a_opened a_reads a_op a_arg a_lev a_lo a_hi a_lazy a_terms a_rowCount a_startOf a_lengthOf a_labels a_outcome a_loop ya_len ya_tried ya_lists ya_matchEntry := ⟨hF.1, hF.2.1, hempty, hF.2.2.2⟩
  have mk0 : i_Rel (k + 5) (f_opRow, f_opFirst, f_opFinal, f_opBranch, f_opJump, f_opEnter, f_opNext, f_opDecide, f_opDone, f_catSlot, f_itemSlot, f_rowsSlot, f_timesSlot, f_scratchSlot, nI n, 0, 0, nI pl, f_codeLen, f_depth, f_excluded, nI tc, nI sm, nI sv, f_resPart, nI R, nI rc, f_top, f_pc, f_pos, f_from, a_vec, a_buf, a_opened, a_pat, a_reads, a_op, a_arg, a_lev, a_lo, a_hi, a_lazy, a_useMax, a_branchAt, a_jumpAt, a_enterAt, a_terms, a_cells, a_rowCount, a_startOf, a_lengthOf, a_labels, a_outcome, a_loop, a_stack) (nI n, 0, nI pl, nI tc, nI sm, nI sv, yf_resPart, nI R, nI rc, yf_tooBig, a_buf, a_pat, a_terms, a_cells, a_rowCount, ya_lists, ya_len, a_startOf, ya_matchEntry, ya_tried) := rl_mk (bl := 0) (oc := 0) hF0
  have hg0 : (tk_S T).getD 0 0 ≤ 8 := by
    cases hS : tk_S T with
    | nil => exact Nat.zero_le _
    | cons a r =>
      have := h68.1 a (by rw [hS]; exact List.mem_cons_self)
      show a ≤ 8
      omega
  have eg : (10 * nI (tk_S T).length) + nI ((tk_S T).getD 0 0) = nI (10 * (tk_S T).length + (tk_S T).getD 0 0) := by
    have q1 : (10 : Int32) * nI (tk_S T).length = nI (10 * (tk_S T).length) := pk_mul 10 _
    rw [q1, nI_add]
  have ybad : wY_compile_30 (fun r' v' => r' = -4 ∧ i_Rel (k + 5) (f_opRow, f_opFirst, f_opFinal, f_opBranch, f_opJump, f_opEnter, f_opNext, f_opDecide, f_opDone, f_catSlot, f_itemSlot, f_rowsSlot, f_timesSlot, f_scratchSlot, nI n, 0, 0, nI pl, f_codeLen, f_depth, f_excluded, nI tc, nI sm, nI sv, f_resPart, nI R, nI rc, f_top, f_pc, f_pos, f_from, a_vec, a_buf, a_opened, a_pat, a_reads, a_op, a_arg, a_lev, a_lo, a_hi, a_lazy, a_useMax, a_branchAt, a_jumpAt, a_enterAt, a_terms, a_cells, a_rowCount, a_startOf, a_lengthOf, a_labels, a_outcome, a_loop, a_stack) v') (nI n) (nI T.length) (nI pl) (nI tc) (nI sm) (nI sv) yf_resPart (nI R) (nI rc) yf_tooBig a_buf a_pat a_terms a_cells a_rowCount ya_lists ya_len a_startOf ya_matchEntry ya_tried := br_f (by decide) (br_f (by decide) ⟨rfl, mk0⟩)
  have bad : ∀ x1 : Int32, wpY_compile (fun r' v' => r' = -4 ∧ i_Rel (k + 5) (f_opRow, f_opFirst, f_opFinal, f_opBranch, f_opJump, f_opEnter, f_opNext, f_opDecide, f_opDone, f_catSlot, f_itemSlot, f_rowsSlot, f_timesSlot, f_scratchSlot, nI n, 0, 0, nI pl, f_codeLen, f_depth, f_excluded, nI tc, nI sm, nI sv, f_resPart, nI R, nI rc, f_top, f_pc, f_pos, f_from, a_vec, a_buf, a_opened, a_pat, a_reads, a_op, a_arg, a_lev, a_lo, a_hi, a_lazy, a_useMax, a_branchAt, a_jumpAt, a_enterAt, a_terms, a_cells, a_rowCount, a_startOf, a_lengthOf, a_labels, a_outcome, a_loop, a_stack) v') (nI n, nI T.length, nI pl, nI tc, nI sm, nI sv, yf_resPart, nI R, nI rc, yf_tooBig, a_buf, a_pat, a_terms, a_cells, a_rowCount, ya_lists, ya_len, a_startOf, ya_matchEntry, ya_tried) → wX_compile_29 (fun r u' => wpY_compile (fun r' v' => r' = r ∧ i_Rel (k + 5) u' v') (nI n, nI T.length, nI pl, nI tc, nI sm, nI sv, yf_resPart, nI R, nI rc, yf_tooBig, a_buf, a_pat, a_terms, a_cells, a_rowCount, ya_lists, ya_len, a_startOf, ya_matchEntry, ya_tried)) x1 f_opRow f_opFirst f_opFinal f_opBranch f_opJump f_opEnter f_opNext f_opDecide f_opDone f_catSlot f_itemSlot f_rowsSlot f_timesSlot f_scratchSlot (nI n) (nI T.length) (nI (tk_S T).length) (nI pl) f_codeLen f_depth f_excluded (nI tc) (nI sm) (nI sv) f_resPart (nI R) (nI rc) f_top f_pc f_pos f_from a_vec a_buf a_opened a_pat a_reads a_op a_arg a_lev a_lo a_hi a_lazy a_useMax a_branchAt a_jumpAt a_enterAt a_terms a_cells a_rowCount a_startOf a_lengthOf a_labels a_outcome a_loop a_stack := fun x1 hy => br_f (by decide) hy
  refine pk_eq T.length 0 (fun q0 => bad _ ?_) (fun q0 => pk_lt 0 (tk_S T).length (fun qo => bad _ ?_) (fun qo => ?_))
  · exact br_t (by rw [q0]; rfl) ybad
  · refine br_f (nI_ne0 (by omega) (by omega)) ?_
    refine yo_open h6 b2 b3 b4 ?_
    rw [eg]
    exact br_f (nI_ne0 (by omega) (by omega)) ybad
  · have hS0 : tk_S T = [] := List.length_eq_zero_iff.mp (by omega)
    cases hT : T with
    | nil => rw [hT] at q0; exact absurd rfl q0
    | cons t r =>
      have hb0 := b4 r.length (by rw [hT, List.length_cons]; omega)
      rw [hT, tk_b0] at hb0
      have htok := tk_tok h6 b3 t (by rw [hT]; exact List.mem_cons_self)
      have hrl : r.length < 24 := by rw [hT, List.length_cons] at b2; omega
      have e0 : nI (t :: r).length - 1 = nI r.length := nI_pred r.length
      have yop : ∀ {P : Int32 → SY → Prop}, ((nI t = 10 → wY_compile_30 P (nI n) (nI (t :: r).length) (nI pl) (nI tc) (nI sm) (nI sv) yf_resPart (nI R) (nI rc) yf_tooBig a_buf a_pat a_terms a_cells a_rowCount ya_lists ya_len a_startOf ya_matchEntry ya_tried) ∧ (¬ nI t = 10 → wY_compile_35 P 0 (nI n) (nI (t :: r).length) (nI pl) (nI tc) (nI sm) (nI sv) yf_resPart (nI R) (nI rc) yf_tooBig a_buf a_pat a_terms a_cells a_rowCount ya_lists ya_len a_startOf ya_matchEntry ya_tried)) → wpY_compile P (nI n, nI (t :: r).length, nI pl, nI tc, nI sm, nI sv, yf_resPart, nI R, nI rc, yf_tooBig, a_buf, a_pat, a_terms, a_cells, a_rowCount, ya_lists, ya_len, a_startOf, ya_matchEntry, ya_tried) := by
        intro P hP
        refine br_f (nI_ne0 (by rw [List.length_cons]; omega) (by rw [List.length_cons]; omega)) ?_
        rw [hT] at b2 b3 b4 hS0
        refine yo_open h6 b2 b3 b4 ?_
        rw [hS0]
        refine br_t (by decide) ?_
        rw [e0, nI_clamp (n := r.length) (by omega), hb0]
        exact ⟨vp_in_nI hrl (by omega), hP⟩
      rw [e0, nI_clamp (n := r.length) (by omega), hb0]
      rw [hT] at bad ybad
      refine ⟨vp_in_nI hrl (by omega), pk_eq t 10 (fun q10 => bad _ (yop (br_t (by rw [q10]; rfl) ybad))) (fun q10 => ?_)⟩
      have n10 : ¬ nI t = 10 := fun hh => q10 ((nI_eq (b := 10) (by omega) (by omega)).mp hh)
      rw [hT] at b2 b3 b4 hS0
      have hie : tk_ie (t :: r) := by
        have hc := b3.1
        unfold tk_c at hc
        rcases hc with c | c | c | c | c
        · exact Or.inl c
        · exfalso
          have h7 : tk_S (t :: r) = t :: tk_S r := by rw [tk_S, if_pos c.1]
          rw [h7] at hS0
          cases hS0
        · rcases c.1 with c1 | c1
          · exact Or.inr (Or.inl c1)
          · exact Or.inr (Or.inr (Or.inl c1))
        · exact absurd c.1 q10
        · obtain ⟨mn, mx, z, e, _⟩ := c.1
          exact Or.inr (Or.inr (Or.inr (by omega)))
      refine br_t rfl ?_
      refine xa_all h2 h6 b3 b2 b4 hS0 ?_ ?_
      · intro hno vec um dep
        refine br_t rfl (yop (br_f n10 (br_t rfl ?_)))
        refine ye_all (b := 0) h2 h6 b3 b2 b4 hS0 (fun li le b g1 g2 g3 => ?_)
        have hb1 := g2 hno
        subst hb1
        refine br_t rfl (br_f (by decide) ⟨rfl, ?_⟩)
        refine rl_mk (bl := 0) (oc := 0) (pl := pl) ⟨hF.1, hF.2.1, hempty, ⟨hF.2.2.2.1.1, ?_⟩, hF.2.2.2.2⟩
        rcases hF.2.2.2.1.2 with h0 | ⟨W, kc, S, D, e, w1, w2, w3, w4, w5⟩
        · exact Or.inl h0
        · obtain ⟨y1, y2, y3, y4⟩ := g3 W ⟨w1, w2, w3, w4⟩
          exact Or.inr ⟨W, kc, S, D, e, y1, y2, y3, y4, w5⟩
      · intro hyes hfin vec um dep hv hu
        refine br_f (by decide) ?_
        refine xm_inst (T := t :: r) h2 h6 b3 b2 hie b4 hS0 hyes hfin hv hu (fun reads op arg lev lo hi lz br ju en cl dep2 exc e kk S D r1 r2 r3 r4 r5 r6 => ?_)
        refine yop (br_f n10 (br_t rfl ?_))
        refine ye_all (b := 0) h2 h6 b3 b2 b4 hS0 (fun li le b g1 g2 g3 => ?_)
        obtain ⟨hb0', hL⟩ := g1 ⟨hyes, hfin⟩
        subst hb0'
        refine br_t rfl (br_t rfl ⟨(t :: r).length + 1, ?_⟩)
        have L : ∀ d i, i + d = (t :: r).length → wY_compile_78 (fun r' v' => r' = 0 ∧ i_Rel (k + 5) (f_opRow, f_opFirst, f_opFinal, f_opBranch, f_opJump, f_opEnter, f_opNext, f_opDecide, f_opDone, f_catSlot, f_itemSlot, f_rowsSlot, f_timesSlot, f_scratchSlot, nI n, 0, 0, nI (t :: r).length, cl, dep2, exc, nI tc, nI sm, nI sv, f_resPart, nI R, nI rc, f_top, f_pc, f_pos, f_from, vec, a_buf, a_opened, in_p (t :: r).length a_buf a_pat, reads, op, arg, lev, lo, hi, lz, um, br, ju, en, a_terms, a_cells, a_rowCount, a_startOf, a_lengthOf, a_labels, a_outcome, a_loop, a_stack) v') (nI (t :: r).length) (nI n) 0 (nI (t :: r).length) (nI tc) (nI sm) (nI sv) yf_resPart (nI R) (nI rc) 0 (d + 1) (nI i) a_buf (in_p i a_buf a_pat) a_terms a_cells a_rowCount li le a_startOf ya_matchEntry ya_tried := by
          intro d
          induction d with
          | zero =>
            intro i hi
            have : i = (t :: r).length := by omega
            subst this
            refine br_t (nI_le (Nat.le_refl _) (by rw [List.length_cons]; omega)) ?_
            refine yl_copy (K1 := 0) (K2 := 11) (b := 0) h6 (by omega) (by omega) (by omega) (by omega) hL (fun li2 le2 s1 s2 => ⟨rfl, ?_⟩)
            refine rl_mk (bl := 0) (oc := 0) (pl := (t :: r).length) ⟨hF.1, hF.2.1, hempty, ⟨b2, Or.inr ⟨pe_end n (pe n (t :: r)), kk, S, D, e, s1.1, s1.2.1, s1.2.2.1, s1.2.2.2, r1, r2, r3, r4, r5, r6⟩⟩, hF.2.2.2.2⟩
          | succ d ih =>
            intro i hi
            refine br_f (nI_ge (by omega) (by rw [List.length_cons]; omega)) ?_
            rw [nI_clamp (n := i) (by rw [List.length_cons] at hi; omega), in_ps]
            exact ⟨vp_in_nI (by omega) (by omega), vp_in_nI (by omega) (by omega), nm_e (nm_r (nI_1 i) (ih (i + 1) (by omega)))⟩
        have h9 := L (t :: r).length 0 (by omega)
        rw [in_p0] at h9
        exact h9
end

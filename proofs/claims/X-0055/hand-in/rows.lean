section
/-! pure rows to paste: stores, nI and lN arithmetic, masks, shifts, narrowing, branches by naturals (pk_le, pk_lt, pk_eq), loops (lp1 .. lp16: the measure of the state; rp1 ..: recursion), negatives. Take what you need -/
theorem pk_us {f : Nat → Int32} {k : Nat} {x : Int32} : upd f k x k = x := if_pos rfl
theorem pk_un {f : Nat → Int32} {k j : Nat} {x : Int32} (h : j ≠ k) : upd f k x j = f j := if_neg h
theorem pk_uLs {f : Nat → Int64} {k : Nat} {x : Int64} : vp_updL f k x k = x := if_pos rfl
theorem pk_uLn {f : Nat → Int64} {k j : Nat} {x : Int64} (h : j ≠ k) : vp_updL f k x j = f j := if_neg h
theorem pk_sub {a b : Nat} (h : b ≤ a) : nI a - nI b = nI (a - b) := by
  obtain ⟨c, rfl⟩ : ∃ c, a = c + b := ⟨a - b, by omega⟩
  rw [← nI_add, Int32.add_sub_cancel, Nat.add_sub_cancel]
theorem pk_m1 (n : Nat) : nI (n + 1) + (-1) = nI n := by
  rw [← nI_1, Int32.add_assoc, show (1 : Int32) + (-1) = 0 from rfl, Int32.add_zero]
theorem pk_mul (a b : Nat) : nI a * nI b = nI (a * b) := (Int32.ofNat_mul a b).symm
theorem pk_div {a d : Nat} (ha : a < 2 ^ 31) (h0 : 0 < d) (hd : d < 2 ^ 31) : nI a / nI d = nI (a / d) := by
  apply Int32.toInt_inj.mp
  rw [lg_idiv_nonneg (by rw [nI_toInt ha]; omega) (by rw [nI_toInt hd]; omega), nI_toInt ha, nI_toInt hd, nI_toInt (Nat.lt_of_le_of_lt (Nat.div_le_self a d) ha)]
  first | rfl | exact (Int.natCast_ediv _ _).symm
theorem pk_rem {a d : Nat} (ha : a < 2 ^ 31) (h0 : 0 < d) (hd : d < 2 ^ 31) : nI a - nI a / nI d * nI d = nI (a % d) := by
  rw [pk_div ha h0 hd, pk_mul, pk_sub (Nat.div_mul_le_self a d)]
  exact congrArg nI (by have := Nat.div_add_mod' a d; omega)
theorem pk_sub_toInt {a b : Nat} (ha : a < 2 ^ 30) (hb : b < 2 ^ 30) : (nI a - nI b).toInt = (a : Int) - b := by
  rw [Int32.toInt_sub, nI_toInt (by omega), nI_toInt (by omega)]
  exact Int.bmod_eq_of_le (by omega) (by omega)
theorem pk_sneg {a b : Nat} (hb : b < 2 ^ 30) (h : a < b) : nI a - nI b < 0 := by
  rw [Int32.lt_iff_toInt_lt, pk_sub_toInt (by omega) hb, show (0 : Int32).toInt = 0 from by decide]
  omega
theorem pk_ix (x : Int32) {n : Nat} (hn : n < 2 ^ 31) : x < 0 ∨ nI n ≤ x ∨ ∃ j : Nat, j < n ∧ x = nI j := by
  by_cases h : x < 0
  · exact Or.inl h
  · obtain ⟨j, hj, rfl⟩ := nI_of h
    by_cases h2 : j < n
    · exact Or.inr (Or.inr ⟨j, h2, rfl⟩)
    · exact Or.inr (Or.inl (nI_le (by omega) hj))
theorem pk_le {x y : Int32} {A B : Prop} (a b : Nat) (f : a ≤ b → A) (g : b < a → B) (hx : x = nI a := by rfl) (hy : y = nI b := by rfl) (ha : a < 2 ^ 31 := by omega) (hb : b < 2 ^ 31 := by omega) : (x ≤ y → A) ∧ (¬ x ≤ y → B) := by
  subst hx hy
  rw [nI_leI ha hb]
  exact ⟨f, fun z => g (by omega)⟩
theorem pk_lt {x y : Int32} {A B : Prop} (a b : Nat) (f : a < b → A) (g : b ≤ a → B) (hx : x = nI a := by rfl) (hy : y = nI b := by rfl) (ha : a < 2 ^ 31 := by omega) (hb : b < 2 ^ 31 := by omega) : (x < y → A) ∧ (¬ x < y → B) := by
  subst hx hy
  rw [nI_ltI ha hb]
  exact ⟨f, fun z => g (by omega)⟩
theorem pk_eq {x y : Int32} {A B : Prop} (a b : Nat) (f : a = b → A) (g : a ≠ b → B) (hx : x = nI a := by rfl) (hy : y = nI b := by rfl) (ha : a < 2 ^ 31 := by omega) (hb : b < 2 ^ 31 := by omega) : (x = y → A) ∧ (¬ x = y → B) := by
  subst hx hy
  rw [nI_eq ha hb]
  exact ⟨f, g⟩
theorem pk_in {x : Int32} (n N : Nat) (h : n < N) (hx : x = nI n := by rfl) (hN : N < 2 ^ 31 := by omega) : vp_in x N := by
  subst hx
  exact vp_in_nI h hN
theorem pk_cl {x : Int32} (n : Nat) (hx : x = nI n := by rfl) (h : n < 2 ^ 31 := by omega) : x.toNatClampNeg = n := by
  subst hx
  exact nI_clamp h
theorem pk_tn {n : Nat} (h : n < 2 ^ 32) : (nI n).toBitVec.toNat = n := Nat.mod_eq_of_lt h
theorem pk_and (x : Int32) {m : Int32} (k : Nat) (hm : m.toBitVec.toNat = 2 ^ k - 1) : x &&& m = nI (x.toBitVec.toNat % 2 ^ k) := by
  apply Int32.toBitVec_inj.mp
  apply BitVec.eq_of_toNat_eq
  rw [Int32.toBitVec_and, BitVec.toNat_and, hm, Nat.and_two_pow_sub_one_eq_mod]
  show _ = (BitVec.ofNat 32 _).toNat
  rw [BitVec.toNat_ofNat]
  exact (Nat.mod_eq_of_lt (Nat.lt_of_le_of_lt (Nat.mod_le _ _) x.toBitVec.isLt)).symm
theorem pk_andN {n : Nat} (h : n < 2 ^ 32) {m : Int32} (k : Nat) (hm : m.toBitVec.toNat = 2 ^ k - 1) : nI n &&& m = nI (n % 2 ^ k) := by
  rw [pk_and _ k hm, pk_tn h]
theorem pk_andE (x : Int32) {m : Int32} (k : Nat) (hm : m.toBitVec.toNat = 2 ^ k - 1) : ∃ j : Nat, j < 2 ^ k ∧ x &&& m = nI j := ⟨_, Nat.mod_lt _ (Nat.two_pow_pos k), pk_and x k hm⟩
theorem pk_andIn (x : Int32) {m : Int32} (k : Nat) (hm : m.toBitVec.toNat = 2 ^ k - 1) (hk : k ≤ 30) : vp_in (x &&& m) (2 ^ k) := by
  obtain ⟨j, hj, e⟩ := pk_andE x k hm
  rw [e]
  exact vp_in_nI hj (Nat.lt_of_le_of_lt (Nat.pow_le_pow_right (by decide) hk) (by decide))
theorem pk_shl (a s : Int32) (k : Nat) (hs : (s.toBitVec.smod 32).toNat = k) : (a <<< s).toBitVec.toNat = a.toBitVec.toNat * 2 ^ k % 2 ^ 32 := by
  show (a.toBitVec <<< (s.toBitVec.smod 32).toNat).toNat = _
  rw [hs, BitVec.toNat_shiftLeft, Nat.shiftLeft_eq]
theorem pk_shlN {n : Nat} (s : Int32) (k : Nat) (hs : (s.toBitVec.smod 32).toNat = k) (h : n * 2 ^ k < 2 ^ 32) : nI n <<< s = nI (n * 2 ^ k) := by
  apply Int32.toBitVec_inj.mp
  apply BitVec.eq_of_toNat_eq
  have hn : n < 2 ^ 32 := Nat.lt_of_le_of_lt (Nat.le_mul_of_pos_right n (Nat.two_pow_pos k)) h
  rw [pk_shl _ _ k hs, pk_tn hn, pk_tn h, Nat.mod_eq_of_lt h]
theorem pk_shr (a s : Int32) (k : Nat) (hs : (s.toBitVec.smod 32).toNat = k) : (a >>> s).toInt = a.toInt >>> k := by
  show (a.toBitVec.sshiftRight (s.toBitVec.smod 32).toNat).toInt = _
  rw [hs, BitVec.toInt_sshiftRight]
  rfl
theorem pk_shrN {n : Nat} (h : n < 2 ^ 31) (s : Int32) (k : Nat) (hs : (s.toBitVec.smod 32).toNat = k) : nI n >>> s = nI (n / 2 ^ k) := by
  apply Int32.toInt_inj.mp
  have h2 : n / 2 ^ k ≤ n := Nat.div_le_self _ _
  rw [pk_shr _ _ k hs, nI_toInt h, nI_toInt (by omega), Int.shiftRight_eq_div_pow]
  rfl
theorem pk_ushr (x s : Int32) (k : Nat) (hs : ((s.toUInt32 &&& Int32.toUInt32 31).toBitVec % 32).toNat = k) : (x.toUInt32 >>> (s.toUInt32 &&& Int32.toUInt32 31)).toInt32.toBitVec.toNat = x.toBitVec.toNat / 2 ^ k := by
  have e : (x.toUInt32 >>> (s.toUInt32 &&& Int32.toUInt32 31)).toInt32.toBitVec = x.toBitVec >>> k := by
    rw [← hs]
    exact UInt32.toBitVec_shiftRight _ _
  rw [e, BitVec.toNat_ushiftRight, Nat.shiftRight_eq_div_pow]
theorem pk_ushrN {n : Nat} (hn : n < 2 ^ 32) (s : Int32) (k : Nat) (hs : ((s.toUInt32 &&& Int32.toUInt32 31).toBitVec % 32).toNat = k) : ((nI n).toUInt32 >>> (s.toUInt32 &&& Int32.toUInt32 31)).toInt32 = nI (n / 2 ^ k) := by
  apply Int32.toBitVec_inj.mp
  apply BitVec.eq_of_toNat_eq
  rw [pk_ushr _ s k hs, pk_tn hn, pk_tn (Nat.lt_of_le_of_lt (Nat.div_le_self _ _) hn)]
theorem pk_nb (z : Int32) : narrow .byte (.int z.toInt8.toInt32) = .int z.toInt8.toInt32 := congrArg Value.int (by simp)
theorem pk_ns (z : Int32) : narrow .short (.int z.toInt16.toInt32) = .int z.toInt16.toInt32 := congrArg Value.int (by simp)
theorem pk_fb (r : Int32) : fits .byte (.int r.toInt8.toInt32) = true := by
  have ⟨a, b⟩ := lg_i2b_range r
  have h1 : (-128 : Int32).toInt = -128 := by decide
  have h2 : (127 : Int32).toInt = 127 := by decide
  simp only [fits, Bool.and_eq_true, decide_eq_true_eq, Int32.le_iff_toInt_le, h1, h2]
  omega
theorem pk_fs (r : Int32) : fits .short (.int r.toInt16.toInt32) = true := by
  have ⟨a, b⟩ := lg_i2s_range r
  have h1 : (-32768 : Int32).toInt = -32768 := by decide
  have h2 : (32767 : Int32).toInt = 32767 := by decide
  simp only [fits, Bool.and_eq_true, decide_eq_true_eq, Int32.le_iff_toInt_le, h1, h2]
  omega
theorem pk_charN {q : Nat} (hq : q < 65536) : narrow .char (.int (nI q)) = .int (nI q) ∧ fits .char (.int (nI q)) = true := by
  constructor
  · have e : (nI q).toUInt32.toUInt16.toUInt32.toInt32 = nI q := by
      apply Int32.toBitVec_inj.mp
      apply BitVec.eq_of_toNat_eq
      show (nI q).toUInt32.toUInt16.toUInt32.toNat = q % 2 ^ 32
      rw [UInt16.toNat_toUInt32, UInt32.toNat_toUInt16, show (nI q).toUInt32.toNat = q % 2 ^ 32 from rfl]
      omega
    exact congrArg Value.int e
  · have a : (0 : Int32) ≤ nI q := nI_pos' (by omega)
    have b : nI q ≤ 65535 := nI_le (b := 65535) (by omega) (by decide)
    show (decide ((0 : Int32) ≤ nI q) && decide (nI q ≤ 65535)) = true
    rw [decide_eq_true a, decide_eq_true b]
    rfl
theorem pk_char (x : Int32) : (x.toUInt32 % 65536).toInt32 = nI (x.toBitVec.toNat % 65536) := by
  apply Int32.toBitVec_inj.mp
  apply BitVec.eq_of_toNat_eq
  rw [pk_tn (by omega)]
  show (x.toUInt32 % 65536).toNat = _
  rw [UInt32.toNat_mod]
  rfl
theorem pk_nc (x : Int32) : narrow .char (.int (x.toUInt32 % 65536).toInt32) = .int (x.toUInt32 % 65536).toInt32 := by
  rw [pk_char]
  exact (pk_charN (Nat.mod_lt _ (by decide))).1
theorem pk_fc (x : Int32) : fits .char (.int (x.toUInt32 % 65536).toInt32) = true := by
  rw [pk_char]
  exact (pk_charN (Nat.mod_lt _ (by decide))).2
theorem pk_vb (z : Int32) : vp_nar .byte z.toInt8.toInt32 = z.toInt8.toInt32 := by rw [vp_nar_byte]; simp
theorem pk_vs (z : Int32) : vp_nar .short z.toInt16.toInt32 = z.toInt16.toInt32 := by rw [vp_nar_short]; simp
theorem pk_vc (z : Int32) : vp_nar .char (z.toUInt32 % 65536).toInt32 = (z.toUInt32 % 65536).toInt32 := Value.int.inj (pk_nc z)
theorem pk_lT {n : Nat} (h : n < 2 ^ 63) : (lN n).toInt = (n : Int) := lg_ofNat_toInt h
theorem pk_lLT {a b : Nat} (ha : a < 2 ^ 63) (hb : b < 2 ^ 63) : lN a < lN b ↔ a < b := by
  rw [Int64.lt_iff_toInt_lt, pk_lT ha, pk_lT hb]; omega
theorem pk_lLE {a b : Nat} (ha : a < 2 ^ 63) (hb : b < 2 ^ 63) : lN a ≤ lN b ↔ a ≤ b := by
  rw [Int64.le_iff_toInt_le, pk_lT ha, pk_lT hb]; omega
theorem pk_lEQ {a b : Nat} (ha : a < 2 ^ 63) (hb : b < 2 ^ 63) : lN a = lN b ↔ a = b := by
  rw [← Int64.toInt_inj, pk_lT ha, pk_lT hb]; omega
theorem pk_lOf {x : Int64} (h : ¬ x < 0) : ∃ k : Nat, k < 2 ^ 63 ∧ x = lN k := by
  rw [Int64.lt_iff_toInt_lt] at h
  have h0 : (0 : Int64).toInt = 0 := by decide
  have hx := Int64.toInt_lt x
  refine ⟨x.toInt.toNat, by omega, Int64.toInt_inj.mp ?_⟩
  rw [pk_lT (by omega)]
  omega
theorem pk_lDiv {a b : Nat} (ha : a < 2 ^ 63) (h0 : 0 < b) (hb : b < 2 ^ 63) : lN a / lN b = lN (a / b) := by
  apply Int64.toInt_inj.mp
  rw [lg_ldiv_nonneg (by rw [pk_lT ha]; omega) (by rw [pk_lT hb]; omega), pk_lT ha, pk_lT hb, pk_lT (Nat.lt_of_le_of_lt (Nat.div_le_self a b) ha)]
  rfl
theorem pk_lRem {a b : Nat} (ha : a < 2 ^ 63) (h0 : 0 < b) (hb : b < 2 ^ 63) : lN a - lN a / lN b * lN b = lN (a % b) := by
  rw [pk_lDiv ha h0 hb, lN_mul, lN_sub (Nat.div_mul_le_self a b)]
  exact congrArg lN (by have := Nat.div_add_mod' a b; omega)
theorem pk_loop {σ : Type} (W : Nat → Nat → σ → Prop) (I : Nat → σ → Prop) (e i0 : Nat) (s : σ) (hi : i0 ≤ e) (h0 : I i0 s) (hx : ∀ n s, I e s → W (n + 1) e s)
    (hs : ∀ n i s, i < e → I i s → (∀ s', I (i + 1) s' → W n (i + 1) s') → W (n + 1) i s) : ∃ n, W n i0 s :=
  ⟨e + 1, loop_i W I e hx hs (e + 1) i0 s hi (by omega) h0⟩
theorem pk_loopD {σ : Type} (W : Nat → Nat → σ → Prop) (I : Nat → σ → Prop) (hx : ∀ n s, I 0 s → W (n + 1) 0 s)
    (hs : ∀ n i s, I (i + 1) s → (∀ s', I i s' → W n i s') → W (n + 1) (i + 1) s) : ∀ (e : Nat) (s : σ), I e s → W (e + 1) e s := by
  intro e
  induction e with
  | zero => exact fun s h => hx 0 s h
  | succ e ih => exact fun s h => hs (e + 1) e s h (fun s' h' => ih s' h')
theorem lp1 {A1 : Type} (W : Nat → A1 → Prop) (I : A1 → Prop) (μ : A1 → Nat) (hs : ∀ (n : Nat) (a1 : A1), I a1 → (∀ (b1 : A1), I b1 → μ b1 < μ a1 → W n b1) → W (n + 1) a1) (a1 : A1) (h : I a1) : ∃ n, W n a1 :=
  loop_m (σ := A1) (fun n s => W n s) (fun s => I s) (fun s => μ s) (fun n s hI hk => hs n s hI (fun b1 h9 hm => hk b1 h9 hm)) a1 h
theorem lp2 {A1 A2 : Type} (W : Nat → A1 → A2 → Prop) (I : A1 → A2 → Prop) (μ : A1 → A2 → Nat) (hs : ∀ (n : Nat) (a1 : A1) (a2 : A2), I a1 a2 → (∀ (b1 : A1) (b2 : A2), I b1 b2 → μ b1 b2 < μ a1 a2 → W n b1 b2) → W (n + 1) a1 a2) (a1 : A1) (a2 : A2) (h : I a1 a2) : ∃ n, W n a1 a2 :=
  loop_m (σ := A1 × A2) (fun n s => W n s.1 s.2) (fun s => I s.1 s.2) (fun s => μ s.1 s.2) (fun n s hI hk => hs n s.1 s.2 hI (fun b1 b2 h9 hm => hk (b1, b2) h9 hm)) (a1, a2) h
theorem lp3 {A1 A2 A3 : Type} (W : Nat → A1 → A2 → A3 → Prop) (I : A1 → A2 → A3 → Prop) (μ : A1 → A2 → A3 → Nat) (hs : ∀ (n : Nat) (a1 : A1) (a2 : A2) (a3 : A3), I a1 a2 a3 → (∀ (b1 : A1) (b2 : A2) (b3 : A3), I b1 b2 b3 → μ b1 b2 b3 < μ a1 a2 a3 → W n b1 b2 b3) → W (n + 1) a1 a2 a3) (a1 : A1) (a2 : A2) (a3 : A3) (h : I a1 a2 a3) : ∃ n, W n a1 a2 a3 :=
  loop_m (σ := A1 × A2 × A3) (fun n s => W n s.1 s.2.1 s.2.2) (fun s => I s.1 s.2.1 s.2.2) (fun s => μ s.1 s.2.1 s.2.2) (fun n s hI hk => hs n s.1 s.2.1 s.2.2 hI (fun b1 b2 b3 h9 hm => hk (b1, b2, b3) h9 hm)) (a1, a2, a3) h
theorem lp4 {A1 A2 A3 A4 : Type} (W : Nat → A1 → A2 → A3 → A4 → Prop) (I : A1 → A2 → A3 → A4 → Prop) (μ : A1 → A2 → A3 → A4 → Nat) (hs : ∀ (n : Nat) (a1 : A1) (a2 : A2) (a3 : A3) (a4 : A4), I a1 a2 a3 a4 → (∀ (b1 : A1) (b2 : A2) (b3 : A3) (b4 : A4), I b1 b2 b3 b4 → μ b1 b2 b3 b4 < μ a1 a2 a3 a4 → W n b1 b2 b3 b4) → W (n + 1) a1 a2 a3 a4) (a1 : A1) (a2 : A2) (a3 : A3) (a4 : A4) (h : I a1 a2 a3 a4) : ∃ n, W n a1 a2 a3 a4 :=
  loop_m (σ := A1 × A2 × A3 × A4) (fun n s => W n s.1 s.2.1 s.2.2.1 s.2.2.2) (fun s => I s.1 s.2.1 s.2.2.1 s.2.2.2) (fun s => μ s.1 s.2.1 s.2.2.1 s.2.2.2) (fun n s hI hk => hs n s.1 s.2.1 s.2.2.1 s.2.2.2 hI (fun b1 b2 b3 b4 h9 hm => hk (b1, b2, b3, b4) h9 hm)) (a1, a2, a3, a4) h
theorem lp5 {A1 A2 A3 A4 A5 : Type} (W : Nat → A1 → A2 → A3 → A4 → A5 → Prop) (I : A1 → A2 → A3 → A4 → A5 → Prop) (μ : A1 → A2 → A3 → A4 → A5 → Nat) (hs : ∀ (n : Nat) (a1 : A1) (a2 : A2) (a3 : A3) (a4 : A4) (a5 : A5), I a1 a2 a3 a4 a5 → (∀ (b1 : A1) (b2 : A2) (b3 : A3) (b4 : A4) (b5 : A5), I b1 b2 b3 b4 b5 → μ b1 b2 b3 b4 b5 < μ a1 a2 a3 a4 a5 → W n b1 b2 b3 b4 b5) → W (n + 1) a1 a2 a3 a4 a5) (a1 : A1) (a2 : A2) (a3 : A3) (a4 : A4) (a5 : A5) (h : I a1 a2 a3 a4 a5) : ∃ n, W n a1 a2 a3 a4 a5 :=
  loop_m (σ := A1 × A2 × A3 × A4 × A5) (fun n s => W n s.1 s.2.1 s.2.2.1 s.2.2.2.1 s.2.2.2.2) (fun s => I s.1 s.2.1 s.2.2.1 s.2.2.2.1 s.2.2.2.2) (fun s => μ s.1 s.2.1 s.2.2.1 s.2.2.2.1 s.2.2.2.2) (fun n s hI hk => hs n s.1 s.2.1 s.2.2.1 s.2.2.2.1 s.2.2.2.2 hI (fun b1 b2 b3 b4 b5 h9 hm => hk (b1, b2, b3, b4, b5) h9 hm)) (a1, a2, a3, a4, a5) h
theorem lp6 {A1 A2 A3 A4 A5 A6 : Type} (W : Nat → A1 → A2 → A3 → A4 → A5 → A6 → Prop) (I : A1 → A2 → A3 → A4 → A5 → A6 → Prop) (μ : A1 → A2 → A3 → A4 → A5 → A6 → Nat) (hs : ∀ (n : Nat) (a1 : A1) (a2 : A2) (a3 : A3) (a4 : A4) (a5 : A5) (a6 : A6), I a1 a2 a3 a4 a5 a6 → (∀ (b1 : A1) (b2 : A2) (b3 : A3) (b4 : A4) (b5 : A5) (b6 : A6), I b1 b2 b3 b4 b5 b6 → μ b1 b2 b3 b4 b5 b6 < μ a1 a2 a3 a4 a5 a6 → W n b1 b2 b3 b4 b5 b6) → W (n + 1) a1 a2 a3 a4 a5 a6) (a1 : A1) (a2 : A2) (a3 : A3) (a4 : A4) (a5 : A5) (a6 : A6) (h : I a1 a2 a3 a4 a5 a6) : ∃ n, W n a1 a2 a3 a4 a5 a6 :=
  loop_m (σ := A1 × A2 × A3 × A4 × A5 × A6) (fun n s => W n s.1 s.2.1 s.2.2.1 s.2.2.2.1 s.2.2.2.2.1 s.2.2.2.2.2) (fun s => I s.1 s.2.1 s.2.2.1 s.2.2.2.1 s.2.2.2.2.1 s.2.2.2.2.2) (fun s => μ s.1 s.2.1 s.2.2.1 s.2.2.2.1 s.2.2.2.2.1 s.2.2.2.2.2) (fun n s hI hk => hs n s.1 s.2.1 s.2.2.1 s.2.2.2.1 s.2.2.2.2.1 s.2.2.2.2.2 hI (fun b1 b2 b3 b4 b5 b6 h9 hm => hk (b1, b2, b3, b4, b5, b6) h9 hm)) (a1, a2, a3, a4, a5, a6) h
theorem lp7 {A1 A2 A3 A4 A5 A6 A7 : Type} (W : Nat → A1 → A2 → A3 → A4 → A5 → A6 → A7 → Prop) (I : A1 → A2 → A3 → A4 → A5 → A6 → A7 → Prop) (μ : A1 → A2 → A3 → A4 → A5 → A6 → A7 → Nat) (hs : ∀ (n : Nat) (a1 : A1) (a2 : A2) (a3 : A3) (a4 : A4) (a5 : A5) (a6 : A6) (a7 : A7), I a1 a2 a3 a4 a5 a6 a7 → (∀ (b1 : A1) (b2 : A2) (b3 : A3) (b4 : A4) (b5 : A5) (b6 : A6) (b7 : A7), I b1 b2 b3 b4 b5 b6 b7 → μ b1 b2 b3 b4 b5 b6 b7 < μ a1 a2 a3 a4 a5 a6 a7 → W n b1 b2 b3 b4 b5 b6 b7) → W (n + 1) a1 a2 a3 a4 a5 a6 a7) (a1 : A1) (a2 : A2) (a3 : A3) (a4 : A4) (a5 : A5) (a6 : A6) (a7 : A7) (h : I a1 a2 a3 a4 a5 a6 a7) : ∃ n, W n a1 a2 a3 a4 a5 a6 a7 :=
  loop_m (σ := A1 × A2 × A3 × A4 × A5 × A6 × A7) (fun n s => W n s.1 s.2.1 s.2.2.1 s.2.2.2.1 s.2.2.2.2.1 s.2.2.2.2.2.1 s.2.2.2.2.2.2) (fun s => I s.1 s.2.1 s.2.2.1 s.2.2.2.1 s.2.2.2.2.1 s.2.2.2.2.2.1 s.2.2.2.2.2.2) (fun s => μ s.1 s.2.1 s.2.2.1 s.2.2.2.1 s.2.2.2.2.1 s.2.2.2.2.2.1 s.2.2.2.2.2.2) (fun n s hI hk => hs n s.1 s.2.1 s.2.2.1 s.2.2.2.1 s.2.2.2.2.1 s.2.2.2.2.2.1 s.2.2.2.2.2.2 hI (fun b1 b2 b3 b4 b5 b6 b7 h9 hm => hk (b1, b2, b3, b4, b5, b6, b7) h9 hm)) (a1, a2, a3, a4, a5, a6, a7) h
theorem lp8 {A1 A2 A3 A4 A5 A6 A7 A8 : Type} (W : Nat → A1 → A2 → A3 → A4 → A5 → A6 → A7 → A8 → Prop) (I : A1 → A2 → A3 → A4 → A5 → A6 → A7 → A8 → Prop) (μ : A1 → A2 → A3 → A4 → A5 → A6 → A7 → A8 → Nat) (hs : ∀ (n : Nat) (a1 : A1) (a2 : A2) (a3 : A3) (a4 : A4) (a5 : A5) (a6 : A6) (a7 : A7) (a8 : A8), I a1 a2 a3 a4 a5 a6 a7 a8 → (∀ (b1 : A1) (b2 : A2) (b3 : A3) (b4 : A4) (b5 : A5) (b6 : A6) (b7 : A7) (b8 : A8), I b1 b2 b3 b4 b5 b6 b7 b8 → μ b1 b2 b3 b4 b5 b6 b7 b8 < μ a1 a2 a3 a4 a5 a6 a7 a8 → W n b1 b2 b3 b4 b5 b6 b7 b8) → W (n + 1) a1 a2 a3 a4 a5 a6 a7 a8) (a1 : A1) (a2 : A2) (a3 : A3) (a4 : A4) (a5 : A5) (a6 : A6) (a7 : A7) (a8 : A8) (h : I a1 a2 a3 a4 a5 a6 a7 a8) : ∃ n, W n a1 a2 a3 a4 a5 a6 a7 a8 :=
  loop_m (σ := A1 × A2 × A3 × A4 × A5 × A6 × A7 × A8) (fun n s => W n s.1 s.2.1 s.2.2.1 s.2.2.2.1 s.2.2.2.2.1 s.2.2.2.2.2.1 s.2.2.2.2.2.2.1 s.2.2.2.2.2.2.2) (fun s => I s.1 s.2.1 s.2.2.1 s.2.2.2.1 s.2.2.2.2.1 s.2.2.2.2.2.1 s.2.2.2.2.2.2.1 s.2.2.2.2.2.2.2) (fun s => μ s.1 s.2.1 s.2.2.1 s.2.2.2.1 s.2.2.2.2.1 s.2.2.2.2.2.1 s.2.2.2.2.2.2.1 s.2.2.2.2.2.2.2) (fun n s hI hk => hs n s.1 s.2.1 s.2.2.1 s.2.2.2.1 s.2.2.2.2.1 s.2.2.2.2.2.1 s.2.2.2.2.2.2.1 s.2.2.2.2.2.2.2 hI (fun b1 b2 b3 b4 b5 b6 b7 b8 h9 hm => hk (b1, b2, b3, b4, b5, b6, b7, b8) h9 hm)) (a1, a2, a3, a4, a5, a6, a7, a8) h
theorem lp9 {A1 A2 A3 A4 A5 A6 A7 A8 A9 : Type} (W : Nat → A1 → A2 → A3 → A4 → A5 → A6 → A7 → A8 → A9 → Prop) (I : A1 → A2 → A3 → A4 → A5 → A6 → A7 → A8 → A9 → Prop) (μ : A1 → A2 → A3 → A4 → A5 → A6 → A7 → A8 → A9 → Nat) (hs : ∀ (n : Nat) (a1 : A1) (a2 : A2) (a3 : A3) (a4 : A4) (a5 : A5) (a6 : A6) (a7 : A7) (a8 : A8) (a9 : A9), I a1 a2 a3 a4 a5 a6 a7 a8 a9 → (∀ (b1 : A1) (b2 : A2) (b3 : A3) (b4 : A4) (b5 : A5) (b6 : A6) (b7 : A7) (b8 : A8) (b9 : A9), I b1 b2 b3 b4 b5 b6 b7 b8 b9 → μ b1 b2 b3 b4 b5 b6 b7 b8 b9 < μ a1 a2 a3 a4 a5 a6 a7 a8 a9 → W n b1 b2 b3 b4 b5 b6 b7 b8 b9) → W (n + 1) a1 a2 a3 a4 a5 a6 a7 a8 a9) (a1 : A1) (a2 : A2) (a3 : A3) (a4 : A4) (a5 : A5) (a6 : A6) (a7 : A7) (a8 : A8) (a9 : A9) (h : I a1 a2 a3 a4 a5 a6 a7 a8 a9) : ∃ n, W n a1 a2 a3 a4 a5 a6 a7 a8 a9 :=
  loop_m (σ := A1 × A2 × A3 × A4 × A5 × A6 × A7 × A8 × A9) (fun n s => W n s.1 s.2.1 s.2.2.1 s.2.2.2.1 s.2.2.2.2.1 s.2.2.2.2.2.1 s.2.2.2.2.2.2.1 s.2.2.2.2.2.2.2.1 s.2.2.2.2.2.2.2.2) (fun s => I s.1 s.2.1 s.2.2.1 s.2.2.2.1 s.2.2.2.2.1 s.2.2.2.2.2.1 s.2.2.2.2.2.2.1 s.2.2.2.2.2.2.2.1 s.2.2.2.2.2.2.2.2) (fun s => μ s.1 s.2.1 s.2.2.1 s.2.2.2.1 s.2.2.2.2.1 s.2.2.2.2.2.1 s.2.2.2.2.2.2.1 s.2.2.2.2.2.2.2.1 s.2.2.2.2.2.2.2.2) (fun n s hI hk => hs n s.1 s.2.1 s.2.2.1 s.2.2.2.1 s.2.2.2.2.1 s.2.2.2.2.2.1 s.2.2.2.2.2.2.1 s.2.2.2.2.2.2.2.1 s.2.2.2.2.2.2.2.2 hI (fun b1 b2 b3 b4 b5 b6 b7 b8 b9 h9 hm => hk (b1, b2, b3, b4, b5, b6, b7, b8, b9) h9 hm)) (a1, a2, a3, a4, a5, a6, a7, a8, a9) h
theorem lp10 {A1 A2 A3 A4 A5 A6 A7 A8 A9 A10 : Type} (W : Nat → A1 → A2 → A3 → A4 → A5 → A6 → A7 → A8 → A9 → A10 → Prop) (I : A1 → A2 → A3 → A4 → A5 → A6 → A7 → A8 → A9 → A10 → Prop) (μ : A1 → A2 → A3 → A4 → A5 → A6 → A7 → A8 → A9 → A10 → Nat) (hs : ∀ (n : Nat) (a1 : A1) (a2 : A2) (a3 : A3) (a4 : A4) (a5 : A5) (a6 : A6) (a7 : A7) (a8 : A8) (a9 : A9) (a10 : A10), I a1 a2 a3 a4 a5 a6 a7 a8 a9 a10 → (∀ (b1 : A1) (b2 : A2) (b3 : A3) (b4 : A4) (b5 : A5) (b6 : A6) (b7 : A7) (b8 : A8) (b9 : A9) (b10 : A10), I b1 b2 b3 b4 b5 b6 b7 b8 b9 b10 → μ b1 b2 b3 b4 b5 b6 b7 b8 b9 b10 < μ a1 a2 a3 a4 a5 a6 a7 a8 a9 a10 → W n b1 b2 b3 b4 b5 b6 b7 b8 b9 b10) → W (n + 1) a1 a2 a3 a4 a5 a6 a7 a8 a9 a10) (a1 : A1) (a2 : A2) (a3 : A3) (a4 : A4) (a5 : A5) (a6 : A6) (a7 : A7) (a8 : A8) (a9 : A9) (a10 : A10) (h : I a1 a2 a3 a4 a5 a6 a7 a8 a9 a10) : ∃ n, W n a1 a2 a3 a4 a5 a6 a7 a8 a9 a10 :=
  loop_m (σ := A1 × A2 × A3 × A4 × A5 × A6 × A7 × A8 × A9 × A10) (fun n s => W n s.1 s.2.1 s.2.2.1 s.2.2.2.1 s.2.2.2.2.1 s.2.2.2.2.2.1 s.2.2.2.2.2.2.1 s.2.2.2.2.2.2.2.1 s.2.2.2.2.2.2.2.2.1 s.2.2.2.2.2.2.2.2.2) (fun s => I s.1 s.2.1 s.2.2.1 s.2.2.2.1 s.2.2.2.2.1 s.2.2.2.2.2.1 s.2.2.2.2.2.2.1 s.2.2.2.2.2.2.2.1 s.2.2.2.2.2.2.2.2.1 s.2.2.2.2.2.2.2.2.2) (fun s => μ s.1 s.2.1 s.2.2.1 s.2.2.2.1 s.2.2.2.2.1 s.2.2.2.2.2.1 s.2.2.2.2.2.2.1 s.2.2.2.2.2.2.2.1 s.2.2.2.2.2.2.2.2.1 s.2.2.2.2.2.2.2.2.2) (fun n s hI hk => hs n s.1 s.2.1 s.2.2.1 s.2.2.2.1 s.2.2.2.2.1 s.2.2.2.2.2.1 s.2.2.2.2.2.2.1 s.2.2.2.2.2.2.2.1 s.2.2.2.2.2.2.2.2.1 s.2.2.2.2.2.2.2.2.2 hI (fun b1 b2 b3 b4 b5 b6 b7 b8 b9 b10 h9 hm => hk (b1, b2, b3, b4, b5, b6, b7, b8, b9, b10) h9 hm)) (a1, a2, a3, a4, a5, a6, a7, a8, a9, a10) h
theorem lp11 {A1 A2 A3 A4 A5 A6 A7 A8 A9 A10 A11 : Type} (W : Nat → A1 → A2 → A3 → A4 → A5 → A6 → A7 → A8 → A9 → A10 → A11 → Prop) (I : A1 → A2 → A3 → A4 → A5 → A6 → A7 → A8 → A9 → A10 → A11 → Prop) (μ : A1 → A2 → A3 → A4 → A5 → A6 → A7 → A8 → A9 → A10 → A11 → Nat) (hs : ∀ (n : Nat) (a1 : A1) (a2 : A2) (a3 : A3) (a4 : A4) (a5 : A5) (a6 : A6) (a7 : A7) (a8 : A8) (a9 : A9) (a10 : A10) (a11 : A11), I a1 a2 a3 a4 a5 a6 a7 a8 a9 a10 a11 → (∀ (b1 : A1) (b2 : A2) (b3 : A3) (b4 : A4) (b5 : A5) (b6 : A6) (b7 : A7) (b8 : A8) (b9 : A9) (b10 : A10) (b11 : A11), I b1 b2 b3 b4 b5 b6 b7 b8 b9 b10 b11 → μ b1 b2 b3 b4 b5 b6 b7 b8 b9 b10 b11 < μ a1 a2 a3 a4 a5 a6 a7 a8 a9 a10 a11 → W n b1 b2 b3 b4 b5 b6 b7 b8 b9 b10 b11) → W (n + 1) a1 a2 a3 a4 a5 a6 a7 a8 a9 a10 a11) (a1 : A1) (a2 : A2) (a3 : A3) (a4 : A4) (a5 : A5) (a6 : A6) (a7 : A7) (a8 : A8) (a9 : A9) (a10 : A10) (a11 : A11) (h : I a1 a2 a3 a4 a5 a6 a7 a8 a9 a10 a11) : ∃ n, W n a1 a2 a3 a4 a5 a6 a7 a8 a9 a10 a11 :=
  loop_m (σ := A1 × A2 × A3 × A4 × A5 × A6 × A7 × A8 × A9 × A10 × A11) (fun n s => W n s.1 s.2.1 s.2.2.1 s.2.2.2.1 s.2.2.2.2.1 s.2.2.2.2.2.1 s.2.2.2.2.2.2.1 s.2.2.2.2.2.2.2.1 s.2.2.2.2.2.2.2.2.1 s.2.2.2.2.2.2.2.2.2.1 s.2.2.2.2.2.2.2.2.2.2) (fun s => I s.1 s.2.1 s.2.2.1 s.2.2.2.1 s.2.2.2.2.1 s.2.2.2.2.2.1 s.2.2.2.2.2.2.1 s.2.2.2.2.2.2.2.1 s.2.2.2.2.2.2.2.2.1 s.2.2.2.2.2.2.2.2.2.1 s.2.2.2.2.2.2.2.2.2.2) (fun s => μ s.1 s.2.1 s.2.2.1 s.2.2.2.1 s.2.2.2.2.1 s.2.2.2.2.2.1 s.2.2.2.2.2.2.1 s.2.2.2.2.2.2.2.1 s.2.2.2.2.2.2.2.2.1 s.2.2.2.2.2.2.2.2.2.1 s.2.2.2.2.2.2.2.2.2.2) (fun n s hI hk => hs n s.1 s.2.1 s.2.2.1 s.2.2.2.1 s.2.2.2.2.1 s.2.2.2.2.2.1 s.2.2.2.2.2.2.1 s.2.2.2.2.2.2.2.1 s.2.2.2.2.2.2.2.2.1 s.2.2.2.2.2.2.2.2.2.1 s.2.2.2.2.2.2.2.2.2.2 hI (fun b1 b2 b3 b4 b5 b6 b7 b8 b9 b10 b11 h9 hm => hk (b1, b2, b3, b4, b5, b6, b7, b8, b9, b10, b11) h9 hm)) (a1, a2, a3, a4, a5, a6, a7, a8, a9, a10, a11) h
theorem lp12 {A1 A2 A3 A4 A5 A6 A7 A8 A9 A10 A11 A12 : Type} (W : Nat → A1 → A2 → A3 → A4 → A5 → A6 → A7 → A8 → A9 → A10 → A11 → A12 → Prop) (I : A1 → A2 → A3 → A4 → A5 → A6 → A7 → A8 → A9 → A10 → A11 → A12 → Prop) (μ : A1 → A2 → A3 → A4 → A5 → A6 → A7 → A8 → A9 → A10 → A11 → A12 → Nat) (hs : ∀ (n : Nat) (a1 : A1) (a2 : A2) (a3 : A3) (a4 : A4) (a5 : A5) (a6 : A6) (a7 : A7) (a8 : A8) (a9 : A9) (a10 : A10) (a11 : A11) (a12 : A12), I a1 a2 a3 a4 a5 a6 a7 a8 a9 a10 a11 a12 → (∀ (b1 : A1) (b2 : A2) (b3 : A3) (b4 : A4) (b5 : A5) (b6 : A6) (b7 : A7) (b8 : A8) (b9 : A9) (b10 : A10) (b11 : A11) (b12 : A12), I b1 b2 b3 b4 b5 b6 b7 b8 b9 b10 b11 b12 → μ b1 b2 b3 b4 b5 b6 b7 b8 b9 b10 b11 b12 < μ a1 a2 a3 a4 a5 a6 a7 a8 a9 a10 a11 a12 → W n b1 b2 b3 b4 b5 b6 b7 b8 b9 b10 b11 b12) → W (n + 1) a1 a2 a3 a4 a5 a6 a7 a8 a9 a10 a11 a12) (a1 : A1) (a2 : A2) (a3 : A3) (a4 : A4) (a5 : A5) (a6 : A6) (a7 : A7) (a8 : A8) (a9 : A9) (a10 : A10) (a11 : A11) (a12 : A12) (h : I a1 a2 a3 a4 a5 a6 a7 a8 a9 a10 a11 a12) : ∃ n, W n a1 a2 a3 a4 a5 a6 a7 a8 a9 a10 a11 a12 :=
  loop_m (σ := A1 × A2 × A3 × A4 × A5 × A6 × A7 × A8 × A9 × A10 × A11 × A12) (fun n s => W n s.1 s.2.1 s.2.2.1 s.2.2.2.1 s.2.2.2.2.1 s.2.2.2.2.2.1 s.2.2.2.2.2.2.1 s.2.2.2.2.2.2.2.1 s.2.2.2.2.2.2.2.2.1 s.2.2.2.2.2.2.2.2.2.1 s.2.2.2.2.2.2.2.2.2.2.1 s.2.2.2.2.2.2.2.2.2.2.2) (fun s => I s.1 s.2.1 s.2.2.1 s.2.2.2.1 s.2.2.2.2.1 s.2.2.2.2.2.1 s.2.2.2.2.2.2.1 s.2.2.2.2.2.2.2.1 s.2.2.2.2.2.2.2.2.1 s.2.2.2.2.2.2.2.2.2.1 s.2.2.2.2.2.2.2.2.2.2.1 s.2.2.2.2.2.2.2.2.2.2.2) (fun s => μ s.1 s.2.1 s.2.2.1 s.2.2.2.1 s.2.2.2.2.1 s.2.2.2.2.2.1 s.2.2.2.2.2.2.1 s.2.2.2.2.2.2.2.1 s.2.2.2.2.2.2.2.2.1 s.2.2.2.2.2.2.2.2.2.1 s.2.2.2.2.2.2.2.2.2.2.1 s.2.2.2.2.2.2.2.2.2.2.2) (fun n s hI hk => hs n s.1 s.2.1 s.2.2.1 s.2.2.2.1 s.2.2.2.2.1 s.2.2.2.2.2.1 s.2.2.2.2.2.2.1 s.2.2.2.2.2.2.2.1 s.2.2.2.2.2.2.2.2.1 s.2.2.2.2.2.2.2.2.2.1 s.2.2.2.2.2.2.2.2.2.2.1 s.2.2.2.2.2.2.2.2.2.2.2 hI (fun b1 b2 b3 b4 b5 b6 b7 b8 b9 b10 b11 b12 h9 hm => hk (b1, b2, b3, b4, b5, b6, b7, b8, b9, b10, b11, b12) h9 hm)) (a1, a2, a3, a4, a5, a6, a7, a8, a9, a10, a11, a12) h
theorem lp13 {A1 A2 A3 A4 A5 A6 A7 A8 A9 A10 A11 A12 A13 : Type} (W : Nat → A1 → A2 → A3 → A4 → A5 → A6 → A7 → A8 → A9 → A10 → A11 → A12 → A13 → Prop) (I : A1 → A2 → A3 → A4 → A5 → A6 → A7 → A8 → A9 → A10 → A11 → A12 → A13 → Prop) (μ : A1 → A2 → A3 → A4 → A5 → A6 → A7 → A8 → A9 → A10 → A11 → A12 → A13 → Nat) (hs : ∀ (n : Nat) (a1 : A1) (a2 : A2) (a3 : A3) (a4 : A4) (a5 : A5) (a6 : A6) (a7 : A7) (a8 : A8) (a9 : A9) (a10 : A10) (a11 : A11) (a12 : A12) (a13 : A13), I a1 a2 a3 a4 a5 a6 a7 a8 a9 a10 a11 a12 a13 → (∀ (b1 : A1) (b2 : A2) (b3 : A3) (b4 : A4) (b5 : A5) (b6 : A6) (b7 : A7) (b8 : A8) (b9 : A9) (b10 : A10) (b11 : A11) (b12 : A12) (b13 : A13), I b1 b2 b3 b4 b5 b6 b7 b8 b9 b10 b11 b12 b13 → μ b1 b2 b3 b4 b5 b6 b7 b8 b9 b10 b11 b12 b13 < μ a1 a2 a3 a4 a5 a6 a7 a8 a9 a10 a11 a12 a13 → W n b1 b2 b3 b4 b5 b6 b7 b8 b9 b10 b11 b12 b13) → W (n + 1) a1 a2 a3 a4 a5 a6 a7 a8 a9 a10 a11 a12 a13) (a1 : A1) (a2 : A2) (a3 : A3) (a4 : A4) (a5 : A5) (a6 : A6) (a7 : A7) (a8 : A8) (a9 : A9) (a10 : A10) (a11 : A11) (a12 : A12) (a13 : A13) (h : I a1 a2 a3 a4 a5 a6 a7 a8 a9 a10 a11 a12 a13) : ∃ n, W n a1 a2 a3 a4 a5 a6 a7 a8 a9 a10 a11 a12 a13 :=
  loop_m (σ := A1 × A2 × A3 × A4 × A5 × A6 × A7 × A8 × A9 × A10 × A11 × A12 × A13) (fun n s => W n s.1 s.2.1 s.2.2.1 s.2.2.2.1 s.2.2.2.2.1 s.2.2.2.2.2.1 s.2.2.2.2.2.2.1 s.2.2.2.2.2.2.2.1 s.2.2.2.2.2.2.2.2.1 s.2.2.2.2.2.2.2.2.2.1 s.2.2.2.2.2.2.2.2.2.2.1 s.2.2.2.2.2.2.2.2.2.2.2.1 s.2.2.2.2.2.2.2.2.2.2.2.2) (fun s => I s.1 s.2.1 s.2.2.1 s.2.2.2.1 s.2.2.2.2.1 s.2.2.2.2.2.1 s.2.2.2.2.2.2.1 s.2.2.2.2.2.2.2.1 s.2.2.2.2.2.2.2.2.1 s.2.2.2.2.2.2.2.2.2.1 s.2.2.2.2.2.2.2.2.2.2.1 s.2.2.2.2.2.2.2.2.2.2.2.1 s.2.2.2.2.2.2.2.2.2.2.2.2) (fun s => μ s.1 s.2.1 s.2.2.1 s.2.2.2.1 s.2.2.2.2.1 s.2.2.2.2.2.1 s.2.2.2.2.2.2.1 s.2.2.2.2.2.2.2.1 s.2.2.2.2.2.2.2.2.1 s.2.2.2.2.2.2.2.2.2.1 s.2.2.2.2.2.2.2.2.2.2.1 s.2.2.2.2.2.2.2.2.2.2.2.1 s.2.2.2.2.2.2.2.2.2.2.2.2) (fun n s hI hk => hs n s.1 s.2.1 s.2.2.1 s.2.2.2.1 s.2.2.2.2.1 s.2.2.2.2.2.1 s.2.2.2.2.2.2.1 s.2.2.2.2.2.2.2.1 s.2.2.2.2.2.2.2.2.1 s.2.2.2.2.2.2.2.2.2.1 s.2.2.2.2.2.2.2.2.2.2.1 s.2.2.2.2.2.2.2.2.2.2.2.1 s.2.2.2.2.2.2.2.2.2.2.2.2 hI (fun b1 b2 b3 b4 b5 b6 b7 b8 b9 b10 b11 b12 b13 h9 hm => hk (b1, b2, b3, b4, b5, b6, b7, b8, b9, b10, b11, b12, b13) h9 hm)) (a1, a2, a3, a4, a5, a6, a7, a8, a9, a10, a11, a12, a13) h
theorem lp14 {A1 A2 A3 A4 A5 A6 A7 A8 A9 A10 A11 A12 A13 A14 : Type} (W : Nat → A1 → A2 → A3 → A4 → A5 → A6 → A7 → A8 → A9 → A10 → A11 → A12 → A13 → A14 → Prop) (I : A1 → A2 → A3 → A4 → A5 → A6 → A7 → A8 → A9 → A10 → A11 → A12 → A13 → A14 → Prop) (μ : A1 → A2 → A3 → A4 → A5 → A6 → A7 → A8 → A9 → A10 → A11 → A12 → A13 → A14 → Nat) (hs : ∀ (n : Nat) (a1 : A1) (a2 : A2) (a3 : A3) (a4 : A4) (a5 : A5) (a6 : A6) (a7 : A7) (a8 : A8) (a9 : A9) (a10 : A10) (a11 : A11) (a12 : A12) (a13 : A13) (a14 : A14), I a1 a2 a3 a4 a5 a6 a7 a8 a9 a10 a11 a12 a13 a14 → (∀ (b1 : A1) (b2 : A2) (b3 : A3) (b4 : A4) (b5 : A5) (b6 : A6) (b7 : A7) (b8 : A8) (b9 : A9) (b10 : A10) (b11 : A11) (b12 : A12) (b13 : A13) (b14 : A14), I b1 b2 b3 b4 b5 b6 b7 b8 b9 b10 b11 b12 b13 b14 → μ b1 b2 b3 b4 b5 b6 b7 b8 b9 b10 b11 b12 b13 b14 < μ a1 a2 a3 a4 a5 a6 a7 a8 a9 a10 a11 a12 a13 a14 → W n b1 b2 b3 b4 b5 b6 b7 b8 b9 b10 b11 b12 b13 b14) → W (n + 1) a1 a2 a3 a4 a5 a6 a7 a8 a9 a10 a11 a12 a13 a14) (a1 : A1) (a2 : A2) (a3 : A3) (a4 : A4) (a5 : A5) (a6 : A6) (a7 : A7) (a8 : A8) (a9 : A9) (a10 : A10) (a11 : A11) (a12 : A12) (a13 : A13) (a14 : A14) (h : I a1 a2 a3 a4 a5 a6 a7 a8 a9 a10 a11 a12 a13 a14) : ∃ n, W n a1 a2 a3 a4 a5 a6 a7 a8 a9 a10 a11 a12 a13 a14 :=
  loop_m (σ := A1 × A2 × A3 × A4 × A5 × A6 × A7 × A8 × A9 × A10 × A11 × A12 × A13 × A14) (fun n s => W n s.1 s.2.1 s.2.2.1 s.2.2.2.1 s.2.2.2.2.1 s.2.2.2.2.2.1 s.2.2.2.2.2.2.1 s.2.2.2.2.2.2.2.1 s.2.2.2.2.2.2.2.2.1 s.2.2.2.2.2.2.2.2.2.1 s.2.2.2.2.2.2.2.2.2.2.1 s.2.2.2.2.2.2.2.2.2.2.2.1 s.2.2.2.2.2.2.2.2.2.2.2.2.1 s.2.2.2.2.2.2.2.2.2.2.2.2.2) (fun s => I s.1 s.2.1 s.2.2.1 s.2.2.2.1 s.2.2.2.2.1 s.2.2.2.2.2.1 s.2.2.2.2.2.2.1 s.2.2.2.2.2.2.2.1 s.2.2.2.2.2.2.2.2.1 s.2.2.2.2.2.2.2.2.2.1 s.2.2.2.2.2.2.2.2.2.2.1 s.2.2.2.2.2.2.2.2.2.2.2.1 s.2.2.2.2.2.2.2.2.2.2.2.2.1 s.2.2.2.2.2.2.2.2.2.2.2.2.2) (fun s => μ s.1 s.2.1 s.2.2.1 s.2.2.2.1 s.2.2.2.2.1 s.2.2.2.2.2.1 s.2.2.2.2.2.2.1 s.2.2.2.2.2.2.2.1 s.2.2.2.2.2.2.2.2.1 s.2.2.2.2.2.2.2.2.2.1 s.2.2.2.2.2.2.2.2.2.2.1 s.2.2.2.2.2.2.2.2.2.2.2.1 s.2.2.2.2.2.2.2.2.2.2.2.2.1 s.2.2.2.2.2.2.2.2.2.2.2.2.2) (fun n s hI hk => hs n s.1 s.2.1 s.2.2.1 s.2.2.2.1 s.2.2.2.2.1 s.2.2.2.2.2.1 s.2.2.2.2.2.2.1 s.2.2.2.2.2.2.2.1 s.2.2.2.2.2.2.2.2.1 s.2.2.2.2.2.2.2.2.2.1 s.2.2.2.2.2.2.2.2.2.2.1 s.2.2.2.2.2.2.2.2.2.2.2.1 s.2.2.2.2.2.2.2.2.2.2.2.2.1 s.2.2.2.2.2.2.2.2.2.2.2.2.2 hI (fun b1 b2 b3 b4 b5 b6 b7 b8 b9 b10 b11 b12 b13 b14 h9 hm => hk (b1, b2, b3, b4, b5, b6, b7, b8, b9, b10, b11, b12, b13, b14) h9 hm)) (a1, a2, a3, a4, a5, a6, a7, a8, a9, a10, a11, a12, a13, a14) h
theorem lp15 {A1 A2 A3 A4 A5 A6 A7 A8 A9 A10 A11 A12 A13 A14 A15 : Type} (W : Nat → A1 → A2 → A3 → A4 → A5 → A6 → A7 → A8 → A9 → A10 → A11 → A12 → A13 → A14 → A15 → Prop) (I : A1 → A2 → A3 → A4 → A5 → A6 → A7 → A8 → A9 → A10 → A11 → A12 → A13 → A14 → A15 → Prop) (μ : A1 → A2 → A3 → A4 → A5 → A6 → A7 → A8 → A9 → A10 → A11 → A12 → A13 → A14 → A15 → Nat) (hs : ∀ (n : Nat) (a1 : A1) (a2 : A2) (a3 : A3) (a4 : A4) (a5 : A5) (a6 : A6) (a7 : A7) (a8 : A8) (a9 : A9) (a10 : A10) (a11 : A11) (a12 : A12) (a13 : A13) (a14 : A14) (a15 : A15), I a1 a2 a3 a4 a5 a6 a7 a8 a9 a10 a11 a12 a13 a14 a15 → (∀ (b1 : A1) (b2 : A2) (b3 : A3) (b4 : A4) (b5 : A5) (b6 : A6) (b7 : A7) (b8 : A8) (b9 : A9) (b10 : A10) (b11 : A11) (b12 : A12) (b13 : A13) (b14 : A14) (b15 : A15), I b1 b2 b3 b4 b5 b6 b7 b8 b9 b10 b11 b12 b13 b14 b15 → μ b1 b2 b3 b4 b5 b6 b7 b8 b9 b10 b11 b12 b13 b14 b15 < μ a1 a2 a3 a4 a5 a6 a7 a8 a9 a10 a11 a12 a13 a14 a15 → W n b1 b2 b3 b4 b5 b6 b7 b8 b9 b10 b11 b12 b13 b14 b15) → W (n + 1) a1 a2 a3 a4 a5 a6 a7 a8 a9 a10 a11 a12 a13 a14 a15) (a1 : A1) (a2 : A2) (a3 : A3) (a4 : A4) (a5 : A5) (a6 : A6) (a7 : A7) (a8 : A8) (a9 : A9) (a10 : A10) (a11 : A11) (a12 : A12) (a13 : A13) (a14 : A14) (a15 : A15) (h : I a1 a2 a3 a4 a5 a6 a7 a8 a9 a10 a11 a12 a13 a14 a15) : ∃ n, W n a1 a2 a3 a4 a5 a6 a7 a8 a9 a10 a11 a12 a13 a14 a15 :=
  loop_m (σ := A1 × A2 × A3 × A4 × A5 × A6 × A7 × A8 × A9 × A10 × A11 × A12 × A13 × A14 × A15) (fun n s => W n s.1 s.2.1 s.2.2.1 s.2.2.2.1 s.2.2.2.2.1 s.2.2.2.2.2.1 s.2.2.2.2.2.2.1 s.2.2.2.2.2.2.2.1 s.2.2.2.2.2.2.2.2.1 s.2.2.2.2.2.2.2.2.2.1 s.2.2.2.2.2.2.2.2.2.2.1 s.2.2.2.2.2.2.2.2.2.2.2.1 s.2.2.2.2.2.2.2.2.2.2.2.2.1 s.2.2.2.2.2.2.2.2.2.2.2.2.2.1 s.2.2.2.2.2.2.2.2.2.2.2.2.2.2) (fun s => I s.1 s.2.1 s.2.2.1 s.2.2.2.1 s.2.2.2.2.1 s.2.2.2.2.2.1 s.2.2.2.2.2.2.1 s.2.2.2.2.2.2.2.1 s.2.2.2.2.2.2.2.2.1 s.2.2.2.2.2.2.2.2.2.1 s.2.2.2.2.2.2.2.2.2.2.1 s.2.2.2.2.2.2.2.2.2.2.2.1 s.2.2.2.2.2.2.2.2.2.2.2.2.1 s.2.2.2.2.2.2.2.2.2.2.2.2.2.1 s.2.2.2.2.2.2.2.2.2.2.2.2.2.2) (fun s => μ s.1 s.2.1 s.2.2.1 s.2.2.2.1 s.2.2.2.2.1 s.2.2.2.2.2.1 s.2.2.2.2.2.2.1 s.2.2.2.2.2.2.2.1 s.2.2.2.2.2.2.2.2.1 s.2.2.2.2.2.2.2.2.2.1 s.2.2.2.2.2.2.2.2.2.2.1 s.2.2.2.2.2.2.2.2.2.2.2.1 s.2.2.2.2.2.2.2.2.2.2.2.2.1 s.2.2.2.2.2.2.2.2.2.2.2.2.2.1 s.2.2.2.2.2.2.2.2.2.2.2.2.2.2) (fun n s hI hk => hs n s.1 s.2.1 s.2.2.1 s.2.2.2.1 s.2.2.2.2.1 s.2.2.2.2.2.1 s.2.2.2.2.2.2.1 s.2.2.2.2.2.2.2.1 s.2.2.2.2.2.2.2.2.1 s.2.2.2.2.2.2.2.2.2.1 s.2.2.2.2.2.2.2.2.2.2.1 s.2.2.2.2.2.2.2.2.2.2.2.1 s.2.2.2.2.2.2.2.2.2.2.2.2.1 s.2.2.2.2.2.2.2.2.2.2.2.2.2.1 s.2.2.2.2.2.2.2.2.2.2.2.2.2.2 hI (fun b1 b2 b3 b4 b5 b6 b7 b8 b9 b10 b11 b12 b13 b14 b15 h9 hm => hk (b1, b2, b3, b4, b5, b6, b7, b8, b9, b10, b11, b12, b13, b14, b15) h9 hm)) (a1, a2, a3, a4, a5, a6, a7, a8, a9, a10, a11, a12, a13, a14, a15) h
theorem lp16 {A1 A2 A3 A4 A5 A6 A7 A8 A9 A10 A11 A12 A13 A14 A15 A16 : Type} (W : Nat → A1 → A2 → A3 → A4 → A5 → A6 → A7 → A8 → A9 → A10 → A11 → A12 → A13 → A14 → A15 → A16 → Prop) (I : A1 → A2 → A3 → A4 → A5 → A6 → A7 → A8 → A9 → A10 → A11 → A12 → A13 → A14 → A15 → A16 → Prop) (μ : A1 → A2 → A3 → A4 → A5 → A6 → A7 → A8 → A9 → A10 → A11 → A12 → A13 → A14 → A15 → A16 → Nat) (hs : ∀ (n : Nat) (a1 : A1) (a2 : A2) (a3 : A3) (a4 : A4) (a5 : A5) (a6 : A6) (a7 : A7) (a8 : A8) (a9 : A9) (a10 : A10) (a11 : A11) (a12 : A12) (a13 : A13) (a14 : A14) (a15 : A15) (a16 : A16), I a1 a2 a3 a4 a5 a6 a7 a8 a9 a10 a11 a12 a13 a14 a15 a16 → (∀ (b1 : A1) (b2 : A2) (b3 : A3) (b4 : A4) (b5 : A5) (b6 : A6) (b7 : A7) (b8 : A8) (b9 : A9) (b10 : A10) (b11 : A11) (b12 : A12) (b13 : A13) (b14 : A14) (b15 : A15) (b16 : A16), I b1 b2 b3 b4 b5 b6 b7 b8 b9 b10 b11 b12 b13 b14 b15 b16 → μ b1 b2 b3 b4 b5 b6 b7 b8 b9 b10 b11 b12 b13 b14 b15 b16 < μ a1 a2 a3 a4 a5 a6 a7 a8 a9 a10 a11 a12 a13 a14 a15 a16 → W n b1 b2 b3 b4 b5 b6 b7 b8 b9 b10 b11 b12 b13 b14 b15 b16) → W (n + 1) a1 a2 a3 a4 a5 a6 a7 a8 a9 a10 a11 a12 a13 a14 a15 a16) (a1 : A1) (a2 : A2) (a3 : A3) (a4 : A4) (a5 : A5) (a6 : A6) (a7 : A7) (a8 : A8) (a9 : A9) (a10 : A10) (a11 : A11) (a12 : A12) (a13 : A13) (a14 : A14) (a15 : A15) (a16 : A16) (h : I a1 a2 a3 a4 a5 a6 a7 a8 a9 a10 a11 a12 a13 a14 a15 a16) : ∃ n, W n a1 a2 a3 a4 a5 a6 a7 a8 a9 a10 a11 a12 a13 a14 a15 a16 :=
  loop_m (σ := A1 × A2 × A3 × A4 × A5 × A6 × A7 × A8 × A9 × A10 × A11 × A12 × A13 × A14 × A15 × A16) (fun n s => W n s.1 s.2.1 s.2.2.1 s.2.2.2.1 s.2.2.2.2.1 s.2.2.2.2.2.1 s.2.2.2.2.2.2.1 s.2.2.2.2.2.2.2.1 s.2.2.2.2.2.2.2.2.1 s.2.2.2.2.2.2.2.2.2.1 s.2.2.2.2.2.2.2.2.2.2.1 s.2.2.2.2.2.2.2.2.2.2.2.1 s.2.2.2.2.2.2.2.2.2.2.2.2.1 s.2.2.2.2.2.2.2.2.2.2.2.2.2.1 s.2.2.2.2.2.2.2.2.2.2.2.2.2.2.1 s.2.2.2.2.2.2.2.2.2.2.2.2.2.2.2) (fun s => I s.1 s.2.1 s.2.2.1 s.2.2.2.1 s.2.2.2.2.1 s.2.2.2.2.2.1 s.2.2.2.2.2.2.1 s.2.2.2.2.2.2.2.1 s.2.2.2.2.2.2.2.2.1 s.2.2.2.2.2.2.2.2.2.1 s.2.2.2.2.2.2.2.2.2.2.1 s.2.2.2.2.2.2.2.2.2.2.2.1 s.2.2.2.2.2.2.2.2.2.2.2.2.1 s.2.2.2.2.2.2.2.2.2.2.2.2.2.1 s.2.2.2.2.2.2.2.2.2.2.2.2.2.2.1 s.2.2.2.2.2.2.2.2.2.2.2.2.2.2.2) (fun s => μ s.1 s.2.1 s.2.2.1 s.2.2.2.1 s.2.2.2.2.1 s.2.2.2.2.2.1 s.2.2.2.2.2.2.1 s.2.2.2.2.2.2.2.1 s.2.2.2.2.2.2.2.2.1 s.2.2.2.2.2.2.2.2.2.1 s.2.2.2.2.2.2.2.2.2.2.1 s.2.2.2.2.2.2.2.2.2.2.2.1 s.2.2.2.2.2.2.2.2.2.2.2.2.1 s.2.2.2.2.2.2.2.2.2.2.2.2.2.1 s.2.2.2.2.2.2.2.2.2.2.2.2.2.2.1 s.2.2.2.2.2.2.2.2.2.2.2.2.2.2.2) (fun n s hI hk => hs n s.1 s.2.1 s.2.2.1 s.2.2.2.1 s.2.2.2.2.1 s.2.2.2.2.2.1 s.2.2.2.2.2.2.1 s.2.2.2.2.2.2.2.1 s.2.2.2.2.2.2.2.2.1 s.2.2.2.2.2.2.2.2.2.1 s.2.2.2.2.2.2.2.2.2.2.1 s.2.2.2.2.2.2.2.2.2.2.2.1 s.2.2.2.2.2.2.2.2.2.2.2.2.1 s.2.2.2.2.2.2.2.2.2.2.2.2.2.1 s.2.2.2.2.2.2.2.2.2.2.2.2.2.2.1 s.2.2.2.2.2.2.2.2.2.2.2.2.2.2.2 hI (fun b1 b2 b3 b4 b5 b6 b7 b8 b9 b10 b11 b12 b13 b14 b15 b16 h9 hm => hk (b1, b2, b3, b4, b5, b6, b7, b8, b9, b10, b11, b12, b13, b14, b15, b16) h9 hm)) (a1, a2, a3, a4, a5, a6, a7, a8, a9, a10, a11, a12, a13, a14, a15, a16) h
theorem pk_least (P : Nat → Prop) (h : ∃ k, P k) : ∃ k, P k ∧ ∀ j, j < k → ¬ P j := by
  obtain ⟨k, hk⟩ := h
  induction k using Nat.strongRecOn with
  | ind k ih =>
    by_cases e : ∃ j, j < k ∧ P j
    · obtain ⟨j, hj, pj⟩ := e
      exact ih j hj pj
    · exact ⟨k, hk, fun j hj pj => e ⟨j, hj, pj⟩⟩
theorem rp1 {ρ A1 : Type} (W : Nat → (ρ → Prop) → A1 → Prop) (ok : A1 → Prop) (μ : A1 → Nat) (val : A1 → ρ)
    (hs : ∀ (d : Nat) (post : ρ → Prop) (a1 : A1), ok a1 → post (val a1) → (∀ (post' : ρ → Prop) (b1 : A1), ok b1 → μ b1 < μ a1 → post' (val b1) → W d post' b1) → W (d + 1) post a1) :
    ∀ (d : Nat) (post : ρ → Prop) (a1 : A1), ok a1 → μ a1 < d → post (val a1) → W d post a1 := by
  intro d
  induction d with
  | zero => intro post a1 _ h; omega
  | succ d ih =>
    intro post a1 ho hm hp
    exact hs d post a1 ho hp (fun post' b1 ho' hm' hp' => ih post' b1 ho' (by omega) hp')
theorem rp2 {ρ A1 A2 : Type} (W : Nat → (ρ → Prop) → A1 → A2 → Prop) (ok : A1 → A2 → Prop) (μ : A1 → A2 → Nat) (val : A1 → A2 → ρ)
    (hs : ∀ (d : Nat) (post : ρ → Prop) (a1 : A1) (a2 : A2), ok a1 a2 → post (val a1 a2) → (∀ (post' : ρ → Prop) (b1 : A1) (b2 : A2), ok b1 b2 → μ b1 b2 < μ a1 a2 → post' (val b1 b2) → W d post' b1 b2) → W (d + 1) post a1 a2) :
    ∀ (d : Nat) (post : ρ → Prop) (a1 : A1) (a2 : A2), ok a1 a2 → μ a1 a2 < d → post (val a1 a2) → W d post a1 a2 := by
  intro d
  induction d with
  | zero => intro post a1 a2 _ h; omega
  | succ d ih =>
    intro post a1 a2 ho hm hp
    exact hs d post a1 a2 ho hp (fun post' b1 b2 ho' hm' hp' => ih post' b1 b2 ho' (by omega) hp')
theorem rp3 {ρ A1 A2 A3 : Type} (W : Nat → (ρ → Prop) → A1 → A2 → A3 → Prop) (ok : A1 → A2 → A3 → Prop) (μ : A1 → A2 → A3 → Nat) (val : A1 → A2 → A3 → ρ)
    (hs : ∀ (d : Nat) (post : ρ → Prop) (a1 : A1) (a2 : A2) (a3 : A3), ok a1 a2 a3 → post (val a1 a2 a3) → (∀ (post' : ρ → Prop) (b1 : A1) (b2 : A2) (b3 : A3), ok b1 b2 b3 → μ b1 b2 b3 < μ a1 a2 a3 → post' (val b1 b2 b3) → W d post' b1 b2 b3) → W (d + 1) post a1 a2 a3) :
    ∀ (d : Nat) (post : ρ → Prop) (a1 : A1) (a2 : A2) (a3 : A3), ok a1 a2 a3 → μ a1 a2 a3 < d → post (val a1 a2 a3) → W d post a1 a2 a3 := by
  intro d
  induction d with
  | zero => intro post a1 a2 a3 _ h; omega
  | succ d ih =>
    intro post a1 a2 a3 ho hm hp
    exact hs d post a1 a2 a3 ho hp (fun post' b1 b2 b3 ho' hm' hp' => ih post' b1 b2 b3 ho' (by omega) hp')
theorem rp4 {ρ A1 A2 A3 A4 : Type} (W : Nat → (ρ → Prop) → A1 → A2 → A3 → A4 → Prop) (ok : A1 → A2 → A3 → A4 → Prop) (μ : A1 → A2 → A3 → A4 → Nat) (val : A1 → A2 → A3 → A4 → ρ)
    (hs : ∀ (d : Nat) (post : ρ → Prop) (a1 : A1) (a2 : A2) (a3 : A3) (a4 : A4), ok a1 a2 a3 a4 → post (val a1 a2 a3 a4) → (∀ (post' : ρ → Prop) (b1 : A1) (b2 : A2) (b3 : A3) (b4 : A4), ok b1 b2 b3 b4 → μ b1 b2 b3 b4 < μ a1 a2 a3 a4 → post' (val b1 b2 b3 b4) → W d post' b1 b2 b3 b4) → W (d + 1) post a1 a2 a3 a4) :
    ∀ (d : Nat) (post : ρ → Prop) (a1 : A1) (a2 : A2) (a3 : A3) (a4 : A4), ok a1 a2 a3 a4 → μ a1 a2 a3 a4 < d → post (val a1 a2 a3 a4) → W d post a1 a2 a3 a4 := by
  intro d
  induction d with
  | zero => intro post a1 a2 a3 a4 _ h; omega
  | succ d ih =>
    intro post a1 a2 a3 a4 ho hm hp
    exact hs d post a1 a2 a3 a4 ho hp (fun post' b1 b2 b3 b4 ho' hm' hp' => ih post' b1 b2 b3 b4 ho' (by omega) hp')
theorem rp5 {ρ A1 A2 A3 A4 A5 : Type} (W : Nat → (ρ → Prop) → A1 → A2 → A3 → A4 → A5 → Prop) (ok : A1 → A2 → A3 → A4 → A5 → Prop) (μ : A1 → A2 → A3 → A4 → A5 → Nat) (val : A1 → A2 → A3 → A4 → A5 → ρ)
    (hs : ∀ (d : Nat) (post : ρ → Prop) (a1 : A1) (a2 : A2) (a3 : A3) (a4 : A4) (a5 : A5), ok a1 a2 a3 a4 a5 → post (val a1 a2 a3 a4 a5) → (∀ (post' : ρ → Prop) (b1 : A1) (b2 : A2) (b3 : A3) (b4 : A4) (b5 : A5), ok b1 b2 b3 b4 b5 → μ b1 b2 b3 b4 b5 < μ a1 a2 a3 a4 a5 → post' (val b1 b2 b3 b4 b5) → W d post' b1 b2 b3 b4 b5) → W (d + 1) post a1 a2 a3 a4 a5) :
    ∀ (d : Nat) (post : ρ → Prop) (a1 : A1) (a2 : A2) (a3 : A3) (a4 : A4) (a5 : A5), ok a1 a2 a3 a4 a5 → μ a1 a2 a3 a4 a5 < d → post (val a1 a2 a3 a4 a5) → W d post a1 a2 a3 a4 a5 := by
  intro d
  induction d with
  | zero => intro post a1 a2 a3 a4 a5 _ h; omega
  | succ d ih =>
    intro post a1 a2 a3 a4 a5 ho hm hp
    exact hs d post a1 a2 a3 a4 a5 ho hp (fun post' b1 b2 b3 b4 b5 ho' hm' hp' => ih post' b1 b2 b3 b4 b5 ho' (by omega) hp')
theorem rp6 {ρ A1 A2 A3 A4 A5 A6 : Type} (W : Nat → (ρ → Prop) → A1 → A2 → A3 → A4 → A5 → A6 → Prop) (ok : A1 → A2 → A3 → A4 → A5 → A6 → Prop) (μ : A1 → A2 → A3 → A4 → A5 → A6 → Nat) (val : A1 → A2 → A3 → A4 → A5 → A6 → ρ)
    (hs : ∀ (d : Nat) (post : ρ → Prop) (a1 : A1) (a2 : A2) (a3 : A3) (a4 : A4) (a5 : A5) (a6 : A6), ok a1 a2 a3 a4 a5 a6 → post (val a1 a2 a3 a4 a5 a6) → (∀ (post' : ρ → Prop) (b1 : A1) (b2 : A2) (b3 : A3) (b4 : A4) (b5 : A5) (b6 : A6), ok b1 b2 b3 b4 b5 b6 → μ b1 b2 b3 b4 b5 b6 < μ a1 a2 a3 a4 a5 a6 → post' (val b1 b2 b3 b4 b5 b6) → W d post' b1 b2 b3 b4 b5 b6) → W (d + 1) post a1 a2 a3 a4 a5 a6) :
    ∀ (d : Nat) (post : ρ → Prop) (a1 : A1) (a2 : A2) (a3 : A3) (a4 : A4) (a5 : A5) (a6 : A6), ok a1 a2 a3 a4 a5 a6 → μ a1 a2 a3 a4 a5 a6 < d → post (val a1 a2 a3 a4 a5 a6) → W d post a1 a2 a3 a4 a5 a6 := by
  intro d
  induction d with
  | zero => intro post a1 a2 a3 a4 a5 a6 _ h; omega
  | succ d ih =>
    intro post a1 a2 a3 a4 a5 a6 ho hm hp
    exact hs d post a1 a2 a3 a4 a5 a6 ho hp (fun post' b1 b2 b3 b4 b5 b6 ho' hm' hp' => ih post' b1 b2 b3 b4 b5 b6 ho' (by omega) hp')
theorem rec_p {σ ρ : Type} (W : Nat → (ρ → Prop) → σ → Prop) (ok : σ → Prop) (μ : σ → Nat) (val : σ → ρ)
    (hs : ∀ d s post, ok s → post (val s) → (∀ s' post', ok s' → μ s' < μ s → post' (val s') → W d post' s') → W (d + 1) post s) :
    ∀ d s post, ok s → μ s < d → post (val s) → W d post s := by
  intro d
  induction d with
  | zero => intro s post _ h; omega
  | succ d ih =>
    intro s post ho hm hp
    exact hs d s post ho hp (fun s' post' ho' hm' hp' => ih s' post' ho' (by omega) hp')
theorem rec_q {σ ρ : Type} (W : Nat → (ρ → Prop) → σ → Prop) (ok : σ → Prop) (μ : σ → Nat) (Q : σ → ρ → Prop)
    (hs : ∀ d s post, ok s → (∀ r, Q s r → post r) → (∀ s' post', ok s' → μ s' < μ s → (∀ r, Q s' r → post' r) → W d post' s') → W (d + 1) post s) :
    ∀ d s post, ok s → μ s < d → (∀ r, Q s r → post r) → W d post s := by
  intro d
  induction d with
  | zero => intro s post _ h; omega
  | succ d ih =>
    intro s post ho hm hp
    exact hs d s post ho hp (fun s' post' ho' hm' hp' => ih s' post' ho' (by omega) hp')
def bx_sum (f : Nat → Int32) : Nat → Int32
  | 0 => 0
  | n + 1 => bx_sum f n + f n
theorem ek_u {A : Prop} {B : Nat → Prop} {k N : Nat} (hk : k < N) (h : B k) : (some k = none → A) ∧ (∀ y : Nat, some k = some y → (y < N ∧ B y)) :=
  ⟨fun z => absurd z (Option.some_ne_none k), fun _ e => (by cases e; exact ⟨hk, h⟩)⟩
theorem ek_nu {A : Prop} {B : Nat → Prop} (h : A) : ((none : Option Nat) = none → A) ∧ (∀ y : Nat, (none : Option Nat) = some y → B y) :=
  ⟨fun _ => h, fun _ e => (by cases e)⟩
theorem ek_if {c d A B : Prop} (e : c ↔ d) (f : d → A) (g : ¬ d → B) : (c → A) ∧ (¬ c → B) :=
  ⟨fun z => f (e.mp z), fun z => g (fun y => z (e.mpr y))⟩
theorem ek_v {α : Sort _} {P : α → Prop} {a b : α} (e : a = b) (h : P b) : P a := e ▸ h
theorem co_some {x : Option Nat} {A : Prop} {B : Nat → Prop} (i : Nat) (h : B i) (hx : x = some i := by rfl) : (x = none → A) ∧ (∀ y : Nat, x = some y → B y) := by
  subst hx
  exact ⟨fun e => (nomatch e), fun y e => Option.some.inj e ▸ h⟩
theorem co_none {x : Option Nat} {A : Prop} {B : Nat → Prop} (h : A) (hx : x = none := by rfl) : (x = none → A) ∧ (∀ y : Nat, x = some y → B y) := by
  subst hx
  exact ⟨fun _ => h, fun y e => (nomatch e)⟩
theorem co_any {x : Option Nat} {A : Prop} {B : Nat → Prop} (hn : x = none → A) (hs : ∀ i : Nat, x = some i → B i) : (x = none → A) ∧ (∀ y : Nat, x = some y → B y) := ⟨hn, hs⟩
theorem co_2 {P : Nat → Prop} (h0 : P 0) (h1 : P 1) {i : Nat} (hi : i < 2) : P i :=
  match i, hi with
  | 0, _ => h0
  | 1, _ => h1
theorem co_3 {P : Nat → Prop} (h0 : P 0) (h1 : P 1) (h2 : P 2) {i : Nat} (hi : i < 3) : P i :=
  match i, hi with
  | 0, _ => h0
  | 1, _ => h1
  | 2, _ => h2
theorem co_4 {P : Nat → Prop} (h0 : P 0) (h1 : P 1) (h2 : P 2) (h3 : P 3) {i : Nat} (hi : i < 4) : P i :=
  match i, hi with
  | 0, _ => h0
  | 1, _ => h1
  | 2, _ => h2
  | 3, _ => h3
theorem co_dec {N : Nat} {P : Nat → Prop} [DecidablePred P] (h : (List.range N).all (fun i => decide (P i)) = true) {i : Nat} (hi : i < N) : P i := by
  have := List.all_eq_true.mp h i (List.mem_range.mpr hi)
  exact of_decide_eq_true this
theorem co_tab {α : Type} {l : List α} {d : α} {P : α → Prop} (h : ∀ a, a ∈ l → P a) {i : Nat} (hi : i < l.length) : P (l.getD i d) := by
  rw [List.getD_eq_getElem?_getD, List.getElem?_eq_getElem hi]
  exact h _ (List.getElem_mem hi)
theorem pk_mu {x : Int32} {L : Nat} (h0 : ¬ x < 0) (h : ¬ nI L ≤ x) (hL : L < 2 ^ 31) : ∃ j : Nat, j < L ∧ x = nI j ∧ x + 1 = nI (j + 1) ∧ x.toNatClampNeg = j ∧ L - (x + 1).toNatClampNeg < L - x.toNatClampNeg := by
  obtain ⟨j, hj, rfl⟩ := nI_of h0
  have hl : j < L := Nat.not_le.mp fun q => h (nI_le q hj)
  refine ⟨j, hl, rfl, nI_1 j, nI_clamp hj, ?_⟩
  rw [nI_1, nI_clamp (by omega), nI_clamp hj]
  omega
theorem op_s {α : Type} {r : Option α} {A : Prop} {B : α → Prop} {y : α} (h : r = some y) (b : B y) : (r = none → A) ∧ ∀ z, r = some z → B z :=
  ⟨fun e => (by rw [h] at e; cases e), fun z e => (by rw [h] at e; cases e; exact b)⟩
def l_holds {α : Type} (a : Nat → Option Nat) (LP : List Nat) (p : Nat → α) (c : Nat) (b : Nat → α) : Prop :=
  ∀ j, j < c → ∃ y, a j = some y ∧ y ∈ LP ∧ p y = b j
theorem l_holds_0 {α : Type} {a : Nat → Option Nat} {LP : List Nat} {p b : Nat → α} : l_holds a LP p 0 b := fun j h => absurd h (Nat.not_lt_zero j)
theorem l_in_new (LP : List Nat) (q : Nat) : q ∈ LP ++ [q] := List.mem_append.mpr (Or.inr (List.mem_singleton.mpr rfl))
def l_sum (b : Nat → Int32) : Nat → Int32
  | 0 => 0
  | k + 1 => l_sum b k + b k
theorem sb_shr0 (x : Int32) : x >>> ((0 : Int32) &&& 31) = x := by
  rw [show ((0 : Int32) &&& 31) = 0 by decide]
  simp
theorem sb_shl0 (x : Int32) : x <<< ((0 : Int32) &&& 31) = x := by
  rw [show ((0 : Int32) &&& 31) = 0 by decide]
  simp
theorem sb_cl0 : (0 : Int32).toNatClampNeg = 0 := by decide
theorem sb_m1 {p : Nat} (h : 0 < p) : nI p + (-1) = nI (p - 1) := by
  obtain ⟨q, rfl⟩ : ∃ q, p = q + 1 := ⟨p - 1, by omega⟩
  exact pk_m1 q
def sb_b (c : Nat) : Int32 := (nI c).toInt8.toInt32
theorem sb_byte : ∀ c, c < 256 → sb_b c &&& 255 = nI c ∧ ((nI c).toUInt32 % 65536).toInt32 = nI c ∧ nI c ≤ 255 := by decide +kernel
def sb_Fit (a : Nat → Int32) : Prop := ∀ j, fits .byte (.int (a j)) = true
def sb_Lat (t : Nat → Nat) (n : Nat) (a : Nat → Int32) : Prop := ∀ j, j < n → t j < 256 ∧ a j = sb_b (t j)
theorem sb_fitB (c : Nat) : fits .byte (.int (sb_b c)) = true := pk_fb _
theorem sb_fit0 : sb_Fit (fun _ => 0) := fun _ => by
  show fits .byte (.int 0) = true
  decide
theorem sb_fitU {a : Nat → Int32} {k : Nat} {x : Int32} (h : sb_Fit a) (hx : fits .byte (.int x) = true) : sb_Fit (upd a k x) := by
  intro j
  by_cases e : j = k
  · subst e
    rw [pk_us]
    exact hx
  · rw [pk_un e]
    exact h j
def sb_cat (t : Nat → Nat) (n : Nat) (s : Nat → Nat) : Nat → Nat := fun j => if j < n then t j else s (j - n)
theorem sb_cat_lo {t s : Nat → Nat} {n j : Nat} (h : j < n) : sb_cat t n s j = t j := if_pos h
theorem sb_cat_hi {t s : Nat → Nat} {n j : Nat} : sb_cat t n s (n + j) = s j := by
  show (if n + j < n then t (n + j) else s (n + j - n)) = s j
  rw [if_neg (by omega), Nat.add_sub_cancel_left]
theorem sb_latPut {t s : Nat → Nat} {n w : Nat} {a a' : Nat → Int32} (h : sb_Lat t n a) (hk : ∀ j, j < n → a' j = a j) (hs : ∀ i, i < w → s i < 256 ∧ a' (n + i) = sb_b (s i)) : sb_Lat (sb_cat t n s) (n + w) a' := by
  intro j hj
  by_cases e : j < n
  · rw [sb_cat_lo e, hk j e]
    exact h j e
  · obtain ⟨i, rfl⟩ : ∃ i, j = n + i := ⟨j - n, by omega⟩
    rw [sb_cat_hi]
    exact hs i (by omega)
theorem sb_latKeep {t : Nat → Nat} {n : Nat} {a a' : Nat → Int32} (h : sb_Lat t n a) (hk : ∀ j, j < n → a' j = a j) : sb_Lat t n a' := fun j hj => by
  rw [hk j hj]
  exact h j hj
def sb_cap (q m : Nat) : Nat := if q ≤ m then m else if 2 * m + 2 < q then q else 2 * m + 2
def sb_Room (q m mc ms : Nat) : Prop := q ≤ m ∨ (1 ≤ mc ∧ sb_cap q m ≤ ms ∧ sb_cap q m ≤ 65536)
theorem sb_cap_ge (q m : Nat) : q ≤ sb_cap q m := by
  unfold sb_cap
  split
  · omega
  · split <;> omega
theorem sb_cap_gem (q m : Nat) : m ≤ sb_cap q m := by
  unfold sb_cap
  split
  · omega
  · split <;> omega
theorem sb_cap_le {q m mc ms : Nat} (hm : m ≤ 65536) (hr : sb_Room q m mc ms) : sb_cap q m ≤ 65536 := by
  rcases hr with h | h
  · rw [sb_cap, if_pos h]
    exact hm
  · exact h.2.2
theorem sb_at {P : Int32 → Prop} {x y : Int32} (e : x = y) (h : P y) : P x := e ▸ h
def sb_dg (w : Nat) : Nat := if w < 10 then 1 else if w < 100 then 2 else if w < 1000 then 3 else if w < 10000 then 4 else if w < 100000 then 5 else if w < 1000000 then 6 else if w < 10000000 then 7 else if w < 100000000 then 8 else if w < 1000000000 then 9 else 10
def sb_dec (v : Nat) : Nat → Nat := fun i => 48 + v / 10 ^ (sb_dg v - 1 - i) % 10
theorem sb_dg_in (w : Nat) : 1 ≤ sb_dg w ∧ sb_dg w ≤ 10 := by
  unfold sb_dg
  constructor <;> (repeat' split) <;> omega
theorem sb_dg100 {w : Nat} (h : 100 ≤ w) (hw : w < 2 ^ 31) : sb_dg w = sb_dg (w / 100) + 2 := by
  rw [sb_dg, sb_dg, if_neg (show ¬ w < 10 by omega), if_neg (show ¬ w < 100 by omega)]
  by_cases h3 : w < 1000
  · rw [if_pos h3, if_pos (show w / 100 < 10 by omega)]
  rw [if_neg h3, if_neg (show ¬ w / 100 < 10 by omega)]
  by_cases h4 : w < 10000
  · rw [if_pos h4, if_pos (show w / 100 < 100 by omega)]
  rw [if_neg h4, if_neg (show ¬ w / 100 < 100 by omega)]
  by_cases h5 : w < 100000
  · rw [if_pos h5, if_pos (show w / 100 < 1000 by omega)]
  rw [if_neg h5, if_neg (show ¬ w / 100 < 1000 by omega)]
  by_cases h6 : w < 1000000
  · rw [if_pos h6, if_pos (show w / 100 < 10000 by omega)]
  rw [if_neg h6, if_neg (show ¬ w / 100 < 10000 by omega)]
  by_cases h7 : w < 10000000
  · rw [if_pos h7, if_pos (show w / 100 < 100000 by omega)]
  rw [if_neg h7, if_neg (show ¬ w / 100 < 100000 by omega)]
  by_cases h8 : w < 100000000
  · rw [if_pos h8, if_pos (show w / 100 < 1000000 by omega)]
  rw [if_neg h8, if_neg (show ¬ w / 100 < 1000000 by omega)]
  by_cases h9 : w < 1000000000
  · rw [if_pos h9, if_pos (show w / 100 < 10000000 by omega)]
  rw [if_neg h9, if_neg (show ¬ w / 100 < 10000000 by omega)]
  rw [if_pos (show w / 100 < 100000000 by omega)]
theorem sb_negT {w : Nat} (h : w < 2 ^ 31) : (-nI w).toInt = -(w : Int) := by
  rw [Int32.toInt_neg, nI_toInt h]
  exact Int.bmod_eq_of_le (by omega) (by omega)
theorem sb_nle {a b : Nat} (ha : a < 2 ^ 31) (hb : b < 2 ^ 31) : -nI a ≤ -nI b ↔ b ≤ a := by
  rw [Int32.le_iff_toInt_le, sb_negT ha, sb_negT hb]
  omega
theorem sb_nlt {a b : Nat} (ha : a < 2 ^ 31) (hb : b < 2 ^ 31) : -nI a < -nI b ↔ b < a := by
  rw [Int32.lt_iff_toInt_lt, sb_negT ha, sb_negT hb]
  omega
theorem sb_cmp {A B : Prop} {x : Int32} (v c : Nat) (f : c ≤ v → A) (g : v < c → B) (hv : v < 2 ^ 31) (hx : x = -nI c := by rfl) (hc : c < 2 ^ 31 := by omega) : (-nI v ≤ x → A) ∧ (¬ -nI v ≤ x → B) := by
  subst hx
  rw [sb_nle hv hc]
  exact ⟨f, fun z => g (by omega)⟩
theorem sb_ndiv {w : Nat} (hw : w < 2 ^ 31) : (-nI w) / 100 = -nI (w / 100) := by
  apply Int32.toInt_inj.mp
  have h100 : (100 : Int32).toInt = 100 := by decide
  rw [Int32.toInt_div, sb_negT hw, h100, sb_negT (by omega), Int.neg_tdiv, Int.tdiv_eq_ediv_of_nonneg (by omega), Int.bmod_eq_of_le (by omega) (by omega)]
  omega
theorem sb_nrem {w : Nat} (hw : w < 2 ^ 31) : (-nI (w / 100)) * 100 - (-nI w) = nI (w % 100) := by
  have h := pk_rem (a := w) (d := 100) hw (by decide) (by decide)
  rw [pk_div hw (by decide) (by decide)] at h
  rw [← h]
  show (-nI (w / 100)) * nI 100 - (-nI w) = nI w - nI (w / 100) * nI 100
  rw [Int32.neg_mul, Int32.sub_neg, Int32.add_comm, ← Int32.sub_eq_add_neg]
end
section
/-! rows on bits, shifts and unsigned numbers, to paste: each family out of a closed proof of our own, whole with what it rests on; each by itself clean at Lean in its own claim (generation 39, form 5). Take a family whole -/
/-! ===== Int32 by its bits: bt x i ===== -/
def bt (x : Int32) (i : Nat) : Bool := x.toBitVec.getLsbD i
theorem b_ext {x y : Int32} (h : ∀ i, i < 32 → bt x i = bt y i) : x = y := Int32.toBitVec_inj.mp (BitVec.eq_of_getLsbD_eq (fun i hi => h i hi))
theorem b_or (x y : Int32) (i : Nat) : bt (x ||| y) i = (bt x i || bt y i) := by unfold bt; rw [Int32.toBitVec_or, BitVec.getLsbD_or]
theorem b_and (x y : Int32) (i : Nat) : bt (x &&& y) i = (bt x i && bt y i) := by unfold bt; rw [Int32.toBitVec_and, BitVec.getLsbD_and]
theorem b_xor (x y : Int32) (i : Nat) : bt (x ^^^ y) i = (bt x i ^^ bt y i) := by unfold bt; rw [Int32.toBitVec_xor, BitVec.getLsbD_xor]
theorem b_big {x : Int32} {i : Nat} (h : 32 ≤ i) : bt x i = false := BitVec.getLsbD_of_ge _ _ h
theorem b_255 (i : Nat) : bt 255 i = decide (i < 8) := by
  rcases Nat.lt_or_ge i 32 with h | h
  · exact (by decide +kernel : ∀ i, i < 32 → bt 255 i = decide (i < 8)) i h
  · rw [b_big h, decide_eq_false (by omega)]
theorem b_65535 (i : Nat) : bt 65535 i = decide (i < 16) := by
  rcases Nat.lt_or_ge i 32 with h | h
  · exact (by decide +kernel : ∀ i, i < 32 → bt 65535 i = decide (i < 16)) i h
  · rw [b_big h, decide_eq_false (by omega)]
theorem b_m1 : ∀ i, i < 32 → bt (-1) i = true := by decide +kernel
theorem b_0 (i : Nat) : bt 0 i = false := BitVec.getLsbD_zero
theorem s_l : ∀ n, n < 32 → ((nI n &&& 31).toBitVec.smod 32).toNat = n := by decide +kernel
theorem s_u : ∀ n, n < 32 → (((nI n).toUInt32 &&& Int32.toUInt32 31).toBitVec % 32).toNat = n := by decide +kernel
theorem b_shl (n : Nat) (hn : n < 32) (x : Int32) {i : Nat} (hi : i < 32) : bt (x <<< (nI n &&& 31)) i = (decide (n ≤ i) && bt x (i - n)) := by
  unfold bt
  rw [Int32.toBitVec_shiftLeft]
  show (x.toBitVec <<< ((nI n &&& 31).toBitVec.smod 32).toNat).getLsbD i = _
  rw [s_l n hn, BitVec.getLsbD_shiftLeft]
  rcases Nat.lt_or_ge i n with h | h
  · simp [h, Nat.not_le.mpr h]
  · simp [hi, h, Nat.not_lt.mpr h]
theorem b_ushr (n : Nat) (hn : n < 32) (x : Int32) (i : Nat) : bt ((x.toUInt32 >>> ((nI n).toUInt32 &&& Int32.toUInt32 31)).toInt32) i = bt x (n + i) := by
  show (x.toUInt32 >>> ((nI n).toUInt32 &&& Int32.toUInt32 31)).toBitVec.getLsbD i = x.toUInt32.toBitVec.getLsbD (n + i)
  rw [UInt32.toBitVec_shiftRight]
  show (x.toUInt32.toBitVec >>> (((nI n).toUInt32 &&& Int32.toUInt32 31).toBitVec % 32).toNat).getLsbD i = _
  rw [s_u n hn, BitVec.getLsbD_ushiftRight]
theorem b_sshr (n : Nat) (hn : n < 32) (x : Int32) {i : Nat} (hi : i < 32) : bt (x >>> (nI n &&& 31)) i = if n + i < 32 then bt x (n + i) else bt x 31 := by
  unfold bt
  rw [Int32.toBitVec_shiftRight]
  show (x.toBitVec.sshiftRight ((nI n &&& 31).toBitVec.smod 32).toNat).getLsbD i = _
  rw [s_l n hn, BitVec.getLsbD_sshiftRight, BitVec.msb_eq_getLsbD_last]
  simp [hi]
theorem b_shl8 (x : Int32) {i : Nat} (hi : i < 32) : bt (x <<< ((8 : Int32) &&& 31)) i = (decide (8 ≤ i) && bt x (i - 8)) := b_shl 8 (by omega) x hi
theorem b_shl16 (x : Int32) {i : Nat} (hi : i < 32) : bt (x <<< ((16 : Int32) &&& 31)) i = (decide (16 ≤ i) && bt x (i - 16)) := b_shl 16 (by omega) x hi
theorem b_shl24 (x : Int32) {i : Nat} (hi : i < 32) : bt (x <<< ((24 : Int32) &&& 31)) i = (decide (24 ≤ i) && bt x (i - 24)) := b_shl 24 (by omega) x hi
theorem b_sshr8 (x : Int32) {i : Nat} (hi : i < 32) : bt (x >>> ((8 : Int32) &&& 31)) i = if 8 + i < 32 then bt x (8 + i) else bt x 31 := b_sshr 8 (by omega) x hi
/-! ===== nI under and, xor, >>>, one bit, 65535 ===== -/
theorem nx_and (a b : Nat) : nI a &&& nI b = nI (a &&& b) := by
  apply Int32.toBitVec_inj.1
  show BitVec.ofNat 32 a &&& BitVec.ofNat 32 b = BitVec.ofNat 32 (a &&& b)
  apply BitVec.eq_of_getLsbD_eq
  intro i hi
  simp [hi]
theorem nx_xor (a b : Nat) : nI a ^^^ nI b = nI (a ^^^ b) := by
  apply Int32.toBitVec_inj.1
  show BitVec.ofNat 32 a ^^^ BitVec.ofNat 32 b = BitVec.ofNat 32 (a ^^^ b)
  apply BitVec.eq_of_getLsbD_eq
  intro i hi
  simp [hi]
theorem nx_cnt : ∀ j : Fin 32, (UInt32.ofNat j.val &&& Int32.toUInt32 31).toNat % 32 = j.val := by decide +kernel
theorem nx_ush {k j : Nat} (hk : k < 65536) (hj : j < 32) : ((nI k).toUInt32 >>> ((nI j).toUInt32 &&& Int32.toUInt32 31)).toInt32 = nI (k >>> j) := by
  have hs : k >>> j ≤ k := by
    rw [Nat.shiftRight_eq_div_pow]
    exact Nat.div_le_self _ _
  have e2 : UInt32.ofNat k >>> (UInt32.ofNat j &&& Int32.toUInt32 31) = UInt32.ofNat (k >>> j) := by
    apply UInt32.toNat_inj.1
    have h1 : (UInt32.ofNat k).toNat = k := Nat.mod_eq_of_lt (by omega)
    have h2 : (UInt32.ofNat (k >>> j)).toNat = k >>> j := Nat.mod_eq_of_lt (by omega)
    rw [UInt32.toNat_shiftRight, nx_cnt ⟨j, hj⟩, h1, h2]
  show (UInt32.ofNat k >>> (UInt32.ofNat j &&& Int32.toUInt32 31)).toInt32 = _
  rw [e2]
  rfl
theorem nx_bit {k j : Nat} (hk : k < 65536) (hj : j < 16) : (((nI k).toUInt32 >>> ((nI j).toUInt32 &&& Int32.toUInt32 31)).toInt32 &&& 1) = 0 ↔ k.testBit j = false := by
  rw [nx_ush hk (by omega)]
  show nI (k >>> j) &&& nI 1 = 0 ↔ _
  rw [nx_and, Nat.and_one_is_mod, ← nI_0, nI_eq (by omega) (by omega), Nat.testBit_eq_decide_div_mod_eq, Nat.shiftRight_eq_div_pow, decide_eq_false_iff_not]
  generalize k / 2 ^ j = z
  omega
theorem nx_mod (k : Nat) : nI k &&& 65535 = nI (k % 65536) := by
  show nI k &&& nI 65535 = _
  rw [nx_and, show (65535 : Nat) = 2 ^ 16 - 1 from rfl, Nat.and_two_pow_sub_one_eq_mod]
theorem nx_m16 {k : Nat} (h : k < 65536) : nI k &&& 65535 = nI k := by rw [nx_mod, Nat.mod_eq_of_lt h]
theorem nx_mask (x : Int32) : ∃ k, k < 65536 ∧ x &&& 65535 = nI k := by
  have e : x = nI x.toBitVec.toNat := by
    apply Int32.toBitVec_inj.1
    show x.toBitVec = BitVec.ofNat 32 x.toBitVec.toNat
    simp
  refine ⟨x.toBitVec.toNat % 65536, Nat.mod_lt _ (by omega), ?_⟩
  rw [← nx_mod, ← e]
/-! ===== lN n to 2^64: shifts, and, or, masks, one bit ===== -/
theorem wb_tb (n : Nat) : (lN n).toBitVec = BitVec.ofNat 64 n := rfl
theorem wb_inj {a b : Int64} (h : a.toBitVec = b.toBitVec) : a = b := Int64.toBitVec_inj.mp h
theorem wb_tn {n : Nat} (h : n < 2 ^ 64) : (lN n).toBitVec.toNat = n := by rw [wb_tb, BitVec.toNat_ofNat, Nat.mod_eq_of_lt h]
theorem wb_of (x : Int64) : ∃ n, n < 2 ^ 64 ∧ x = lN n := ⟨x.toBitVec.toNat, x.toBitVec.isLt, wb_inj (by rw [wb_tb]; simp)⟩
theorem wb_of32 (x : Int32) : ∃ n, n < 2 ^ 32 ∧ x = nI n := ⟨x.toBitVec.toNat, x.toBitVec.isLt, Int32.toBitVec_inj.mp (by show _ = BitVec.ofNat 32 _; simp)⟩
theorem wb_c : ∀ k, k < 64 → ((nI k).toInt64 &&& 63) = lN k := by decide +kernel
theorem wb_cu : ∀ k, k < 64 → ((nI k).toInt64.toUInt64 &&& Int64.toUInt64 63) = UInt64.ofNat k := by decide +kernel
theorem wb_sm : ∀ k, k < 64 → (BitVec.ofNat 64 k).smod 64 = BitVec.ofNat 64 k := by decide +kernel
theorem wb_pw {a b : Nat} (h : a ≤ b) : 2 ^ b = 2 ^ a * 2 ^ (b - a) := by rw [← Nat.pow_add]; congr 1; omega
theorem wb_lt2 {a b : Nat} (h : a < b) : 2 ^ a < 2 ^ b := Nat.pow_lt_pow_right (by decide) h
theorem wb_mod (n : Nat) : lN n = lN (n % 2 ^ 64) := wb_inj (by rw [wb_tb, wb_tb]; apply BitVec.eq_of_toNat_eq; rw [BitVec.toNat_ofNat, BitVec.toNat_ofNat, Nat.mod_mod])
theorem wb_shr {n k : Nat} (hn : n < 2 ^ 64) (hk : k < 64) : ((lN n).toUInt64 >>> ((nI k).toInt64.toUInt64 &&& Int64.toUInt64 63)).toInt64 = lN (n / 2 ^ k) := by
  rw [wb_cu k hk]
  apply wb_inj
  apply BitVec.eq_of_toNat_eq
  show ((lN n).toUInt64 >>> UInt64.ofNat k).toNat = (BitVec.ofNat 64 _).toNat
  have h1 : (UInt64.ofNat k).toNat = k := by
    show (BitVec.ofNat 64 k).toNat = k
    rw [BitVec.toNat_ofNat, Nat.mod_eq_of_lt (by omega)]
  have h2 : (lN n).toUInt64.toNat = n := wb_tn hn
  rw [UInt64.toNat_shiftRight, h1, h2, Nat.mod_eq_of_lt hk, Nat.shiftRight_eq_div_pow, BitVec.toNat_ofNat, Nat.mod_eq_of_lt (Nat.lt_of_le_of_lt (Nat.div_le_self _ _) hn)]
theorem wb_shl (n : Nat) {k : Nat} (hk : k < 64) : lN n <<< ((nI k).toInt64 &&& 63) = lN (n * 2 ^ k) := by
  rw [wb_c k hk]
  apply wb_inj
  rw [Int64.toBitVec_shiftLeft, wb_tb, wb_tb, wb_tb, wb_sm k hk]
  apply BitVec.eq_of_toNat_eq
  rw [BitVec.shiftLeft_eq', BitVec.toNat_shiftLeft, BitVec.toNat_ofNat, BitVec.toNat_ofNat, BitVec.toNat_ofNat, Nat.mod_eq_of_lt (show k < 2 ^ 64 by omega), Nat.shiftLeft_eq, Nat.mul_mod, Nat.mod_mod, ← Nat.mul_mod]
theorem wb_and {a b : Nat} (ha : a < 2 ^ 64) (hb : b < 2 ^ 64) : lN a &&& lN b = lN (a &&& b) := by
  apply wb_inj
  rw [Int64.toBitVec_and, wb_tb, wb_tb, wb_tb]
  apply BitVec.eq_of_toNat_eq
  rw [BitVec.toNat_and, BitVec.toNat_ofNat, BitVec.toNat_ofNat, BitVec.toNat_ofNat, Nat.mod_eq_of_lt ha, Nat.mod_eq_of_lt hb, Nat.mod_eq_of_lt (Nat.and_lt_two_pow _ hb)]
theorem wb_or {a b : Nat} (ha : a < 2 ^ 64) (hb : b < 2 ^ 64) : lN a ||| lN b = lN (a ||| b) := by
  apply wb_inj
  rw [Int64.toBitVec_or, wb_tb, wb_tb, wb_tb]
  apply BitVec.eq_of_toNat_eq
  rw [BitVec.toNat_or, BitVec.toNat_ofNat, BitVec.toNat_ofNat, BitVec.toNat_ofNat, Nat.mod_eq_of_lt ha, Nat.mod_eq_of_lt hb, Nat.mod_eq_of_lt (Nat.or_lt_two_pow ha hb)]
theorem wb_mask {n k : Nat} (hn : n < 2 ^ 64) (hk : k < 64) : lN n &&& lN (2 ^ k - 1) = lN (n % 2 ^ k) := by
  rw [wb_and hn (by have := wb_lt2 hk; omega), Nat.and_two_pow_sub_one_eq_mod]
theorem wb_a1 {n : Nat} (hn : n < 2 ^ 64) : lN n &&& 1 = lN (n % 2) := wb_mask (k := 1) hn (by decide)
theorem wb_bit {n k : Nat} (hn : n < 2 ^ 64) (hk : k < 64) : ((lN n).toUInt64 >>> ((nI k).toInt64.toUInt64 &&& Int64.toUInt64 63)).toInt64 &&& 1 = lN (n / 2 ^ k % 2) := by
  rw [wb_shr hn hk, wb_a1 (Nat.lt_of_le_of_lt (Nat.div_le_self _ _) hn)]
theorem wb_xor {q k : Nat} (hk : k < 63) (h : 2 ^ k ≤ q) (h2 : q < 2 ^ (k + 1)) : lN q ^^^ lN (2 ^ k) = lN (q - 2 ^ k) := by
  obtain ⟨r, rfl⟩ : ∃ r, q = 2 ^ k + r := ⟨q - 2 ^ k, by omega⟩
  have hr : r < 2 ^ k := by rw [Nat.pow_succ] at h2; omega
  have hx : (2 ^ k + r) ^^^ 2 ^ k = r := by
    apply Nat.eq_of_testBit_eq
    intro i
    rw [Nat.testBit_xor, Nat.testBit_two_pow]
    rcases Nat.lt_trichotomy i k with h | h | h
    · rw [Nat.testBit_two_pow_add_gt h]
      simp [show ¬ k = i by omega]
    · subst h
      rw [Nat.testBit_two_pow_add_eq]
      simp
    · have a1 : 2 ^ (k + 1) ≤ 2 ^ i := Nat.pow_le_pow_right (by decide) h
      rw [Nat.testBit_lt_two_pow (show 2 ^ k + r < 2 ^ i by omega), Nat.testBit_lt_two_pow (show r < 2 ^ i by omega)]
      simp [show ¬ k = i by omega]
  have b1 := wb_lt2 (show k + 1 < 64 by omega)
  have b2 := wb_lt2 (show k < 64 by omega)
  apply wb_inj
  rw [Int64.toBitVec_xor, wb_tb, wb_tb, wb_tb]
  apply BitVec.eq_of_toNat_eq
  rw [BitVec.toNat_xor, BitVec.toNat_ofNat, BitVec.toNat_ofNat, BitVec.toNat_ofNat, Nat.mod_eq_of_lt (by omega : 2 ^ k + r < 2 ^ 64), Nat.mod_eq_of_lt b2, hx, Nat.add_sub_cancel_left, Nat.mod_eq_of_lt (by omega)]
end
section
/-! base: booleans as 0 and 1, arrays of naturals, slots, bits of marks -/
def ep_b (x : Bool) : Int32 := if x then 1 else 0
theorem ep_bt1 : ep_b true = 1 := rfl
theorem ep_bf0 : ep_b false = 0 := rfl
theorem ep_b0 {x : Bool} : ep_b x = 0 ↔ x = false := by cases x <;> decide
theorem ep_bne {x : Bool} : ¬ ep_b x = 0 ↔ x = true := by cases x <;> decide
theorem ep_b1 {x : Bool} : ep_b x = 1 ↔ x = true := by cases x <;> decide
theorem ep_bn (x : Bool) : vp_nar .boolean (ep_b x) = ep_b x := by cases x <;> rfl
theorem ep_n0 : vp_nar .boolean 0 = ep_b false := rfl
theorem ep_n1 : vp_nar .boolean 1 = ep_b true := rfl
theorem ep_bnr (x : Bool) : narrow .boolean (.int (ep_b x)) = .int (ep_b x) := by cases x <;> rfl
theorem ep_bi {x y : Bool} (h : ep_b x = ep_b y) : x = y := by cases x <;> cases y <;> first | rfl | exact absurd h (by decide)
def ep_up {α : Type} (f : Nat → α) (i : Nat) (v : α) : Nat → α := fun j => if j = i then v else f j
theorem ep_us {α : Type} {f : Nat → α} {i : Nat} {v : α} : ep_up f i v i = v := if_pos rfl
theorem ep_un {α : Type} {f : Nat → α} {i j : Nat} {v : α} (h : j ≠ i) : ep_up f i v j = f j := if_neg h
theorem ep_uL (f : Nat → Nat) (i v : Nat) : vp_updL (fun c => lN (f c)) i (lN v) = fun c => lN (ep_up f i v c) := by
  funext c
  unfold vp_updL ep_up
  by_cases hc : c = i
  · rw [if_pos hc, if_pos hc]
  · rw [if_neg hc, if_neg hc]
theorem ep_uI (f : Nat → Nat) (i v : Nat) : upd (fun c => nI (f c)) i (nI v) = fun c => nI (ep_up f i v c) := by
  funext c
  unfold upd ep_up
  by_cases hc : c = i
  · rw [if_pos hc, if_pos hc]
  · rw [if_neg hc, if_neg hc]
theorem ep_l0 : (0 : Int64) = lN 0 := rfl
/-- the component's slot of epoch n of core c -/
def ep_sl (c n : Nat) : Nat := 16 * c + n % 16
theorem ep_sl_lt {c n : Nat} (hc : c < 4) : ep_sl c n < 64 := by unfold ep_sl; omega
theorem ep_sl_inj {c d n m : Nat} (h : ep_sl c n = ep_sl d m) (h1 : n < m + 16) (h2 : m < n + 16) : c = d ∧ n = m := by
  unfold ep_sl at h
  omega
theorem ep_sl_dv {c n : Nat} : ep_sl c n / 16 = c := by unfold ep_sl; omega
theorem ep_orN : ∀ c, c < 4 → ∀ r, r < 16 → nI (c * 2 ^ 4) ||| nI r = nI (16 * c + r) := by decide +kernel
theorem ep_slot {c n : Nat} (hc : c < 4) (hn : n < 2 ^ 31) : (nI c <<< ((4 : Int32) &&& 31)) ||| ((lN n &&& 15).toInt32) = nI (ep_sl c n) := by
  rw [pk_shlN ((4 : Int32) &&& 31) 4 (by decide) (by omega), show (15 : Int64) = lN (2 ^ 4 - 1) from rfl, wb_mask (by omega) (by omega), lN_i]
  exact ep_orN c hc (n % 16) (by omega)
theorem ep_shr {s : Nat} (hs : s < 64) : nI s >>> ((4 : Int32) &&& 31) = nI (s / 16) := pk_shrN (by omega) _ 4 (by decide)
theorem ep_i4 {s d : Nat} : (nI s * 4) + nI d = nI (s * 4 + d) := by
  rw [show (4 : Int32) = nI 4 from rfl, pk_mul, nI_add]
theorem ep_i8 {s d : Nat} : (nI s * 8) + nI d = nI (s * 8 + d) := by
  rw [show (8 : Int32) = nI 8 from rfl, pk_mul, nI_add]
theorem ep_i40 {s d : Nat} : (nI s * 40) + nI d = nI (s * 40 + d) := by
  rw [show (40 : Int32) = nI 40 from rfl, pk_mul, nI_add]
/-! bits -/
theorem ep_m1 : ∀ l, l < 8 → ∀ i, i < 32 → bt ((1 : Int32) <<< (nI l &&& 31)) i = decide (i = l) := by decide +kernel
theorem ep_m256 : ∀ l, l < 8 → ∀ i, i < 32 → bt ((256 : Int32) <<< (nI l &&& 31)) i = decide (i = 8 + l) := by decide +kernel
theorem ep_m65536 : ∀ l, l < 8 → ∀ i, i < 32 → bt ((65536 : Int32) <<< (nI l &&& 31)) i = decide (i = 16 + l) := by decide +kernel
theorem ep_m257 : ∀ l, l < 8 → ∀ i, i < 32 → bt ((257 : Int32) <<< (nI l &&& 31)) i = (decide (i = l) || decide (i = 8 + l)) := by decide +kernel
theorem ep_m65792 : ∀ l, l < 8 → ∀ i, i < 32 → bt ((65792 : Int32) <<< (nI l &&& 31)) i = (decide (i = 8 + l) || decide (i = 16 + l)) := by decide +kernel
theorem ep_and0 (m k : Int32) : m &&& k = 0 ↔ ∀ i, i < 32 → bt k i = true → bt m i = false := by
  constructor
  · intro h i hi hk
    have e : bt (m &&& k) i = false := by rw [h, b_0]
    rw [b_and, hk, Bool.and_true] at e
    exact e
  · intro h
    apply b_ext
    intro i hi
    rw [b_and, b_0]
    cases hk : bt k i
    · rw [Bool.and_false]
    · rw [h i hi hk, Bool.false_and]
theorem ep_t1 {m : Int32} {l : Nat} (hl : l < 8) : m &&& ((1 : Int32) <<< (nI l &&& 31)) = 0 ↔ bt m l = false := by
  rw [ep_and0]
  constructor
  · intro h
    exact h l (by omega) (by rw [ep_m1 l hl l (by omega)]; exact decide_eq_true rfl)
  · intro h i hi hk
    rw [ep_m1 l hl i hi] at hk
    rw [of_decide_eq_true hk]
    exact h
theorem ep_t256 {m : Int32} {l : Nat} (hl : l < 8) : m &&& ((256 : Int32) <<< (nI l &&& 31)) = 0 ↔ bt m (8 + l) = false := by
  rw [ep_and0]
  constructor
  · intro h
    exact h (8 + l) (by omega) (by rw [ep_m256 l hl (8 + l) (by omega)]; exact decide_eq_true rfl)
  · intro h i hi hk
    rw [ep_m256 l hl i hi] at hk
    rw [of_decide_eq_true hk]
    exact h
theorem ep_t65536 {m : Int32} {l : Nat} (hl : l < 8) : m &&& ((65536 : Int32) <<< (nI l &&& 31)) = 0 ↔ bt m (16 + l) = false := by
  rw [ep_and0]
  constructor
  · intro h
    exact h (16 + l) (by omega) (by rw [ep_m65536 l hl (16 + l) (by omega)]; exact decide_eq_true rfl)
  · intro h i hi hk
    rw [ep_m65536 l hl i hi] at hk
    rw [of_decide_eq_true hk]
    exact h
theorem ep_t257 {m : Int32} {l : Nat} (hl : l < 8) : m &&& ((257 : Int32) <<< (nI l &&& 31)) = 0 ↔ bt m l = false ∧ bt m (8 + l) = false := by
  rw [ep_and0]
  constructor
  · intro h
    refine ⟨h l (by omega) ?_, h (8 + l) (by omega) ?_⟩
    · rw [ep_m257 l hl l (by omega), decide_eq_true rfl, Bool.true_or]
    · rw [ep_m257 l hl (8 + l) (by omega), decide_eq_true (p := 8 + l = 8 + l) rfl, Bool.or_true]
  · intro h i hi hk
    rw [ep_m257 l hl i hi, Bool.or_eq_true] at hk
    rcases hk with hk | hk
    · rw [of_decide_eq_true hk]
      exact h.1
    · rw [of_decide_eq_true hk]
      exact h.2
theorem ep_clr {m : Int32} {l i : Nat} (hl : l < 8) (hi : i < 32) : bt (m &&& (((65536 : Int32) <<< (nI l &&& 31)) ^^^ (-1))) i = (bt m i && !decide (i = 16 + l)) := by
  rw [b_and, b_xor, ep_m65536 l hl i hi, b_m1 i hi, Bool.xor_true]
theorem ep_set1 {m : Int32} {l i : Nat} (hl : l < 8) (hi : i < 32) : bt (m ||| ((1 : Int32) <<< (nI l &&& 31))) i = (bt m i || decide (i = l)) := by
  rw [b_or, ep_m1 l hl i hi]
theorem ep_set2 {m : Int32} {l i : Nat} (hl : l < 8) (hi : i < 32) : bt (m ||| ((65792 : Int32) <<< (nI l &&& 31))) i = (bt m i || (decide (i = 8 + l) || decide (i = 16 + l))) := by
  rw [b_or, ep_m65792 l hl i hi]
theorem ep_ush {m : Int32} : (m.toUInt32 >>> ((16 : Int32).toUInt32 &&& Int32.toUInt32 31)).toInt32 = 0 ↔ ∀ j, 16 ≤ j → j < 32 → bt m j = false := by
  have e : ∀ i, bt (m.toUInt32 >>> ((16 : Int32).toUInt32 &&& Int32.toUInt32 31)).toInt32 i = bt m (16 + i) := fun i => b_ushr 16 (by omega) m i
  constructor
  · intro h j h1 h2
    have := e (j - 16)
    rw [h, b_0] at this
    rw [show 16 + (j - 16) = j from by omega] at this
    exact this.symm
  · intro h
    apply b_ext
    intro i hi
    rw [e, b_0]
    by_cases h2 : 16 + i < 32
    · exact h _ (by omega) h2
    · exact b_big (by omega)
theorem ep_mask (x : Int32) : 0 ≤ x &&& 65535 := by
  obtain ⟨k, hk, e⟩ := nx_mask x
  rw [e]
  exact nI_pos' (by omega)
theorem ep_ngm1 : ¬ (0 : Int32) ≤ -1 := by decide
theorem ep_m1neg : (-1 : Int32) < 0 := by decide
theorem ep_nn {x : Int32} : ¬ x < 0 ↔ 0 ≤ x := Int32.not_lt
end
section
/-! sums over naturals, reindexing -/
def ep_sum (f : Nat → Nat) : Nat → Nat
  | 0 => 0
  | n + 1 => ep_sum f n + f n
theorem ep_sum_c {f g : Nat → Nat} : ∀ {n : Nat}, (∀ i, i < n → f i = g i) → ep_sum f n = ep_sum g n := by
  intro n
  induction n with
  | zero => intro _; rfl
  | succ n ih =>
    intro h
    show ep_sum f n + f n = ep_sum g n + g n
    rw [ih (fun i hi => h i (by omega)), h n (by omega)]
theorem ep_sum_0 {f : Nat → Nat} : ∀ {n : Nat}, (∀ i, i < n → f i = 0) → ep_sum f n = 0 := by
  intro n
  induction n with
  | zero => intro _; rfl
  | succ n ih =>
    intro h
    show ep_sum f n + f n = 0
    rw [ih (fun i hi => h i (by omega)), h n (by omega)]
theorem ep_sum_le {f g : Nat → Nat} : ∀ {n : Nat}, (∀ i, i < n → f i ≤ g i) → ep_sum f n ≤ ep_sum g n := by
  intro n
  induction n with
  | zero => intro _; exact Nat.le_refl _
  | succ n ih =>
    intro h
    show ep_sum f n + f n ≤ ep_sum g n + g n
    have h1 := ih (fun i hi => h i (by omega))
    have h2 := h n (by omega)
    omega
theorem ep_sum_k (k : Nat) : ∀ n, ep_sum (fun _ => k) n = n * k := by
  intro n
  induction n with
  | zero => simp [ep_sum]
  | succ n ih =>
    show ep_sum _ n + k = _
    rw [ih, Nat.succ_mul]
theorem ep_sum_add (f g : Nat → Nat) : ∀ n, ep_sum (fun i => f i + g i) n = ep_sum f n + ep_sum g n := by
  intro n
  induction n with
  | zero => rfl
  | succ n ih =>
    show ep_sum _ n + (f n + g n) = (ep_sum f n + f n) + (ep_sum g n + g n)
    rw [ih]
    omega
theorem ep_sum_up {f : Nat → Nat} {i v : Nat} : ∀ {n : Nat}, i < n → ep_sum (ep_up f i v) n + f i = ep_sum f n + v := by
  intro n
  induction n with
  | zero => intro h; omega
  | succ n ih =>
    intro h
    show ep_sum (ep_up f i v) n + ep_up f i v n + f i = ep_sum f n + f n + v
    by_cases e : n = i
    · subst e
      rw [ep_us, ep_sum_c (g := f) (fun j hj => ep_un (by omega))]
      omega
    · rw [ep_un e]
      have := ih (by omega)
      omega
theorem ep_sum_sp (f : Nat → Nat) (a : Nat) : ∀ b, ep_sum f (a + b) = ep_sum f a + ep_sum (fun i => f (a + i)) b := by
  intro b
  induction b with
  | zero => rfl
  | succ b ih =>
    show ep_sum f (a + b) + f (a + b) = ep_sum f a + (ep_sum (fun i => f (a + i)) b + f (a + b))
    rw [ih]
    omega
theorem ep_sum_8 (f : Nat → Nat) : ∀ n, ep_sum f (n * 8) = ep_sum (fun e => ep_sum (fun l => f (e * 8 + l)) 8) n := by
  intro n
  induction n with
  | zero => rfl
  | succ n ih =>
    rw [Nat.succ_mul, ep_sum_sp, ih]
    rfl
theorem ep_sum_pos {f : Nat → Nat} {i : Nat} : ∀ {n : Nat}, i < n → f i ≤ ep_sum f n := by
  intro n
  induction n with
  | zero => intro h; omega
  | succ n ih =>
    intro h
    show f i ≤ ep_sum f n + f n
    by_cases e : i = n
    · subst e; omega
    · have := ih (by omega)
      omega
/-- reindexing: f lives on the image of s -/
theorem ep_re (s : Nat → Nat) (N : Nat) : ∀ (m : Nat) (f : Nat → Nat), (∀ i, i < m → s i < N) → (∀ i j, i < m → j < m → s i = s j → i = j) → (∀ e, e < N → (∀ i, i < m → s i ≠ e) → f e = 0) → ep_sum f N = ep_sum (fun i => f (s i)) m := by
  intro m
  induction m with
  | zero =>
    intro f _ _ h0
    exact ep_sum_0 (fun i hi => h0 i hi (fun j hj => by omega))
  | succ m ih =>
    intro f h1 h2 h0
    have e1 := ih (ep_up f (s m) 0) (fun i hi => h1 i (by omega)) (fun i j hi hj => h2 i j (by omega) (by omega)) (fun e he hn => by
      by_cases q : e = s m
      · rw [q, ep_us]
      · rw [ep_un q]
        refine h0 e he (fun i hi => ?_)
        by_cases q2 : i = m
        · rw [q2]; exact fun z => q z.symm
        · exact hn i (by omega))
    have e2 := ep_sum_up (f := f) (v := 0) (h1 m (by omega))
    have e3 : ep_sum (fun i => ep_up f (s m) 0 (s i)) m = ep_sum (fun i => f (s i)) m := ep_sum_c (fun i hi => ep_un (fun z => by
      have := h2 i m (by omega) (by omega) z
      omega))
    show ep_sum f N = ep_sum (fun i => f (s i)) m + f (s m)
    omega
theorem ep_all1 {f : Nat → Nat} {n : Nat} (h : ep_sum f n < n) : ∃ i, i < n ∧ f i = 0 := by
  refine Classical.byContradiction fun z => ?_
  have h1 : ep_sum (fun _ => 1) n ≤ ep_sum f n := ep_sum_le (fun i hi => by
    rcases Nat.eq_zero_or_pos (f i) with e | e
    · exact absurd ⟨i, hi, e⟩ z
    · exact e)
  rw [ep_sum_k] at h1
  omega
end
section
/-! the abstract epochs: (c, n) is live from h c to o c; V c n d: all epochs of d with a smaller number are before (c, n) -/
def ep_lv (h o : Nat → Nat) (c n : Nat) : Prop := c < 4 ∧ h c ≤ n ∧ n ≤ o c
def ep_IV (h o : Nat → Nat) (V : Nat → Nat → Nat → Nat) : Prop :=
  (∀ c, c < 4 → h c ≤ o c) ∧
  (∀ c n, ep_lv h o c n → V c n c = n) ∧
  (∀ c n d, ep_lv h o c n → d < 4 → V c n d ≤ o d + 1) ∧
  (∀ c n d m, ep_lv h o c n → ep_lv h o d m → m < V c n d → ∀ k, k < 4 → V d m k ≤ V c n k)
/-- marks: holders of one line are in a row; pending is written; no pending line beyond L -/
def ep_IM (L : Nat) (h o : Nat → Nat) (V : Nat → Nat → Nat → Nat) (mk : Nat → Nat → Nat → Bool) : Prop :=
  (∀ c n d m l, ep_lv h o c n → ep_lv h o d m → l < 8 → mk c n (16 + l) = true → mk d m (16 + l) = true → (c = d ∧ n = m) ∨ m < V c n d ∨ n < V d m c) ∧
  (∀ c n l, ep_lv h o c n → l < 8 → mk c n (16 + l) = true → mk c n (8 + l) = true) ∧
  (∀ c n j, ep_lv h o c n → 16 + L ≤ j → j < 32 → mk c n j = false)
section
variable {h o h1 : Nat → Nat} {V : Nat → Nat → Nat → Nat} {mk : Nat → Nat → Nat → Bool} {ct : Nat → Nat} {L : Nat}
theorem ep_lv_open (I : ep_IV h o V) {c : Nat} (hc : c < 4) : ep_lv h o c (o c) := ⟨hc, I.1 c hc, Nat.le_refl _⟩
theorem ep_lv_head (I : ep_IV h o V) {c : Nat} (hc : c < 4) : ep_lv h o c (h c) := ⟨hc, Nat.le_refl _, I.1 c hc⟩
theorem ep_asym (I : ep_IV h o V) {c n d m : Nat} (h1 : ep_lv h o c n) (h2 : ep_lv h o d m) (a : m < V c n d) (b : n < V d m c) : False := by
  have x := I.2.2.2 c n d m h1 h2 a c h1.1
  rw [I.2.1 c n h1] at x
  omega
/-- rows of one core grow -/
theorem ep_mono (I : ep_IV h o V) {c n m : Nat} (hn : ep_lv h o c n) (hm : ep_lv h o c m) (hle : n ≤ m) (k : Nat) (hk : k < 4) : V c n k ≤ V c m k := by
  by_cases e : n = m
  · subst e; exact Nat.le_refl _
  · exact I.2.2.2 c m c n hm hn (by rw [I.2.1 c m hm]; omega) k hk
/-! closing a set S of cores -/
def ep_co (o : Nat → Nat) (S : Nat → Bool) : Nat → Nat := fun c => if S c = true then o c + 1 else o c
def ep_cV (o : Nat → Nat) (V : Nat → Nat → Nat → Nat) (S : Nat → Bool) : Nat → Nat → Nat → Nat := fun c n d => if S c = true ∧ n = o c + 1 then (if d = c then o c + 1 else V c (o c) d) else V c n d
def ep_cm (o : Nat → Nat) (mk : Nat → Nat → Nat → Bool) (S : Nat → Bool) : Nat → Nat → Nat → Bool := fun c n j => if S c = true ∧ n = o c + 1 then false else mk c n j
def ep_one (c : Nat) : Nat → Bool := fun d => decide (d = c)
theorem ep_one_s {c : Nat} : ep_one c c = true := decide_eq_true rfl
theorem ep_one_n {c d : Nat} (hd : d ≠ c) : ep_one c d = false := decide_eq_false hd
theorem ep_co_1 {c : Nat} : ep_co o (ep_one c) c = o c + 1 := if_pos ep_one_s
theorem ep_co_n {c d : Nat} (hd : d ≠ c) : ep_co o (ep_one c) d = o d := if_neg (by rw [ep_one_n hd]; decide)
theorem ep_co_up {c : Nat} : ep_co o (ep_one c) = ep_up o c (o c + 1) := by
  funext d
  by_cases e : d = c
  · rw [e, ep_co_1, ep_us]
  · rw [ep_co_n e, ep_un e]
theorem ep_co_le {S : Nat → Bool} (c : Nat) : o c ≤ ep_co o S c ∧ ep_co o S c ≤ o c + 1 := by
  unfold ep_co
  split <;> omega
theorem ep_cV_o {S : Nat → Bool} {c n d : Nat} (hn : n ≤ o c) : ep_cV o V S c n d = V c n d := if_neg (fun z => by omega)
theorem ep_cV_f {S : Nat → Bool} {c n d : Nat} (hn : S c = false) : ep_cV o V S c n d = V c n d := if_neg (fun z => by rw [hn] at z; exact absurd z.1 (by decide))
theorem ep_cV_c {S : Nat → Bool} {c : Nat} (hs : S c = true) : ep_cV o V S c (o c + 1) c = o c + 1 := by
  unfold ep_cV
  rw [if_pos ⟨hs, rfl⟩, if_pos rfl]
theorem ep_cV_d {S : Nat → Bool} {c d : Nat} (hs : S c = true) (hd : d ≠ c) : ep_cV o V S c (o c + 1) d = V c (o c) d := by
  unfold ep_cV
  rw [if_pos ⟨hs, rfl⟩, if_neg hd]
theorem ep_cm_o {S : Nat → Bool} {c n d : Nat} (hn : n ≤ o c) : ep_cm o mk S c n d = mk c n d := if_neg (fun z => by omega)
theorem ep_cm_f {S : Nat → Bool} {c n d : Nat} (hn : S c = false) : ep_cm o mk S c n d = mk c n d := if_neg (fun z => by rw [hn] at z; exact absurd z.1 (by decide))
theorem ep_cm_n {S : Nat → Bool} {c d : Nat} (hs : S c = true) : ep_cm o mk S c (o c + 1) d = false := if_pos ⟨hs, rfl⟩
/-- a live epoch after a close: an old one or the new one -/
theorem ep_lv_co {S : Nat → Bool} {c n : Nat} (l : ep_lv h (ep_co o S) c n) : (ep_lv h o c n ∧ n ≤ o c) ∨ (S c = true ∧ n = o c + 1) := by
  obtain ⟨h1, h2, h3⟩ := l
  by_cases hs : S c = true
  · have e : ep_co o S c = o c + 1 := if_pos hs
    rw [e] at h3
    by_cases q : n = o c + 1
    · exact Or.inr ⟨hs, q⟩
    · exact Or.inl ⟨⟨h1, h2, by omega⟩, by omega⟩
  · have e : ep_co o S c = o c := if_neg hs
    rw [e] at h3
    exact Or.inl ⟨⟨h1, h2, h3⟩, h3⟩
theorem ep_lv_up {S : Nat → Bool} {c n : Nat} (l : ep_lv h o c n) : ep_lv h (ep_co o S) c n := ⟨l.1, l.2.1, Nat.le_trans l.2.2 (ep_co_le c).1⟩
theorem ep_IV_co (I : ep_IV h o V) {c : Nat} (hc : c < 4) : ep_IV h (ep_co o (ep_one c)) (ep_cV o V (ep_one c)) := by
  have lo : ep_lv h o c (o c) := ep_lv_open I hc
  have eo := I.2.1 c (o c) lo
  have ns : ∀ {d n : Nat}, ep_lv h (ep_co o (ep_one c)) d n → (ep_lv h o d n ∧ n ≤ o d) ∨ (d = c ∧ n = o c + 1) := by
    intro d n l
    rcases ep_lv_co l with z | z
    · exact Or.inl z
    · have : d = c := of_decide_eq_true z.1
      subst this
      exact Or.inr ⟨rfl, z.2⟩
  refine ⟨fun d hd => Nat.le_trans (I.1 d hd) (ep_co_le d).1, ?_, ?_, ?_⟩
  · intro d n l
    rcases ns l with z | z
    · rw [ep_cV_o z.2]; exact I.2.1 d n z.1
    · obtain ⟨rfl, rfl⟩ := z
      exact ep_cV_c ep_one_s
  · intro d n k l hk
    have hk1 := (ep_co_le (o := o) (S := ep_one c) k).1
    rcases ns l with z | z
    · rw [ep_cV_o z.2]
      have := I.2.2.1 d n k z.1 hk
      omega
    · obtain ⟨rfl, rfl⟩ := z
      by_cases e : k = d
      · subst e
        rw [ep_cV_c ep_one_s, ep_co_1]
        omega
      · rw [ep_cV_d ep_one_s e]
        have := I.2.2.1 d (o d) k lo hk
        omega
  · intro d n f m l1 l2 a k hk
    rcases ns l1 with z | z
    · rw [ep_cV_o z.2] at a ⊢
      rcases ns l2 with y | y
      · rw [ep_cV_o y.2]
        exact I.2.2.2 d n f m z.1 y.1 a k hk
      · obtain ⟨rfl, rfl⟩ := y
        have := I.2.2.1 d n f z.1 hc
        omega
    · obtain ⟨rfl, rfl⟩ := z
      rcases ns l2 with y | y
      · rw [ep_cV_o y.2]
        have key : ∀ q, q < 4 → V f m q ≤ V d (o d) q := by
          by_cases e : f = d
          · subst e
            intro q hq
            exact ep_mono I y.1 lo y.2 q hq
          · rw [ep_cV_d ep_one_s e] at a
            intro q hq
            exact I.2.2.2 d (o d) f m lo y.1 a q hq
        by_cases e2 : k = d
        · subst e2
          rw [ep_cV_c ep_one_s]
          have := key k hk
          omega
        · rw [ep_cV_d ep_one_s e2]
          exact key k hk
      · obtain ⟨rfl, rfl⟩ := y
        rw [ep_cV_c ep_one_s] at a
        omega
theorem ep_IM_co (J : ep_IM L h o V mk) {c : Nat} : ep_IM L h (ep_co o (ep_one c)) (ep_cV o V (ep_one c)) (ep_cm o mk (ep_one c)) := by
  refine ⟨?_, ?_, ?_⟩
  · intro d n f m l l1 l2 hl a b
    rcases ep_lv_co l1 with z | z
    · rcases ep_lv_co l2 with y | y
      · rw [ep_cm_o z.2] at a
        rw [ep_cm_o y.2] at b
        rw [ep_cV_o z.2, ep_cV_o y.2]
        exact J.1 d n f m l z.1 y.1 hl a b
      · rw [y.2, ep_cm_n y.1] at b
        exact absurd b (by decide)
    · rw [z.2, ep_cm_n z.1] at a
      exact absurd a (by decide)
  · intro d n l l1 hl a
    rcases ep_lv_co l1 with z | z
    · rw [ep_cm_o z.2] at a ⊢
      exact J.2.1 d n l z.1 hl a
    · rw [z.2, ep_cm_n z.1] at a
      exact absurd a (by decide)
  · intro d n j l1 h1 h2
    rcases ep_lv_co l1 with z | z
    · rw [ep_cm_o z.2]
      exact J.2.2 d n j z.1 h1 h2
    · rw [z.2, ep_cm_n z.1]
/-- two closes in a row: of a set, then of one more core -/
def ep_add (S : Nat → Bool) (c : Nat) : Nat → Bool := fun d => S d || decide (d = c)
theorem ep_add_s {S : Nat → Bool} {c : Nat} : ep_add S c c = true := by unfold ep_add; rw [decide_eq_true rfl, Bool.or_true]
theorem ep_add_n {S : Nat → Bool} {c d : Nat} (hd : d ≠ c) : ep_add S c d = S d := by unfold ep_add; rw [decide_eq_false hd, Bool.or_false]
theorem ep_co_f {S : Nat → Bool} {c : Nat} (hs : S c = false) : ep_co o S c = o c := if_neg (by rw [hs]; decide)
theorem ep_co_add {S : Nat → Bool} {c : Nat} (hs : S c = false) : ep_co (ep_co o S) (ep_one c) = ep_co o (ep_add S c) := by
  funext d
  by_cases e : d = c
  · subst e
    rw [ep_co_1, ep_co_f hs]
    exact (if_pos ep_add_s).symm
  · rw [ep_co_n e]
    unfold ep_co
    rw [ep_add_n e]
theorem ep_cV_add {S : Nat → Bool} {c : Nat} (hs : S c = false) : ep_cV (ep_co o S) (ep_cV o V S) (ep_one c) = ep_cV o V (ep_add S c) := by
  funext d n k
  by_cases e : d = c
  · subst e
    by_cases q : n = o d + 1
    · subst q
      have e1 : ep_co o S d + 1 = o d + 1 := by rw [ep_co_f hs]
      by_cases e2 : k = d
      · subst e2
        rw [ep_cV_c ep_add_s, ← e1]
        exact ep_cV_c ep_one_s
      · rw [ep_cV_d ep_add_s e2, ← e1, ep_cV_d ep_one_s e2, ep_co_f hs, ep_cV_f hs]
    · rw [show ep_cV (ep_co o S) (ep_cV o V S) (ep_one d) d n k = ep_cV o V S d n k from if_neg (fun z => q (by rw [z.2, ep_co_f hs])), ep_cV_f hs]
      exact (if_neg (fun z => q z.2)).symm
  · rw [ep_cV_f (ep_one_n e)]
    unfold ep_cV
    rw [ep_add_n e]
theorem ep_cm_add {S : Nat → Bool} {c : Nat} (hs : S c = false) : ep_cm (ep_co o S) (ep_cm o mk S) (ep_one c) = ep_cm o mk (ep_add S c) := by
  funext d n k
  by_cases e : d = c
  · subst e
    by_cases q : n = o d + 1
    · subst q
      have e1 : ep_co o S d + 1 = o d + 1 := by rw [ep_co_f hs]
      rw [ep_cm_n ep_add_s, ← e1]
      exact ep_cm_n ep_one_s
    · rw [show ep_cm (ep_co o S) (ep_cm o mk S) (ep_one d) d n k = ep_cm o mk S d n k from if_neg (fun z => q (by rw [z.2, ep_co_f hs])), ep_cm_f hs]
      exact (if_neg (fun z => q z.2)).symm
  · rw [ep_cm_f (ep_one_n e)]
    unfold ep_cm
    rw [ep_add_n e]
theorem ep_co_0 : ep_co o (fun _ => false) = o := by
  funext d
  exact if_neg Bool.false_ne_true
theorem ep_cV_0 : ep_cV o V (fun _ => false) = V := by
  funext d n k
  exact if_neg (fun z => absurd z.1 Bool.false_ne_true)
theorem ep_cm_0 : ep_cm o mk (fun _ => false) = mk := by
  funext d n k
  exact if_neg (fun z => absurd z.1 Bool.false_ne_true)
/-! raising: the cut is put before the newest epoch of c and all behind it -/
def ep_rV (c : Nat) (ct o : Nat → Nat) (V : Nat → Nat → Nat → Nat) : Nat → Nat → Nat → Nat := fun d n k => if (d = c ∧ n = o c) ∨ o c < V d n c then max (V d n k) (ct k) else V d n k
def ep_CD (h o : Nat → Nat) (V : Nat → Nat → Nat → Nat) (ct : Nat → Nat) : Prop :=
  (∀ d, d < 4 → ct d ≤ o d + 1) ∧ (∀ d m, ep_lv h o d m → m < ct d → ∀ k, k < 4 → V d m k ≤ ct k)
theorem ep_rV_ge {c d n k : Nat} : V d n k ≤ ep_rV c ct o V d n k := by
  unfold ep_rV
  split
  · exact Nat.le_max_left _ _
  · exact Nat.le_refl _
theorem ep_IV_rV (I : ep_IV h o V) (D : ep_CD h o V ct) {c : Nat} (hc : c < 4) (hcc : ct c ≤ o c) : ep_IV h o (ep_rV c ct o V) := by
  refine ⟨I.1, ?_, ?_, ?_⟩
  · intro d n l
    have e := I.2.1 d n l
    unfold ep_rV
    split
    · rename_i z
      have : ct d ≤ n := by
        rcases z with z | z
        · obtain ⟨rfl, rfl⟩ := z
          exact hcc
        · refine Nat.not_lt.mp (fun q => ?_)
          have := D.2 d n l q c hc
          omega
      omega
    · exact e
  · intro d n k l hk
    have e := I.2.2.1 d n k l hk
    have e2 := D.1 k hk
    unfold ep_rV
    split <;> omega
  · intro d n f m l1 l2 a k hk
    by_cases z : (d = c ∧ n = o c) ∨ o c < V d n c
    · have e1 : ∀ q, ep_rV c ct o V d n q = max (V d n q) (ct q) := fun q => if_pos z
      rw [e1] at a ⊢
      have h2 : V f m k ≤ max (V d n k) (ct k) := by
        by_cases y : m < V d n f
        · exact Nat.le_trans (I.2.2.2 d n f m l1 l2 y k hk) (Nat.le_max_left _ _)
        · have : m < ct f := by omega
          exact Nat.le_trans (D.2 f m l2 this k hk) (Nat.le_max_right _ _)
      unfold ep_rV
      split
      · exact Nat.max_le.mpr ⟨h2, Nat.le_max_right _ _⟩
      · exact h2
    · have e1 : ∀ q, ep_rV c ct o V d n q = V d n q := fun q => if_neg z
      rw [e1] at a ⊢
      have y : ¬ ((f = c ∧ m = o c) ∨ o c < V f m c) := by
        intro y
        apply z
        rcases y with y | y
        · obtain ⟨rfl, rfl⟩ := y
          exact Or.inr a
        · exact Or.inr (Nat.lt_of_lt_of_le y (I.2.2.2 d n f m l1 l2 a c hc))
      rw [show ep_rV c ct o V f m k = V f m k from if_neg y]
      exact I.2.2.2 d n f m l1 l2 a k hk
theorem ep_IM_rV (J : ep_IM L h o V mk) {c : Nat} : ep_IM L h o (ep_rV c ct o V) mk := by
  refine ⟨?_, J.2.1, J.2.2⟩
  intro d n f m l l1 l2 hl a b
  rcases J.1 d n f m l l1 l2 hl a b with z | z | z
  · exact Or.inl z
  · exact Or.inr (Or.inl (Nat.lt_of_lt_of_le z ep_rV_ge))
  · exact Or.inr (Or.inr (Nat.lt_of_lt_of_le z ep_rV_ge))
/-! the cut as a set: sources and all before them -/
def ep_G (h o : Nat → Nat) (V : Nat → Nat → Nat → Nat) (P : Nat → Nat → Prop) (ct : Nat → Nat) : Prop :=
  ∀ d, d < 4 → ∀ m, m < ct d ↔ ∃ c n, ep_lv h o c n ∧ P c n ∧ (m < V c n d ∨ (d = c ∧ m ≤ n))
theorem ep_G_CD (I : ep_IV h o V) {P : Nat → Nat → Prop} (G : ep_G h o V P ct) : ep_CD h o V ct := by
  constructor
  · intro d hd
    refine Nat.not_lt.mp (fun q => ?_)
    obtain ⟨c, n, l, _, z⟩ := (G d hd (o d + 1)).mp q
    rcases z with z | z
    · have := I.2.2.1 c n d l hd
      omega
    · obtain ⟨rfl, z⟩ := z
      have := l.2.2
      omega
  · intro d m l q k hk
    obtain ⟨c, n, lc, hp, z⟩ := (G d l.1 m).mp q
    have key : V d m k ≤ V c n k := by
      rcases z with z | z
      · exact I.2.2.2 c n d m lc l z k hk
      · obtain ⟨rfl, z⟩ := z
        exact ep_mono I l lc z k hk
    refine Nat.not_lt.mp (fun y => ?_)
    have := (G k hk (ct k)).mpr ⟨c, n, lc, hp, Or.inl (by omega)⟩
    omega
theorem ep_G_co (I : ep_IV h o V) {c : Nat} {P : Nat → Nat → Prop} (hP : ∀ n, ¬ P c n) (G : ep_G h o V P ct) : ep_G h (ep_co o (ep_one c)) (ep_cV o V (ep_one c)) P ct := by
  intro d hd m
  rw [G d hd m]
  constructor
  · rintro ⟨c', n, l, hp, z⟩
    have e : c' ≠ c := fun e => hP n (e ▸ hp)
    exact ⟨c', n, ep_lv_up l, hp, by rw [ep_cV_f (ep_one_n e)]; exact z⟩
  · rintro ⟨c', n, l, hp, z⟩
    have e : c' ≠ c := fun e => hP n (e ▸ hp)
    rw [ep_cV_f (ep_one_n e)] at z
    refine ⟨c', n, ⟨l.1, l.2.1, ?_⟩, hp, z⟩
    have := l.2.2
    rw [ep_co_n e] at this
    exact this
/-! dropping heads -/
theorem ep_lv_h {c n : Nat} (hh : ∀ c, c < 4 → h c ≤ h1 c) (l : ep_lv h1 o c n) : ep_lv h o c n := ⟨l.1, Nat.le_trans (hh c l.1) l.2.1, l.2.2⟩
theorem ep_IV_h (I : ep_IV h o V) (hh : ∀ c, c < 4 → h c ≤ h1 c) (ho : ∀ c, c < 4 → h1 c ≤ o c) : ep_IV h1 o V :=
  ⟨ho, fun c n l => I.2.1 c n (ep_lv_h hh l), fun c n d l hd => I.2.2.1 c n d (ep_lv_h hh l) hd, fun c n d m l1 l2 => I.2.2.2 c n d m (ep_lv_h hh l1) (ep_lv_h hh l2)⟩
theorem ep_IM_h (J : ep_IM L h o V mk) (hh : ∀ c, c < 4 → h c ≤ h1 c) : ep_IM L h1 o V mk :=
  ⟨fun c n d m l l1 l2 => J.1 c n d m l (ep_lv_h hh l1) (ep_lv_h hh l2), fun c n l l1 => J.2.1 c n l (ep_lv_h hh l1), fun c n j l1 => J.2.2 c n j (ep_lv_h hh l1)⟩
/-- marks of live epochs changed: fewer pending ones -/
theorem ep_IM_le {mk' : Nat → Nat → Nat → Bool} (J : ep_IM L h o V mk) (hm : ∀ c n j, ep_lv h o c n → 16 ≤ j → j < 32 → mk' c n j = true → mk c n j = true) (hw : ∀ c n l, ep_lv h o c n → l < 8 → mk c n (8 + l) = true → mk' c n (8 + l) = true) : ep_IM L h o V mk' := by
  refine ⟨?_, ?_, ?_⟩
  · intro c n d m l l1 l2 hl a b
    exact J.1 c n d m l l1 l2 hl (hm c n _ l1 (by omega) (by omega) a) (hm d m _ l2 (by omega) (by omega) b)
  · intro c n l l1 hl a
    exact hw c n l l1 hl (J.2.1 c n l l1 hl (hm c n _ l1 (by omega) (by omega) a))
  · intro c n j l1 h1 h2
    refine Bool.eq_false_iff.mpr (fun z => ?_)
    have := hm c n j l1 (by omega) h2 z
    rw [J.2.2 c n j l1 h1 h2] at this
    exact absurd this (by decide)
/-! the fixpoint of leaving -/
def ep_DC (h h1 : Nat → Nat) (V : Nat → Nat → Nat → Nat) (gd : Nat → Nat → Prop) : Prop :=
  ∀ c n, c < 4 → h c ≤ n → n < h1 c → gd c n ∧ ∀ d, d < 4 → V c n d ≤ h1 d
def ep_ST (h1 o : Nat → Nat) (V : Nat → Nat → Nat → Nat) (gd : Nat → Nat → Prop) : Prop :=
  ∀ c, c < 4 → h1 c < o c → gd c (h1 c) → ∃ d, d < 4 ∧ h1 d < V c (h1 c) d
theorem ep_all (I : ep_IV h o V) {gd T : Nat → Nat → Prop} (hh : ∀ c, c < 4 → h c ≤ h1 c) (ho : ∀ c, c < 4 → h1 c ≤ o c) (st : ep_ST h1 o V gd) (hT : ∀ c n, ep_lv h o c n → T c n → n < o c ∧ gd c n ∧ ∀ d m, ep_lv h o d m → m < V c n d → T d m) : ∀ (s c n : Nat), V c n 0 + V c n 1 + V c n 2 + V c n 3 < s → ep_lv h o c n → T c n → n < h1 c := by
  intro s
  induction s with
  | zero => intro c n hs; omega
  | succ s ih =>
    intro c n hs l t
    obtain ⟨t1, t2, t3⟩ := hT c n l t
    refine Classical.byContradiction fun q => ?_
    have ub : ∀ d, d < 4 → V c n d ≤ h1 d := by
      intro d hd
      refine Nat.not_lt.mp (fun y => ?_)
      have ld : ep_lv h o d (h1 d) := ⟨hd, hh d hd, ho d hd⟩
      have td := t3 d (h1 d) ld y
      have e := I.2.1 d (h1 d) ld
      have a0 := I.2.2.2 c n d (h1 d) l ld y 0 (by omega)
      have a1 := I.2.2.2 c n d (h1 d) l ld y 1 (by omega)
      have a2 := I.2.2.2 c n d (h1 d) l ld y 2 (by omega)
      have a3 := I.2.2.2 c n d (h1 d) l ld y 3 (by omega)
      have lt : V d (h1 d) 0 + V d (h1 d) 1 + V d (h1 d) 2 + V d (h1 d) 3 < V c n 0 + V c n 1 + V c n 2 + V c n 3 := by
        have q4 : d = 0 ∨ d = 1 ∨ d = 2 ∨ d = 3 := by omega
        rcases q4 with q4 | q4 | q4 | q4 <;> subst q4 <;> omega
      have := ih d (h1 d) (by omega) ld td
      omega
    have e := I.2.1 c n l
    have u := ub c l.1
    have e2 : n = h1 c := by omega
    subst e2
    obtain ⟨d, hd, x⟩ := st c l.1 t1 t2
    have := ub d hd
    omega
/-- the set T leaves -/
theorem ep_leave (I : ep_IV h o V) {gd T : Nat → Nat → Prop} (hh : ∀ c, c < 4 → h c ≤ h1 c) (ho : ∀ c, c < 4 → h1 c ≤ o c) (st : ep_ST h1 o V gd) (hT : ∀ c n, ep_lv h o c n → T c n → n < o c ∧ gd c n ∧ ∀ d m, ep_lv h o d m → m < V c n d → T d m) {c n : Nat} (l : ep_lv h o c n) (t : T c n) : n < h1 c :=
  ep_all I hh ho st hT _ c n (Nat.lt_succ_self _) l t
theorem ep_fix_le (I : ep_IV h o V) {gd : Nat → Nat → Prop} {h2 : Nat → Nat} (hh : ∀ c, c < 4 → h c ≤ h1 c) (ho : ∀ c, c < 4 → h1 c ≤ o c) (hh2 : ∀ c, c < 4 → h c ≤ h2 c) (ho2 : ∀ c, c < 4 → h2 c ≤ o c) (dc : ep_DC h h1 V gd) (st : ep_ST h2 o V gd) : ∀ c, c < 4 → h1 c ≤ h2 c := by
  intro c hc
  refine Nat.not_lt.mp (fun q => ?_)
  have := ep_leave (T := fun c n => n < h1 c) I hh2 ho2 st (fun c n l t => by
    refine ⟨Nat.lt_of_lt_of_le t (ho c l.1), (dc c n l.1 l.2.1 t).1, fun d m ld y => ?_⟩
    exact Nat.lt_of_lt_of_le y ((dc c n l.1 l.2.1 t).2 d ld.1)) (c := c) (n := h2 c) ⟨hc, hh2 c hc, ho2 c hc⟩ q
  omega
theorem ep_fix (I : ep_IV h o V) {gd : Nat → Nat → Prop} {h2 : Nat → Nat} (hh : ∀ c, c < 4 → h c ≤ h1 c) (ho : ∀ c, c < 4 → h1 c ≤ o c) (hh2 : ∀ c, c < 4 → h c ≤ h2 c) (ho2 : ∀ c, c < 4 → h2 c ≤ o c) (dc : ep_DC h h1 V gd) (st : ep_ST h1 o V gd) (dc2 : ep_DC h h2 V gd) (st2 : ep_ST h2 o V gd) : ∀ c, c < 4 → h1 c = h2 c := by
  intro c hc
  exact Nat.le_antisymm (ep_fix_le I hh ho hh2 ho2 dc st2 c hc) (ep_fix_le I hh2 ho2 hh ho dc2 st c hc)
end
end
section
/-! the component's arrays against the abstract epochs; small walks -/
def ep_XA (h o : Nat → Nat) (V : Nat → Nat → Nat → Nat) (mk : Nat → Nat → Nat → Bool) (pw : Nat → Nat → Nat → Int32) (w : Nat → Nat) (M vs : Nat → Int32) : Prop :=
  ∀ c n, ep_lv h o c n → (∀ d, d < 4 → w (ep_sl c n * 4 + d) = V c n d) ∧ (∀ j, j < 32 → bt (M (ep_sl c n)) j = mk c n j) ∧ (∀ l, l < 8 → mk c n (16 + l) = true → vs (ep_sl c n * 8 + l) = pw c n l)
def ep_XB (N : Nat) (h o w ct : Nat → Nat) : Prop := N < 100000 ∧ (∀ i, h i ≤ N) ∧ (∀ i, o i ≤ N) ∧ (∀ i, w i ≤ N + 1) ∧ (∀ i, ct i ≤ N + 1)
def ep_LB (h o : Nat → Nat) : Prop := ∀ c, c < 4 → o c ≤ h c + 8
theorem ep_in4 {s d N : Nat} (hs : s * 4 + d < N) (hN : N < 2 ^ 31 := by omega) : vp_in ((nI s * 4) + nI d) N := by rw [ep_i4]; exact vp_in_nI hs hN
theorem ep_in8 {s d N : Nat} (hs : s * 8 + d < N) (hN : N < 2 ^ 31 := by omega) : vp_in ((nI s * 8) + nI d) N := by rw [ep_i8]; exact vp_in_nI hs hN
theorem ep_in40 {s d N : Nat} (hs : s * 40 + d < N) (hN : N < 2 ^ 31 := by omega) : vp_in ((nI s * 40) + nI d) N := by rw [ep_i40]; exact vp_in_nI hs hN
theorem ep_cl4 {s d : Nat} (hs : s * 4 + d < 2 ^ 31) : ((nI s * 4) + nI d).toNatClampNeg = s * 4 + d := by rw [ep_i4]; exact nI_clamp hs
theorem ep_cl8 {s d : Nat} (hs : s * 8 + d < 2 ^ 31) : ((nI s * 8) + nI d).toNatClampNeg = s * 8 + d := by rw [ep_i8]; exact nI_clamp hs
theorem ep_cl40 {s d : Nat} (hs : s * 40 + d < 2 ^ 31) : ((nI s * 40) + nI d).toNatClampNeg = s * 40 + d := by rw [ep_i40]; exact nI_clamp hs
theorem ep_le {f g : Nat → Nat} {x y : Int32} {A B : Prop} (a b : Nat) (hx : x.toNatClampNeg = a) (hy : y.toNatClampNeg = b) (ha : f a < 2 ^ 31) (hb : g b < 2 ^ 31) (p : f a ≤ g b → A) (q : g b < f a → B) : (lN (f x.toNatClampNeg) ≤ lN (g y.toNatClampNeg) → A) ∧ (¬ lN (f x.toNatClampNeg) ≤ lN (g y.toNatClampNeg) → B) := by
  rw [hx, hy, lN_le ha hb]
  exact ⟨p, fun z => q (Nat.not_le.mp z)⟩
theorem ep_lt {f g : Nat → Nat} {x y : Int32} {A B : Prop} (a b : Nat) (hx : x.toNatClampNeg = a) (hy : y.toNatClampNeg = b) (ha : f a < 2 ^ 31) (hb : g b < 2 ^ 31) (p : f a < g b → A) (q : g b ≤ f a → B) : (lN (f x.toNatClampNeg) < lN (g y.toNatClampNeg) → A) ∧ (¬ lN (f x.toNatClampNeg) < lN (g y.toNatClampNeg) → B) := by
  rw [hx, hy, lN_lt ha hb]
  exact ⟨p, fun z => q (Nat.not_lt.mp z)⟩
theorem ep_sl_ne {h o : Nat → Nat} {c n d m : Nat} (l1 : ep_lv h o c n) (hm : h d ≤ m) (hm2 : m < h d + 16) (hn2 : c = d → n < h d + 16) (hne : ¬ (c = d ∧ n = m)) : ep_sl c n ≠ ep_sl d m := by
  intro e
  have e1 : c = d := by unfold ep_sl at e; omega
  subst e1
  have h3 := l1.2.1
  have := hn2 rfl
  exact hne (ep_sl_inj e (by omega) (by omega))
section
variable {L B E Q qh qc : Nat} {ch md ql qv : Nat → Int32} {h o b : Nat → Nat} {M vs : Nat → Int32} {w ct : Nat → Nat} {V : Nat → Nat → Nat → Nat} {mk : Nat → Nat → Nat → Bool} {pw : Nat → Nat → Nat → Int32}
theorem ep_slot_x {post : Int32 → Prop} {u : SX} (c n : Nat) (hc : c < 4) (hn : n < 2 ^ 31) (K : post (nI (ep_sl c n))) : wpX_slot post u (nI c) (lN n) := by
  obtain ⟨a1, a2, a3, a4, a5, a6, a7, a8, a9, a10, a11, a12, a13, a14, a15, a16, a17, a18, a19⟩ := u
  unfold wpX_slot
  dsimp only
  rw [ep_slot hc hn]
  exact K
theorem ep_vc_x {post : Int32 → Prop} {u : SX} (c : Nat) (hc : c < 4) (K : post 1) : wpX_validCore post u (nI c) := by
  obtain ⟨a1, a2, a3, a4, a5, a6, a7, a8, a9, a10, a11, a12, a13, a14, a15, a16, a17, a18, a19⟩ := u
  exact br_f (nI_pos (by omega)) (br_f (nI_ge (b := 4) hc (by decide)) K)
theorem ep_vcb_x {post : Int32 → Prop} {u : SX} {x : Int32} (hx : x < 0 ∨ nI 4 ≤ x) (K : post 0) : wpX_validCore post u x := by
  obtain ⟨a1, a2, a3, a4, a5, a6, a7, a8, a9, a10, a11, a12, a13, a14, a15, a16, a17, a18, a19⟩ := u
  by_cases h0 : x < 0
  · exact br_t h0 K
  · rcases hx with hx | hx
    · exact absurd hx h0
    · exact br_f h0 (br_t hx K)
theorem ep_vl_x {post : Int32 → Prop} (l : Nat) (hl : l < L) (hL : L ≤ 8) (K : post 1) : wpX_validLine post (4, 64, (nI L), (nI B), (nI E), (nI Q), (nI qh), (nI qc), ch, md, ql, qv, (fun x_ => lN (h x_)), (fun x_ => lN (o x_)), (fun x_ => nI (b x_)), M, vs, (fun x_ => lN (w x_)), (fun x_ => lN (ct x_))) (nI l) :=
  br_f (nI_pos (by omega)) (br_f (nI_ge (b := L) hl (by omega)) K)
theorem ep_vlb_x {post : Int32 → Prop} {x : Int32} (hx : x < 0 ∨ nI L ≤ x) (K : post 0) : wpX_validLine post (4, 64, (nI L), (nI B), (nI E), (nI Q), (nI qh), (nI qc), ch, md, ql, qv, (fun x_ => lN (h x_)), (fun x_ => lN (o x_)), (fun x_ => nI (b x_)), M, vs, (fun x_ => lN (w x_)), (fun x_ => lN (ct x_))) x := by
  by_cases h0 : x < 0
  · exact br_t h0 K
  · rcases hx with hx | hx
    · exact absurd hx h0
    · exact br_f h0 (br_t hx K)
theorem ep_live_x {post : Int32 → Prop} (c : Nat) (hc : c < 4) (ho : h c ≤ o c) (K : post (nI (o c - h c + 1))) : wpX_liveCount post (4, 64, (nI L), (nI B), (nI E), (nI Q), (nI qh), (nI qc), ch, md, ql, qv, (fun x_ => lN (h x_)), (fun x_ => lN (o x_)), (fun x_ => nI (b x_)), M, vs, (fun x_ => lN (w x_)), (fun x_ => lN (ct x_))) (nI c) := by
  unfold wpX_liveCount
  dsimp only
  rw [nI_clamp (show c < 2 ^ 31 by omega), lN_sub ho, lN_i, nI_1]
  exact ⟨vp_in_nI hc (by decide), vp_in_nI hc (by decide), K⟩
/-- the newest marked number from a to below b, or -1 -/
def ep_nw (a b : Nat) (P : Nat → Prop) (r : Int64) : Prop :=
  (r = -1 ∧ ∀ m, a ≤ m → m < b → ¬ P m) ∨ (∃ m, r = lN m ∧ a ≤ m ∧ m < b ∧ P m ∧ ∀ m', m < m' → m' < b → ¬ P m')
theorem ep_nw_f {a b : Nat} {P : Nat → Prop} {r : Int64} (H : ep_nw a b P r) (hp : ¬ P b) : ep_nw a (b + 1) P r := by
  rcases H with ⟨e, H⟩ | ⟨m, e, h1, h2, h3, h4⟩
  · refine Or.inl ⟨e, fun m q1 q2 => ?_⟩
    by_cases z : m = b
    · rw [z]; exact hp
    · exact H m q1 (by omega)
  · refine Or.inr ⟨m, e, h1, by omega, h3, fun m' q1 q2 => ?_⟩
    by_cases z : m' = b
    · rw [z]; exact hp
    · exact h4 m' q1 (by omega)
theorem ep_nw_t {a b : Nat} {P : Nat → Prop} (hab : a ≤ b) (hp : P b) : ep_nw a (b + 1) P (lN b) :=
  Or.inr ⟨b, rfl, hab, by omega, hp, fun m' q1 q2 => by omega⟩
theorem ep_newest_x {post : Int64 → Prop} {N : Nat} (c : Nat) (mask : Int32) (P : Nat → Prop) (hc : c < 4) (ho : h c ≤ o c) (hb : ep_XB N h o w ct) (hP : ∀ n, h c ≤ n → n ≤ o c → (¬ (M (ep_sl c n)) &&& mask = 0 ↔ P n)) (K : ∀ r, ep_nw (h c) (o c + 1) P r → post r) : wpX_newestMarked post (4, 64, (nI L), (nI B), (nI E), (nI Q), (nI qh), (nI qc), ch, md, ql, qv, (fun x_ => lN (h x_)), (fun x_ => lN (o x_)), (fun x_ => nI (b x_)), M, vs, (fun x_ => lN (w x_)), (fun x_ => lN (ct x_))) (nI c) mask := by
  have hN := hb.1
  have hoN := hb.2.2.1 c
  unfold wpX_newestMarked
  dsimp only
  refine ep_live_x c hc ho ?_
  refine loop_0 (fun n i r => wX_newestMarked_14 post (nI c) mask (nI (o c - h c + 1)) 4 64 (nI L) (nI B) (nI E) (nI Q) (nI qh) (nI qc) ch md ql qv (fun x_ => lN (h x_)) (fun x_ => lN (o x_)) (fun x_ => nI (b x_)) M vs (fun x_ => lN (w x_)) (fun x_ => lN (ct x_)) n r (nI i)) (fun i r => ep_nw (h c) (h c + i) P r) (o c - h c + 1) (-1) ?_ ?_ ?_
  · exact Or.inl ⟨rfl, fun m q1 q2 => by omega⟩
  · intro n r H
    refine br_t (nI_le (Nat.le_refl _) (by omega)) (K r ?_)
    rw [show h c + (o c - h c + 1) = o c + 1 from by omega] at H
    exact H
  · intro n i r hi H next
    refine br_f (nI_ge hi (by omega)) ⟨vp_in_nI hc (by decide), nm_r (e' := lN (h c + i)) ?_ ?_⟩
    · dsimp only
      rw [nI_clamp (by omega), nI_l (by omega), lN_add]
    · refine ep_slot_x c (h c + i) hc (by omega) ⟨vp_in_nI (ep_sl_lt hc) (by decide), ?_⟩
      have hs : ep_sl c (h c + i) < 64 := ep_sl_lt hc
      rw [nI_clamp (show ep_sl c (h c + i) < 2 ^ 31 by omega)]
      refine br_c (fun z => nm_r (nI_1 i) (next r ?_)) (fun z => nm_r (nI_1 i) (next _ ?_))
      · exact ep_nw_f (b := h c + i) H (fun q => (hP (h c + i) (by omega) (by omega)).mpr q z)
      · exact ep_nw_t (b := h c + i) (by omega) ((hP (h c + i) (by omega) (by omega)).mp z)
theorem ep_clear_x {post : SX → Prop} (K : ∀ ct' : Nat → Nat, (∀ d, d < 4 → ct' d = 0) → (∀ d, 4 ≤ d → ct' d = ct d) → post (4, 64, (nI L), (nI B), (nI E), (nI Q), (nI qh), (nI qc), ch, md, ql, qv, (fun x_ => lN (h x_)), (fun x_ => lN (o x_)), (fun x_ => nI (b x_)), M, vs, (fun x_ => lN (w x_)), (fun x_ => lN (ct' x_)))) : wpX_clearCut post (4, 64, (nI L), (nI B), (nI E), (nI Q), (nI qh), (nI qc), ch, md, ql, qv, (fun x_ => lN (h x_)), (fun x_ => lN (o x_)), (fun x_ => nI (b x_)), M, vs, (fun x_ => lN (w x_)), (fun x_ => lN (ct x_))) := by
  unfold wpX_clearCut
  dsimp only
  refine loop_0 (fun n i (ct' : Nat → Nat) => wX_clearCut_2 post 4 64 (nI L) (nI B) (nI E) (nI Q) (nI qh) (nI qc) n (nI i) ch md ql qv (fun x_ => lN (h x_)) (fun x_ => lN (o x_)) (fun x_ => nI (b x_)) M vs (fun x_ => lN (w x_)) (fun x_ => lN (ct' x_))) (fun i ct' => (∀ d, d < i → ct' d = 0) ∧ (∀ d, 4 ≤ d → ct' d = ct d)) 4 ct ?_ ?_ ?_
  · exact ⟨fun d hd => by omega, fun d _ => rfl⟩
  · intro n ct' H
    exact br_t (nI_le (Nat.le_refl 4) (by decide)) (K ct' H.1 H.2)
  · intro n i ct' hi H next
    refine br_f (nI_ge (b := 4) hi (by decide)) ⟨vp_in_nI hi (by decide), nm_r (e' := fun c => lN (ep_up ct' i 0 c)) ?_ (nm_r (nI_1 i) (next (ep_up ct' i 0) ?_))⟩
    · rw [nI_clamp (by omega)]
      exact ep_uL ct' i 0
    · refine ⟨fun d hd => ?_, fun d hd => ?_⟩
      · by_cases z : d = i
        · rw [z, ep_us]
        · rw [ep_un z]; exact H.1 d (by omega)
      · rw [ep_un (by omega)]; exact H.2 d hd
theorem ep_cutB_x {post : SX → Prop} {N : Nat} (s : Nat) (hs : s < 64) (hb : ep_XB N h o w ct) (K : ∀ ct' : Nat → Nat, (∀ d, d < 4 → ct' d = w (s * 4 + d)) → ep_XB N h o w ct' → post (4, 64, (nI L), (nI B), (nI E), (nI Q), (nI qh), (nI qc), ch, md, ql, qv, (fun x_ => lN (h x_)), (fun x_ => lN (o x_)), (fun x_ => nI (b x_)), M, vs, (fun x_ => lN (w x_)), (fun x_ => lN (ct' x_)))) : wpX_cutBefore post (4, 64, (nI L), (nI B), (nI E), (nI Q), (nI qh), (nI qc), ch, md, ql, qv, (fun x_ => lN (h x_)), (fun x_ => lN (o x_)), (fun x_ => nI (b x_)), M, vs, (fun x_ => lN (w x_)), (fun x_ => lN (ct x_))) (nI s) := by
  unfold wpX_cutBefore
  dsimp only
  refine loop_0 (fun n i (ct' : Nat → Nat) => wX_cutBefore_2 post (nI s) 4 64 (nI L) (nI B) (nI E) (nI Q) (nI qh) (nI qc) n (nI i) ch md ql qv (fun x_ => lN (h x_)) (fun x_ => lN (o x_)) (fun x_ => nI (b x_)) M vs (fun x_ => lN (w x_)) (fun x_ => lN (ct' x_))) (fun i ct' => (∀ d, d < i → ct' d = w (s * 4 + d)) ∧ (∀ d, ct' d ≤ N + 1)) 4 ct ?_ ?_ ?_
  · exact ⟨fun d hd => by omega, hb.2.2.2.2⟩
  · intro n ct' H
    exact br_t (nI_le (Nat.le_refl 4) (by decide)) (K ct' H.1 ⟨hb.1, hb.2.1, hb.2.2.1, hb.2.2.2.1, H.2⟩)
  · intro n i ct' hi H next
    refine br_f (nI_ge (b := 4) hi (by decide)) ⟨ep_in4 (by omega), vp_in_nI hi (by decide), nm_r (e' := fun c => lN (ep_up ct' i (w (s * 4 + i)) c)) ?_ (nm_r (nI_1 i) (next (ep_up ct' i (w (s * 4 + i))) ?_))⟩
    · rw [nI_clamp (by omega), ep_cl4 (by omega)]
      exact ep_uL ct' i _
    · refine ⟨fun d hd => ?_, fun d => ?_⟩
      · by_cases z : d = i
        · rw [z, ep_us]
        · rw [ep_un z]; exact H.1 d (by omega)
      · by_cases z : d = i
        · rw [z, ep_us]; exact hb.2.2.2.1 _
        · rw [ep_un z]; exact H.2 d
end
end
section
/-! joinSource, gatherSources, closeOpen, raise -/
section
variable {L B E Q qh qc : Nat} {ch md ql qv : Nat → Int32} {h o b : Nat → Nat} {M vs : Nat → Int32} {w ct : Nat → Nat} {V : Nat → Nat → Nat → Nat} {mk : Nat → Nat → Nat → Bool} {pw : Nat → Nat → Nat → Int32}
theorem ep_joinS_x {post : SX → Prop} {N : Nat} (c n : Nat) (hc : c < 4) (hn : n ≤ N) (hb : ep_XB N h o w ct) (K : ∀ ct' : Nat → Nat, (∀ d, d < 4 → ct' d = max (max (ct d) (w (ep_sl c n * 4 + d))) (if d = c then n + 1 else 0)) → ep_XB N h o w ct' → post (4, 64, (nI L), (nI B), (nI E), (nI Q), (nI qh), (nI qc), ch, md, ql, qv, (fun x_ => lN (h x_)), (fun x_ => lN (o x_)), (fun x_ => nI (b x_)), M, vs, (fun x_ => lN (w x_)), (fun x_ => lN (ct' x_)))) : wpX_joinSource post (4, 64, (nI L), (nI B), (nI E), (nI Q), (nI qh), (nI qc), ch, md, ql, qv, (fun x_ => lN (h x_)), (fun x_ => lN (o x_)), (fun x_ => nI (b x_)), M, vs, (fun x_ => lN (w x_)), (fun x_ => lN (ct x_))) (nI c) (lN n) := by
  have hN := hb.1
  unfold wpX_joinSource
  dsimp only
  have hs : ep_sl c n < 64 := ep_sl_lt hc
  refine ep_slot_x c n hc (by omega) ?_
  generalize ep_sl c n = s at *
  refine loop_0 (fun k i (ct' : Nat → Nat) => wX_joinSource_11 post (nI c) (lN n) (nI s) 4 64 (nI L) (nI B) (nI E) (nI Q) (nI qh) (nI qc) k (nI i) ch md ql qv (fun x_ => lN (h x_)) (fun x_ => lN (o x_)) (fun x_ => nI (b x_)) M vs (fun x_ => lN (w x_)) (fun x_ => lN (ct' x_))) (fun i ct' => (∀ d, d < i → ct' d = max (ct d) (w (s * 4 + d))) ∧ (∀ d, i ≤ d → ct' d = ct d)) 4 ct ?_ ?_ ?_
  · exact ⟨fun d hd => by omega, fun d _ => rfl⟩
  · intro k ct' H
    have hct : ∀ d, ct' d ≤ N + 1 := by
      intro d
      have h1 := hb.2.2.2.2 d
      have h2 := hb.2.2.2.1 (s * 4 + d)
      by_cases z : d < 4
      · rw [H.1 d z]; omega
      · rw [H.2 d (by omega)]; omega
    have h0 := hct c
    refine br_t (nI_le (Nat.le_refl 4) (by decide)) ⟨vp_in_nI hc (by decide), ?_⟩
    refine ek_if (d := n < ct' c) ?_ (fun q => K ct' ?_ ⟨hb.1, hb.2.1, hb.2.2.1, hb.2.2.2.1, hct⟩) (fun q => ⟨vp_in_nI hc (by decide), nm_r (e' := fun i => lN (ep_up ct' c (n + 1) i)) ?_ (K (ep_up ct' c (n + 1)) ?_ ⟨hb.1, hb.2.1, hb.2.2.1, hb.2.2.2.1, ?_⟩)⟩)
    · dsimp only
      rw [nI_clamp (by omega)]
      exact lN_lt (by omega) (by omega)
    · intro d hd
      rw [H.1 d hd] at *
      by_cases z : d = c
      · subst z
        rw [H.1 d hd] at q
        rw [if_pos rfl]
        omega
      · rw [if_neg z]; omega
    · rw [nI_clamp (by omega), lN_1]
      exact ep_uL ct' c _
    · intro d hd
      by_cases z : d = c
      · subst z
        rw [H.1 d hd] at q
        rw [ep_us, if_pos rfl]
        omega
      · rw [ep_un z, if_neg z, H.1 d hd]; omega
    · intro d
      by_cases z : d = c
      · rw [z, ep_us]; omega
      · rw [ep_un z]; exact hct d
  · intro k i ct' hi H next
    have h1 := hb.2.2.2.2 i
    have h2 := hb.2.2.2.1 (s * 4 + i)
    have e := H.2 i (Nat.le_refl _)
    refine br_f (nI_ge (b := 4) hi (by decide)) ⟨ep_in4 (by omega), vp_in_nI hi (by decide), ?_⟩
    refine ep_le (f := w) (g := ct') (s * 4 + i) i (ep_cl4 (by omega)) (nI_clamp (by omega)) (by omega) (by omega) (fun q => nm_r (nI_1 i) (next ct' ⟨fun d hd => ?_, fun d hd => H.2 d (by omega)⟩)) (fun q => ⟨ep_in4 (by omega), vp_in_nI hi (by decide), nm_r (e' := fun c => lN (ep_up ct' i (w (s * 4 + i)) c)) ?_ (nm_r (nI_1 i) (next (ep_up ct' i (w (s * 4 + i))) ⟨fun d hd => ?_, fun d hd => ?_⟩))⟩)
    · by_cases z : d = i
      · rw [z]; omega
      · exact H.1 d (by omega)
    · rw [nI_clamp (by omega), ep_cl4 (by omega)]
      exact ep_uL ct' i _
    · by_cases z : d = i
      · rw [z, ep_us]; omega
      · rw [ep_un z]; exact H.1 d (by omega)
    · rw [ep_un (by omega)]; exact H.2 d (by omega)
theorem ep_G_skip {P : Nat → Nat → Prop} {i : Nat} (G : ep_G h o V (fun c n => c < i ∧ P c n) ct) (hs : ∀ n, ep_lv h o i n → ¬ P i n) : ep_G h o V (fun c n => c < i + 1 ∧ P c n) ct := by
  intro d hd m
  rw [G d hd m]
  constructor
  · rintro ⟨c, n, l, hp, z⟩
    exact ⟨c, n, l, ⟨by omega, hp.2⟩, z⟩
  · rintro ⟨c, n, l, hp, z⟩
    refine ⟨c, n, l, ⟨?_, hp.2⟩, z⟩
    have : c ≠ i := fun e => hs n (e ▸ l) (e ▸ hp.2)
    omega
theorem ep_G_join {P : Nat → Nat → Prop} {i n : Nat} {ct' : Nat → Nat} (I : ep_IV h o V) (G : ep_G h o V (fun c n => c < i ∧ P c n) ct) (l : ep_lv h o i n) (hp : P i n) (hn : ∀ m, n < m → m < o i + 1 → ¬ P i m) (e : ∀ d, d < 4 → ct' d = max (max (ct d) (V i n d)) (if d = i then n + 1 else 0)) : ep_G h o V (fun c n => c < i + 1 ∧ P c n) ct' := by
  intro d hd m
  have key : m < ct' d ↔ m < ct d ∨ m < V i n d ∨ (d = i ∧ m ≤ n) := by
    rw [e d hd]
    by_cases z : d = i
    · rw [if_pos z]
      constructor
      · intro q
        by_cases q1 : m < ct d
        · exact Or.inl q1
        · by_cases q2 : m < V i n d
          · exact Or.inr (Or.inl q2)
          · exact Or.inr (Or.inr ⟨z, by omega⟩)
      · omega
    · rw [if_neg z]
      constructor
      · intro q
        by_cases q1 : m < ct d
        · exact Or.inl q1
        · exact Or.inr (Or.inl (by omega))
      · omega
  rw [key, G d hd m]
  constructor
  · rintro (⟨c, k, lc, hc, z⟩ | z)
    · exact ⟨c, k, lc, ⟨by omega, hc.2⟩, z⟩
    · exact ⟨i, n, l, ⟨by omega, hp⟩, z⟩
  · rintro ⟨c, k, lc, hc, z⟩
    by_cases q : c = i
    · subst q
      have kn : k ≤ n := Nat.not_lt.mp (fun y => hn k y (Nat.lt_succ_of_le lc.2.2) hc.2)
      have := ep_mono I lc l kn d hd
      refine Or.inr ?_
      rcases z with z | z
      · exact Or.inl (by omega)
      · exact Or.inr ⟨z.1, by omega⟩
    · exact Or.inl ⟨c, k, lc, ⟨by omega, hc.2⟩, z⟩
theorem ep_gather_x {post : SX → Prop} {N : Nat} (c : Nat) (mask : Int32) (P : Nat → Nat → Prop) (hc : c < 4) (I : ep_IV h o V) (A : ep_XA h o V mk pw w M vs) (hb : ep_XB N h o w ct) (hP : ∀ d n, ep_lv h o d n → (¬ (M (ep_sl d n)) &&& mask = 0 ↔ P d n)) (K : ∀ ct' : Nat → Nat, ep_G h o V (fun d n => d ≠ c ∧ P d n) ct' → ep_XB N h o w ct' → post (4, 64, (nI L), (nI B), (nI E), (nI Q), (nI qh), (nI qc), ch, md, ql, qv, (fun x_ => lN (h x_)), (fun x_ => lN (o x_)), (fun x_ => nI (b x_)), M, vs, (fun x_ => lN (w x_)), (fun x_ => lN (ct' x_)))) : wpX_gatherSources post (4, 64, (nI L), (nI B), (nI E), (nI Q), (nI qh), (nI qc), ch, md, ql, qv, (fun x_ => lN (h x_)), (fun x_ => lN (o x_)), (fun x_ => nI (b x_)), M, vs, (fun x_ => lN (w x_)), (fun x_ => lN (ct x_))) (nI c) mask := by
  have hN := hb.1
  unfold wpX_gatherSources
  dsimp only
  refine ep_clear_x (fun ct0 z0 z1 => ?_)
  dsimp only
  have hb0 : ep_XB N h o w ct0 := ⟨hb.1, hb.2.1, hb.2.2.1, hb.2.2.2.1, fun d => by
    by_cases z : d < 4
    · rw [z0 d z]; omega
    · rw [z1 d (by omega)]; exact hb.2.2.2.2 d⟩
  refine loop_0 (fun k i (ct' : Nat → Nat) => wX_gatherSources_6 post (nI c) mask k (nI i) 4 64 (nI L) (nI B) (nI E) (nI Q) (nI qh) (nI qc) ch md ql qv (fun x_ => lN (h x_)) (fun x_ => lN (o x_)) (fun x_ => nI (b x_)) M vs (fun x_ => lN (w x_)) (fun x_ => lN (ct' x_))) (fun i ct' => ep_G h o V (fun d n => d < i ∧ (d ≠ c ∧ P d n)) ct' ∧ ep_XB N h o w ct') 4 ct0 ?_ ?_ ?_
  · refine ⟨fun d hd m => ?_, hb0⟩
    rw [z0 d hd]
    constructor
    · intro q; omega
    · rintro ⟨c', n, l, hp, _⟩
      omega
  · intro k ct' H
    refine br_t (nI_le (Nat.le_refl 4) (by decide)) (K ct' ?_ H.2)
    intro d hd m
    rw [H.1 d hd m]
    constructor
    · rintro ⟨c', n, l, hp, z⟩
      exact ⟨c', n, l, hp.2, z⟩
    · rintro ⟨c', n, l, hp, z⟩
      exact ⟨c', n, l, ⟨l.1, hp⟩, z⟩
  · intro k i ct' hi H next
    refine br_f (nI_ge (b := 4) hi (by decide)) ?_
    refine ek_if (nI_eq (by omega) (by omega)) (fun q => nm_r (nI_1 i) (next ct' ⟨ep_G_skip H.1 (fun n l hp => hp.1 q), H.2⟩)) (fun q => ?_)
    refine ep_newest_x i mask (fun n => P i n) hi (I.1 i hi) H.2 (fun n h1 h2 => hP i n ⟨hi, h1, h2⟩) (fun r hr => ?_)
    rcases hr with ⟨rfl, hr⟩ | ⟨n, rfl, h1, h2, h3, h4⟩
    · exact br_t (by decide) (nm_r (nI_1 i) (next ct' ⟨ep_G_skip H.1 (fun n l hp => hr n l.2.1 (Nat.lt_succ_of_le l.2.2) hp.2), H.2⟩))
    · have hoN := hb.2.2.1 i
      have ln : ep_lv h o i n := ⟨hi, h1, by omega⟩
      refine br_f (by rw [ep_l0, lN_lt (by omega) (by omega)]; omega) (ep_joinS_x i n hi (by omega) H.2 (fun ct2 e2 hb2 => nm_r (nI_1 i) (next ct2 ⟨?_, hb2⟩)))
      refine ep_G_join I H.1 ln ⟨q, h3⟩ (fun m y1 y2 y3 => h4 m y1 y2 y3.2) (fun d hd => ?_)
      rw [e2 d hd, (A i n ln).1 d hd]
theorem ep_close44_x {post : SX → Prop} {N : Nat} (c s f : Nat) (hc : c < 4) (hs : s < 64) (hf : f < 64) (hne : s ≠ f) (hb : ep_XB N h o w ct) (K : ∀ w' : Nat → Nat, (∀ j, (j < f * 4 ∨ f * 4 + 4 ≤ j) → w' j = w j) → (∀ d, d < 4 → w' (f * 4 + d) = if d = c then o c else w (s * 4 + d)) → ep_XB N h o w' ct → post (4, 64, (nI L), (nI B), (nI E), (nI Q), (nI qh), (nI qc), ch, md, ql, qv, (fun x_ => lN (h x_)), (fun x_ => lN (o x_)), (fun x_ => nI (b x_)), M, vs, (fun x_ => lN (w' x_)), (fun x_ => lN (ct x_)))) : ∃ n, wX_closeOpen_44 post (nI c) (nI s) (nI f) 4 64 (nI L) (nI B) (nI E) (nI Q) (nI qh) (nI qc) n 0 ch md ql qv (fun x_ => lN (h x_)) (fun x_ => lN (o x_)) (fun x_ => nI (b x_)) M vs (fun x_ => lN (w x_)) (fun x_ => lN (ct x_)) := by
  refine loop_0 (fun k i (w' : Nat → Nat) => wX_closeOpen_44 post (nI c) (nI s) (nI f) 4 64 (nI L) (nI B) (nI E) (nI Q) (nI qh) (nI qc) k (nI i) ch md ql qv (fun x_ => lN (h x_)) (fun x_ => lN (o x_)) (fun x_ => nI (b x_)) M vs (fun x_ => lN (w' x_)) (fun x_ => lN (ct x_))) (fun i w' => (∀ j, (j < f * 4 ∨ f * 4 + 4 ≤ j) → w' j = w j) ∧ (∀ d, d < i → w' (f * 4 + d) = w (s * 4 + d)) ∧ (∀ j, w' j ≤ N + 1)) 4 w ?_ ?_ ?_
  · exact ⟨fun j _ => rfl, fun d hd => by omega, hb.2.2.2.1⟩
  · intro k w' H
    refine br_t (nI_le (Nat.le_refl 4) (by decide)) ⟨vp_in_nI hc (by decide), ep_in4 (by omega), nm_r (e' := fun i => lN (ep_up w' (f * 4 + c) (o c) i)) ?_ (K (ep_up w' (f * 4 + c) (o c)) ?_ ?_ ⟨hb.1, hb.2.1, hb.2.2.1, ?_, hb.2.2.2.2⟩)⟩
    · rw [nI_clamp (by omega), ep_cl4 (by omega)]
      exact ep_uL w' _ _
    · intro j hj
      rw [ep_un (by omega)]
      exact H.1 j hj
    · intro d hd
      by_cases z : d = c
      · rw [if_pos z, z, ep_us]
      · rw [if_neg z, ep_un (by omega)]
        exact H.2.1 d hd
    · intro j
      by_cases z : j = f * 4 + c
      · rw [z, ep_us]
        have := hb.2.2.1 c
        omega
      · rw [ep_un z]; exact H.2.2 j
  · intro k i w' hi H next
    refine br_f (nI_ge (b := 4) hi (by decide)) ⟨ep_in4 (by omega), ep_in4 (by omega), nm_r (e' := fun j => lN (ep_up w' (f * 4 + i) (w' (s * 4 + i)) j)) ?_ (nm_r (nI_1 i) (next (ep_up w' (f * 4 + i) (w' (s * 4 + i))) ⟨?_, ?_, ?_⟩))⟩
    · rw [ep_cl4 (by omega), ep_cl4 (by omega)]
      exact ep_uL w' _ _
    · intro j hj
      rw [ep_un (by omega)]
      exact H.1 j hj
    · intro d hd
      by_cases z : d = i
      · rw [z, ep_us]
        exact H.1 _ (by omega)
      · rw [ep_un (by omega)]
        exact H.2.1 d (by omega)
    · intro j
      by_cases z : j = f * 4 + i
      · rw [z, ep_us]; exact H.2.2 _
      · rw [ep_un z]; exact H.2.2 j
theorem ep_close_x {post : SX → Prop} {N : Nat} (c : Nat) (hc : c < 4) (I : ep_IV h o V) (A : ep_XA h o V mk pw w M vs) (lb : ep_LB h o) (hb : ep_XB N h o w ct) (hN : N + 1 < 100000) (K : ∀ (w' : Nat → Nat) (M' : Nat → Int32), ep_XA h (ep_co o (ep_one c)) (ep_cV o V (ep_one c)) (ep_cm o mk (ep_one c)) pw w' M' vs → ep_XB (N + 1) h (ep_co o (ep_one c)) w' ct → post (4, 64, (nI L), (nI B), (nI E), (nI Q), (nI qh), (nI qc), ch, md, ql, qv, (fun x_ => lN (h x_)), (fun x_ => lN ((ep_co o (ep_one c)) x_)), (fun x_ => nI (b x_)), M', vs, (fun x_ => lN (w' x_)), (fun x_ => lN (ct x_)))) : wpX_closeOpen post (4, 64, (nI L), (nI B), (nI E), (nI Q), (nI qh), (nI qc), ch, md, ql, qv, (fun x_ => lN (h x_)), (fun x_ => lN (o x_)), (fun x_ => nI (b x_)), M, vs, (fun x_ => lN (w x_)), (fun x_ => lN (ct x_))) (nI c) := by
  have hoN := hb.2.2.1 c
  have hl := lb c hc
  unfold wpX_closeOpen
  dsimp only
  rw [nI_clamp (show c < 2 ^ 31 by omega)]
  refine ⟨vp_in_nI hc (by decide), ep_slot_x c (o c) hc (by omega) ⟨vp_in_nI hc (by decide), vp_in_nI hc (by decide), nm_r (e' := fun i => lN (ep_co o (ep_one c) i)) ?_ ?_⟩⟩
  · rw [lN_1, ep_co_up]
    exact ep_uL o c _
  refine ⟨vp_in_nI hc (by decide), ?_⟩
  dsimp only
  rw [ep_co_1]
  have hf : ep_sl c (o c + 1) < 64 := ep_sl_lt hc
  have hs : ep_sl c (o c) < 64 := ep_sl_lt hc
  refine ep_slot_x c (o c + 1) hc (by omega) ⟨vp_in_nI hf (by decide), nm_r (e' := upd M (ep_sl c (o c + 1)) 0) (by rw [nI_clamp (by omega)]) ?_⟩
  have hne : ep_sl c (o c) ≠ ep_sl c (o c + 1) := fun e => by
    have := ep_sl_inj e (by omega) (by omega)
    omega
  have hb2 : ep_XB (N + 1) h (ep_co o (ep_one c)) w ct := by
    refine ⟨hN, fun i => ?_, fun i => ?_, fun i => ?_, fun i => ?_⟩
    · have := hb.2.1 i; omega
    · have := hb.2.2.1 i
      have := (ep_co_le (o := o) (S := ep_one c) i).2
      omega
    · have := hb.2.2.2.1 i; omega
    · have := hb.2.2.2.2 i; omega
  refine ep_close44_x c _ _ hc hs hf hne hb2 (fun w' k1 k2 hb3 => K w' _ ?_ hb3)
  intro d n l
  have ho := I.1 c hc
  rcases ep_lv_co l with z | z
  · have sn : ep_sl d n ≠ ep_sl c (o c + 1) := ep_sl_ne z.1 (by omega) (by omega) (fun e => by subst e; omega) (fun q => by
      obtain ⟨rfl, rfl⟩ := q
      omega)
    obtain ⟨a1, a2, a3⟩ := A d n z.1
    refine ⟨fun k hk => ?_, fun j hj => ?_, fun q hq y => ?_⟩
    · rw [k1 _ (by omega), ep_cV_o z.2]
      exact a1 k hk
    · rw [pk_un sn, ep_cm_o z.2]
      exact a2 j hj
    · rw [ep_cm_o z.2] at y
      exact a3 q hq y
  · have e : d = c := of_decide_eq_true z.1
    subst e
    rw [z.2]
    obtain ⟨a1, a2, a3⟩ := A d (o d) (ep_lv_open I hc)
    refine ⟨fun k hk => ?_, fun j hj => ?_, fun q hq y => ?_⟩
    · rw [k2 k hk, ep_co_1]
      by_cases e : k = d
      · rw [if_pos e, e, ep_cV_c ep_one_s]
      · rw [if_neg e, ep_cV_d ep_one_s e]
        exact a1 k hk
    · rw [pk_us, b_0, ep_cm_n ep_one_s]
    · rw [ep_cm_n ep_one_s] at y
      exact absurd y (by decide)
theorem ep_raise_x {post : SX → Prop} {N : Nat} (s : Nat) (hs : s < 64) (hb : ep_XB N h o w ct) (K : ∀ w' : Nat → Nat, (∀ j, (j < s * 4 ∨ s * 4 + 4 ≤ j) → w' j = w j) → (∀ d, d < 4 → w' (s * 4 + d) = max (w (s * 4 + d)) (ct d)) → ep_XB N h o w' ct → post (4, 64, (nI L), (nI B), (nI E), (nI Q), (nI qh), (nI qc), ch, md, ql, qv, (fun x_ => lN (h x_)), (fun x_ => lN (o x_)), (fun x_ => nI (b x_)), M, vs, (fun x_ => lN (w' x_)), (fun x_ => lN (ct x_)))) : wpX_raise post (4, 64, (nI L), (nI B), (nI E), (nI Q), (nI qh), (nI qc), ch, md, ql, qv, (fun x_ => lN (h x_)), (fun x_ => lN (o x_)), (fun x_ => nI (b x_)), M, vs, (fun x_ => lN (w x_)), (fun x_ => lN (ct x_))) (nI s) := by
  have hN := hb.1
  unfold wpX_raise
  dsimp only
  refine loop_0 (fun k i (w' : Nat → Nat) => wX_raise_2 post (nI s) 4 64 (nI L) (nI B) (nI E) (nI Q) (nI qh) (nI qc) k (nI i) ch md ql qv (fun x_ => lN (h x_)) (fun x_ => lN (o x_)) (fun x_ => nI (b x_)) M vs (fun x_ => lN (w' x_)) (fun x_ => lN (ct x_))) (fun i w' => (∀ j, (j < s * 4 ∨ s * 4 + i ≤ j) → w' j = w j) ∧ (∀ d, d < i → w' (s * 4 + d) = max (w (s * 4 + d)) (ct d)) ∧ (∀ j, w' j ≤ N + 1)) 4 w ?_ ?_ ?_
  · exact ⟨fun j _ => rfl, fun d hd => by omega, hb.2.2.2.1⟩
  · intro k w' H
    exact br_t (nI_le (Nat.le_refl 4) (by decide)) (K w' H.1 H.2.1 ⟨hb.1, hb.2.1, hb.2.2.1, H.2.2, hb.2.2.2.2⟩)
  · intro k i w' hi H next
    have h1 := hb.2.2.2.2 i
    have h2 := H.2.2 (s * 4 + i)
    have e := H.1 (s * 4 + i) (by omega)
    refine br_f (nI_ge (b := 4) hi (by decide)) ⟨ep_in4 (by omega), vp_in_nI hi (by decide), ?_⟩
    refine ep_le (f := ct) (g := w') i (s * 4 + i) (nI_clamp (by omega)) (ep_cl4 (by omega)) (by omega) (by omega) (fun q => nm_r (nI_1 i) (next w' ⟨fun j hj => H.1 j (by omega), fun d hd => ?_, H.2.2⟩)) (fun q => ⟨vp_in_nI hi (by decide), ep_in4 (by omega), nm_r (e' := fun j => lN (ep_up w' (s * 4 + i) (ct i) j)) ?_ (nm_r (nI_1 i) (next (ep_up w' (s * 4 + i) (ct i)) ⟨fun j hj => ?_, fun d hd => ?_, fun j => ?_⟩))⟩)
    · by_cases z : d = i
      · rw [z]; omega
      · exact H.2.1 d (by omega)
    · rw [nI_clamp (by omega), ep_cl4 (by omega)]
      exact ep_uL w' _ _
    · rw [ep_un (by omega)]; exact H.1 j (by omega)
    · by_cases z : d = i
      · rw [z, ep_us]; omega
      · rw [ep_un (by omega)]; exact H.2.1 d (by omega)
    · by_cases z : j = s * 4 + i
      · rw [z, ep_us]; omega
      · rw [ep_un z]; exact H.2.2 j
end
end
section
/-! orderOpen -/
def ep_qV (c : Nat) (ct o : Nat → Nat) (V : Nat → Nat → Nat → Nat) (i j : Nat) : Nat → Nat → Nat → Nat := fun d n k => if (d = c ∧ n = o c) ∨ ((d < i ∨ (d = i ∧ n < j)) ∧ o c < V d n c) then max (V d n k) (ct k) else V d n k
section
variable {L B E Q qh qc : Nat} {ch md ql qv : Nat → Int32} {h o b : Nat → Nat} {M vs : Nat → Int32} {w ct : Nat → Nat} {V V' : Nat → Nat → Nat → Nat} {mk : Nat → Nat → Nat → Bool} {pw : Nat → Nat → Nat → Int32}
theorem ep_XA_V (A : ep_XA h o V mk pw w M vs) (e : ∀ c n d, ep_lv h o c n → d < 4 → V' c n d = V c n d) : ep_XA h o V' mk pw w M vs := by
  intro c n l
  obtain ⟨a1, a2, a3⟩ := A c n l
  exact ⟨fun d hd => by rw [e c n d l hd]; exact a1 d hd, a2, a3⟩
theorem ep_XA_row {w' : Nat → Nat} {c n : Nat} (A : ep_XA h o V mk pw w M vs) (l : ep_lv h o c n) (lb : ep_LB h o) (k1 : ∀ j, (j < ep_sl c n * 4 ∨ ep_sl c n * 4 + 4 ≤ j) → w' j = w j) (k2 : ∀ d, d < 4 → w' (ep_sl c n * 4 + d) = V' c n d) (e : ∀ d m k, ep_lv h o d m → ¬ (d = c ∧ m = n) → k < 4 → V' d m k = V d m k) : ep_XA h o V' mk pw w' M vs := by
  intro d m ld
  obtain ⟨a1, a2, a3⟩ := A d m ld
  refine ⟨fun k hk => ?_, a2, a3⟩
  by_cases z : d = c ∧ m = n
  · obtain ⟨rfl, rfl⟩ := z
    exact k2 k hk
  · have h3 := lb c l.1
    have h4 := l.2.1
    have h5 := l.2.2
    have sn : ep_sl d m ≠ ep_sl c n := ep_sl_ne ld h4 (by omega) (fun q => by subst q; have := ld.2.2; omega) z
    rw [k1 _ (by omega), e d m k ld z hk]
    exact a1 k hk
theorem ep_qV_c {c i j i' j' d n k : Nat} (e : (d < i ∨ (d = i ∧ n < j)) ↔ (d < i' ∨ (d = i' ∧ n < j'))) : ep_qV c ct o V i j d n k = ep_qV c ct o V i' j' d n k := by
  unfold ep_qV
  simp only [e]
theorem ep_order9_x {post : Int32 → SX → Prop} {N : Nat} (c : Nat) (hc : c < 4) (I : ep_IV h o V) (A : ep_XA h o V mk pw w M vs) (lb : ep_LB h o) (hb : ep_XB N h o w ct) (hcc : ct c ≤ o c) (K : ∀ w' : Nat → Nat, ep_XA h o (ep_rV c ct o V) mk pw w' M vs → ep_XB N h o w' ct → post (nI (ep_sl c (o c))) (4, 64, (nI L), (nI B), (nI E), (nI Q), (nI qh), (nI qc), ch, md, ql, qv, (fun x_ => lN (h x_)), (fun x_ => lN (o x_)), (fun x_ => nI (b x_)), M, vs, (fun x_ => lN (w' x_)), (fun x_ => lN (ct x_)))) : wX_orderOpen_9 post (nI c) 4 64 (nI L) (nI B) (nI E) (nI Q) (nI qh) (nI qc) ch md ql qv (fun x_ => lN (h x_)) (fun x_ => lN (o x_)) (fun x_ => nI (b x_)) M vs (fun x_ => lN (w x_)) (fun x_ => lN (ct x_)) := by
  have hN := hb.1
  have hoN := hb.2.2.1 c
  have lo := ep_lv_open I hc
  have eo := I.2.1 c (o c) lo
  have hs : ep_sl c (o c) < 64 := ep_sl_lt hc
  unfold wX_orderOpen_9
  dsimp only
  rw [nI_clamp (show c < 2 ^ 31 by omega)]
  refine ⟨vp_in_nI hc (by decide), ep_slot_x c (o c) hc (by omega) (ep_raise_x _ hs hb (fun w1 k1 k2 hb1 => ?_))⟩
  dsimp only
  have A1 : ep_XA h o (ep_qV c ct o V 0 0) mk pw w1 M vs := by
    refine ep_XA_row A lo lb k1 (fun d hd => ?_) (fun d m k l z hk => ?_)
    · rw [k2 d hd, (A c (o c) lo).1 d hd]
      exact (if_pos (Or.inl ⟨rfl, rfl⟩)).symm
    · exact if_neg (fun q => by
        rcases q with q | q
        · exact z q
        · omega)
  refine loop_0 (fun f i (w' : Nat → Nat) => wX_orderOpen_29 post (nI c) (nI (ep_sl c (o c))) f (nI i) 4 64 (nI L) (nI B) (nI E) (nI Q) (nI qh) (nI qc) ch md ql qv (fun x_ => lN (h x_)) (fun x_ => lN (o x_)) (fun x_ => nI (b x_)) M vs (fun x_ => lN (w' x_)) (fun x_ => lN (ct x_))) (fun i w' => ep_XA h o (ep_qV c ct o V i 0) mk pw w' M vs ∧ ep_XB N h o w' ct) 4 w1 ⟨A1, hb1⟩ ?_ ?_
  · intro f w' H
    refine br_t (nI_le (Nat.le_refl 4) (by decide)) (K w' (ep_XA_V H.1 (fun d n k l hk => ?_)) H.2)
    unfold ep_qV ep_rV
    have e : (d = c ∧ n = o c) ∨ o c < V d n c ↔ (d = c ∧ n = o c) ∨ ((d < 4 ∨ (d = 4 ∧ n < 0)) ∧ o c < V d n c) := by
      have := l.1
      constructor
      · rintro (q | q)
        · exact Or.inl q
        · exact Or.inr ⟨Or.inl this, q⟩
      · rintro (q | q)
        · exact Or.inl q
        · exact Or.inr q.2
    simp only [e]
  · intro f i w' hi H next
    have hoi := I.1 i hi
    have hoiN := hb.2.2.1 i
    refine br_f (nI_ge (b := 4) hi (by decide)) (ep_live_x i hi hoi ?_)
    refine loop_0 (fun g j (w2 : Nat → Nat) => wX_orderOpen_46 post (wX_orderOpen_29 post (nI c) (nI (ep_sl c (o c))) f) (nI c) (nI (ep_sl c (o c))) (nI i) (nI (o i - h i + 1)) g (nI j) 4 64 (nI L) (nI B) (nI E) (nI Q) (nI qh) (nI qc) ch md ql qv (fun x_ => lN (h x_)) (fun x_ => lN (o x_)) (fun x_ => nI (b x_)) M vs (fun x_ => lN (w2 x_)) (fun x_ => lN (ct x_))) (fun j w2 => ep_XA h o (ep_qV c ct o V i (h i + j)) mk pw w2 M vs ∧ ep_XB N h o w2 ct) (o i - h i + 1) w' ?_ ?_ ?_
    · refine ⟨ep_XA_V H.1 (fun d n k l hk => ep_qV_c ?_), H.2⟩
      have := l.2.1
      constructor
      · rintro (q | q)
        · exact Or.inl q
        · obtain ⟨rfl, q⟩ := q; omega
      · rintro (q | q)
        · exact Or.inl q
        · omega
    · intro g w2 H2
      refine br_t (nI_le (Nat.le_refl _) (by omega)) (nm_r (nI_1 i) (next w2 ⟨ep_XA_V H2.1 (fun d n k l hk => ep_qV_c ?_), H2.2⟩))
      have := l.2.2
      constructor
      · rintro (q | q)
        · by_cases e : d = i
          · subst e; exact Or.inr ⟨rfl, by omega⟩
          · exact Or.inl (by omega)
        · omega
      · rintro (q | q)
        · exact Or.inl (by omega)
        · exact Or.inl (by omega)
    · intro g j w2 hj H2 next2
      have hsi : ep_sl i (h i + j) < 64 := ep_sl_lt hi
      have ln : ep_lv h o i (h i + j) := ⟨hi, by omega, by omega⟩
      refine br_f (nI_ge hj (by omega)) ⟨vp_in_nI hi (by decide), ?_⟩
      dsimp only
      rw [nI_clamp (show i < 2 ^ 31 by omega), nI_l (show j < 2 ^ 31 by omega), lN_add]
      refine ep_slot_x i (h i + j) hi (by omega) ⟨ep_in4 (by omega), vp_in_nI hc (by decide), ?_⟩
      have hw := H2.2.2.2.2.1 (ep_sl i (h i + j) * 4 + c)
      have ev := (H2.1 i (h i + j) ln).1 c hc
      have tgt : i = c ∧ h i + j = o c → w2 (ep_sl i (h i + j) * 4 + c) ≤ o c := by
        intro z
        rw [ev]
        have : ep_qV c ct o V i (h i + j) i (h i + j) c = max (V i (h i + j) c) (ct c) := if_pos (Or.inl z)
        rw [this, z.1, ← z.1, z.2, z.1, eo]
        omega
      have ntg : ¬ (i = c ∧ h i + j = o c) → ∀ k, ep_qV c ct o V i (h i + j) i (h i + j) k = V i (h i + j) k := by
        intro z k
        exact if_neg (fun q => by
          rcases q with q | q
          · exact z q
          · omega)
      have oth : ∀ d m k, ¬ (d = i ∧ m = h i + j) → ep_qV c ct o V i (h i + (j + 1)) d m k = ep_qV c ct o V i (h i + j) d m k := by
        intro d m k z
        apply ep_qV_c
        constructor
        · rintro (q | q)
          · exact Or.inl q
          · refine Or.inr ⟨q.1, ?_⟩
            have : m ≠ h i + j := fun y => z ⟨q.1, y⟩
            omega
        · rintro (q | q)
          · exact Or.inl q
          · exact Or.inr ⟨q.1, by omega⟩
      refine ep_le (f := w2) (g := o) (ep_sl i (h i + j) * 4 + c) c (ep_cl4 (by omega)) (nI_clamp (by omega)) (by omega) (by omega) (fun q => nm_r (nI_1 j) (next2 w2 ⟨?_, H2.2⟩)) (fun q => ep_raise_x _ hsi H2.2 (fun w3 k3 k4 hb3 => nm_r (nI_1 j) (next2 w3 ⟨?_, hb3⟩)))
      · refine ep_XA_V H2.1 (fun d m k l hk => ?_)
        by_cases z : d = i ∧ m = h i + j
        · obtain ⟨rfl, rfl⟩ := z
          by_cases t : d = c ∧ h d + j = o c
          · unfold ep_qV
            rw [if_pos (Or.inl t), if_pos (Or.inl t)]
          · rw [ntg t]
            rw [ev, ntg t] at q
            exact if_neg (fun y => by
              rcases y with y | y
              · exact t y
              · omega)
        · exact oth d m k z
      · have nt : ¬ (i = c ∧ h i + j = o c) := fun z => by
          have := tgt z
          omega
        rw [ev, ntg nt] at q
        refine ep_XA_row H2.1 ln lb k3 (fun d hd => ?_) (fun d m k l z hk => oth d m k z)
        rw [k4 d hd, (H2.1 i (h i + j) ln).1 d hd, ntg nt]
        exact (if_pos (Or.inr ⟨Or.inr ⟨rfl, by omega⟩, q⟩)).symm
end
end
section
/-! the queue: enqueue, popOldest; drainVersion, drainEpoch -/
def ep_dv (md ql qv : Nat → Int32) (qh l : Nat) : Nat → Int32
  | 0 => md l
  | i + 1 => if ql ((qh + i) % 8) = nI l then qv ((qh + i) % 8) else ep_dv md ql qv qh l i
def ep_Q (L Q qh qc : Nat) (md ql qv du : Nat → Int32) : Prop :=
  qh < 8 ∧ qc ≤ Q ∧ (∀ i, i < qc → ∃ l, l < L ∧ ql ((qh + i) % 8) = nI l) ∧ (∀ l, l < L → ep_dv md ql qv qh l qc = du l)
section
variable {L B E Q qh qc : Nat} {ch md ql qv : Nat → Int32} {h o b : Nat → Nat} {M vs : Nat → Int32} {w ct : Nat → Nat} {du : Nat → Int32} {V : Nat → Nat → Nat → Nat} {mk : Nat → Nat → Nat → Bool} {pw : Nat → Nat → Nat → Int32}
theorem ep_dv_c {ql' qv' : Nat → Int32} {l : Nat} : ∀ n, (∀ i, i < n → ql' ((qh + i) % 8) = ql ((qh + i) % 8) ∧ qv' ((qh + i) % 8) = qv ((qh + i) % 8)) → ep_dv md ql' qv' qh l n = ep_dv md ql qv qh l n := by
  intro n
  induction n with
  | zero => intro _; rfl
  | succ n ih =>
    intro H
    show (if ql' ((qh + n) % 8) = nI l then qv' ((qh + n) % 8) else ep_dv md ql' qv' qh l n) = (if ql ((qh + n) % 8) = nI l then qv ((qh + n) % 8) else ep_dv md ql qv qh l n)
    rw [(H n (by omega)).1, (H n (by omega)).2, ih (fun i hi => H i (by omega))]
theorem ep_dv_pop {l l0 : Nat} (hq : qh < 8) (hl : l < 2 ^ 31) (hl0 : l0 < 2 ^ 31) (e : ql qh = nI l0) : ∀ n, ep_dv (upd md l0 (qv qh)) ql qv ((qh + 1) % 8) l n = ep_dv md ql qv qh l (n + 1) := by
  intro n
  induction n with
  | zero =>
    show upd md l0 (qv qh) l = if ql ((qh + 0) % 8) = nI l then qv ((qh + 0) % 8) else md l
    rw [show (qh + 0) % 8 = qh from by omega, e]
    by_cases z : l = l0
    · rw [z, pk_us, if_pos rfl]
    · rw [pk_un z, if_neg (fun y => z ((nI_eq hl0 hl).mp y).symm)]
  | succ n ih =>
    show (if ql (((qh + 1) % 8 + n) % 8) = nI l then qv (((qh + 1) % 8 + n) % 8) else ep_dv (upd md l0 (qv qh)) ql qv ((qh + 1) % 8) l n) = (if ql ((qh + (n + 1)) % 8) = nI l then qv ((qh + (n + 1)) % 8) else ep_dv md ql qv qh l (n + 1))
    rw [ih, show ((qh + 1) % 8 + n) % 8 = (qh + (n + 1)) % 8 from by omega]
theorem ep_pop_x {post : SX → Prop} (hL : L ≤ 8) (hQ : Q ≤ 8) (h1 : 1 ≤ qc) (q : ep_Q L Q qh qc md ql qv du) (K : ∀ (md' : Nat → Int32) (qh' : Nat), ep_Q L Q qh' (qc - 1) md' ql qv du → post (4, 64, (nI L), (nI B), (nI E), (nI Q), (nI qh'), (nI (qc - 1)), ch, md', ql, qv, (fun x_ => lN (h x_)), (fun x_ => lN (o x_)), (fun x_ => nI (b x_)), M, vs, (fun x_ => lN (w x_)), (fun x_ => lN (ct x_)))) : wpX_popOldest post (4, 64, (nI L), (nI B), (nI E), (nI Q), (nI qh), (nI qc), ch, md, ql, qv, (fun x_ => lN (h x_)), (fun x_ => lN (o x_)), (fun x_ => nI (b x_)), M, vs, (fun x_ => lN (w x_)), (fun x_ => lN (ct x_))) := by
  obtain ⟨q1, q2, q3, q4⟩ := q
  obtain ⟨l0, hl0, e0⟩ := q3 0 (by omega)
  rw [show (qh + 0) % 8 = qh from by omega] at e0
  unfold wpX_popOldest
  dsimp only
  rw [nI_clamp (show qh < 2 ^ 31 by omega), e0, nI_clamp (show l0 < 2 ^ 31 by omega)]
  refine ⟨vp_in_nI q1 (by decide), vp_in_nI q1 (by decide), vp_in_nI (by omega) (by decide), nm_e (nm_r (e' := nI ((qh + 1) % 8)) ?_ (nm_r (e' := nI (qc - 1)) ?_ (K _ _ ?_)))⟩
  · rw [nI_1]
    exact pk_andN (by omega) 3 (by decide)
  · exact pk_sub h1
  · refine ⟨by omega, by omega, fun i hi => ?_, fun l hl => ?_⟩
    · obtain ⟨l, hl, e⟩ := q3 (i + 1) (by omega)
      refine ⟨l, hl, ?_⟩
      rw [← e, show ((qh + 1) % 8 + i) % 8 = (qh + (i + 1)) % 8 from by omega]
    · rw [ep_dv_pop q1 (by omega) (by omega) e0, show qc - 1 + 1 = qc from by omega]
      exact q4 l hl
theorem ep_enq15_x {post : SX → Prop} (l : Nat) (v : Int32) (hl : l < L) (hL : L ≤ 8) (hQ : Q ≤ 8) (h1 : qc < Q) (q : ep_Q L Q qh qc md ql qv du) (K : ∀ (ql' qv' : Nat → Int32), ep_Q L Q qh (qc + 1) md ql' qv' (upd du l v) → post (4, 64, (nI L), (nI B), (nI E), (nI Q), (nI qh), (nI (qc + 1)), ch, md, ql', qv', (fun x_ => lN (h x_)), (fun x_ => lN (o x_)), (fun x_ => nI (b x_)), M, vs, (fun x_ => lN (w x_)), (fun x_ => lN (ct x_)))) : wX_enqueue_15 post (nI l) v 4 64 (nI L) (nI B) (nI E) (nI Q) (nI qh) (nI qc) ch md ql qv (fun x_ => lN (h x_)) (fun x_ => lN (o x_)) (fun x_ => nI (b x_)) M vs (fun x_ => lN (w x_)) (fun x_ => lN (ct x_)) := by
  obtain ⟨q1, q2, q3, q4⟩ := q
  unfold wX_enqueue_15
  refine nm_r (e' := nI ((qh + qc) % 8)) (by rw [nI_add]; exact pk_andN (by omega) 3 (by decide)) ?_
  rw [nI_clamp (show (qh + qc) % 8 < 2 ^ 31 by omega)]
  refine ⟨vp_in_nI (by omega) (by decide), nm_e ⟨vp_in_nI (by omega) (by decide), nm_e (nm_r (nI_1 qc) (K _ _ ?_))⟩⟩
  refine ⟨q1, by omega, fun i hi => ?_, fun k hk => ?_⟩
  · by_cases z : i = qc
    · rw [z, pk_us]; exact ⟨l, hl, rfl⟩
    · rw [pk_un (by omega)]
      exact q3 i (by omega)
  · show (if upd ql ((qh + qc) % 8) (nI l) ((qh + qc) % 8) = nI k then upd qv ((qh + qc) % 8) v ((qh + qc) % 8) else ep_dv md _ _ qh k qc) = _
    rw [pk_us, pk_us]
    by_cases z : k = l
    · rw [z, if_pos rfl, pk_us]
    · rw [if_neg (fun y => z ((nI_eq (by omega) (by omega)).mp y).symm), pk_un z, ep_dv_c qc (fun i hi => ⟨pk_un (by omega), pk_un (by omega)⟩)]
      exact q4 k hk
theorem ep_enq_x {post : SX → Prop} (l : Nat) (v : Int32) (hl : l < L) (hL : L ≤ 8) (hQ : Q ≤ 8) (hQ1 : 1 ≤ Q) (q : ep_Q L Q qh qc md ql qv du) (K : ∀ (qh' : Nat) (md' ql' qv' : Nat → Int32), ep_Q L Q qh' (min (qc + 1) Q) md' ql' qv' (upd du l v) → post (4, 64, (nI L), (nI B), (nI E), (nI Q), (nI qh'), (nI (min (qc + 1) Q)), ch, md', ql', qv', (fun x_ => lN (h x_)), (fun x_ => lN (o x_)), (fun x_ => nI (b x_)), M, vs, (fun x_ => lN (w x_)), (fun x_ => lN (ct x_)))) : wpX_enqueue post (4, 64, (nI L), (nI B), (nI E), (nI Q), (nI qh), (nI qc), ch, md, ql, qv, (fun x_ => lN (h x_)), (fun x_ => lN (o x_)), (fun x_ => nI (b x_)), M, vs, (fun x_ => lN (w x_)), (fun x_ => lN (ct x_))) (nI l) v := by
  have q2 := q.2.1
  unfold wpX_enqueue
  dsimp only
  refine ek_if (nI_ltI (by omega) (by omega)) (fun z => ?_) (fun z => ?_)
  · refine ep_enq15_x l v hl hL hQ z q (fun ql' qv' H => ?_)
    have e : min (qc + 1) Q = qc + 1 := by omega
    rw [e] at K
    exact K _ _ _ _ H
  · refine ep_pop_x hL hQ (by omega) q (fun md' qh' H => ?_)
    refine ep_enq15_x l v hl hL hQ (by omega) H (fun ql' qv' H => ?_)
    have e : min (qc + 1) Q = qc - 1 + 1 := by omega
    rw [e] at K
    exact K _ _ _ _ H
theorem ep_drainV_x {post : SX → Prop} (c s l : Nat) (hs : s < 64) (hc : s / 16 = c) (hl : l < L) (hL : L ≤ 8) (hQ : Q ≤ 8) (hQ1 : 1 ≤ Q) (hb : 1 ≤ b c) (q : ep_Q L Q qh qc md ql qv du) (K : ∀ (qh' : Nat) (md' ql' qv' M' : Nat → Int32), (∀ i, i ≠ s → M' i = M i) → (∀ j, j < 32 → bt (M' s) j = (bt (M s) j && !decide (j = 16 + l))) → ep_Q L Q qh' (min (qc + 1) Q) md' ql' qv' (upd du l (vs (s * 8 + l))) → post (4, 64, (nI L), (nI B), (nI E), (nI Q), (nI qh'), (nI (min (qc + 1) Q)), ch, md', ql', qv', (fun x_ => lN (h x_)), (fun x_ => lN (o x_)), (fun x_ => nI ((ep_up b c (b c - 1)) x_)), M', vs, (fun x_ => lN (w x_)), (fun x_ => lN (ct x_)))) : wpX_drainVersion post (4, 64, (nI L), (nI B), (nI E), (nI Q), (nI qh), (nI qc), ch, md, ql, qv, (fun x_ => lN (h x_)), (fun x_ => lN (o x_)), (fun x_ => nI (b x_)), M, vs, (fun x_ => lN (w x_)), (fun x_ => lN (ct x_))) (nI s) (nI l) := by
  have hc4 : c < 4 := by omega
  unfold wpX_drainVersion
  dsimp only
  rw [ep_shr hs, hc, nI_clamp (show s < 2 ^ 31 by omega), nI_clamp (show c < 2 ^ 31 by omega)]
  refine ⟨vp_in_nI hs (by decide), vp_in_nI hs (by decide), nm_e ⟨vp_in_nI hc4 (by decide), vp_in_nI hc4 (by decide), nm_r (e' := fun i => nI (ep_up b c (b c - 1) i)) ?_ ⟨ep_in8 (by omega), ?_⟩⟩⟩
  · rw [show nI (b c) - 1 = nI (b c - 1) from pk_sub hb]
    exact ep_uI b c _
  · rw [ep_cl8 (by omega)]
    refine ep_enq_x l _ hl hL hQ hQ1 q (fun qh' md' ql' qv' H => K _ _ _ _ _ (fun i hi => pk_un hi) (fun j hj => ?_) H)
    show bt (upd M s _ s) j = _
    rw [pk_us]
    exact ep_clr (by omega) hj
/-- the number of pending lines below l in marks m -/
def ep_rc (m : Nat → Bool) (l : Nat) : Nat := ep_sum (fun i => (m (16 + i)).toNat) l
theorem ep_drainE_x {post : Int32 → SX → Prop} (c s : Nat) (m : Nat → Bool) (b0 : Nat → Nat) (M0 du0 : Nat → Int32) (qc0 : Nat) (hs : s < 64) (hc : s / 16 = c) (hL : L ≤ 8) (hQ : Q ≤ 8) (hQ1 : 1 ≤ Q) (hbc : ep_rc m L ≤ b0 c) : ∀ (j l : Nat) (b : Nat → Nat) (M du : Nat → Int32) (qh qc : Nat) (md ql qv : Nat → Int32), l + j = L → b = ep_up b0 c (b0 c - ep_rc m l) → qc = min (qc0 + ep_rc m l) Q → (∀ i, i ≠ s → M i = M0 i) → (∀ i, i < 32 → bt (M s) i = (m i && !(decide (16 ≤ i) && decide (i < 16 + l)))) → (∀ i, i < L → du i = if i < l ∧ m (16 + i) = true then vs (s * 8 + i) else du0 i) → ep_Q L Q qh qc md ql qv du → (∀ (b' : Nat → Nat) (M' du' : Nat → Int32) (qh' qc' : Nat) (md' ql' qv' : Nat → Int32), b' = ep_up b0 c (b0 c - ep_rc m L) → qc' = min (qc0 + ep_rc m L) Q → (∀ i, i ≠ s → M' i = M0 i) → (∀ i, i < L → du' i = if m (16 + i) = true then vs (s * 8 + i) else du0 i) → ep_Q L Q qh' qc' md' ql' qv' du' → post (nI (ep_rc m L)) (4, 64, (nI L), (nI B), (nI E), (nI Q), (nI qh'), (nI qc'), ch, md', ql', qv', (fun x_ => lN (h x_)), (fun x_ => lN (o x_)), (fun x_ => nI (b' x_)), M', vs, (fun x_ => lN (w x_)), (fun x_ => lN (ct x_)))) → wX_drainEpoch_4 post (nI s) (j + 1) (nI (ep_rc m l)) (nI l) 4 64 (nI L) (nI B) (nI E) (nI Q) (nI qh) (nI qc) ch md ql qv (fun x_ => lN (h x_)) (fun x_ => lN (o x_)) (fun x_ => nI (b x_)) M vs (fun x_ => lN (w x_)) (fun x_ => lN (ct x_)) := by
  intro j
  induction j with
  | zero =>
    intro l b M du qh qc md ql qv hl hb hqc hM1 hM2 hdu q K
    have e : l = L := by omega
    subst e
    refine br_t (nI_le (Nat.le_refl _) (by omega)) (K _ _ _ _ _ _ _ _ hb hqc hM1 (fun i hi => ?_) q)
    rw [hdu i hi]
    by_cases z : m (16 + i) = true
    · rw [if_pos ⟨hi, z⟩, if_pos z]
    · rw [if_neg (fun y => z y.2), if_neg z]
  | succ j ih =>
    intro l b M du qh qc md ql qv hl hb hqc hM1 hM2 hdu q K
    have hl8 : l < 8 := by omega
    have hbit : bt (M s) (16 + l) = m (16 + l) := by
      rw [hM2 (16 + l) (by omega), decide_eq_false (p := 16 + l < 16 + l) (by omega), Bool.and_false, Bool.not_false, Bool.and_true]
    refine br_f (nI_ge (by omega) (by omega)) ⟨vp_in_nI hs (by decide), ?_⟩
    rw [nI_clamp (show s < 2 ^ 31 by omega)]
    refine ek_if ((ep_t65536 hl8).trans (by rw [hbit])) (fun z => nm_r (nI_1 l) ?_) (fun z => ?_)
    · have e : ep_rc m (l + 1) = ep_rc m l := by
        show ep_rc m l + (m (16 + l)).toNat = _
        rw [z]; rfl
      have := ih (l + 1) b M du qh qc md ql qv (by omega) (by rw [e]; exact hb) (by rw [e]; exact hqc) hM1 (fun i hi => by
        rw [hM2 i hi]
        by_cases y : i = 16 + l
        · rw [y, z, Bool.false_and, Bool.false_and]
        · rw [show decide (i < 16 + (l + 1)) = decide (i < 16 + l) from decide_eq_decide.mpr (by omega)]) (fun i hi => by
        rw [hdu i hi]
        by_cases y : i = l
        · rw [y, if_neg (by omega), if_neg (fun x => by rw [z] at x; exact absurd x.2 (by decide))]
        · exact ite_congr (propext ⟨fun x => ⟨by omega, x.2⟩, fun x => ⟨by omega, x.2⟩⟩) (fun _ => rfl) (fun _ => rfl)) q K
      rw [e] at this
      exact this
    · have zt : m (16 + l) = true := by
        cases y : m (16 + l)
        · exact absurd y z
        · rfl
      have e : ep_rc m (l + 1) = ep_rc m l + 1 := by
        show ep_rc m l + (m (16 + l)).toNat = _
        rw [zt]; rfl
      have hle : ep_rc m (l + 1) ≤ ep_rc m L := by
        have := ep_sum_sp (fun i => (m (16 + i)).toNat) (l + 1) (L - (l + 1))
        rw [show l + 1 + (L - (l + 1)) = L from by omega] at this
        show ep_sum _ (l + 1) ≤ ep_sum _ L
        omega
      have hbc2 : b c = b0 c - ep_rc m l := by rw [hb, ep_us]
      refine ep_drainV_x c s l hs hc (by omega) hL hQ hQ1 (by omega) q (fun qh' md' ql' qv' M' k1 k2 H => ?_)
      refine nm_r (nI_1 _) (nm_r (nI_1 l) ?_)
      have := ih (l + 1) (ep_up b c (b c - 1)) M' (upd du l (vs (s * 8 + l))) qh' (min (qc + 1) Q) md' ql' qv' (by omega) (by
        rw [hbc2, e, hb]
        funext i
        by_cases y : i = c
        · rw [y, ep_us, ep_us]; omega
        · rw [ep_un y, ep_un y, ep_un y]) (by rw [e, hqc]; omega) (fun i hi => by rw [k1 i hi]; exact hM1 i hi) (fun i hi => by
        rw [k2 i hi, hM2 i hi]
        by_cases y : i = 16 + l
        · rw [y, decide_eq_true (p := 16 + l = 16 + l) rfl, decide_eq_true (p := 16 ≤ 16 + l) (by omega), decide_eq_true (p := 16 + l < 16 + (l + 1)) (by omega), Bool.not_true, Bool.and_false, Bool.and_true, Bool.not_true, Bool.and_false]
        · rw [decide_eq_false y, Bool.not_false, Bool.and_true, show decide (i < 16 + (l + 1)) = decide (i < 16 + l) from decide_eq_decide.mpr (by omega)]) (fun i hi => by
        by_cases y : i = l
        · rw [y, pk_us, if_pos ⟨by omega, zt⟩]
        · rw [pk_un y, hdu i hi]
          exact ite_congr (propext ⟨fun x => ⟨by omega, x.2⟩, fun x => ⟨by omega, x.2⟩⟩) (fun _ => rfl) (fun _ => rfl)) H K
      rw [e] at this
      exact this
end
end
section
/-! what leaving keeps: pure -/
def ep_cnt (h o : Nat → Nat) (mk : Nat → Nat → Nat → Bool) (c : Nat) : Nat := ep_sum (fun i => ep_rc (mk c (h c + i)) 8) (o c + 1 - h c)
def ep_gd (ct : Nat → Nat) (mk : Nat → Nat → Nat → Bool) : Nat → Nat → Prop := fun c n => n < ct c ∨ ∀ l, l < 8 → mk c n (16 + l) = false
def ep_DU (L : Nat) (h0 h : Nat → Nat) (V : Nat → Nat → Nat → Nat) (mk : Nat → Nat → Nat → Bool) (pw : Nat → Nat → Nat → Int32) (du0 du : Nat → Int32) : Prop :=
  ∀ l, l < L → (∃ c n, c < 4 ∧ h0 c ≤ n ∧ n < h c ∧ mk c n (16 + l) = true ∧ du l = pw c n l ∧ ∀ d m, d < 4 → h0 d ≤ m → m < h d → mk d m (16 + l) = true → (d = c ∧ m = n) ∨ m < V c n d) ∨ ((∀ c n, c < 4 → h0 c ≤ n → n < h c → mk c n (16 + l) = false) ∧ du l = du0 l)
def ep_RI (L Q : Nat) (h0 o : Nat → Nat) (V : Nat → Nat → Nat → Nat) (mk : Nat → Nat → Nat → Bool) (pw : Nat → Nat → Nat → Int32) (ct b0 : Nat → Nat) (qc0 : Nat) (du0 : Nat → Int32) (k : Nat) (h b : Nat → Nat) (qc : Nat) (du : Nat → Int32) : Prop :=
  (∀ c, c < 4 → h0 c ≤ h c) ∧ (∀ c, c < 4 → h c ≤ o c) ∧ ep_DC h0 h V (ep_gd ct mk) ∧ (∀ c, c < 4 → b c = ep_cnt h o mk c) ∧ k + (b 0 + b 1 + b 2 + b 3) = b0 0 + b0 1 + b0 2 + b0 3 ∧ qc = min (qc0 + k) Q ∧ ep_DU L h0 h V mk pw du0 du ∧ ((∀ c, c < 4 → ct c = 0) → k = 0 ∧ ∀ l, l < L → du l = du0 l)
section
variable {h h0 o ct b b0 : Nat → Nat} {V : Nat → Nat → Nat → Nat} {mk : Nat → Nat → Nat → Bool} {pw : Nat → Nat → Nat → Int32} {L Q qc qc0 k : Nat} {du du0 du' : Nat → Int32}
theorem ep_rc_L {m : Nat → Bool} (hL : L ≤ 8) (hm : ∀ j, 16 + L ≤ j → j < 32 → m j = false) : ep_rc m 8 = ep_rc m L := by
  unfold ep_rc
  have := ep_sum_sp (fun i => (m (16 + i)).toNat) L (8 - L)
  rw [show L + (8 - L) = 8 from by omega] at this
  have z : ep_sum (fun i => (m (16 + (L + i))).toNat) (8 - L) = 0 := ep_sum_0 (fun i hi => by
    show (m (16 + (L + i))).toNat = 0
    rw [hm _ (by omega) (by omega)]
    rfl)
  rw [this, z, Nat.add_zero]
theorem ep_rc_0 {m : Nat → Bool} {n : Nat} (hn : n ≤ 8) (hm : ∀ l, l < 8 → m (16 + l) = false) : ep_rc m n = 0 := by
  refine ep_sum_0 (fun i hi => ?_)
  show (m (16 + i)).toNat = 0
  rw [hm i (by omega)]
  rfl
theorem ep_cnt_hd {c : Nat} (hh : h c ≤ o c) : ep_cnt h o mk c = ep_rc (mk c (h c)) 8 + ep_cnt (ep_up h c (h c + 1)) o mk c := by
  unfold ep_cnt
  rw [ep_us]
  have := ep_sum_sp (fun i => ep_rc (mk c (h c + i)) 8) 1 (o c + 1 - (h c + 1))
  rw [show 1 + (o c + 1 - (h c + 1)) = o c + 1 - h c from by omega] at this
  rw [this]
  show 0 + ep_rc (mk c (h c + 0)) 8 + _ = _
  rw [Nat.zero_add, Nat.add_zero]
  congr 1
  exact ep_sum_c (fun i hi => by
    show ep_rc (mk c (h c + (1 + i))) 8 = ep_rc (mk c (h c + 1 + i)) 8
    rw [Nat.add_assoc])
theorem ep_cnt_n {c d : Nat} {v : Nat} (hd : d ≠ c) : ep_cnt (ep_up h c v) o mk d = ep_cnt h o mk d := by
  unfold ep_cnt
  rw [ep_un hd]
theorem ep_sum4 {f : Nat → Nat} {c v : Nat} (hc : c < 4) (hv : v ≤ f c) : ep_up f c (f c - v) 0 + ep_up f c (f c - v) 1 + ep_up f c (f c - v) 2 + ep_up f c (f c - v) 3 + v = f 0 + f 1 + f 2 + f 3 := by
  have q : c = 0 ∨ c = 1 ∨ c = 2 ∨ c = 3 := by omega
  rcases q with q | q | q | q <;> subst q <;> simp [ep_up] <;> omega
theorem ep_RI_0 (hh : ∀ c, c < 4 → h0 c ≤ o c) (hb : ∀ c, c < 4 → b0 c = ep_cnt h0 o mk c) (hq : qc0 ≤ Q) : ep_RI L Q h0 o V mk pw ct b0 qc0 du0 0 h0 b0 qc0 du0 :=
  ⟨fun c _ => Nat.le_refl _, hh, fun c n _ h1 h2 => by omega, hb, by omega, by omega, fun l _ => Or.inr ⟨fun c n _ h1 h2 => by omega, rfl⟩, fun _ => ⟨rfl, fun l _ => rfl⟩⟩
theorem ep_RI_step {c : Nat} (hL : L ≤ 8) (I : ep_IV h0 o V) (J : ep_IM L h0 o V mk) (R : ep_RI L Q h0 o V mk pw ct b0 qc0 du0 k h b qc du) (hc : c < 4) (h1 : h c < o c) (g : ep_gd ct mk c (h c)) (ub : ∀ d, d < 4 → V c (h c) d ≤ h d) (hdu : ∀ i, i < L → du' i = if mk c (h c) (16 + i) = true then pw c (h c) i else du i) : ep_RI L Q h0 o V mk pw ct b0 qc0 du0 (k + ep_rc (mk c (h c)) L) (ep_up h c (h c + 1)) (ep_up b c (b c - ep_rc (mk c (h c)) L)) (min (qc + ep_rc (mk c (h c)) L) Q) du' := by
  obtain ⟨r1, r2, r3, r4, r5, r6, r7, r8⟩ := R
  have lh : ep_lv h0 o c (h c) := ⟨hc, r1 c hc, r2 c hc⟩
  have hup : ∀ d, h d ≤ ep_up h c (h c + 1) d := by
    intro d
    by_cases z : d = c
    · rw [z, ep_us]; omega
    · rw [ep_un z]; omega
  have cs : ∀ d n, n < ep_up h c (h c + 1) d → n < h d ∨ (d = c ∧ n = h c) := by
    intro d n q
    by_cases z : d = c
    · rw [z, ep_us] at q
      subst z
      by_cases y : n = h d
      · exact Or.inr ⟨rfl, y⟩
      · exact Or.inl (by omega)
    · rw [ep_un z] at q
      exact Or.inl q
  have hrc : ep_rc (mk c (h c)) 8 = ep_rc (mk c (h c)) L := ep_rc_L hL (fun j q1 q2 => J.2.2 c (h c) j lh q1 q2)
  have hcn := ep_cnt_hd (mk := mk) (r2 c hc)
  have hbc := r4 c hc
  have hle : ep_rc (mk c (h c)) L ≤ b c := by omega
  refine ⟨fun d hd => Nat.le_trans (r1 d hd) (hup d), fun d hd => ?_, ?_, fun d hd => ?_, ?_, by omega, ?_, ?_⟩
  · by_cases z : d = c
    · rw [z, ep_us]; omega
    · rw [ep_un z]; exact r2 d hd
  · intro d n hd q1 q2
    rcases cs d n q2 with z | z
    · exact ⟨(r3 d n hd q1 z).1, fun e he => Nat.le_trans ((r3 d n hd q1 z).2 e he) (hup e)⟩
    · obtain ⟨rfl, rfl⟩ := z
      exact ⟨g, fun e he => Nat.le_trans (ub e he) (hup e)⟩
  · by_cases z : d = c
    · rw [z, ep_us]; omega
    · rw [ep_un z, ep_cnt_n z]; exact r4 d hd
  · have := ep_sum4 hc hle
    omega
  · intro l hl
    by_cases z : mk c (h c) (16 + l) = true
    · refine Or.inl ⟨c, h c, hc, r1 c hc, by rw [ep_us]; omega, z, by rw [hdu l hl, if_pos z], fun d m hd q1 q2 y => ?_⟩
      rcases cs d m q2 with x | x
      · have ld : ep_lv h0 o d m := ⟨hd, q1, Nat.le_trans (Nat.le_of_lt x) (r2 d hd)⟩
        rcases J.1 c (h c) d m l lh ld (by omega) z y with t | t | t
        · obtain ⟨rfl, rfl⟩ := t
          exact Or.inl ⟨rfl, rfl⟩
        · exact Or.inr t
        · have := (r3 d m hd q1 x).2 c hc
          omega
      · exact Or.inl x
    · have zf : mk c (h c) (16 + l) = false := Bool.eq_false_iff.mpr z
      rcases r7 l hl with ⟨c1, n1, q1, q2, q3, q4, q5, q6⟩ | ⟨q1, q2⟩
      · refine Or.inl ⟨c1, n1, q1, q2, Nat.lt_of_lt_of_le q3 (hup c1), q4, by rw [hdu l hl, if_neg z]; exact q5, fun d m hd y1 y2 y3 => ?_⟩
        rcases cs d m y2 with x | x
        · exact q6 d m hd y1 x y3
        · obtain ⟨rfl, rfl⟩ := x
          rw [zf] at y3
          exact absurd y3 (by decide)
      · refine Or.inr ⟨fun d m hd y1 y2 => ?_, by rw [hdu l hl, if_neg z]; exact q2⟩
        rcases cs d m y2 with x | x
        · exact q1 d m hd y1 x
        · obtain ⟨rfl, rfl⟩ := x
          exact zf
  · intro h0c
    obtain ⟨k0, d0⟩ := r8 h0c
    have em : ∀ l, l < 8 → mk c (h c) (16 + l) = false := by
      rcases g with g | g
      · have := h0c c hc; omega
      · exact g
    refine ⟨by rw [k0, ep_rc_0 hL em], fun l hl => ?_⟩
    rw [hdu l hl, if_neg (by rw [em l (by omega)]; decide)]
    exact d0 l hl
end
end
section
/-! isUnblocked, canLeave, release, settle -/
def ep_S (o h : Nat → Nat) : Nat := (o 0 - h 0) + (o 1 - h 1) + (o 2 - h 2) + (o 3 - h 3)
theorem ep_S_up {o h : Nat → Nat} {c : Nat} (hc : c < 4) (hh : h c < o c) : ep_S o (ep_up h c (h c + 1)) + 1 = ep_S o h := by
  have q : c = 0 ∨ c = 1 ∨ c = 2 ∨ c = 3 := by omega
  unfold ep_S
  rcases q with q | q | q | q <;> subst q <;> simp [ep_up] <;> omega
def ep_CL (o ct : Nat → Nat) (V : Nat → Nat → Nat → Nat) (mk : Nat → Nat → Nat → Bool) (h : Nat → Nat) (c : Nat) : Prop := h c < o c ∧ ep_gd ct mk c (h c) ∧ ∀ d, d < 4 → V c (h c) d ≤ h d
section
variable {L B E Q qh qc : Nat} {ch md ql qv : Nat → Int32} {h o b : Nat → Nat} {M vs : Nat → Int32} {w ct : Nat → Nat} {du : Nat → Int32} {V : Nat → Nat → Nat → Nat} {mk : Nat → Nat → Nat → Bool} {pw : Nat → Nat → Nat → Int32}
theorem ep_unb_x {post : Int32 → Prop} {N : Nat} (c n : Nat) (l : ep_lv h o c n) (A : ep_XA h o V mk pw w M vs) (hb : ep_XB N h o w ct) (K : ∀ r : Bool, (r = true ↔ ∀ d, d < 4 → V c n d ≤ h d) → post (ep_b r)) : wpX_isUnblocked post (4, 64, (nI L), (nI B), (nI E), (nI Q), (nI qh), (nI qc), ch, md, ql, qv, (fun x_ => lN (h x_)), (fun x_ => lN (o x_)), (fun x_ => nI (b x_)), M, vs, (fun x_ => lN (w x_)), (fun x_ => lN (ct x_))) (nI (ep_sl c n)) := by
  have hN := hb.1
  have hs : ep_sl c n < 64 := ep_sl_lt l.1
  unfold wpX_isUnblocked
  dsimp only
  refine loop_0 (fun f i (r : Bool) => wX_isUnblocked_4 post (nI (ep_sl c n)) 4 64 (nI L) (nI B) (nI E) (nI Q) (nI qh) (nI qc) ch md ql qv (fun x_ => lN (h x_)) (fun x_ => lN (o x_)) (fun x_ => nI (b x_)) M vs (fun x_ => lN (w x_)) (fun x_ => lN (ct x_)) f (ep_b r) (nI i)) (fun i r => (r = true ↔ ∀ d, d < i → V c n d ≤ h d)) 4 true ?_ ?_ ?_
  · exact ⟨fun _ d hd => by omega, fun _ => rfl⟩
  · intro f r H
    exact br_t (nI_le (Nat.le_refl 4) (by decide)) ⟨ep_bnr r, K r H⟩
  · intro f i r hi H next
    have h1 := hb.2.2.2.1 (ep_sl c n * 4 + i)
    have h2 := hb.2.1 i
    have ew := (A c n l).1 i hi
    refine br_f (nI_ge (b := 4) hi (by decide)) ⟨ep_in4 (by omega), vp_in_nI hi (by decide), ?_⟩
    refine ep_le (f := w) (g := h) (ep_sl c n * 4 + i) i (ep_cl4 (by omega)) (nI_clamp (by omega)) (by omega) (by omega) (fun q => nm_r (nI_1 i) (next r ?_)) (fun q => nm_r (nI_1 i) (next false ?_))
    · rw [H]
      constructor
      · intro y d hd
        by_cases z : d = i
        · rw [z]; omega
        · exact y d (by omega)
      · intro y d hd
        exact y d (by omega)
    · constructor
      · intro y; exact absurd y (by decide)
      · intro y
        have := y i (by omega)
        omega
theorem ep_can_x {post : Int32 → Prop} {N : Nat} (c : Nat) (hc : c < 4) (hL : L ≤ 8) (I : ep_IV h o V) (J : ep_IM L h o V mk) (A : ep_XA h o V mk pw w M vs) (hb : ep_XB N h o w ct) (K : ∀ r : Bool, (r = true ↔ ep_CL o ct V mk h c) → post (ep_b r)) : wpX_canLeave post (4, 64, (nI L), (nI B), (nI E), (nI Q), (nI qh), (nI qc), ch, md, ql, qv, (fun x_ => lN (h x_)), (fun x_ => lN (o x_)), (fun x_ => nI (b x_)), M, vs, (fun x_ => lN (w x_)), (fun x_ => lN (ct x_))) (nI c) := by
  have hN := hb.1
  have h1 := hb.2.1 c
  have h2 := hb.2.2.1 c
  have h3 := hb.2.2.2.2 c
  have hs : ep_sl c (h c) < 64 := ep_sl_lt hc
  have lh := ep_lv_head I hc
  have fin : ep_gd ct mk c (h c) → h c < o c → wpX_isUnblocked (fun r_29 => (((r_29 = 0 → (post 0)) ∧ (¬ r_29 = 0 → (post 1))))) (4, 64, (nI L), (nI B), (nI E), (nI Q), (nI qh), (nI qc), ch, md, ql, qv, (fun x_ => lN (h x_)), (fun x_ => lN (o x_)), (fun x_ => nI (b x_)), M, vs, (fun x_ => lN (w x_)), (fun x_ => lN (ct x_))) (nI (ep_sl c (h c))) := by
    intro g q
    refine ep_unb_x c (h c) lh A hb (fun r hr => ?_)
    cases r
    · exact br_t rfl (K false ⟨fun y => absurd y (by decide), fun y => absurd (hr.mpr y.2.2) (by decide)⟩)
    · exact br_f (by decide) (K true ⟨fun _ => ⟨q, g, hr.mp rfl⟩, fun _ => rfl⟩)
  unfold wpX_canLeave
  dsimp only
  refine ⟨vp_in_nI hc (by decide), vp_in_nI hc (by decide), ?_⟩
  refine ep_lt (f := h) (g := o) c c (nI_clamp (by omega)) (nI_clamp (by omega)) (by omega) (by omega) (fun q => ⟨vp_in_nI hc (by decide), ?_⟩) (fun q => K false ⟨fun y => absurd y (by decide), fun y => by have := y.1; omega⟩)
  rw [nI_clamp (show c < 2 ^ 31 by omega)]
  refine ep_slot_x c (h c) hc (by omega) ⟨vp_in_nI hc (by decide), vp_in_nI hc (by decide), ?_⟩
  refine ek_if (d := h c < ct c) (lN_lt (by omega) (by omega)) (fun y => ?_) (fun y => ⟨vp_in_nI hs (by decide), ?_⟩)
  · exact br_f (by decide) (fin (Or.inl y) q)
  · rw [nI_clamp (show ep_sl c (h c) < 2 ^ 31 by omega)]
    refine ek_if (d := ∀ l, l < 8 → mk c (h c) (16 + l) = false) ?_ (fun x => ?_) (fun x => ?_)
    · rw [ep_ush]
      constructor
      · intro t l hl
        rw [← (A c (h c) lh).2.1 (16 + l) (by omega)]
        exact t _ (by omega) (by omega)
      · intro t j j1 j2
        rw [(A c (h c) lh).2.1 j j2]
        by_cases j3 : j < 24
        · have := t (j - 16) (by omega)
          rw [show 16 + (j - 16) = j from by omega] at this
          exact this
        · exact J.2.2 c (h c) j lh (by omega) j2
    · exact br_f (by decide) (fin (Or.inr x) q)
    · exact br_t rfl (K false ⟨fun t => absurd t (by decide), fun t => by
        rcases t.2.1 with s | s
        · exact absurd s y
        · exact absurd s x⟩)
theorem ep_XA_drop {M' : Nat → Int32} {c : Nat} (A : ep_XA h o V mk pw w M vs) (lb : ep_LB h o) (hc : c < 4) (ho : h c ≤ o c) (k1 : ∀ i, i ≠ ep_sl c (h c) → M' i = M i) : ep_XA (ep_up h c (h c + 1)) o V mk pw w M' vs := by
  intro d n l
  have hl := lb c hc
  have l2 : ep_lv h o d n ∧ ¬ (d = c ∧ n = h c) := by
    obtain ⟨l1, l2, l3⟩ := l
    by_cases z : d = c
    · subst z
      rw [ep_us] at l2
      exact ⟨⟨l1, by omega, l3⟩, fun y => by omega⟩
    · rw [ep_un z] at l2
      exact ⟨⟨l1, l2, l3⟩, fun y => z y.1⟩
  obtain ⟨a1, a2, a3⟩ := A d n l2.1
  have sn : ep_sl d n ≠ ep_sl c (h c) := ep_sl_ne l2.1 (Nat.le_refl _) (by omega) (fun q => by subst q; have := l.2.2; omega) l2.2
  exact ⟨a1, fun j hj => by rw [k1 _ sn]; exact a2 j hj, a3⟩
theorem ep_LB_up {c : Nat} (lb : ep_LB h o) : ep_LB (ep_up h c (h c + 1)) o := by
  intro d hd
  have := lb d hd
  by_cases z : d = c
  · rw [z, ep_us]; subst z; omega
  · rw [ep_un z]; exact this
end
section
variable {L B E Q : Nat} {ch : Nat → Int32} {o : Nat → Nat} {vs : Nat → Int32} {w ct : Nat → Nat} {V : Nat → Nat → Nat → Nat} {mk : Nat → Nat → Nat → Bool} {pw : Nat → Nat → Nat → Int32} {h0 b0 : Nat → Nat} {qc0 N : Nat} {du0 : Nat → Int32}
theorem ep_rel21_x {post : Int32 → SX → Prop} {J6 : Int32 → Int32 → Int32 → Int32 → Int32 → Int32 → Int32 → Int32 → Int32 → Int32 → Int32 → (Nat → Int32) → (Nat → Int32) → (Nat → Int32) → (Nat → Int32) → (Nat → Int64) → (Nat → Int64) → (Nat → Int32) → (Nat → Int32) → (Nat → Int32) → (Nat → Int64) → (Nat → Int64) → Prop} (hL : L ≤ 8) (hQ : Q ≤ 8) (hQ1 : 1 ≤ Q) (I : ep_IV h0 o V) (J : ep_IM L h0 o V mk) (p : Nat) (hs : Nat → Nat)
  (K : ∀ (k : Nat) (mv : Bool) (h b : Nat → Nat) (M : Nat → Int32) (qh qc : Nat) (md ql qv du : Nat → Int32), ep_XA h o V mk pw w M vs → ep_LB h o → ep_XB N h o w ct → ep_RI L Q h0 o V mk pw ct b0 qc0 du0 k h b qc du → ep_Q L Q qh qc md ql qv du → (mv = false → (∀ c, c < 4 → h c = hs c) ∧ ∀ c, c < 4 → ¬ ep_CL o ct V mk hs c) → (mv = true → ep_S o h < ep_S o hs) → J6 (nI k) (ep_b mv) (nI (p + 1)) 4 64 (nI L) (nI B) (nI E) (nI Q) (nI qh) (nI qc) ch md ql qv (fun x_ => lN (h x_)) (fun x_ => lN (o x_)) (fun x_ => nI (b x_)) M vs (fun x_ => lN (w x_)) (fun x_ => lN (ct x_))) :
  ∀ (j i k : Nat) (mv : Bool) (h b : Nat → Nat) (M : Nat → Int32) (qh qc : Nat) (md ql qv du : Nat → Int32), i + j = 4 → ep_XA h o V mk pw w M vs → ep_LB h o → ep_XB N h o w ct → ep_RI L Q h0 o V mk pw ct b0 qc0 du0 k h b qc du → ep_Q L Q qh qc md ql qv du → (mv = false → (∀ c, c < 4 → h c = hs c) ∧ ∀ c, c < i → ¬ ep_CL o ct V mk hs c) → (mv = true → ep_S o h < ep_S o hs) → wX_release_21 post J6 (nI p) (j + 1) (nI k) (ep_b mv) (nI i) 4 64 (nI L) (nI B) (nI E) (nI Q) (nI qh) (nI qc) ch md ql qv (fun x_ => lN (h x_)) (fun x_ => lN (o x_)) (fun x_ => nI (b x_)) M vs (fun x_ => lN (w x_)) (fun x_ => lN (ct x_)) := by
  intro j
  induction j with
  | zero =>
    intro i k mv h b M qh qc md ql qv du hi A lb hb R q m0 m1
    have e : i = 4 := by omega
    subst e
    exact br_t (nI_le (Nat.le_refl 4) (by decide)) (nm_r (nI_1 p) (K k mv h b M qh qc md ql qv du A lb hb R q m0 m1))
  | succ j ih =>
    intro i k mv h b M qh qc md ql qv du hi A lb hb R q m0 m1
    have hi4 : i < 4 := by omega
    have hN := hb.1
    have I1 : ep_IV h o V := ep_IV_h I R.1 R.2.1
    have J1 : ep_IM L h o V mk := ep_IM_h J R.1
    refine br_f (nI_ge (b := 4) hi4 (by decide)) (ep_can_x i hi4 hL I1 J1 A hb (fun r hr => ?_))
    cases r
    · refine br_t rfl (nm_r (nI_1 i) (ih (i + 1) k mv h b M qh qc md ql qv du (by omega) A lb hb R q (fun z => ⟨(m0 z).1, fun c hc => ?_⟩) m1))
      by_cases y : c = i
      · subst y
        intro x
        have hh := (m0 z).1
        have : ep_CL o ct V mk h c := by
          obtain ⟨x1, x2, x3⟩ := x
          rw [← hh c hi4] at x1 x2 x3
          exact ⟨x1, x2, fun d hd => by rw [hh d hd]; exact x3 d hd⟩
        exact absurd (hr.mpr this) (by decide)
      · exact (m0 z).2 c (by omega)
    · obtain ⟨c1, c2, c3⟩ := hr.mp rfl
      have hsl : ep_sl i (h i) < 64 := ep_sl_lt hi4
      have h1 := hb.2.1 i
      have h2 := hb.2.2.1 i
      have lh := ep_lv_head I1 hi4
      refine br_f (by decide) ⟨vp_in_nI hi4 (by decide), ?_⟩
      rw [nI_clamp (show i < 2 ^ 31 by omega)]
      refine ep_slot_x i (h i) hi4 (by omega) ?_
      unfold wpX_drainEpoch
      dsimp only
      have hrc : ep_rc (mk i (h i)) 8 = ep_rc (mk i (h i)) L := ep_rc_L hL (fun x q1 q2 => J1.2.2 i (h i) x lh q1 q2)
      have hcn := ep_cnt_hd (mk := mk) (R.2.1 i hi4)
      have hbc := R.2.2.2.1 i hi4
      refine ⟨L + 1, ep_drainE_x i (ep_sl i (h i)) (mk i (h i)) b M du qc hsl ep_sl_dv hL hQ hQ1 (by omega) L 0 b M du qh qc md ql qv (by omega) ?_ ?_ (fun _ _ => rfl) ?_ ?_ q ?_⟩
      · funext x
        by_cases y : x = i
        · rw [y, ep_us]; rfl
        · rw [ep_un y]
      · have := q.2.1
        show qc = min (qc + 0) Q
        omega
      · intro x hx
        rw [(A i (h i) lh).2.1 x hx, decide_eq_decide.mpr (show x < 16 + 0 ↔ x < 16 by omega)]
        by_cases y : 16 ≤ x
        · rw [decide_eq_false (p := x < 16) (by omega), Bool.and_false, Bool.not_false, Bool.and_true]
        · rw [decide_eq_false y, Bool.false_and, Bool.not_false, Bool.and_true]
      · intro x hx
        rw [if_neg (by omega)]
      · intro b' M' du' qh' qc' md' ql' qv' eb eq' kM kd q'
        dsimp only
        refine nm_r (nI_add _ _) ⟨vp_in_nI hi4 (by decide), vp_in_nI hi4 (by decide), nm_r (e' := fun x => lN (ep_up h i (h i + 1) x)) ?_ (nm_r (nI_1 i) ?_)⟩
        · rw [lN_1]
          exact ep_uL h i _
        · have hdu : ∀ x, x < L → du' x = if mk i (h i) (16 + x) = true then pw i (h i) x else du x := by
            intro x hx
            rw [kd x hx]
            by_cases y : mk i (h i) (16 + x) = true
            · rw [if_pos y, if_pos y]
              exact (A i (h i) lh).2.2 x (by omega) y
            · rw [if_neg y, if_neg y]
          have R' := ep_RI_step hL I J R hi4 c1 c2 c3 hdu
          rw [← eb, ← eq'] at R'
          have hS := ep_S_up (o := o) hi4 c1
          refine ih (i + 1) _ true _ b' M' qh' qc' md' ql' qv' du' (by omega) (ep_XA_drop A lb hi4 (R.2.1 i hi4) kM) (ep_LB_up lb) ⟨hb.1, fun x => ?_, hb.2.2⟩ R' q' (fun y => absurd y (by decide)) (fun _ => ?_)
          · by_cases y : x = i
            · rw [y, ep_us]; omega
            · rw [ep_un y]; exact hb.2.1 x
          · cases mv
            · have hh := (m0 rfl).1
              have : ep_S o h = ep_S o hs := by
                unfold ep_S
                rw [hh 0 (by omega), hh 1 (by omega), hh 2 (by omega), hh 3 (by omega)]
              omega
            · have := m1 rfl
              omega
theorem ep_rel6_x {post : Int32 → SX → Prop} (hL : L ≤ 8) (hQ : Q ≤ 8) (hQ1 : 1 ≤ Q) (I : ep_IV h0 o V) (J : ep_IM L h0 o V mk)
  (K : ∀ (k : Nat) (h b : Nat → Nat) (M : Nat → Int32) (qh qc : Nat) (md ql qv du : Nat → Int32), ep_XA h o V mk pw w M vs → ep_LB h o → ep_XB N h o w ct → ep_RI L Q h0 o V mk pw ct b0 qc0 du0 k h b qc du → ep_Q L Q qh qc md ql qv du → ep_ST h o V (ep_gd ct mk) → post (nI k) (4, 64, (nI L), (nI B), (nI E), (nI Q), (nI qh), (nI qc), ch, md, ql, qv, (fun x_ => lN (h x_)), (fun x_ => lN (o x_)), (fun x_ => nI (b x_)), M, vs, (fun x_ => lN (w x_)), (fun x_ => lN (ct x_)))) :
  ∀ (n k p : Nat) (h b : Nat → Nat) (M : Nat → Int32) (qh qc : Nat) (md ql qv du : Nat → Int32), ep_S o h + 2 ≤ n → p + ep_S o h ≤ 60 → ep_XA h o V mk pw w M vs → ep_LB h o → ep_XB N h o w ct → ep_RI L Q h0 o V mk pw ct b0 qc0 du0 k h b qc du → ep_Q L Q qh qc md ql qv du → wX_release_6 post n (nI k) 1 (nI p) 4 64 (nI L) (nI B) (nI E) (nI Q) (nI qh) (nI qc) ch md ql qv (fun x_ => lN (h x_)) (fun x_ => lN (o x_)) (fun x_ => nI (b x_)) M vs (fun x_ => lN (w x_)) (fun x_ => lN (ct x_)) := by
  intro n
  induction n with
  | zero => intro k p h b M qh qc md ql qv du hn; omega
  | succ n ih =>
    intro k p h b M qh qc md ql qv du hn hp A lb hb R q
    refine br_f (by decide) (br_f (nI_ge (b := 64) (by omega) (by decide)) ⟨5, ?_⟩)
    refine ep_rel21_x hL hQ hQ1 I J p h ?_ 4 0 k false h b M qh qc md ql qv du (by omega) A lb hb R q (fun _ => ⟨fun _ _ => rfl, fun c hc => by omega⟩) (fun y => absurd y (by decide))
    intro k' mv h' b' M' qh' qc' md' ql' qv' du' A' lb' hb' R' q' m0 m1
    cases mv
    · obtain ⟨n', rfl⟩ : ∃ n', n = n' + 1 := ⟨n - 1, by omega⟩
      refine br_t rfl (K k' h' b' M' qh' qc' md' ql' qv' du' A' lb' hb' R' q' ?_)
      obtain ⟨e, st⟩ := m0 rfl
      intro c hc x1 x2
      refine Classical.byContradiction fun y => st c hc ?_
      rw [e c hc] at x1 x2
      refine ⟨x1, x2, fun d hd => ?_⟩
      refine Nat.not_lt.mp (fun x => y ⟨d, hd, ?_⟩)
      rw [e d hd, e c hc]
      exact x
    · have := m1 rfl
      exact ih k' (p + 1) h' b' M' qh' qc' md' ql' qv' du' (by omega) (by omega) A' lb' hb' R' q'
end
section
variable {L B E Q qh qc : Nat} {ch md ql qv : Nat → Int32} {h o b : Nat → Nat} {M vs : Nat → Int32} {w ct : Nat → Nat} {du : Nat → Int32} {V : Nat → Nat → Nat → Nat} {mk : Nat → Nat → Nat → Bool} {pw : Nat → Nat → Nat → Int32} {N : Nat}
theorem ep_release_x {post : Int32 → SX → Prop} (hL : L ≤ 8) (hQ : Q ≤ 8) (hQ1 : 1 ≤ Q) (I : ep_IV h o V) (J : ep_IM L h o V mk) (A : ep_XA h o V mk pw w M vs) (lb : ep_LB h o) (hb : ep_XB N h o w ct) (hbc : ∀ c, c < 4 → b c = ep_cnt h o mk c) (q : ep_Q L Q qh qc md ql qv du)
  (K : ∀ (k : Nat) (h' b' : Nat → Nat) (M' : Nat → Int32) (qh' qc' : Nat) (md' ql' qv' du' : Nat → Int32), ep_XA h' o V mk pw w M' vs → ep_LB h' o → ep_XB N h' o w ct → ep_RI L Q h o V mk pw ct b qc du k h' b' qc' du' → ep_Q L Q qh' qc' md' ql' qv' du' → ep_ST h' o V (ep_gd ct mk) → post (nI k) (4, 64, (nI L), (nI B), (nI E), (nI Q), (nI qh'), (nI qc'), ch, md', ql', qv', (fun x_ => lN (h' x_)), (fun x_ => lN (o x_)), (fun x_ => nI (b' x_)), M', vs, (fun x_ => lN (w x_)), (fun x_ => lN (ct x_)))) : wpX_release post (4, 64, (nI L), (nI B), (nI E), (nI Q), (nI qh), (nI qc), ch, md, ql, qv, (fun x_ => lN (h x_)), (fun x_ => lN (o x_)), (fun x_ => nI (b x_)), M, vs, (fun x_ => lN (w x_)), (fun x_ => lN (ct x_))) := by
  unfold wpX_release
  dsimp only
  have l0 := lb 0 (by omega)
  have l1 := lb 1 (by omega)
  have l2 := lb 2 (by omega)
  have l3 := lb 3 (by omega)
  have hS : ep_S o h ≤ 44 := by unfold ep_S; omega
  exact ⟨46, ep_rel6_x hL hQ hQ1 I J K 46 0 0 h b M qh qc md ql qv du (by omega) (by omega) A lb hb (ep_RI_0 I.1 hbc q.2.1) q⟩
/-- settle: what is complete leaves, nothing is drained -/
theorem ep_settle_x {post : SX → Prop} (hL : L ≤ 8) (hQ : Q ≤ 8) (hQ1 : 1 ≤ Q) (I : ep_IV h o V) (J : ep_IM L h o V mk) (A : ep_XA h o V mk pw w M vs) (lb : ep_LB h o) (hb : ep_XB N h o w ct) (hbc : ∀ c, c < 4 → b c = ep_cnt h o mk c) (q : ep_Q L Q qh qc md ql qv du)
  (K : ∀ (h' b' : Nat → Nat) (M' : Nat → Int32) (qh' : Nat) (md' ql' qv' : Nat → Int32) (ct' : Nat → Nat), ep_XA h' o V mk pw w M' vs → ep_LB h' o → ep_XB N h' o w ct' → (∀ c, c < 4 → h c ≤ h' c) → (∀ c, c < 4 → h' c ≤ o c) → (∀ c, c < 4 → b' c = ep_cnt h' o mk c) → ep_DC h h' V (fun c n => ∀ l, l < 8 → mk c n (16 + l) = false) → ep_ST h' o V (fun c n => ∀ l, l < 8 → mk c n (16 + l) = false) → ep_Q L Q qh' qc md' ql' qv' du → post (4, 64, (nI L), (nI B), (nI E), (nI Q), (nI qh'), (nI qc), ch, md', ql', qv', (fun x_ => lN (h' x_)), (fun x_ => lN (o x_)), (fun x_ => nI (b' x_)), M', vs, (fun x_ => lN (w x_)), (fun x_ => lN (ct' x_)))) : wpX_settle post (4, 64, (nI L), (nI B), (nI E), (nI Q), (nI qh), (nI qc), ch, md, ql, qv, (fun x_ => lN (h x_)), (fun x_ => lN (o x_)), (fun x_ => nI (b x_)), M, vs, (fun x_ => lN (w x_)), (fun x_ => lN (ct x_))) := by
  unfold wpX_settle
  dsimp only
  refine ep_clear_x (fun ct' z0 z1 => ?_)
  dsimp only
  have hN := hb.1
  have hb' : ep_XB N h o w ct' := ⟨hb.1, hb.2.1, hb.2.2.1, hb.2.2.2.1, fun d => by
    by_cases z : d < 4
    · rw [z0 d z]; omega
    · rw [z1 d (by omega)]; exact hb.2.2.2.2 d⟩
  refine ep_release_x hL hQ hQ1 I J A lb hb' hbc q (fun k h' b' M' qh' qc' md' ql' qv' du' A' lb' hb2 R q' st => ?_)
  obtain ⟨r1, r2, r3, r4, r5, r6, r7, r8⟩ := R
  obtain ⟨k0, d0⟩ := r8 z0
  have eq' : qc' = qc := by
    have := q.2.1
    rw [r6, k0]
    omega
  subst eq'
  refine K h' b' M' qh' md' ql' qv' ct' A' lb' hb2 r1 r2 r4 ?_ ?_ ?_
  · intro c n hc n1 n2
    obtain ⟨g, y⟩ := r3 c n hc n1 n2
    refine ⟨?_, y⟩
    rcases g with g | g
    · rw [z0 c hc] at g; omega
    · exact g
  · intro c hc x1 x2
    exact st c hc x1 (Or.inr x2)
  · exact ⟨q'.1, q'.2.1, q'.2.2.1, fun l hl => by rw [q'.2.2.2 l hl]; exact d0 l hl⟩
end
end
section
/-! the reference's small walks -/
theorem ep_div8 {i : Nat} (hi : i < 320) : nI i / 8 = nI (i / 8) := pk_div (d := 8) (by omega) (by decide) (by decide)
theorem ep_mod8 {i : Nat} (hi : i < 320) : nI i - nI i / 8 * 8 = nI (i % 8) := pk_rem (d := 8) (by omega) (by decide) (by decide)
/-- the reference's rank of a slot -/
def ep_rk (cf bf : Nat → Int32) (e : Nat) : Nat := ep_sum (fun f => if cf f = cf e ∧ ¬ bf (f * 40 + e) = 0 then 1 else 0) 40
section
variable {L B E Q q : Nat} {cy du cf op rd wr ve bf so it cn : Nat → Int32}
theorem ep_v_y {post : Int32 → Prop} (c l : Nat) (hc : c < 4) (hl : l < L) (hL : L ≤ 8) (K : post 1) : wpY_valid post ((nI L), (nI B), (nI E), (nI Q), (nI q), cy, du, cf, op, rd, wr, ve, bf, so, it, cn) (nI c) (nI l) :=
  br_f (nI_pos (by omega)) (br_f (nI_ge (b := 4) hc (by decide)) (br_f (nI_pos (by omega)) (br_f (nI_ge (b := L) hl (by omega)) K)))
theorem ep_vb_y {post : Int32 → Prop} {x y : Int32} (hx : x < 0 ∨ nI 4 ≤ x ∨ y < 0 ∨ nI L ≤ y) (K : post 0) : wpY_valid post ((nI L), (nI B), (nI E), (nI Q), (nI q), cy, du, cf, op, rd, wr, ve, bf, so, it, cn) x y := by
  by_cases h0 : x < 0
  · exact br_t h0 K
  · by_cases h1 : nI 4 ≤ x
    · exact br_f h0 (br_t h1 K)
    · by_cases h2 : y < 0
      · exact br_f h0 (br_f h1 (br_t h2 K))
      · rcases hx with hx | hx | hx | hx
        · exact absurd hx h0
        · exact absurd hx h1
        · exact absurd hx h2
        · exact br_f h0 (br_f h1 (br_f h2 (br_t hx K)))
theorem ep_vers_y {post : Int32 → Prop} (x : Int32) (K : post (nI (ep_sum (fun i => if cf (i / 8) = x ∧ ¬ ve i < 0 then 1 else 0) 320))) : wpY_versionsOf post ((nI L), (nI B), (nI E), (nI Q), (nI q), cy, du, cf, op, rd, wr, ve, bf, so, it, cn) x := by
  unfold wpY_versionsOf
  dsimp only
  refine loop_0 (fun n i (k : Nat) => wY_versionsOf_4 post x (nI L) (nI B) (nI E) (nI Q) (nI q) cy du cf op rd wr ve bf so it cn n (nI k) (nI i)) (fun i k => k = ep_sum (fun i => if cf (i / 8) = x ∧ ¬ ve i < 0 then 1 else 0) i) 320 0 rfl ?_ ?_
  · intro n k H
    refine br_t (nI_le (Nat.le_refl 320) (by decide)) ?_
    rw [H]
    exact K
  · intro n i k hi H next
    refine br_f (nI_ge (b := 320) hi (by decide)) ⟨by decide, ?_⟩
    rw [ep_div8 hi, nI_clamp (show i / 8 < 2 ^ 31 by omega), nI_clamp (show i < 2 ^ 31 by omega)]
    refine ⟨vp_in_nI (by omega) (by decide), br_c (fun z => ⟨vp_in_nI hi (by decide), br_c (fun y => nm_r (nI_1 i) (next k ?_)) (fun y => nm_r (nI_1 k) (nm_r (nI_1 i) (next (k + 1) ?_)))⟩) (fun z => nm_r (nI_1 i) (next k ?_))⟩
    · show k = ep_sum _ i + (if cf (i / 8) = x ∧ ¬ ve i < 0 then 1 else 0)
      rw [if_neg (fun t => t.2 y), ← H]
      rfl
    · show k + 1 = ep_sum _ i + (if cf (i / 8) = x ∧ ¬ ve i < 0 then 1 else 0)
      rw [if_pos ⟨z, y⟩, ← H]
    · show k = ep_sum _ i + (if cf (i / 8) = x ∧ ¬ ve i < 0 then 1 else 0)
      rw [if_neg (fun t => z t.1), ← H]
      rfl
theorem ep_epo_y {post : Int32 → Prop} (c : Nat) (hc : c < 4) (hL0 : 1 ≤ L) (hL : L ≤ 8) (K : post (nI (ep_sum (fun e => if cf e = nI c then 1 else 0) 40))) : wpY_epochs post ((nI L), (nI B), (nI E), (nI Q), (nI q), cy, du, cf, op, rd, wr, ve, bf, so, it, cn) (nI c) := by
  unfold wpY_epochs
  dsimp only
  refine ep_v_y c 0 hc (by omega) hL (br_f (by decide) ?_)
  refine loop_0 (fun n i (k : Nat) => wY_epochs_15 post (nI c) (nI L) (nI B) (nI E) (nI Q) (nI q) cy du cf op rd wr ve bf so it cn n (nI k) (nI i)) (fun i k => k = ep_sum (fun e => if cf e = nI c then 1 else 0) i) 40 0 rfl ?_ ?_
  · intro n k H
    refine br_t (nI_le (Nat.le_refl 40) (by decide)) ?_
    rw [H]
    exact K
  · intro n i k hi H next
    refine br_f (nI_ge (b := 40) hi (by decide)) ⟨vp_in_nI hi (by decide), ?_⟩
    rw [nI_clamp (show i < 2 ^ 31 by omega)]
    refine br_c (fun z => nm_r (nI_1 k) (nm_r (nI_1 i) (next (k + 1) ?_))) (fun z => nm_r (nI_1 i) (next k ?_))
    · show k + 1 = ep_sum _ i + (if cf i = nI c then 1 else 0)
      rw [if_pos z, ← H]
    · show k = ep_sum _ i + (if cf i = nI c then 1 else 0)
      rw [if_neg z, ← H]
      rfl
theorem ep_drop_y {post : SY → Prop} (e : Nat) (he : e < 40) (K : ∀ (rd' wr' ve' bf' : Nat → Int32), (∀ f l, f ≠ e → l < 8 → rd' (f * 8 + l) = rd (f * 8 + l) ∧ wr' (f * 8 + l) = wr (f * 8 + l) ∧ ve' (f * 8 + l) = ve (f * 8 + l)) → (∀ l, l < 8 → rd' (e * 8 + l) = 0 ∧ wr' (e * 8 + l) = 0 ∧ ve' (e * 8 + l) = -1) → (∀ a b, a < 40 → b < 40 → (a = e ∨ b = e) → bf' (a * 40 + b) = 0) → (∀ a b, a < 40 → b < 40 → a ≠ e → b ≠ e → bf' (a * 40 + b) = bf (a * 40 + b)) → post ((nI L), (nI B), (nI E), (nI Q), (nI q), cy, du, (upd cf e (-1)), (upd op e 0), rd', wr', ve', bf', so, it, cn)) : wpY_drop post ((nI L), (nI B), (nI E), (nI Q), (nI q), cy, du, cf, op, rd, wr, ve, bf, so, it, cn) (nI e) := by
  unfold wpY_drop
  dsimp only
  rw [nI_clamp (show e < 2 ^ 31 by omega)]
  refine ⟨vp_in_nI he (by decide), nm_e ⟨vp_in_nI he (by decide), nm_e ?_⟩⟩
  rw [ep_n0, ep_bf0]
  refine loop_0 (fun n i (s : (Nat → Int32) × (Nat → Int32) × (Nat → Int32)) => wY_drop_16 post (nI e) (nI L) (nI B) (nI E) (nI Q) (nI q) n (nI i) cy du (upd cf e (-1)) (upd op e 0) (s.1) (s.2.1) (s.2.2) bf so it cn) (fun i s => (∀ f l, f ≠ e → l < 8 → s.1 (f * 8 + l) = rd (f * 8 + l) ∧ s.2.1 (f * 8 + l) = wr (f * 8 + l) ∧ s.2.2 (f * 8 + l) = ve (f * 8 + l)) ∧ (∀ l, l < i → s.1 (e * 8 + l) = 0 ∧ s.2.1 (e * 8 + l) = 0 ∧ s.2.2 (e * 8 + l) = -1)) 8 (rd, wr, ve) ?_ ?_ ?_
  · exact ⟨fun f l _ _ => ⟨rfl, rfl, rfl⟩, fun l hl => by omega⟩
  · intro n s H
    refine br_t (nI_le (Nat.le_refl 8) (by decide)) ?_
    refine loop_0 (fun n i (bf' : Nat → Int32) => wY_drop_66 post (nI e) (nI L) (nI B) (nI E) (nI Q) (nI q) n (nI i) cy du (upd cf e (-1)) (upd op e 0) (s.1) (s.2.1) (s.2.2) bf' so it cn) (fun i bf' => (∀ a b, a < 40 → b < 40 → a ≠ e → b ≠ e → bf' (a * 40 + b) = bf (a * 40 + b)) ∧ (∀ x, x < i → bf' (e * 40 + x) = 0 ∧ bf' (x * 40 + e) = 0)) 40 bf ?_ ?_ ?_
    · exact ⟨fun a b _ _ _ _ => rfl, fun x hx => by omega⟩
    · intro m bf' G
      refine br_t (nI_le (Nat.le_refl 40) (by decide)) (K _ _ _ _ H.1 H.2 (fun a b ha hb z => ?_) G.1)
      rcases z with z | z
      · subst z; exact (G.2 b hb).1
      · subst z; exact (G.2 a ha).2
    · intro m i bf' hi G next
      refine br_f (nI_ge (b := 40) hi (by decide)) ⟨ep_in40 (by omega), nm_e ⟨ep_in40 (by omega), nm_e (nm_r (nI_1 i) (next _ ⟨fun a b ha hb z1 z2 => ?_, fun x hx => ?_⟩))⟩⟩
      · rw [ep_cl40 (by omega), ep_cl40 (by omega), pk_un (by omega), pk_un (by omega)]
        exact G.1 a b ha hb z1 z2
      · rw [ep_cl40 (by omega), ep_cl40 (by omega), ep_n0, ep_bf0]
        by_cases q : x = i
        · subst q
          refine ⟨?_, pk_us⟩
          by_cases q2 : x = e
          · subst q2; exact pk_us
          · rw [pk_un (by omega), pk_us]
        · have g := G.2 x (by omega)
          refine ⟨?_, ?_⟩
          · by_cases q3 : e * 40 + x = i * 40 + e
            · rw [q3, pk_us]
            · rw [pk_un q3, pk_un (by omega)]; exact g.1
          · rw [pk_un (by omega)]
            by_cases q3 : x * 40 + e = e * 40 + i
            · rw [q3, pk_us]
            · rw [pk_un q3]; exact g.2
  · intro n i s hi H next
    refine br_f (nI_ge (b := 8) hi (by decide)) ⟨ep_in8 (by omega), nm_r (e' := upd s.1 (e * 8 + i) 0) (by rw [ep_cl8 (by omega)]; rfl) ⟨ep_in8 (by omega), nm_r (e' := upd s.2.1 (e * 8 + i) 0) (by rw [ep_cl8 (by omega)]; rfl) ⟨ep_in8 (by omega), nm_r (e' := upd s.2.2 (e * 8 + i) (-1)) (by rw [ep_cl8 (by omega)]) (nm_r (nI_1 i) (next (upd s.1 (e * 8 + i) 0, upd s.2.1 (e * 8 + i) 0, upd s.2.2 (e * 8 + i) (-1)) ⟨fun f l z1 z2 => ?_, fun l hl => ?_⟩))⟩⟩⟩
    · dsimp only
      rw [pk_un (by omega), pk_un (by omega), pk_un (by omega)]
      exact H.1 f l z1 z2
    · dsimp only
      by_cases q : l = i
      · rw [q, pk_us, pk_us, pk_us]
        exact ⟨rfl, rfl, rfl⟩
      · rw [pk_un (by omega), pk_un (by omega), pk_un (by omega)]
        exact H.2 l (by omega)
theorem ep_begin_y {post : Int32 → SY → Prop} (x : Int32) (hf : ∃ e, e < 40 ∧ ¬ 0 ≤ cf e) (K : ∀ e, e < 40 → ¬ 0 ≤ cf e → post (nI e) ((nI L), (nI B), (nI E), (nI Q), (nI q), cy, du, (upd cf e x), (upd op e 1), rd, wr, ve, bf, so, it, cn)) : wpY_begin post ((nI L), (nI B), (nI E), (nI Q), (nI q), cy, du, cf, op, rd, wr, ve, bf, so, it, cn) x := by
  unfold wpY_begin
  dsimp only
  refine loop_0 (fun n i (_ : Unit) => wY_begin_2 post x (nI L) (nI B) (nI E) (nI Q) (nI q) cy du cf op rd wr ve bf so it cn n (nI i)) (fun i _ => ∀ e, e < i → 0 ≤ cf e) 40 () (fun e he => by omega) ?_ ?_
  · intro n _ H
    obtain ⟨e, he, z⟩ := hf
    exact absurd (H e he) z
  · intro n i _ hi H next
    refine br_f (nI_ge (b := 40) hi (by decide)) ⟨vp_in_nI hi (by decide), ?_⟩
    rw [nI_clamp (show i < 2 ^ 31 by omega)]
    refine br_c (fun z => nm_r (nI_1 i) (next () (fun e he => ?_))) (fun z => ⟨vp_in_nI hi (by decide), nm_e ⟨vp_in_nI hi (by decide), nm_e (K i hi z)⟩⟩)
    by_cases q : e = i
    · rw [q]; exact z
    · exact H e (by omega)
theorem ep_openOf_y {post : Int32 → Prop} (x : Int32) (e : Nat) (he : e < 40) (h1 : cf e = x) (h2 : ¬ op e = 0) (hu : ∀ f, f < 40 → cf f = x → ¬ op f = 0 → f = e) (K : post (nI e)) : wpY_openOf post ((nI L), (nI B), (nI E), (nI Q), (nI q), cy, du, cf, op, rd, wr, ve, bf, so, it, cn) x := by
  unfold wpY_openOf
  dsimp only
  refine loop_0 (fun n i (r : Nat) => wY_openOf_4 post x (nI L) (nI B) (nI E) (nI Q) (nI q) cy du cf op rd wr ve bf so it cn n (nI r) (nI i)) (fun i r => e < i → r = e) 40 0 (fun z => by omega) ?_ ?_
  · intro n r H
    refine br_t (nI_le (Nat.le_refl 40) (by decide)) ?_
    rw [H he]
    exact K
  · intro n i r hi H next
    refine br_f (nI_ge (b := 40) hi (by decide)) ⟨vp_in_nI hi (by decide), ?_⟩
    rw [nI_clamp (show i < 2 ^ 31 by omega)]
    refine br_c (fun z => ⟨vp_in_nI hi (by decide), br_c (fun y => nm_r (nI_1 i) (next r (fun q => H ?_))) (fun y => nm_r (nI_1 i) (next i (fun q => hu i hi z y)))⟩) (fun z => nm_r (nI_1 i) (next r (fun q => H ?_)))
    · have : e ≠ i := fun t => h2 (t ▸ y)
      omega
    · have : e ≠ i := fun t => z (t ▸ h1)
      omega
theorem ep_at_y {post : Int32 → Prop} (x y : Int32) (K : ∀ r, ((∃ e, e < 40 ∧ r = nI e ∧ ¬ x < 0 ∧ cf e = x ∧ nI (ep_rk cf bf e) = y) ∨ (r = -1 ∧ ∀ e, e < 40 → ¬ (¬ x < 0 ∧ cf e = x ∧ nI (ep_rk cf bf e) = y))) → post r) : wpY_at post ((nI L), (nI B), (nI E), (nI Q), (nI q), cy, du, cf, op, rd, wr, ve, bf, so, it, cn) x y := by
  unfold wpY_at
  dsimp only
  refine loop_0 (fun n i (_ : Unit) => wY_at_2 post x y (nI L) (nI B) (nI E) (nI Q) (nI q) cy du cf op rd wr ve bf so it cn n (nI i)) (fun i _ => ∀ e, e < i → ¬ (¬ x < 0 ∧ cf e = x ∧ nI (ep_rk cf bf e) = y)) 40 () (fun e he => by omega) ?_ ?_
  · intro n _ H
    exact br_t (nI_le (Nat.le_refl 40) (by decide)) (K (-1) (Or.inr ⟨rfl, H⟩))
  · intro n i _ hi H next
    refine br_f (nI_ge (b := 40) hi (by decide)) ?_
    have next' : ¬ (¬ x < 0 ∧ cf i = x ∧ nI (ep_rk cf bf i) = y) → wY_at_2 post x y (nI L) (nI B) (nI E) (nI Q) (nI q) cy du cf op rd wr ve bf so it cn n (nI (i + 1)) := by
      intro z
      refine next () (fun e he => ?_)
      by_cases q : e = i
      · rw [q]; exact z
      · exact H e (by omega)
    refine loop_0 (fun m j (k : Nat) => wY_at_14 post (wY_at_2 post x y (nI L) (nI B) (nI E) (nI Q) (nI q) cy du cf op rd wr ve bf so it cn n) x y (nI i) (nI L) (nI B) (nI E) (nI Q) (nI q) cy du cf op rd wr ve bf so it cn m (nI k) (nI j)) (fun j k => k = ep_sum (fun f => if cf f = cf i ∧ ¬ bf (f * 40 + i) = 0 then 1 else 0) j) 40 0 rfl ?_ ?_
    · intro m k G
      refine br_t (nI_le (Nat.le_refl 40) (by decide)) ?_
      rw [nI_clamp (show i < 2 ^ 31 by omega)]
      have ek : k = ep_rk cf bf i := G
      refine br_c (fun z => nm_r (nI_1 i) (next' (fun t => t.1 z))) (fun z => ⟨vp_in_nI hi (by decide), br_c (fun z2 => br_c (fun z3 => ?_) (fun z3 => nm_r (nI_1 i) (next' (fun t => ?_)))) (fun z2 => nm_r (nI_1 i) (next' (fun t => z2 t.2.1)))⟩)
      · exact K (nI i) (Or.inl ⟨i, hi, rfl, z, z2, by rw [← ek]; exact z3⟩)
      · exact z3 (by rw [ek]; exact t.2.2)
    · intro m j k hj G nx
      refine br_f (nI_ge (b := 40) hj (by decide)) ⟨vp_in_nI hj (by decide), vp_in_nI hi (by decide), ?_⟩
      rw [nI_clamp (show i < 2 ^ 31 by omega), nI_clamp (show j < 2 ^ 31 by omega)]
      refine br_c (fun z => ⟨ep_in40 (by omega), ?_⟩) (fun z => nm_r (nI_1 j) (nx k ?_))
      · rw [ep_cl40 (by omega)]
        refine br_c (fun z2 => nm_r (nI_1 j) (nx k ?_)) (fun z2 => nm_r (nI_1 k) (nm_r (nI_1 j) (nx (k + 1) ?_)))
        · show k = ep_sum _ j + (if cf j = cf i ∧ ¬ bf (j * 40 + i) = 0 then 1 else 0)
          rw [if_neg (fun t => t.2 z2), ← G]
          rfl
        · show k + 1 = ep_sum _ j + (if cf j = cf i ∧ ¬ bf (j * 40 + i) = 0 then 1 else 0)
          rw [if_pos ⟨z, z2⟩, ← G]
      · show k = ep_sum _ j + (if cf j = cf i ∧ ¬ bf (j * 40 + i) = 0 then 1 else 0)
        rw [if_neg (fun t => z t.1), ← G]
        rfl
theorem ep_hasB_y {post : Int32 → Prop} (e : Nat) (he : e < 40) (K : ∀ r : Bool, (r = true ↔ ∃ f, f < 40 ∧ ¬ bf (f * 40 + e) = 0) → post (ep_b r)) : wpY_hasBefore post ((nI L), (nI B), (nI E), (nI Q), (nI q), cy, du, cf, op, rd, wr, ve, bf, so, it, cn) (nI e) := by
  unfold wpY_hasBefore
  dsimp only
  refine loop_0 (fun n i (_ : Unit) => wY_hasBefore_2 post (nI e) (nI L) (nI B) (nI E) (nI Q) (nI q) cy du cf op rd wr ve bf so it cn n (nI i)) (fun i _ => ∀ f, f < i → bf (f * 40 + e) = 0) 40 () (fun e he => by omega) ?_ ?_
  · intro n _ H
    refine br_t (nI_le (Nat.le_refl 40) (by decide)) (K false ⟨fun z => absurd z (by decide), fun z => ?_⟩)
    obtain ⟨f, hf, z⟩ := z
    exact absurd (H f hf) z
  · intro n i _ hi H next
    refine br_f (nI_ge (b := 40) hi (by decide)) ⟨ep_in40 (by omega), ?_⟩
    rw [ep_cl40 (by omega)]
    refine br_c (fun z => nm_r (nI_1 i) (next () (fun f hf => ?_))) (fun z => K true ⟨fun _ => ⟨i, hi, z⟩, fun _ => rfl⟩)
    by_cases q : f = i
    · rw [q]; exact z
    · exact H f (by omega)
theorem ep_compl_y {post : Int32 → Prop} (e : Nat) (he : e < 40) (K : ∀ r : Bool, (r = true ↔ ¬ cf e < 0 ∧ op e = 0 ∧ (∀ l, l < 8 → ve (e * 8 + l) < 0) ∧ ∀ f, f < 40 → bf (f * 40 + e) = 0) → post (ep_b r)) : wpY_complete post ((nI L), (nI B), (nI E), (nI Q), (nI q), cy, du, cf, op, rd, wr, ve, bf, so, it, cn) (nI e) := by
  unfold wpY_complete
  dsimp only
  rw [nI_clamp (show e < 2 ^ 31 by omega)]
  refine ⟨vp_in_nI he (by decide), br_c (fun z => K false ⟨fun y => absurd y (by decide), fun y => absurd z y.1⟩) (fun z => ⟨vp_in_nI he (by decide), br_c (fun z2 => ?_) (fun z2 => K false ⟨fun y => absurd y (by decide), fun y => absurd y.2.1 z2⟩)⟩)⟩
  refine loop_0 (fun n i (_ : Unit) => wY_complete_22 post (nI e) (nI L) (nI B) (nI E) (nI Q) (nI q) cy du cf op rd wr ve bf so it cn n (nI i)) (fun i _ => ∀ l, l < i → ve (e * 8 + l) < 0) 8 () (fun e he => by omega) ?_ ?_
  · intro n _ H
    refine br_t (nI_le (Nat.le_refl 8) (by decide)) (ep_hasB_y e he (fun r hr => ?_))
    cases r
    · refine br_t rfl (K true ⟨fun _ => ⟨z, z2, H, fun f hf => ?_⟩, fun _ => rfl⟩)
      refine Classical.byContradiction fun y => ?_
      exact absurd (hr.mpr ⟨f, hf, y⟩) (by decide)
    · refine br_f (by decide) (K false ⟨fun y => absurd y (by decide), fun y => ?_⟩)
      obtain ⟨f, hf, t⟩ := hr.mp rfl
      exact absurd (y.2.2.2 f hf) t
  · intro n i _ hi H next
    refine br_f (nI_ge (b := 8) hi (by decide)) ⟨ep_in8 (by omega), ?_⟩
    rw [ep_cl8 (by omega)]
    refine br_c (fun y => nm_r (nI_1 i) (next () (fun f hf => ?_))) (fun y => K false ⟨fun t => absurd t (by decide), fun t => absurd (t.2.2.1 i hi) y⟩)
    by_cases q : f = i
    · rw [q]; exact y
    · exact H f (by omega)
theorem ep_put_y {post : SY → Prop} (x y : Nat) (hx : x < 40) (hy : y < 40) (hxy : x ≠ y) (hac : bf (y * 40 + x) = 0) (K : ∀ bf' : Nat → Int32, (∀ a b, a < 40 → b < 40 → (a = x ∨ ¬ bf (a * 40 + x) = 0) → (b = y ∨ ¬ bf (y * 40 + b) = 0) → bf' (a * 40 + b) = 1) → (∀ a b, a < 40 → b < 40 → ¬ ((a = x ∨ ¬ bf (a * 40 + x) = 0) ∧ (b = y ∨ ¬ bf (y * 40 + b) = 0)) → bf' (a * 40 + b) = bf (a * 40 + b)) → post ((nI L), (nI B), (nI E), (nI Q), (nI q), cy, du, cf, op, rd, wr, ve, bf', so, it, cn)) : wpY_put post ((nI L), (nI B), (nI E), (nI Q), (nI q), cy, du, cf, op, rd, wr, ve, bf, so, it, cn) (nI x) (nI y) := by
  unfold wpY_put
  dsimp only
  refine loop_0 (fun n i (bf' : Nat → Int32) => wY_put_2 post (nI x) (nI y) (nI L) (nI B) (nI E) (nI Q) (nI q) n (nI i) cy du cf op rd wr ve bf' so it cn) (fun i bf' => (∀ a b, a < i → b < 40 → (a = x ∨ ¬ bf (a * 40 + x) = 0) → (b = y ∨ ¬ bf (y * 40 + b) = 0) → bf' (a * 40 + b) = 1) ∧ (∀ a b, a < 40 → b < 40 → (i ≤ a ∨ ¬ ((a = x ∨ ¬ bf (a * 40 + x) = 0) ∧ (b = y ∨ ¬ bf (y * 40 + b) = 0))) → bf' (a * 40 + b) = bf (a * 40 + b))) 40 bf ?_ ?_ ?_
  · exact ⟨fun a b ha => by omega, fun a b _ _ _ => rfl⟩
  · intro n bf' H
    exact br_t (nI_le (Nat.le_refl 40) (by decide)) (K bf' H.1 (fun a b ha hb z => H.2 a b ha hb (Or.inr z)))
  · intro n i bf' hi H next
    refine br_f (nI_ge (b := 40) hi (by decide)) ?_
    -- inner loop over b
    refine loop_0 (fun m j (bf2 : Nat → Int32) => wY_put_11 post (wY_put_2 post (nI x) (nI y) (nI L) (nI B) (nI E) (nI Q) (nI q) n) (nI x) (nI y) (nI i) (nI L) (nI B) (nI E) (nI Q) (nI q) m (nI j) cy du cf op rd wr ve bf2 so it cn) (fun j bf2 => (∀ a b, (a < i ∧ b < 40) ∨ (a = i ∧ b < j) → (a = x ∨ ¬ bf (a * 40 + x) = 0) → (b = y ∨ ¬ bf (y * 40 + b) = 0) → bf2 (a * 40 + b) = 1) ∧ (∀ a b, a < 40 → b < 40 → (i < a ∨ (a = i ∧ j ≤ b) ∨ ¬ ((a = x ∨ ¬ bf (a * 40 + x) = 0) ∧ (b = y ∨ ¬ bf (y * 40 + b) = 0))) → bf2 (a * 40 + b) = bf (a * 40 + b))) 40 bf' ?_ ?_ ?_
    · refine ⟨fun a b z => ?_, fun a b ha hb z => H.2 a b ha hb ?_⟩
      · rcases z with z | z
        · exact H.1 a b z.1 z.2
        · omega
      · rcases z with z | z | z
        · exact Or.inl (by omega)
        · exact Or.inl (by omega)
        · exact Or.inr z
    · intro m bf2 G
      refine br_t (nI_le (Nat.le_refl 40) (by decide)) (nm_r (nI_1 i) (next bf2 ⟨fun a b ha hb => G.1 a b ?_, fun a b ha hb z => G.2 a b ha hb ?_⟩))
      · by_cases q : a = i
        · exact Or.inr ⟨q, hb⟩
        · exact Or.inl ⟨by omega, hb⟩
      · rcases z with z | z
        · exact Or.inl (by omega)
        · exact Or.inr (Or.inr z)
    · intro m j bf2 hj G nx
      -- what the test reads is what stood there at first
      have r1 : bf2 (i * 40 + x) = bf (i * 40 + x) := G.2 i x hi hx (Or.inr (Or.inr (fun t => by
        rcases t.2 with t2 | t2
        · exact hxy t2
        · exact t2 hac)))
      have r2 : bf2 (y * 40 + j) = bf (y * 40 + j) := G.2 y j hy hj (Or.inr (Or.inr (fun t => by
        rcases t.1 with t2 | t2
        · exact hxy t2.symm
        · exact t2 hac)))
      have skip : ¬ ((i = x ∨ ¬ bf (i * 40 + x) = 0) ∧ (j = y ∨ ¬ bf (y * 40 + j) = 0)) → wY_put_11 post (wY_put_2 post (nI x) (nI y) (nI L) (nI B) (nI E) (nI Q) (nI q) n) (nI x) (nI y) (nI i) (nI L) (nI B) (nI E) (nI Q) (nI q) m (nI (j + 1)) cy du cf op rd wr ve bf2 so it cn := by
        intro z
        refine nx bf2 ⟨fun a b t1 t2 t3 => ?_, fun a b ha hb t => ?_⟩
        · rcases t1 with t1 | t1
          · exact G.1 a b (Or.inl t1) t2 t3
          · by_cases q : b = j
            · obtain ⟨rfl, _⟩ := t1
              subst q
              exact absurd ⟨t2, t3⟩ z
            · exact G.1 a b (Or.inr ⟨t1.1, by omega⟩) t2 t3
        · rcases t with t | t | t
          · exact G.2 a b ha hb (Or.inl t)
          · exact G.2 a b ha hb (Or.inr (Or.inl ⟨t.1, by omega⟩))
          · exact G.2 a b ha hb (Or.inr (Or.inr t))
      have set : (i = x ∨ ¬ bf (i * 40 + x) = 0) → (j = y ∨ ¬ bf (y * 40 + j) = 0) → wY_put_58 post (wY_put_2 post (nI x) (nI y) (nI L) (nI B) (nI E) (nI Q) (nI q) n) (wY_put_11 post (wY_put_2 post (nI x) (nI y) (nI L) (nI B) (nI E) (nI Q) (nI q) n) (nI x) (nI y) (nI i) (nI L) (nI B) (nI E) (nI Q) (nI q) m) (nI x) (nI y) (nI i) (nI j) (nI L) (nI B) (nI E) (nI Q) (nI q) cy du cf op rd wr ve bf2 so it cn := by
        intro z1 z2
        refine ⟨ep_in40 (by omega), nm_e (nm_r (nI_1 j) (nx _ ⟨fun a b t1 t2 t3 => ?_, fun a b ha hb t => ?_⟩))⟩
        · rw [ep_cl40 (by omega), ep_n1, ep_bt1]
          by_cases q : a * 40 + b = i * 40 + j
          · rw [q, pk_us]
          · rw [pk_un q]
            rcases t1 with t1 | t1
            · exact G.1 a b (Or.inl t1) t2 t3
            · obtain ⟨rfl, t1⟩ := t1
              exact G.1 a b (Or.inr ⟨rfl, by omega⟩) t2 t3
        · have q : a * 40 + b ≠ i * 40 + j := by
            intro q
            have qa : a = i := by omega
            have qb : b = j := by omega
            subst qa qb
            rcases t with t | t | t
            · omega
            · omega
            · exact t ⟨z1, z2⟩
          rw [ep_cl40 (by omega), pk_un q]
          rcases t with t | t | t
          · exact G.2 a b ha hb (Or.inl t)
          · exact G.2 a b ha hb (Or.inr (Or.inl ⟨t.1, by omega⟩))
          · exact G.2 a b ha hb (Or.inr (Or.inr t))
      have t37 : (i = x ∨ ¬ bf (i * 40 + x) = 0) → wY_put_37 post (wY_put_2 post (nI x) (nI y) (nI L) (nI B) (nI E) (nI Q) (nI q) n) (wY_put_11 post (wY_put_2 post (nI x) (nI y) (nI L) (nI B) (nI E) (nI Q) (nI q) n) (nI x) (nI y) (nI i) (nI L) (nI B) (nI E) (nI Q) (nI q) m) (nI x) (nI y) (nI i) (nI j) (nI L) (nI B) (nI E) (nI Q) (nI q) cy du cf op rd wr ve bf2 so it cn := by
        intro z1
        refine ek_if (nI_eq (by omega) (by omega)) (fun z => set z1 (Or.inl z)) (fun z => ⟨ep_in40 (by omega), ?_⟩)
        rw [ep_cl40 (by omega), r2]
        refine br_c (fun z2 => nm_r (nI_1 j) (skip (fun t => ?_))) (fun z2 => set z1 (Or.inr z2))
        rcases t.2 with t2 | t2
        · exact z t2
        · exact t2 z2
      refine br_f (nI_ge (b := 40) hj (by decide)) (ek_if (nI_eq (by omega) (by omega)) (fun z => t37 (Or.inl z)) (fun z => ⟨ep_in40 (by omega), ?_⟩))
      rw [ep_cl40 (by omega), r1]
      refine br_c (fun z2 => nm_r (nI_1 j) (skip (fun t => ?_))) (fun z2 => t37 (Or.inr z2))
      rcases t.1 with t2 | t2
      · exact z t2
      · exact t2 z2
end
end
section
/-! the reference's arrays against the abstract epochs -/
def ep_dead (cf op rd wr ve bf : Nat → Int32) (e : Nat) : Prop :=
  cf e = -1 ∧ op e = 0 ∧ (∀ l, l < 8 → rd (e * 8 + l) = 0 ∧ wr (e * 8 + l) = 0 ∧ ve (e * 8 + l) = -1) ∧ ∀ f, f < 40 → bf (e * 40 + f) = 0 ∧ bf (f * 40 + e) = 0
def ep_YE (mk : Nat → Nat → Nat → Bool) (pw : Nat → Nat → Nat → Int32) (o : Nat → Nat) (cf op rd wr ve : Nat → Int32) (e c n : Nat) : Prop :=
  e < 40 ∧ cf e = nI c ∧ op e = ep_b (decide (n = o c)) ∧ ∀ l, l < 8 → rd (e * 8 + l) = ep_b (mk c n l) ∧ wr (e * 8 + l) = ep_b (mk c n (8 + l)) ∧ ve (e * 8 + l) = (if mk c n (16 + l) = true then pw c n l else -1) ∧ (mk c n (16 + l) = true → 0 ≤ pw c n l)
def ep_Y (sg : Nat → Nat → Nat) (h o : Nat → Nat) (V : Nat → Nat → Nat → Nat) (mk : Nat → Nat → Nat → Bool) (pw : Nat → Nat → Nat → Int32) (cf op rd wr ve bf : Nat → Int32) : Prop :=
  (∀ c n, ep_lv h o c n → ep_YE mk pw o cf op rd wr ve (sg c n) c n) ∧
  (∀ c n m, ep_lv h o c n → ep_lv h o c m → sg c n = sg c m → n = m) ∧
  (∀ c n d m, ep_lv h o c n → ep_lv h o d m → bf (sg d m * 40 + sg c n) = ep_b (decide (m < V c n d))) ∧
  (∀ e, e < 40 → (∃ c n, ep_lv h o c n ∧ e = sg c n) ∨ ep_dead cf op rd wr ve bf e)
section
variable {sg : Nat → Nat → Nat} {h o h1 : Nat → Nat} {V V' : Nat → Nat → Nat → Nat} {mk mk' : Nat → Nat → Nat → Bool} {pw pw' : Nat → Nat → Nat → Int32} {cf op rd wr ve bf : Nat → Int32}
theorem ep_Y_inj (Y : ep_Y sg h o V mk pw cf op rd wr ve bf) {c n d m : Nat} (l1 : ep_lv h o c n) (l2 : ep_lv h o d m) (e : sg c n = sg d m) : c = d ∧ n = m := by
  have e1 := (Y.1 c n l1).2.1
  have e2 := (Y.1 d m l2).2.1
  rw [e, e2] at e1
  have h1 := l1.1
  have h2 := l2.1
  have e3 : d = c := (nI_eq (by omega) (by omega)).mp e1
  subst e3
  exact ⟨rfl, Y.2.1 d n m l1 l2 e⟩
theorem ep_m1nI {c : Nat} (hc : c < 4) : ¬ (-1 : Int32) = nI c := by
  have : c = 0 ∨ c = 1 ∨ c = 2 ∨ c = 3 := by omega
  rcases this with z | z | z | z <;> subst z <;> decide
theorem ep_Y_cf (Y : ep_Y sg h o V mk pw cf op rd wr ve bf) {c e : Nat} (hc : c < 4) (he : e < 40) (hcf : cf e = nI c) : ∃ n, ep_lv h o c n ∧ e = sg c n := by
  rcases Y.2.2.2 e he with ⟨d, n, l, z⟩ | z
  · have e1 := (Y.1 d n l).2.1
    rw [← z, hcf] at e1
    have h1 := l.1
    have e3 : c = d := (nI_eq (by omega) (by omega)).mp e1
    subst e3
    exact ⟨n, l, z⟩
  · exact absurd (z.1.symm.trans hcf) (ep_m1nI hc)
theorem ep_Y_dead (Y : ep_Y sg h o V mk pw cf op rd wr ve bf) {e : Nat} (he : e < 40) (hcf : ¬ 0 ≤ cf e) : ep_dead cf op rd wr ve bf e := by
  rcases Y.2.2.2 e he with ⟨d, n, l, z⟩ | z
  · have e1 := (Y.1 d n l).2.1
    have h1 := l.1
    rw [← z] at e1
    rw [e1] at hcf
    exact absurd (nI_pos' (by omega)) hcf
  · exact z
/-- a sum over the slots of one core -/
theorem ep_Y_cnt (Y : ep_Y sg h o V mk pw cf op rd wr ve bf) {c : Nat} (hc : c < 4) (F : Nat → Nat) (hF : ∀ e, e < 40 → ¬ cf e = nI c → F e = 0) : ep_sum F 40 = ep_sum (fun i => F (sg c (h c + i))) (o c + 1 - h c) := by
  have lvi : ∀ i, i < o c + 1 - h c → ep_lv h o c (h c + i) := fun i hi => ⟨hc, by omega, by omega⟩
  refine ep_re (fun i => sg c (h c + i)) 40 (o c + 1 - h c) F (fun i hi => (Y.1 c _ (lvi i hi)).1) (fun i j hi hj e => ?_) (fun e he hn => hF e he (fun z => ?_))
  · have := Y.2.1 c _ _ (lvi i hi) (lvi j hj) e
    omega
  · obtain ⟨n, l, e1⟩ := ep_Y_cf Y hc he z
    have h1 := l.2.1
    have h2 := l.2.2
    refine hn (n - h c) (by omega) ?_
    show sg c (h c + (n - h c)) = e
    rw [show h c + (n - h c) = n from by omega]
    exact e1.symm
theorem ep_Y_epo (Y : ep_Y sg h o V mk pw cf op rd wr ve bf) {c : Nat} (hc : c < 4) : ep_sum (fun e => if cf e = nI c then 1 else 0) 40 = o c + 1 - h c := by
  rw [ep_Y_cnt Y hc _ (fun e _ z => if_neg z), ep_sum_c (g := fun _ => 1) (fun i hi => if_pos (Y.1 c (h c + i) ⟨hc, by omega, by omega⟩).2.1), ep_sum_k, Nat.mul_one]
theorem ep_Y_ve (Y : ep_Y sg h o V mk pw cf op rd wr ve bf) {c n l : Nat} (lv : ep_lv h o c n) (hl : l < 8) : ve (sg c n * 8 + l) < 0 ↔ mk c n (16 + l) = false := by
  obtain ⟨_, _, a3, a4⟩ := ((Y.1 c n lv).2.2.2 l hl)
  rw [a3]
  cases z : mk c n (16 + l)
  · rw [if_neg (by decide)]
    exact ⟨fun _ => rfl, fun _ => by decide⟩
  · rw [if_pos rfl]
    exact ⟨fun t => absurd t (ep_nn.mpr (a4 z)), fun t => absurd t (by decide)⟩
theorem ep_Y_vers (Y : ep_Y sg h o V mk pw cf op rd wr ve bf) {c : Nat} (hc : c < 4) : ep_sum (fun i => if cf (i / 8) = nI c ∧ ¬ ve i < 0 then 1 else 0) 320 = ep_cnt h o mk c := by
  rw [show 320 = 40 * 8 from rfl, ep_sum_8]
  have e1 : ∀ e l, l < 8 → (e * 8 + l) / 8 = e := fun e l hl => by omega
  rw [ep_Y_cnt Y hc _ (fun e _ z => ep_sum_0 (fun l hl => by
    show (if cf ((e * 8 + l) / 8) = nI c ∧ ¬ ve (e * 8 + l) < 0 then 1 else 0) = 0
    rw [e1 e l hl]
    exact if_neg (fun t => z t.1)))]
  unfold ep_cnt
  refine ep_sum_c (fun i hi => ep_sum_c (fun l hl => ?_))
  have lv : ep_lv h o c (h c + i) := ⟨hc, by omega, by omega⟩
  have a1 := (Y.1 c (h c + i) lv).2.1
  have a2 := ep_Y_ve Y lv hl
  show (if cf ((sg c (h c + i) * 8 + l) / 8) = nI c ∧ ¬ ve (sg c (h c + i) * 8 + l) < 0 then 1 else 0) = (mk c (h c + i) (16 + l)).toNat
  rw [e1 _ l hl, a1]
  cases z : mk c (h c + i) (16 + l)
  · rw [if_neg (fun t => t.2 (a2.mpr z))]; rfl
  · rw [if_pos ⟨rfl, fun t => by rw [a2.mp t] at z; exact absurd z (by decide)⟩]; rfl
theorem ep_sum_lt (a : Nat) : ∀ n, ep_sum (fun i => if i < a then 1 else 0) n = min a n := by
  intro n
  induction n with
  | zero => simp [ep_sum]
  | succ n ih =>
    show ep_sum _ n + (if n < a then 1 else 0) = _
    rw [ih]
    by_cases z : n < a
    · rw [if_pos z]; omega
    · rw [if_neg z]; omega
theorem ep_Y_rk (Y : ep_Y sg h o V mk pw cf op rd wr ve bf) (I : ep_IV h o V) {c n : Nat} (l : ep_lv h o c n) : ep_rk cf bf (sg c n) = n - h c := by
  unfold ep_rk
  have a1 := (Y.1 c n l).2.1
  rw [a1, ep_Y_cnt Y l.1 _ (fun e _ z => if_neg (fun t => z t.1))]
  have h1 := l.2.1
  have h2 := l.2.2
  rw [ep_sum_c (g := fun i => if i < n - h c then 1 else 0) (fun i hi => ?_), ep_sum_lt]
  · omega
  · have lv : ep_lv h o c (h c + i) := ⟨l.1, by omega, by omega⟩
    show (if cf (sg c (h c + i)) = nI c ∧ ¬ bf (sg c (h c + i) * 40 + sg c n) = 0 then 1 else 0) = if i < n - h c then 1 else 0
    rw [(Y.1 c _ lv).2.1, Y.2.2.1 c n c (h c + i) l lv, I.2.1 c n l]
    by_cases z : h c + i < n
    · rw [if_pos ⟨rfl, ep_bne.mpr (decide_eq_true z)⟩, if_pos (by omega)]
    · rw [if_neg (fun t => z (of_decide_eq_true (ep_bne.mp t.2))), if_neg (by omega)]
theorem ep_Y_free (Y : ep_Y sg h o V mk pw cf op rd wr ve bf) (lb : ep_LB h o) : ∃ e, e < 40 ∧ ¬ 0 ≤ cf e := by
  have s0 := ep_Y_epo Y (c := 0) (by omega)
  have s1 := ep_Y_epo Y (c := 1) (by omega)
  have s2 := ep_Y_epo Y (c := 2) (by omega)
  have s3 := ep_Y_epo Y (c := 3) (by omega)
  have l0 := lb 0 (by omega)
  have l1 := lb 1 (by omega)
  have l2 := lb 2 (by omega)
  have l3 := lb 3 (by omega)
  have hs : ep_sum (fun e => ((if cf e = nI 0 then 1 else 0) + (if cf e = nI 1 then 1 else 0)) + ((if cf e = nI 2 then 1 else 0) + (if cf e = nI 3 then 1 else 0))) 40 < 40 := by
    rw [ep_sum_add, ep_sum_add, ep_sum_add, s0, s1, s2, s3]
    omega
  obtain ⟨e, he, z⟩ := ep_all1 hs
  refine ⟨e, he, fun q => ?_⟩
  rcases Y.2.2.2 e he with ⟨d, n, l, y⟩ | y
  · have a1 := (Y.1 d n l).2.1
    rw [← y] at a1
    have h4 := l.1
    have : d = 0 ∨ d = 1 ∨ d = 2 ∨ d = 3 := by omega
    rcases this with t | t | t | t
    · subst t
      rw [if_pos a1] at z
      omega
    · subst t
      rw [if_pos (c := cf e = nI 1) a1] at z
      omega
    · subst t
      rw [if_pos (c := cf e = nI 2) a1] at z
      omega
    · subst t
      rw [if_pos (c := cf e = nI 3) a1] at z
      omega
  · rw [y.1] at q
    exact absurd q (by decide)
/-- what counts is what stands at live epochs -/
theorem ep_Y_c (Y : ep_Y sg h o V mk pw cf op rd wr ve bf) (eV : ∀ c n d, ep_lv h o c n → d < 4 → V' c n d = V c n d) (em : ∀ c n j, ep_lv h o c n → j < 24 → mk' c n j = mk c n j) (ep : ∀ c n l, ep_lv h o c n → l < 8 → pw' c n l = pw c n l) : ep_Y sg h o V' mk' pw' cf op rd wr ve bf := by
  refine ⟨fun c n l => ?_, Y.2.1, fun c n d m l1 l2 => ?_, Y.2.2.2⟩
  · obtain ⟨a1, a2, a3, a4⟩ := Y.1 c n l
    refine ⟨a1, a2, a3, fun q hq => ?_⟩
    obtain ⟨b1, b2, b3, b4⟩ := a4 q hq
    rw [em c n q l (by omega), em c n (8 + q) l (by omega), em c n (16 + q) l (by omega), ep c n q l hq]
    exact ⟨b1, b2, b3, b4⟩
  · rw [eV c n d l1 l2.1]
    exact Y.2.2.1 c n d m l1 l2
/-- heads that agree below 4 -/
theorem ep_Y_h (Y : ep_Y sg h o V mk pw cf op rd wr ve bf) (e : ∀ c, c < 4 → h c = h1 c) : ep_Y sg h1 o V mk pw cf op rd wr ve bf := by
  have q : ∀ c n, ep_lv h1 o c n ↔ ep_lv h o c n := by
    intro c n
    constructor
    · rintro ⟨a, b, d⟩
      exact ⟨a, by rw [e c a]; exact b, d⟩
    · rintro ⟨a, b, d⟩
      exact ⟨a, by rw [← e c a]; exact b, d⟩
  refine ⟨fun c n l => Y.1 c n ((q c n).mp l), fun c n m l1 l2 => Y.2.1 c n m ((q c n).mp l1) ((q c m).mp l2), fun c n d m l1 l2 => Y.2.2.1 c n d m ((q c n).mp l1) ((q d m).mp l2), fun e he => ?_⟩
  rcases Y.2.2.2 e he with ⟨c, n, l, z⟩ | z
  · exact Or.inl ⟨c, n, (q c n).mpr l, z⟩
  · exact Or.inr z
/-- the new epoch's slot -/
def ep_sg (sg : Nat → Nat → Nat) (c n f : Nat) : Nat → Nat → Nat := fun d m => if d = c ∧ m = n then f else sg d m
theorem ep_sg_s {c n f : Nat} : ep_sg sg c n f c n = f := if_pos ⟨rfl, rfl⟩
theorem ep_sg_n {c n f d m : Nat} (z : ¬ (d = c ∧ m = n)) : ep_sg sg c n f d m = sg d m := if_neg z
theorem ep_Y_close {cf' op' bf' : Nat → Int32} {c f : Nat} (Y : ep_Y sg h o V mk pw cf op rd wr ve bf) (I : ep_IV h o V) (hc : c < 4) (hf : f < 40) (df : ep_dead cf op rd wr ve bf f) (ecf : cf' = upd cf f (nI c)) (eop : op' = upd (upd op (sg c (o c)) 0) f 1) (p1 : ∀ a b, a < 40 → b < 40 → (a = sg c (o c) ∨ ¬ bf (a * 40 + sg c (o c)) = 0) → (b = f ∨ ¬ bf (f * 40 + b) = 0) → bf' (a * 40 + b) = 1) (p2 : ∀ a b, a < 40 → b < 40 → ¬ ((a = sg c (o c) ∨ ¬ bf (a * 40 + sg c (o c)) = 0) ∧ (b = f ∨ ¬ bf (f * 40 + b) = 0)) → bf' (a * 40 + b) = bf (a * 40 + b)) : ep_Y (ep_sg sg c (o c + 1) f) h (ep_co o (ep_one c)) (ep_cV o V (ep_one c)) (ep_cm o mk (ep_one c)) pw cf' op' rd wr ve bf' := by
  have lo := ep_lv_open I hc
  have ns : ∀ {d n : Nat}, ep_lv h (ep_co o (ep_one c)) d n → (ep_lv h o d n ∧ n ≤ o d) ∨ (d = c ∧ n = o c + 1) := by
    intro d n l
    rcases ep_lv_co l with z | z
    · exact Or.inl z
    · have : d = c := of_decide_eq_true z.1
      subst this
      exact Or.inr ⟨rfl, z.2⟩
  have nf : ∀ d n, ep_lv h o d n → sg d n ≠ f := by
    intro d n l e
    have a1 := (Y.1 d n l).2.1
    rw [e, df.1] at a1
    exact ep_m1nI l.1 a1
  have so : ∀ d n, ep_lv h o d n → ep_sg sg c (o c + 1) f d n = sg d n := by
    intro d n l
    refine ep_sg_n (fun z => ?_)
    obtain ⟨rfl, rfl⟩ := z
    have := l.2.2
    omega
  refine ⟨?_, ?_, ?_, ?_⟩
  · intro d n l
    rcases ns l with ⟨z, zo⟩ | z
    · rw [so d n z]
      obtain ⟨a1, a2, a3, a4⟩ := Y.1 d n z
      refine ⟨a1, by rw [ecf, pk_un (nf d n z)]; exact a2, ?_, fun q hq => ?_⟩
      · rw [eop, pk_un (nf d n z)]
        by_cases e : d = c ∧ n = o c
        · obtain ⟨rfl, rfl⟩ := e
          rw [pk_us, ep_co_1, decide_eq_false (by omega)]
          rfl
        · rw [pk_un (fun t => e (ep_Y_inj Y z lo t)), a3]
          by_cases e2 : d = c
          · subst e2
            rw [ep_co_1, decide_eq_false (fun t => e ⟨rfl, t⟩), decide_eq_false (by omega)]
          · rw [ep_co_n e2]
      · rw [ep_cm_o zo, ep_cm_o zo, ep_cm_o zo]
        exact a4 q hq
    · obtain ⟨rfl, rfl⟩ := z
      rw [ep_sg_s]
      refine ⟨hf, by rw [ecf, pk_us], by rw [eop, pk_us, ep_co_1, decide_eq_true rfl]; rfl, fun q hq => ?_⟩
      rw [ep_cm_n ep_one_s, ep_cm_n ep_one_s, ep_cm_n ep_one_s]
      obtain ⟨b1, b2, b3⟩ := df.2.2.1 q hq
      rw [b1, b2, b3]
      exact ⟨rfl, rfl, rfl, fun t => absurd t (by decide)⟩
  · intro d n m l1 l2 e
    rcases ns l1 with ⟨z, zo⟩ | z
    · rw [so d n z] at e
      rcases ns l2 with ⟨y, yo⟩ | y
      · rw [so d m y] at e
        exact Y.2.1 d n m z y e
      · obtain ⟨rfl, rfl⟩ := y
        rw [ep_sg_s] at e
        exact absurd e (nf d n z)
    · obtain ⟨rfl, rfl⟩ := z
      rw [ep_sg_s] at e
      rcases ns l2 with ⟨y, yo⟩ | y
      · rw [so d m y] at e
        exact absurd e.symm (nf d m y)
      · exact y.2.symm
  · intro d n k m l1 l2
    rcases ns l1 with ⟨z, zo⟩ | z
    · rw [so d n z, ep_cV_o zo]
      rcases ns l2 with ⟨y, yo⟩ | y
      · rw [so k m y, p2 _ _ (Y.1 k m y).1 (Y.1 d n z).1 (fun t => by
          rcases t.2 with t | t
          · exact nf d n z t
          · exact t (df.2.2.2 _ (Y.1 d n z).1).1)]
        exact Y.2.2.1 d n k m z y
      · obtain ⟨rfl, rfl⟩ := y
        rw [ep_sg_s, p2 _ _ hf (Y.1 d n z).1 (fun t => by
          rcases t.2 with t | t
          · exact nf d n z t
          · exact t (df.2.2.2 _ (Y.1 d n z).1).1), (df.2.2.2 _ (Y.1 d n z).1).1, decide_eq_false (by have := I.2.2.1 d n k z hc; omega)]
        rfl
    · obtain ⟨rfl, rfl⟩ := z
      rw [ep_sg_s]
      rcases ns l2 with ⟨y, yo⟩ | y
      · rw [so k m y]
        have ev : m < ep_cV o V (ep_one d) d (o d + 1) k ↔ (sg k m = sg d (o d) ∨ ¬ bf (sg k m * 40 + sg d (o d)) = 0) := by
          rw [Y.2.2.1 d (o d) k m lo y, ep_bne, decide_eq_true_iff]
          by_cases e : k = d
          · subst e
            rw [ep_cV_c ep_one_s, I.2.1 k (o k) lo]
            constructor
            · intro t
              by_cases q : m = o k
              · exact Or.inl (by rw [q])
              · exact Or.inr (by omega)
            · intro t
              omega
          · rw [ep_cV_d ep_one_s e]
            constructor
            · exact Or.inr
            · rintro (t | t)
              · exact absurd (ep_Y_inj Y y lo t).1 e
              · exact t
        by_cases q : m < ep_cV o V (ep_one d) d (o d + 1) k
        · rw [p1 _ _ (Y.1 k m y).1 hf (ev.mp q) (Or.inl rfl), decide_eq_true q]
          rfl
        · rw [p2 _ _ (Y.1 k m y).1 hf (fun t => q (ev.mpr t.1)), (df.2.2.2 _ (Y.1 k m y).1).2, decide_eq_false q]
          rfl
      · obtain ⟨rfl, rfl⟩ := y
        rw [ep_sg_s, ep_cV_c ep_one_s, p2 _ _ hf hf (fun t => by
          rcases t.1 with t | t
          · exact nf k (o k) lo t.symm
          · exact t (df.2.2.2 _ (Y.1 k (o k) lo).1).1), (df.2.2.2 _ hf).1, decide_eq_false (by omega)]
        rfl
  · intro e he
    by_cases ef : e = f
    · exact Or.inl ⟨c, o c + 1, ⟨hc, by have := I.1 c hc; omega, by rw [ep_co_1]; omega⟩, by rw [ep_sg_s]; exact ef⟩
    · rcases Y.2.2.2 e he with ⟨d, n, l, z⟩ | z
      · exact Or.inl ⟨d, n, ep_lv_up l, by rw [so d n l]; exact z⟩
      · refine Or.inr ⟨by rw [ecf, pk_un ef]; exact z.1, ?_, z.2.2.1, fun g hg => ?_⟩
        · rw [eop, pk_un ef]
          by_cases q : e = sg c (o c)
          · rw [q, pk_us]
          · rw [pk_un q]; exact z.2.1
        · have en : e ≠ sg c (o c) := fun t => by
            have a1 := (Y.1 c (o c) lo).2.1
            rw [← t, z.1] at a1
            exact ep_m1nI hc a1
          refine ⟨?_, ?_⟩
          · rw [p2 _ _ he hg (fun t => by
              rcases t.1 with t | t
              · exact en t
              · exact t (z.2.2.2 _ (Y.1 c (o c) lo).1).1)]
            exact (z.2.2.2 g hg).1
          · rw [p2 _ _ hg he (fun t => by
              rcases t.2 with t | t
              · exact ef t
              · exact t (df.2.2.2 _ he).1)]
            exact (z.2.2.2 g hg).2
theorem ep_Y_drop {cf' op' rd' wr' ve' bf' : Nat → Int32} {c : Nat} (Y : ep_Y sg h o V mk pw cf op rd wr ve bf) (hc : c < 4) (ho : h c ≤ o c) (ecf : cf' = upd cf (sg c (h c)) (-1)) (eop : op' = upd op (sg c (h c)) 0) (k1 : ∀ f l, f ≠ sg c (h c) → l < 8 → rd' (f * 8 + l) = rd (f * 8 + l) ∧ wr' (f * 8 + l) = wr (f * 8 + l) ∧ ve' (f * 8 + l) = ve (f * 8 + l)) (k2 : ∀ l, l < 8 → rd' (sg c (h c) * 8 + l) = 0 ∧ wr' (sg c (h c) * 8 + l) = 0 ∧ ve' (sg c (h c) * 8 + l) = -1) (p1 : ∀ a b, a < 40 → b < 40 → (a = sg c (h c) ∨ b = sg c (h c)) → bf' (a * 40 + b) = 0) (p2 : ∀ a b, a < 40 → b < 40 → a ≠ sg c (h c) → b ≠ sg c (h c) → bf' (a * 40 + b) = bf (a * 40 + b)) : ep_Y sg (ep_up h c (h c + 1)) o V mk pw cf' op' rd' wr' ve' bf' := by
  have lh : ep_lv h o c (h c) := ⟨hc, Nat.le_refl _, ho⟩
  have lo : ∀ {d n : Nat}, ep_lv (ep_up h c (h c + 1)) o d n → ep_lv h o d n ∧ sg d n ≠ sg c (h c) := by
    intro d n l
    obtain ⟨l1, l2, l3⟩ := l
    have ld : ep_lv h o d n ∧ ¬ (d = c ∧ n = h c) := by
      by_cases z : d = c
      · subst z
        rw [ep_us] at l2
        exact ⟨⟨l1, by omega, l3⟩, fun y => by omega⟩
      · rw [ep_un z] at l2
        exact ⟨⟨l1, l2, l3⟩, fun y => z y.1⟩
    exact ⟨ld.1, fun t => ld.2 (ep_Y_inj Y ld.1 lh t)⟩
  refine ⟨fun d n l => ?_, fun d n m l1 l2 => Y.2.1 d n m (lo l1).1 (lo l2).1, fun d n k m l1 l2 => ?_, fun e he => ?_⟩
  · obtain ⟨l1, l2⟩ := lo l
    obtain ⟨a1, a2, a3, a4⟩ := Y.1 d n l1
    refine ⟨a1, by rw [ecf, pk_un l2]; exact a2, by rw [eop, pk_un l2]; exact a3, fun q hq => ?_⟩
    obtain ⟨b1, b2, b3⟩ := k1 _ q l2 hq
    rw [b1, b2, b3]
    exact a4 q hq
  · rw [p2 _ _ (Y.1 k m (lo l2).1).1 (Y.1 d n (lo l1).1).1 (lo l2).2 (lo l1).2]
    exact Y.2.2.1 d n k m (lo l1).1 (lo l2).1
  · by_cases ee : e = sg c (h c)
    · refine Or.inr ⟨by rw [ecf, ee, pk_us], by rw [eop, ee, pk_us], ?_, fun f hf => ⟨p1 _ _ he hf (Or.inl ee), p1 _ _ hf he (Or.inr ee)⟩⟩
      rw [ee]
      exact k2
    · rcases Y.2.2.2 e he with ⟨d, n, l, z⟩ | z
      · refine Or.inl ⟨d, n, ⟨l.1, ?_, l.2.2⟩, z⟩
        by_cases y : d = c
        · subst y
          rw [ep_us]
          have := l.2.1
          have : n ≠ h d := fun t => ee (by rw [z, t])
          omega
        · rw [ep_un y]; exact l.2.1
      · refine Or.inr ⟨by rw [ecf, pk_un ee]; exact z.1, by rw [eop, pk_un ee]; exact z.2.1, fun l hl => ?_, fun f hf => ⟨?_, ?_⟩⟩
        · obtain ⟨b1, b2, b3⟩ := k1 e l ee hl
          rw [b1, b2, b3]
          exact z.2.2.1 l hl
        · by_cases y : f = sg c (h c)
          · exact p1 _ _ he hf (Or.inr y)
          · rw [p2 _ _ he hf ee y]; exact (z.2.2.2 f hf).1
        · by_cases y : f = sg c (h c)
          · exact p1 _ _ hf he (Or.inl y)
          · rw [p2 _ _ hf he y ee]; exact (z.2.2.2 f hf).2
end
end
section
/-! close, forget -/
def ep_em (mk : Nat → Nat → Nat → Bool) : Nat → Nat → Prop := fun c n => ∀ l, l < 8 → mk c n (16 + l) = false
def ep_cp (cf op ve bf : Nat → Int32) (e : Nat) : Prop := ¬ cf e < 0 ∧ op e = 0 ∧ (∀ l, l < 8 → ve (e * 8 + l) < 0) ∧ ∀ f, f < 40 → bf (f * 40 + e) = 0
def ep_CE (o : Nat → Nat) (V : Nat → Nat → Nat → Nat) (mk : Nat → Nat → Nat → Bool) (h : Nat → Nat) (c : Nat) : Prop := h c < o c ∧ ep_em mk c (h c) ∧ ∀ d, d < 4 → V c (h c) d ≤ h d
section
variable {L B E Q q : Nat} {cy du cf op rd wr ve bf so it cn : Nat → Int32} {sg : Nat → Nat → Nat} {h o h1 hs : Nat → Nat} {V : Nat → Nat → Nat → Nat} {mk : Nat → Nat → Nat → Bool} {pw : Nat → Nat → Nat → Int32}
theorem ep_close_y {post : Int32 → SY → Prop} (c : Nat) (hc : c < 4) (I : ep_IV h o V) (lb : ep_LB h o) (Y : ep_Y sg h o V mk pw cf op rd wr ve bf) (K : ∀ (f : Nat) (cf' op' bf' : Nat → Int32), f < 40 → ep_dead cf op rd wr ve bf f → ep_Y (ep_sg sg c (o c + 1) f) h (ep_co o (ep_one c)) (ep_cV o V (ep_one c)) (ep_cm o mk (ep_one c)) pw cf' op' rd wr ve bf' → post (nI f) ((nI L), (nI B), (nI E), (nI Q), (nI q), cy, du, cf', op', rd, wr, ve, bf', so, it, cn)) : wpY_close post ((nI L), (nI B), (nI E), (nI Q), (nI q), cy, du, cf, op, rd, wr, ve, bf, so, it, cn) (nI (sg c (o c))) := by
  have lo := ep_lv_open I hc
  obtain ⟨he, hcf, _, _⟩ := Y.1 c (o c) lo
  unfold wpY_close
  dsimp only
  rw [nI_clamp (show sg c (o c) < 2 ^ 31 by omega), hcf]
  refine ⟨vp_in_nI he (by decide), nm_e ⟨vp_in_nI he (by decide), ep_begin_y (nI c) (ep_Y_free Y lb) (fun f hf zf => ?_)⟩⟩
  have df := ep_Y_dead Y hf zf
  have hne : sg c (o c) ≠ f := fun t => by
    rw [t, df.1] at hcf
    exact ep_m1nI hc hcf
  exact ep_put_y (sg c (o c)) f he hf hne (df.2.2.2 _ he).1 (fun bf' p1 p2 => K f _ _ bf' hf df (ep_Y_close Y I hc hf df rfl rfl p1 p2))
theorem ep_cp_iff (Y : ep_Y sg h1 o V mk pw cf op rd wr ve bf) (I : ep_IV h1 o V) {e : Nat} (he : e < 40) : ep_cp cf op ve bf e ↔ ∃ c, c < 4 ∧ e = sg c (h1 c) ∧ ep_CE o V mk h1 c := by
  constructor
  · rintro ⟨q1, q2, q3, q4⟩
    rcases Y.2.2.2 e he with ⟨c, n, l, z⟩ | z
    · subst z
      have ub : ∀ d, d < 4 → V c n d ≤ h1 d := by
        intro d hd
        refine Nat.not_lt.mp (fun y => ?_)
        have ld := ep_lv_head I hd
        have := q4 _ (Y.1 d (h1 d) ld).1
        rw [Y.2.2.1 c n d (h1 d) l ld, decide_eq_true y] at this
        exact absurd this (by decide)
      have en : n = h1 c := by
        have x1 := ub c l.1
        rw [I.2.1 c n l] at x1
        have := l.2.1
        omega
      subst en
      refine ⟨c, l.1, rfl, ?_, fun i hi => (ep_Y_ve Y l hi).mp (q3 i hi), ub⟩
      rw [(Y.1 c (h1 c) l).2.2.1, ep_b0] at q2
      have := of_decide_eq_false q2
      have := l.2.2
      omega
    · rw [z.1] at q1
      exact absurd q1 (by decide)
  · rintro ⟨c, hc, rfl, c1, c2, c3⟩
    have l := ep_lv_head I hc
    obtain ⟨a1, a2, a3, a4⟩ := Y.1 c (h1 c) l
    refine ⟨by rw [a2]; exact nI_pos (by omega), by rw [a3, decide_eq_false (by omega)]; rfl, fun i hi => (ep_Y_ve Y l hi).mpr (c2 i hi), fun f hf => ?_⟩
    rcases Y.2.2.2 f hf with ⟨d, m, ld, z⟩ | z
    · rw [z, Y.2.2.1 c (h1 c) d m l ld, decide_eq_false (by have := c3 d ld.1; have := ld.2.1; omega)]
      rfl
    · exact (z.2.2.2 _ a1).1
theorem ep_DC_up {gd : Nat → Nat → Prop} {c : Nat} (dc : ep_DC h h1 V gd) (g : gd c (h1 c)) (ub : ∀ d, d < 4 → V c (h1 c) d ≤ h1 d) : ep_DC h (ep_up h1 c (h1 c + 1)) V gd := by
  have hup : ∀ d, h1 d ≤ ep_up h1 c (h1 c + 1) d := by
    intro d
    by_cases z : d = c
    · rw [z, ep_us]; omega
    · rw [ep_un z]; omega
  intro d n hd q1 q2
  by_cases x : n < h1 d
  · exact ⟨(dc d n hd q1 x).1, fun e he => Nat.le_trans ((dc d n hd q1 x).2 e he) (hup e)⟩
  · have z : d = c := Classical.byContradiction fun z => by
      rw [ep_un z] at q2
      exact x q2
    subst z
    rw [ep_us] at q2
    have : n = h1 d := by omega
    subst this
    exact ⟨g, fun e he => Nat.le_trans (ub e he) (hup e)⟩
theorem ep_CE_c (e : ∀ c, c < 4 → h1 c = hs c) {c : Nat} (hc : c < 4) : ep_CE o V mk h1 c ↔ ep_CE o V mk hs c := by
  unfold ep_CE
  rw [e c hc]
  constructor
  · rintro ⟨a, b, d⟩
    exact ⟨a, b, fun x hx => by rw [← e x hx]; exact d x hx⟩
  · rintro ⟨a, b, d⟩
    exact ⟨a, b, fun x hx => by rw [e x hx]; exact d x hx⟩
theorem ep_S_c (e : ∀ c, c < 4 → h1 c = hs c) : ep_S o h1 = ep_S o hs := by
  unfold ep_S
  rw [e 0 (by omega), e 1 (by omega), e 2 (by omega), e 3 (by omega)]
theorem ep_ST_of (z : ∀ c, c < 4 → ¬ ep_CE o V mk h1 c) : ep_ST h1 o V (ep_em mk) := by
  intro c hc x1 x2
  refine Classical.byContradiction fun y => z c hc ⟨x1, x2, fun d hd => Nat.not_lt.mp (fun x => y ⟨d, hd, x⟩)⟩
theorem ep_forget_y {post : SY → Prop} (I : ep_IV h o V) (lb : ep_LB h o) (Y : ep_Y sg h o V mk pw cf op rd wr ve bf) (K : ∀ (h' : Nat → Nat) (cf' op' rd' wr' ve' bf' : Nat → Int32), ep_Y sg h' o V mk pw cf' op' rd' wr' ve' bf' → (∀ c, c < 4 → h c ≤ h' c) → (∀ c, c < 4 → h' c ≤ o c) → ep_DC h h' V (ep_em mk) → ep_ST h' o V (ep_em mk) → post ((nI L), (nI B), (nI E), (nI Q), (nI q), cy, du, cf', op', rd', wr', ve', bf', so, it, cn)) : wpY_forget post ((nI L), (nI B), (nI E), (nI Q), (nI q), cy, du, cf, op, rd, wr, ve, bf, so, it, cn) := by
  have hS : ep_S o h ≤ 32 := by
    have l0 := lb 0 (by omega)
    have l1 := lb 1 (by omega)
    have l2 := lb 2 (by omega)
    have l3 := lb 3 (by omega)
    unfold ep_S; omega
  unfold wpY_forget
  dsimp only
  refine loop_0 (fun n i (s : (Nat → Int32) × (Nat → Int32) × (Nat → Int32) × (Nat → Int32) × (Nat → Int32) × (Nat → Int32)) => wY_forget_2 post n (nI i) (nI L) (nI B) (nI E) (nI Q) (nI q) cy du (s.1) (s.2.1) (s.2.2.1) (s.2.2.2.1) (s.2.2.2.2.1) (s.2.2.2.2.2) so it cn) (fun i s => ∃ h1, ep_Y sg h1 o V mk pw s.1 s.2.1 s.2.2.1 s.2.2.2.1 s.2.2.2.2.1 s.2.2.2.2.2 ∧ (∀ c, c < 4 → h c ≤ h1 c) ∧ (∀ c, c < 4 → h1 c ≤ o c) ∧ ep_DC h h1 V (ep_em mk) ∧ (ep_ST h1 o V (ep_em mk) ∨ i + ep_S o h1 ≤ ep_S o h)) 40 (cf, op, rd, wr, ve, bf) ?_ ?_ ?_
  · exact ⟨h, Y, fun _ _ => Nat.le_refl _, I.1, fun c n _ h1 h2 => by omega, Or.inr (by omega)⟩
  · rintro n s ⟨h1, Y1, b1, b2, dc, st⟩
    refine br_t (nI_le (Nat.le_refl 40) (by decide)) (K h1 _ _ _ _ _ _ Y1 b1 b2 dc ?_)
    rcases st with st | st
    · exact st
    · omega
  · rintro n r s hr ⟨hs, Y1, b1, b2, dc1, st1⟩ next
    have I1 := ep_IV_h I b1 b2
    refine br_f (nI_ge (b := 40) hr (by decide)) ?_
    refine loop_0 (fun m i (s : (Nat → Int32) × (Nat → Int32) × (Nat → Int32) × (Nat → Int32) × (Nat → Int32) × (Nat → Int32)) => wY_forget_10 post (wY_forget_2 post n) (nI r) m (nI i) (nI L) (nI B) (nI E) (nI Q) (nI q) cy du (s.1) (s.2.1) (s.2.2.1) (s.2.2.2.1) (s.2.2.2.2.1) (s.2.2.2.2.2) so it cn) (fun i s => ∃ h1, ep_Y sg h1 o V mk pw s.1 s.2.1 s.2.2.1 s.2.2.2.1 s.2.2.2.2.1 s.2.2.2.2.2 ∧ (∀ c, c < 4 → h c ≤ h1 c) ∧ (∀ c, c < 4 → h1 c ≤ o c) ∧ ep_DC h h1 V (ep_em mk) ∧ (((∀ c, c < 4 → h1 c = hs c) ∧ ∀ c, c < 4 → sg c (hs c) < i → ¬ ep_CE o V mk hs c) ∨ (¬ ep_ST hs o V (ep_em mk) ∧ ep_S o h1 < ep_S o hs))) 40 s ?_ ?_ ?_
    · exact ⟨hs, Y1, b1, b2, dc1, Or.inl ⟨fun _ _ => rfl, fun c _ z => by omega⟩⟩
    · rintro m t ⟨h1, Y2, d1, d2, dc2, z⟩
      refine br_t (nI_le (Nat.le_refl 40) (by decide)) (nm_r (nI_1 r) (next t ⟨h1, Y2, d1, d2, dc2, ?_⟩))
      rcases z with ⟨z1, z2⟩ | ⟨z1, z2⟩
      · refine Or.inl (ep_ST_of (fun c hc y => z2 c hc ?_ ((ep_CE_c z1 hc).mp y)))
        exact (Y1.1 c (hs c) (ep_lv_head I1 hc)).1
      · rcases st1 with st1 | st1
        · exact absurd st1 z1
        · exact Or.inr (by omega)
    · rintro m e t he ⟨h1, Y2, d1, d2, dc2, z⟩ nx
      have I2 := ep_IV_h I d1 d2
      refine br_f (nI_ge (b := 40) he (by decide)) (ep_compl_y e he (fun b hb => ?_))
      have hcp := ep_cp_iff Y2 I2 he
      cases b
      · refine br_t rfl (nm_r (nI_1 e) (nx t ⟨h1, Y2, d1, d2, dc2, ?_⟩))
        rcases z with ⟨z1, z2⟩ | z
        · refine Or.inl ⟨z1, fun c hc y => ?_⟩
          by_cases q : sg c (hs c) = e
          · intro x
            have : ep_cp t.1 t.2.1 t.2.2.2.2.1 t.2.2.2.2.2 e := hcp.mpr ⟨c, hc, by rw [z1 c hc]; exact q.symm, (ep_CE_c z1 hc).mpr x⟩
            exact absurd (hb.mpr this) (by decide)
          · exact z2 c hc (by omega)
        · exact Or.inr z
      · obtain ⟨c, hc, ee, c1, c2, c3⟩ := hcp.mp (hb.mp rfl)
        refine br_f (by decide) (ep_drop_y e he (fun rd' wr' ve' bf' k1 k2 p1 p2 => nm_r (nI_1 e) ?_))
        subst ee
        have hS2 := ep_S_up (o := o) hc c1
        refine nx (upd t.1 (sg c (h1 c)) (-1), upd t.2.1 (sg c (h1 c)) 0, rd', wr', ve', bf') ⟨ep_up h1 c (h1 c + 1), ep_Y_drop Y2 hc (d2 c hc) rfl rfl k1 k2 p1 p2, fun d hd => ?_, fun d hd => ?_, ep_DC_up dc2 c2 c3, Or.inr ?_⟩
        · by_cases y : d = c
          · rw [y, ep_us]; have := d1 c hc; omega
          · rw [ep_un y]; exact d1 d hd
        · by_cases y : d = c
          · rw [y, ep_us]; omega
          · rw [ep_un y]; exact d2 d hd
        · rcases z with ⟨z1, z2⟩ | z
          · have := ep_S_c (o := o) z1
            refine ⟨fun st => ?_, by omega⟩
            obtain ⟨x1, x2, x3⟩ := (ep_CE_c z1 hc).mp ⟨c1, c2, c3⟩
            obtain ⟨d, hd, y⟩ := st c hc x1 x2
            have := x3 d hd
            omega
          · exact ⟨z.1, by omega⟩
end
end
section
/-! findSources, join -/
def ep_src (cf rd wr : Nat → Int32) (e0 l : Nat) (rt : Bool) (e : Nat) : Prop := ¬ cf e = cf e0 ∧ (¬ wr (e * 8 + l) = 0 ∨ (rt = true ∧ ¬ rd (e * 8 + l) = 0))
def ep_JC (so bf : Nat → Int32) (f i a b : Nat) : Prop := (b = f ∨ ¬ bf (f * 40 + b) = 0) ∧ ∃ s, s < i ∧ ¬ so s = 0 ∧ (a = s ∨ ¬ bf (a * 40 + s) = 0)
section
variable {L B E Q q : Nat} {cy du cf op rd wr ve bf so it cn : Nat → Int32} {sg : Nat → Nat → Nat} {h o h1 hs ct : Nat → Nat} {V : Nat → Nat → Nat → Nat} {mk : Nat → Nat → Nat → Bool} {pw : Nat → Nat → Nat → Int32}
theorem ep_find_y {post : Int32 → SY → Prop} (e0 l : Nat) (rt : Bool) (he0 : e0 < 40) (hl : l < 8) (K : ∀ (so' : Nat → Int32) (sp : Bool), (∀ e, e < 40 → (¬ so' e = 0 ↔ ep_src cf rd wr e0 l rt e)) → (sp = true ↔ ∃ e, e < 40 ∧ ep_src cf rd wr e0 l rt e ∧ ¬ bf (e0 * 40 + e) = 0) → post (ep_b sp) ((nI L), (nI B), (nI E), (nI Q), (nI q), cy, du, cf, op, rd, wr, ve, bf, so', it, cn)) : wpY_findSources post ((nI L), (nI B), (nI E), (nI Q), (nI q), cy, du, cf, op, rd, wr, ve, bf, so, it, cn) (nI e0) (nI l) (ep_b rt) := by
  unfold wpY_findSources
  dsimp only
  refine loop_0 (fun n i (s : (Nat → Int32) × Bool) => wY_findSources_6 post (nI e0) (nI l) (ep_b rt) (nI L) (nI B) (nI E) (nI Q) (nI q) n (ep_b s.2) (nI i) cy du cf op rd wr ve bf (s.1) it cn) (fun i s => (∀ e, e < i → (¬ s.1 e = 0 ↔ ep_src cf rd wr e0 l rt e)) ∧ (s.2 = true ↔ ∃ e, e < i ∧ ep_src cf rd wr e0 l rt e ∧ ¬ bf (e0 * 40 + e) = 0)) 40 (so, false) ?_ ?_ ?_
  · refine ⟨fun e he => by omega, fun z => absurd z Bool.false_ne_true, fun z => ?_⟩
    obtain ⟨e, he, _⟩ := z
    omega
  · intro n s H
    exact br_t (nI_le (Nat.le_refl 40) (by decide)) ⟨ep_bnr s.2, K s.1 s.2 H.1 H.2⟩
  · intro n i s hi H next
    have t74 : ∀ z : Bool, (z = true ↔ ep_src cf rd wr e0 l rt i) → wY_findSources_74 post (wY_findSources_6 post (nI e0) (nI l) (ep_b rt) (nI L) (nI B) (nI E) (nI Q) (nI q) n) (nI e0) (nI l) (ep_b rt) (ep_b s.2) (nI i) (ep_b z) (nI i) (nI L) (nI B) (nI E) (nI Q) (nI q) cy du cf op rd wr ve bf (s.1) it cn := by
      intro z hz
      have st : ∀ e, e < i + 1 → (¬ upd s.1 i (ep_b z) e = 0 ↔ ep_src cf rd wr e0 l rt e) := by
        intro e he
        by_cases q : e = i
        · rw [q, pk_us, ep_bne]; exact hz
        · rw [pk_un q]; exact H.1 e (by omega)
      have keep : ¬ (ep_src cf rd wr e0 l rt i ∧ ¬ bf (e0 * 40 + i) = 0) → (s.2 = true ↔ ∃ e, e < i + 1 ∧ ep_src cf rd wr e0 l rt e ∧ ¬ bf (e0 * 40 + e) = 0) := by
        intro y
        rw [H.2]
        constructor
        · rintro ⟨e, q1, q2⟩
          exact ⟨e, by omega, q2⟩
        · rintro ⟨e, q1, q2⟩
          refine ⟨e, ?_, q2⟩
          have : e ≠ i := fun t => y (t ▸ q2)
          omega
      unfold wY_findSources_74
      rw [nI_clamp (show i < 2 ^ 31 by omega), ep_bn]
      refine ⟨vp_in_nI hi (by decide), nm_e ⟨vp_in_nI hi (by decide), ?_⟩⟩
      rw [pk_us]
      refine br_c (fun y => nm_r (nI_1 i) (next (upd s.1 i (ep_b z), s.2) ⟨st, keep (fun t => ?_)⟩)) (fun y => ⟨ep_in40 (by omega), ?_⟩)
      · rw [ep_b0] at y
        rw [hz.mpr t.1] at y
        exact absurd y (by decide)
      · rw [ep_cl40 (by omega)]
        refine br_c (fun x => nm_r (nI_1 i) (next (upd s.1 i (ep_b z), s.2) ⟨st, keep (fun t => t.2 x)⟩)) (fun x => nm_r (nI_1 i) (next (upd s.1 i (ep_b z), true) ⟨st, ?_⟩))
        exact ⟨fun _ => ⟨i, by omega, hz.mp (ep_bne.mp y), x⟩, fun _ => rfl⟩
    refine br_f (nI_ge (b := 40) hi (by decide)) ⟨vp_in_nI hi (by decide), vp_in_nI he0 (by decide), ?_⟩
    rw [nI_clamp (show i < 2 ^ 31 by omega), nI_clamp (show e0 < 2 ^ 31 by omega)]
    refine br_c (fun y => t74 false ⟨fun t => absurd t (by decide), fun t => absurd y t.1⟩) (fun y => ⟨ep_in8 (by omega), ?_⟩)
    rw [ep_cl8 (by omega)]
    refine br_c (fun x => ?_) (fun x => t74 true ⟨fun _ => ⟨y, Or.inl x⟩, fun _ => rfl⟩)
    refine ek_if ep_b0 (fun v => t74 false ⟨fun t => absurd t (by decide), fun t => ?_⟩) (fun v => ⟨ep_in8 (by omega), ?_⟩)
    · rcases t.2 with t | t
      · exact absurd x t
      · rw [v] at t; exact absurd t.1 (by decide)
    · have v2 : rt = true := by
        cases rt
        · exact absurd rfl v
        · rfl
      refine br_c (fun u => t74 false ⟨fun t => absurd t (by decide), fun t => ?_⟩) (fun u => t74 true ⟨fun _ => ⟨y, Or.inr ⟨v2, u⟩⟩, fun _ => rfl⟩)
      rcases t.2 with t | t
      · exact absurd x t
      · exact absurd u t.2
theorem ep_join15_y {post : Int32 → SY → Prop} (f : Nat) (hf : f < 40) (hsrc : ∀ s, s < 40 → ¬ so s = 0 → s ≠ f ∧ bf (f * 40 + s) = 0) (K : ∀ bf' : Nat → Int32, (∀ a b, a < 40 → b < 40 → ep_JC so bf f 40 a b → bf' (a * 40 + b) = 1) → (∀ a b, a < 40 → b < 40 → ¬ ep_JC so bf f 40 a b → bf' (a * 40 + b) = bf (a * 40 + b)) → post (nI f) ((nI L), (nI B), (nI E), (nI Q), (nI q), cy, du, cf, op, rd, wr, ve, bf', so, it, cn)) : ∃ n, wY_join_15 post (nI f) n 0 (nI L) (nI B) (nI E) (nI Q) (nI q) cy du cf op rd wr ve bf so it cn := by
  refine loop_0 (fun n i (bf' : Nat → Int32) => wY_join_15 post (nI f) n (nI i) (nI L) (nI B) (nI E) (nI Q) (nI q) cy du cf op rd wr ve bf' so it cn) (fun i bf' => (∀ a b, a < 40 → b < 40 → ep_JC so bf f i a b → bf' (a * 40 + b) = 1) ∧ (∀ a b, a < 40 → b < 40 → ¬ ep_JC so bf f i a b → bf' (a * 40 + b) = bf (a * 40 + b))) 40 bf ?_ ?_ ?_
  · refine ⟨fun a b _ _ z => ?_, fun a b _ _ _ => rfl⟩
    obtain ⟨_, s, q, _⟩ := z
    omega
  · intro n bf' H
    exact br_t (nI_le (Nat.le_refl 40) (by decide)) (K bf' H.1 H.2)
  · intro n i bf' hi H next
    have up : ∀ a b, ep_JC so bf f i a b → ep_JC so bf f (i + 1) a b := by
      rintro a b ⟨q1, s, q2, q3⟩
      exact ⟨q1, s, by omega, q3⟩
    refine br_f (nI_ge (b := 40) hi (by decide)) ⟨vp_in_nI hi (by decide), ?_⟩
    rw [nI_clamp (show i < 2 ^ 31 by omega)]
    refine br_c (fun z => nm_r (nI_1 i) (next bf' ⟨fun a b ha hb q => H.1 a b ha hb ?_, fun a b ha hb q => H.2 a b ha hb (fun t => q (up a b t))⟩)) (fun z => ?_)
    · obtain ⟨q1, s, q2, q3, q4⟩ := q
      refine ⟨q1, s, ?_, q3, q4⟩
      have : s ≠ i := fun t => q3 (t ▸ z)
      omega
    · obtain ⟨z1, z2⟩ := hsrc i hi z
      have r0 : ∀ a, a < 40 → bf' (a * 40 + i) = bf (a * 40 + i) := by
        intro a ha
        refine H.2 a i ha hi (fun t => ?_)
        rcases t.1 with t | t
        · exact z1 t
        · exact t z2
      have r1 : ∀ b, b < 40 → bf' (f * 40 + b) = bf (f * 40 + b) := by
        intro b hb
        refine H.2 f b hf hb (fun t => ?_)
        obtain ⟨_, s, q2, q3, q4⟩ := t
        obtain ⟨y1, y2⟩ := hsrc s (by omega) q3
        rcases q4 with q4 | q4
        · exact y1 q4.symm
        · exact q4 y2
      refine ep_put_y i f hi hf z1 (by rw [r0 f hf]; exact z2) (fun bf2 p1 p2 => nm_r (nI_1 i) (next bf2 ⟨fun a b ha hb q => ?_, fun a b ha hb q => ?_⟩))
      · obtain ⟨q1, s, q2, q3, q4⟩ := q
        by_cases y : s = i
        · subst y
          exact p1 a b ha hb (by rw [r0 a ha]; exact q4) (by rw [r1 b hb]; exact q1)
        · have j1 : bf' (a * 40 + b) = 1 := H.1 a b ha hb ⟨q1, s, by omega, q3, q4⟩
          by_cases x : (a = i ∨ ¬ bf' (a * 40 + i) = 0) ∧ (b = f ∨ ¬ bf' (f * 40 + b) = 0)
          · exact p1 a b ha hb x.1 x.2
          · rw [p2 a b ha hb x]; exact j1
      · rw [p2 a b ha hb (fun t => q ?_)]
        · exact H.2 a b ha hb (fun t => q (up a b t))
        · rw [r0 a ha, r1 b hb] at t
          exact ⟨t.2, i, by omega, z, t.1⟩
theorem ep_Y_join {bf' : Nat → Int32} {P : Nat → Nat → Prop} {c : Nat} (Y : ep_Y sg h o V mk pw cf op rd wr ve bf) (I : ep_IV h o V) (hc : c < 4) (G : ep_G h o V P ct) (hso : ∀ d n, ep_lv h o d n → (¬ so (sg d n) = 0 ↔ P d n)) (hsd : ∀ e, e < 40 → ep_dead cf op rd wr ve bf e → so e = 0) (p1 : ∀ a b, a < 40 → b < 40 → ep_JC so bf (sg c (o c)) 40 a b → bf' (a * 40 + b) = 1) (p2 : ∀ a b, a < 40 → b < 40 → ¬ ep_JC so bf (sg c (o c)) 40 a b → bf' (a * 40 + b) = bf (a * 40 + b)) : ep_Y sg h o (ep_rV c ct o V) mk pw cf op rd wr ve bf' := by
  have lo := ep_lv_open I hc
  have nd : ∀ e, e < 40 → ep_dead cf op rd wr ve bf e → e ≠ sg c (o c) := by
    intro e he z t
    have a1 := (Y.1 c (o c) lo).2.1
    rw [← t, z.1] at a1
    exact ep_m1nI hc a1
  refine ⟨Y.1, Y.2.1, fun d n k m l1 l2 => ?_, fun e he => ?_⟩
  · have hj : ep_JC so bf (sg c (o c)) 40 (sg k m) (sg d n) ↔ ((d = c ∧ n = o c) ∨ o c < V d n c) ∧ m < ct k := by
      unfold ep_JC
      rw [Y.2.2.1 d n c (o c) l1 lo, ep_bne, decide_eq_true_iff, G k l2.1 m]
      constructor
      · rintro ⟨q1, s, q2, q3, q4⟩
        refine ⟨?_, ?_⟩
        · rcases q1 with q1 | q1
          · exact Or.inl (ep_Y_inj Y l1 lo q1)
          · exact Or.inr q1
        · rcases Y.2.2.2 s q2 with ⟨c2, n2, lc, z⟩ | z
          · subst z
            refine ⟨c2, n2, lc, (hso c2 n2 lc).mp q3, ?_⟩
            rcases q4 with q4 | q4
            · obtain ⟨rfl, rfl⟩ := ep_Y_inj Y l2 lc q4
              exact Or.inr ⟨rfl, Nat.le_refl _⟩
            · rw [Y.2.2.1 c2 n2 k m lc l2, ep_bne, decide_eq_true_iff] at q4
              exact Or.inl q4
          · exact absurd (hsd s q2 z) q3
      · rintro ⟨q1, c2, n2, lc, hp, q4⟩
        refine ⟨?_, sg c2 n2, (Y.1 c2 n2 lc).1, (hso c2 n2 lc).mpr hp, ?_⟩
        · rcases q1 with q1 | q1
          · obtain ⟨rfl, rfl⟩ := q1
            exact Or.inl rfl
          · exact Or.inr q1
        · rw [Y.2.2.1 c2 n2 k m lc l2, ep_bne, decide_eq_true_iff]
          rcases q4 with q4 | q4
          · exact Or.inr q4
          · obtain ⟨rfl, q4⟩ := q4
            by_cases y : m = n2
            · rw [y]; exact Or.inl rfl
            · rw [I.2.1 k n2 lc]
              exact Or.inr (by omega)
    have hk := (Y.1 k m l2).1
    have hd := (Y.1 d n l1).1
    unfold ep_rV
    by_cases z : (d = c ∧ n = o c) ∨ o c < V d n c
    · rw [if_pos z]
      by_cases y : m < ct k
      · rw [p1 _ _ hk hd (hj.mpr ⟨z, y⟩), decide_eq_true (by omega)]
        rfl
      · rw [p2 _ _ hk hd (fun t => y (hj.mp t).2), Y.2.2.1 d n k m l1 l2, decide_eq_decide.mpr (show m < V d n k ↔ m < max (V d n k) (ct k) by omega)]
    · rw [if_neg z, p2 _ _ hk hd (fun t => z (hj.mp t).1)]
      exact Y.2.2.1 d n k m l1 l2
  · rcases Y.2.2.2 e he with z | z
    · exact Or.inl z
    · refine Or.inr ⟨z.1, z.2.1, z.2.2.1, fun g hg => ⟨?_, ?_⟩⟩
      · rw [p2 _ _ he hg (fun t => ?_)]
        · exact (z.2.2.2 g hg).1
        · obtain ⟨_, s, q2, q3, q4⟩ := t
          rcases q4 with q4 | q4
          · rw [← q4] at q3
            exact q3 (hsd e he z)
          · exact q4 (z.2.2.2 s q2).1
      · rw [p2 _ _ hg he (fun t => ?_)]
        · exact (z.2.2.2 g hg).2
        · rcases t.1 with t | t
          · exact nd e he z t
          · exact t (z.2.2.2 _ (Y.1 c (o c) lo).1).2
end
end
section
/-! chooseT: T as a set of epochs; those of it that are not closed get closed -/
def ep_cs (o : Nat → Nat) (T : Nat → Nat → Bool) : Nat → Bool := fun c => decide (c < 4) && T c (o c)
theorem ep_cs_t {o : Nat → Nat} {T : Nat → Nat → Bool} {c : Nat} : ep_cs o T c = true ↔ c < 4 ∧ T c (o c) = true := by
  unfold ep_cs
  rw [Bool.and_eq_true, decide_eq_true_iff]
section
variable {L B E Q q : Nat} {cy du cf op rd wr ve bf so it cn : Nat → Int32} {sg : Nat → Nat → Nat} {h o h1 hs ct : Nat → Nat} {V : Nat → Nat → Nat → Nat} {mk : Nat → Nat → Nat → Bool} {pw : Nat → Nat → Nat → Int32}
theorem ep_choose_y {post : SY → Prop} (T : Nat → Nat → Bool) (I : ep_IV h o V) (lb : ∀ c, c < 4 → o c ≤ h c + 7) (Y : ep_Y sg h o V mk pw cf op rd wr ve bf) (t1 : ∀ c n, ep_lv h o c n → it (sg c n) = ep_b (T c n)) (t2 : ∀ e, e < 40 → ep_dead cf op rd wr ve bf e → it e = 0) (K : ∀ (sg' : Nat → Nat → Nat) (cf' op' bf' cn' : Nat → Int32), ep_Y sg' h (ep_co o (ep_cs o T)) (ep_cV o V (ep_cs o T)) (ep_cm o mk (ep_cs o T)) pw cf' op' rd wr ve bf' → ep_IV h (ep_co o (ep_cs o T)) (ep_cV o V (ep_cs o T)) → (∀ c n, ep_lv h o c n → sg' c n = sg c n) → (∀ c, ep_cs o T c = true → it (sg' c (o c + 1)) = 0) → (∀ e l, e < 40 → l < 8 → cn' (e * 8 + l) = it e) → post ((nI L), (nI B), (nI E), (nI Q), (nI q), cy, du, cf', op', rd, wr, ve, bf', so, it, cn')) : wpY_chooseT post ((nI L), (nI B), (nI E), (nI Q), (nI q), cy, du, cf, op, rd, wr, ve, bf, so, it, cn) := by
  have itb : ∀ e, e < 40 → ∃ b : Bool, it e = ep_b b := by
    intro e he
    rcases Y.2.2.2 e he with ⟨c, n, l, z⟩ | z
    · exact ⟨T c n, by rw [z]; exact t1 c n l⟩
    · exact ⟨false, t2 e he z⟩
  unfold wpY_chooseT
  dsimp only
  refine loop_0 (fun n i (s : (Nat → Int32) × (Nat → Int32) × (Nat → Int32) × (Nat → Int32)) => wY_chooseT_2 post n (nI i) (nI L) (nI B) (nI E) (nI Q) (nI q) cy du (s.1) (s.2.1) rd wr ve (s.2.2.1) so it (s.2.2.2)) (fun i s => ∃ (S : Nat → Bool) (sg' : Nat → Nat → Nat), (∀ c, S c = true → c < 4 ∧ T c (o c) = true ∧ sg c (o c) < i) ∧ (∀ c, c < 4 → T c (o c) = true → sg c (o c) < i → S c = true) ∧ ep_Y sg' h (ep_co o S) (ep_cV o V S) (ep_cm o mk S) pw s.1 s.2.1 rd wr ve s.2.2.1 ∧ ep_IV h (ep_co o S) (ep_cV o V S) ∧ (∀ c n, ep_lv h o c n → sg' c n = sg c n) ∧ (∀ c, S c = true → it (sg' c (o c + 1)) = 0) ∧ (∀ e l, e < i → l < 8 → s.2.2.2 (e * 8 + l) = it e)) 40 (cf, op, bf, cn) ?_ ?_ ?_
  · refine ⟨fun _ => false, sg, fun c z => absurd z Bool.false_ne_true, fun c _ _ z => by omega, ?_, ?_, fun _ _ _ => rfl, fun c z => absurd z Bool.false_ne_true, fun e l he => by omega⟩
    · rw [ep_co_0, ep_cV_0, ep_cm_0]; exact Y
    · rw [ep_co_0, ep_cV_0]; exact I
  · rintro n s ⟨S, sg', s1, s2, Y', I', sp, si, sc⟩
    have eS : S = ep_cs o T := by
      funext c
      cases z : S c
      · refine (Bool.eq_false_iff.mpr (fun y => ?_)).symm
        have y2 := ep_cs_t.mp y
        have := s2 c y2.1 y2.2 (Y.1 c (o c) (ep_lv_open I y2.1)).1
        rw [z] at this
        exact absurd this (by decide)
      · exact (ep_cs_t.mpr ⟨(s1 c z).1, (s1 c z).2.1⟩).symm
    subst eS
    exact br_t (nI_le (Nat.le_refl 40) (by decide)) (K sg' _ _ _ _ Y' I' sp si sc)
  · rintro n e s he ⟨S, sg', s1, s2, Y', I', sp, si, sc⟩ next
    obtain ⟨be, hbe⟩ := itb e he
    refine br_f (nI_ge (b := 40) he (by decide)) ?_
    refine loop_0 (fun m j (cn' : Nat → Int32) => wY_chooseT_10 post (wY_chooseT_2 post n) (nI e) (nI L) (nI B) (nI E) (nI Q) (nI q) m (nI j) cy du (s.1) (s.2.1) rd wr ve (s.2.2.1) so it cn') (fun j cn' => (∀ e' l, e' < e → l < 8 → cn' (e' * 8 + l) = it e') ∧ (∀ l, l < j → cn' (e * 8 + l) = it e)) 8 s.2.2.2 ?_ ?_ ?_
    · exact ⟨sc, fun l hl => by omega⟩
    · intro m cn' H
      have H2 : ∀ e' l, e' < e + 1 → l < 8 → cn' (e' * 8 + l) = it e' := by
        intro e' l he' hl
        by_cases q : e' = e
        · rw [q]; exact H.2 l hl
        · exact H.1 e' l (by omega) hl
      refine br_t (nI_le (Nat.le_refl 8) (by decide)) ⟨vp_in_nI he (by decide), ?_⟩
      rw [nI_clamp (show e < 2 ^ 31 by omega)]
      refine br_c (fun z => nm_r (nI_1 e) (next (s.1, s.2.1, s.2.2.1, cn') ⟨S, sg', fun c y => ⟨(s1 c y).1, (s1 c y).2.1, by have := (s1 c y).2.2; omega⟩, fun c hc y1 y2 => ?_, Y', I', sp, si, H2⟩)) (fun z => ⟨vp_in_nI he (by decide), br_c (fun y => nm_r (nI_1 e) (next (s.1, s.2.1, s.2.2.1, cn') ⟨S, sg', fun c y => ⟨(s1 c y).1, (s1 c y).2.1, by have := (s1 c y).2.2; omega⟩, fun c hc y1 y2 => ?_, Y', I', sp, si, H2⟩)) (fun y => ?_)⟩)
      · by_cases q : sg c (o c) = e
        · rw [← q, t1 c (o c) (ep_lv_open I hc), y1] at z
          exact absurd z (by decide)
        · exact s2 c hc y1 (by omega)
      · by_cases q : sg c (o c) = e
        · have lo := ep_lv_open I hc
          have a3 := (Y'.1 c (o c) (ep_lv_up lo)).2.2.1
          rw [sp c (o c) lo, q, y] at a3
          have := of_decide_eq_false (ep_b0.mp a3.symm)
          refine Classical.byContradiction fun x => this ?_
          rw [ep_co_f (Bool.eq_false_iff.mpr x)]
        · exact s2 c hc y1 (by omega)
      · rcases Y.2.2.2 e he with ⟨c, k, l, x⟩ | x
        · have a3 := (Y'.1 c k (ep_lv_up l)).2.2.1
          rw [sp c k l, ← x] at a3
          rw [a3] at y
          have ek : k = ep_co o S c := of_decide_eq_true (ep_bne.mp y)
          have Sf : S c = false := by
            refine Bool.eq_false_iff.mpr (fun t => ?_)
            have : ep_co o S c = o c + 1 := if_pos t
            have := l.2.2
            omega
          have eo : ep_co o S c = o c := ep_co_f Sf
          have hc := l.1
          have ekc : k = o c := by omega
          have tc : T c (o c) = true := by
            rw [x, t1 c k l, ekc] at z
            exact ep_bne.mp z
          have es : e = sg' c (ep_co o S c) := by rw [← ek, sp c k l]; exact x
          have lb' : ep_LB h (ep_co o S) := fun d hd => by
            have := lb d hd
            have := (ep_co_le (o := o) (S := S) d).2
            omega
          rw [es]
          refine ep_close_y c hc I' lb' Y' (fun f cf' op' bf' hf df Y2 => ?_)
          have I2 := ep_IV_co I' hc
          rw [ep_co_add Sf, ep_cV_add Sf] at Y2 I2
          rw [ep_cm_add Sf] at Y2
          rw [← es]
          have sp2 : ∀ d m, ep_lv h o d m → ep_sg sg' c (ep_co o S c + 1) f d m = sg d m := by
            intro d m ld
            rw [ep_sg_n (fun t => by
              have := ld.2.2
              rw [t.1] at this
              omega)]
            exact sp d m ld
          refine nm_r (nI_1 e) (next (cf', op', bf', cn') ⟨ep_add S c, ep_sg sg' c (ep_co o S c + 1) f, fun d q => ?_, fun d hd q1 q2 => ?_, Y2, I2, sp2, fun d q => ?_, H2⟩)
          · by_cases t : d = c
            · subst t
              exact ⟨hc, tc, by rw [x, ekc]; omega⟩
            · rw [ep_add_n t] at q
              exact ⟨(s1 d q).1, (s1 d q).2.1, by have := (s1 d q).2.2; omega⟩
          · by_cases t : d = c
            · rw [t]; exact ep_add_s
            · rw [ep_add_n t]
              refine s2 d hd q1 ?_
              have : sg d (o d) ≠ e := fun y => by
                rw [x] at y
                exact t (ep_Y_inj Y (ep_lv_open I hd) l y).1
              omega
          · by_cases t : d = c
            · subst t
              rw [eo, ep_sg_s]
              refine t2 f hf ?_
              rcases Y.2.2.2 f hf with ⟨c2, n2, l2, v⟩ | v
              · have a1 := (Y'.1 c2 n2 (ep_lv_up l2)).2.1
                rw [sp c2 n2 l2, ← v, df.1] at a1
                exact absurd a1 (ep_m1nI l2.1)
              · exact v
            · rw [ep_add_n t] at q
              rw [ep_sg_n (fun v => t v.1)]
              exact si d q
        · exact absurd (t2 e he x) z
    · intro m j cn' hj H nx
      refine br_f (nI_ge (b := 8) hj (by decide)) ⟨vp_in_nI he (by decide), ep_in8 (by omega), nm_r (e' := upd cn' (e * 8 + j) (it e)) ?_ (nm_r (nI_1 j) (nx (upd cn' (e * 8 + j) (it e)) ⟨fun e' l he' hl => ?_, fun l hl => ?_⟩))⟩
      · rw [ep_cl8 (by omega), nI_clamp (by omega), hbe, ep_bn]
      · rw [pk_un (by omega)]; exact H.1 e' l he' hl
      · by_cases q : l = j
        · rw [q, pk_us]
        · rw [pk_un (by omega)]; exact H.2 l (by omega)
end
end
section
/-! inSet, isLast, flush -/
def ep_fm (mk : Nat → Nat → Nat → Bool) (Ch : Nat → Nat → Nat → Bool) : Nat → Nat → Nat → Bool := fun c n j => mk c n j && !(decide (16 ≤ j) && Ch c n (j - 16))
def ep_is (cn ve : Nat → Int32) (e l : Nat) : Prop := ¬ cn (e * 8 + l) = 0 ∧ ¬ ve (e * 8 + l) < 0
def ep_IL (cn ve bf : Nat → Int32) (e l : Nat) : Prop := ep_is cn ve e l ∧ ∀ f, f < 40 → f ≠ e → ep_is cn ve f l → ¬ bf (f * 40 + e) = 0
def ep_DY (h o : Nat → Nat) (V : Nat → Nat → Nat → Nat) (mk : Nat → Nat → Nat → Bool) (pw : Nat → Nat → Nat → Int32) (Ch : Nat → Nat → Nat → Bool) (du du' : Nat → Int32) : Prop :=
  ∀ l, l < 8 → (∀ c n, ep_lv h o c n → mk c n (16 + l) = true → Ch c n l = true → (∀ d m, ep_lv h o d m → mk d m (16 + l) = true → Ch d m l = true → (d = c ∧ m = n) ∨ m < V c n d) → du' l = pw c n l) ∧ ((∀ c n, ep_lv h o c n → mk c n (16 + l) = true → Ch c n l = false) → du' l = du l)
section
variable {L B E Q q : Nat} {cy du cf op rd wr ve bf so it cn : Nat → Int32} {sg : Nat → Nat → Nat} {h o h1 hs ct : Nat → Nat} {V : Nat → Nat → Nat → Nat} {mk : Nat → Nat → Nat → Bool} {pw : Nat → Nat → Nat → Int32} {Ch : Nat → Nat → Nat → Bool}
theorem ep_fm_lo {c n j : Nat} (hj : j < 16) : ep_fm mk Ch c n j = mk c n j := by
  unfold ep_fm
  rw [decide_eq_false (by omega), Bool.false_and, Bool.not_false, Bool.and_true]
theorem ep_fm_hi {c n l : Nat} : ep_fm mk Ch c n (16 + l) = (mk c n (16 + l) && !Ch c n l) := by
  unfold ep_fm
  rw [decide_eq_true (by omega), Bool.true_and, show 16 + l - 16 = l from by omega]
theorem ep_inSet_y {post : Int32 → Prop} (e l : Nat) (he : e < 40) (hl : l < 8) (K : ∀ r : Bool, (r = true ↔ ep_is cn ve e l) → post (ep_b r)) : wpY_inSet post ((nI L), (nI B), (nI E), (nI Q), (nI q), cy, du, cf, op, rd, wr, ve, bf, so, it, cn) (nI e) (nI l) := by
  unfold wpY_inSet
  dsimp only
  rw [ep_cl8 (by omega)]
  refine ⟨ep_in8 (by omega), br_c (fun z => K false ⟨fun t => absurd t (by decide), fun t => absurd z t.1⟩) (fun z => ⟨ep_in8 (by omega), br_c (fun y => K false ⟨fun t => absurd t (by decide), fun t => absurd y t.2⟩) (fun y => K true ⟨fun _ => ⟨z, y⟩, fun _ => rfl⟩)⟩)⟩
theorem ep_isLast_y {post : Int32 → Prop} (e l : Nat) (he : e < 40) (hl : l < 8) (K : ∀ r : Bool, (r = true ↔ ep_IL cn ve bf e l) → post (ep_b r)) : wpY_isLast post ((nI L), (nI B), (nI E), (nI Q), (nI q), cy, du, cf, op, rd, wr, ve, bf, so, it, cn) (nI e) (nI l) := by
  unfold wpY_isLast
  dsimp only
  refine loop_0 (fun n i (_ : Unit) => wY_isLast_2 post (nI e) (nI l) (nI L) (nI B) (nI E) (nI Q) (nI q) cy du cf op rd wr ve bf so it cn n (nI i)) (fun i _ => ∀ f, f < i → f ≠ e → ep_is cn ve f l → ¬ bf (f * 40 + e) = 0) 40 () (fun e he => by omega) ?_ ?_
  · intro n _ H
    refine br_t (nI_le (Nat.le_refl 40) (by decide)) (ep_inSet_y e l he hl (fun r hr => ⟨ep_bnr r, K r ?_⟩))
    rw [hr]
    exact ⟨fun t => ⟨t, H⟩, fun t => t.1⟩
  · intro n i _ hi H next
    refine br_f (nI_ge (b := 40) hi (by decide)) (ek_if (nI_eq (by omega) (by omega)) (fun z => nm_r (nI_1 i) (next () (fun f hf q1 q2 => H f (by omega) q1 q2))) (fun z => ep_inSet_y i l hi hl (fun r hr => ?_)))
    cases r
    · refine br_t rfl (nm_r (nI_1 i) (next () (fun f hf q1 q2 => ?_)))
      by_cases y : f = i
      · rw [y] at q2
        exact absurd (hr.mpr q2) (by decide)
      · exact H f (by omega) q1 q2
    · refine br_f (by decide) ⟨ep_in40 (by omega), ?_⟩
      rw [ep_cl40 (by omega)]
      refine br_c (fun y => K false ⟨fun t => absurd t (by decide), fun t => absurd y (t.2 i hi z (hr.mp rfl))⟩) (fun y => nm_r (nI_1 i) (next () (fun f hf q1 q2 => ?_)))
      by_cases x : f = i
      · rw [x]; exact y
      · exact H f (by omega) q1 q2
theorem ep_flush0_y {post : Int32 → SY → Prop} (hQ : Q ≤ 8) (hq : q ≤ Q) (hU : ∀ e f l, e < 40 → f < 40 → l < 8 → ep_IL cn ve bf e l → ep_IL cn ve bf f l → e = f) (K : ∀ (k : Nat) (du' ve' : Nat → Int32), k = ep_sum (fun i => if ¬ cn i = 0 ∧ ¬ ve i < 0 then 1 else 0) 320 → (∀ l, l < 8 → (∀ e, e < 40 → ep_IL cn ve bf e l → du' l = ve (e * 8 + l)) ∧ ((∀ e, e < 40 → ¬ ep_IL cn ve bf e l) → du' l = du l)) → (∀ i, i < 320 → ve' i = if cn i = 0 then ve i else -1) → wpY_forget (fun u => post (nI k) u) ((nI L), (nI B), (nI E), (nI Q), (nI (min (q + k) Q)), cy, du', cf, op, rd, wr, ve', bf, so, it, cn)) : wpY_flush post ((nI L), (nI B), (nI E), (nI Q), (nI q), cy, du, cf, op, rd, wr, ve, bf, so, it, cn) := by
  unfold wpY_flush
  dsimp only
  refine loop_0 (fun n i (s : Nat × (Nat → Int32)) => wY_flush_4 post (nI L) (nI B) (nI E) (nI Q) (nI q) n (nI s.1) (nI i) cy (s.2) cf op rd wr ve bf so it cn) (fun i s => s.1 = ep_sum (fun i => if ¬ cn i = 0 ∧ ¬ ve i < 0 then 1 else 0) i ∧ ∀ l, l < 8 → (∀ e, e * 8 + l < i → ep_IL cn ve bf e l → s.2 l = ve (e * 8 + l)) ∧ ((∀ e, e * 8 + l < i → ¬ ep_IL cn ve bf e l) → s.2 l = du l)) 320 (0, du) ?_ ?_ ?_
  · exact ⟨rfl, fun l hl => ⟨fun e he => by omega, fun _ => rfl⟩⟩
  · rintro n ⟨k, du'⟩ ⟨H1, H2⟩
    dsimp only at H1 H2
    have hk : k ≤ 320 := by
      rw [H1]
      have := ep_sum_le (f := fun i => if ¬ cn i = 0 ∧ ¬ ve i < 0 then 1 else 0) (g := fun _ => 1) (n := 320) (fun i _ => by
        split <;> omega)
      rw [ep_sum_k] at this
      omega
    refine br_t (nI_le (Nat.le_refl 320) (by decide)) ?_
    refine loop_0 (fun m j (ve' : Nat → Int32) => wY_flush_70 post (nI k) (nI L) (nI B) (nI E) (nI Q) (nI q) m (nI j) cy du' cf op rd wr ve' bf so it cn) (fun j ve' => (∀ i, i < j → ve' i = if cn i = 0 then ve i else -1) ∧ (∀ i, j ≤ i → ve' i = ve i)) 320 ve ?_ ?_ ?_
    · exact ⟨fun i hi => by omega, fun i _ => rfl⟩
    · intro m ve' G
      have fin := K k du' ve' H1 (fun l hl => ⟨fun e he => (H2 l hl).1 e (by omega), fun z => (H2 l hl).2 (fun e he => z e (by omega))⟩) G.1
      refine br_t (nI_le (Nat.le_refl 320) (by decide)) ?_
      rw [nI_add]
      refine ek_if (nI_leI (by omega) (by omega)) (fun z => ?_) (fun z => ?_)
      · rw [show min (q + k) Q = q + k from by omega] at fin
        exact fin
      · rw [show min (q + k) Q = Q from by omega] at fin
        exact fin
    · intro m j ve' hj G nx
      refine br_f (nI_ge (b := 320) hj (by decide)) ⟨vp_in_nI hj (by decide), ?_⟩
      rw [nI_clamp (show j < 2 ^ 31 by omega)]
      refine br_c (fun z => nm_r (nI_1 j) (nx ve' ⟨fun i hi => ?_, fun i hi => G.2 i (by omega)⟩)) (fun z => ⟨vp_in_nI hj (by decide), nm_e (nm_r (nI_1 j) (nx (upd ve' j (-1)) ⟨fun i hi => ?_, fun i hi => ?_⟩))⟩)
      · by_cases y : i = j
        · rw [y, if_pos z]; exact G.2 j (Nat.le_refl _)
        · exact G.1 i (by omega)
      · by_cases y : i = j
        · rw [y, pk_us, if_neg z]
        · rw [pk_un y]; exact G.1 i (by omega)
      · rw [pk_un (by omega)]; exact G.2 i (by omega)
  · rintro n i ⟨k, du'⟩ hi ⟨H1, H2⟩ next
    dsimp only at H1 H2
    have e8 : i / 8 * 8 + i % 8 = i := by omega
    have t32 : ∀ k', k' = ep_sum (fun i => if ¬ cn i = 0 ∧ ¬ ve i < 0 then 1 else 0) (i + 1) → wY_flush_32 post (wY_flush_4 post (nI L) (nI B) (nI E) (nI Q) (nI q) n) (nI k') (nI i) (nI L) (nI B) (nI E) (nI Q) (nI q) cy du' cf op rd wr ve bf so it cn := by
      intro k' hk'
      unfold wY_flush_32
      rw [ep_mod8 hi, ep_div8 hi, nI_clamp (show i % 8 < 2 ^ 31 by omega), nI_clamp (show i < 2 ^ 31 by omega)]
      refine ⟨by decide, by decide, ep_isLast_y (i / 8) (i % 8) (by omega) (by omega) (fun r hr => ?_)⟩
      cases r
      · refine br_t rfl (nm_r (nI_1 i) (next (k', du') ⟨hk', fun l hl => ⟨fun e he q => (H2 l hl).1 e ?_ q, fun z => (H2 l hl).2 (fun e he => z e (by omega))⟩⟩))
        have : e * 8 + l ≠ i := fun t => by
          have x1 : e = i / 8 := by omega
          have x2 : l = i % 8 := by omega
          rw [x1, x2] at q
          exact absurd (hr.mpr q) (by decide)
        omega
      · have hil := hr.mp rfl
        refine br_f (by decide) ⟨by decide, vp_in_nI hi (by decide), vp_in_nI (by omega) (by decide), nm_e (nm_r (nI_1 i) (next (k', upd du' (i % 8) (ve i)) ⟨hk', fun l hl => ?_⟩))⟩
        dsimp only
        by_cases y : l = i % 8
        · rw [y, pk_us]
          refine ⟨fun e he q => ?_, fun z => ?_⟩
          · have := hU e (i / 8) (i % 8) (by omega) (by omega) (by omega) q hil
            rw [this, e8]
          · exact absurd hil (z (i / 8) (by omega))
        · rw [pk_un y]
          refine ⟨fun e he q => (H2 l hl).1 e (by omega) q, fun z => (H2 l hl).2 (fun e he => z e (by omega))⟩
    refine br_f (nI_ge (b := 320) hi (by decide)) ⟨vp_in_nI hi (by decide), ?_⟩
    rw [nI_clamp (show i < 2 ^ 31 by omega)]
    refine br_c (fun z => t32 k ?_) (fun z => ⟨vp_in_nI hi (by decide), br_c (fun y => t32 k ?_) (fun y => nm_r (nI_1 k) (t32 (k + 1) ?_))⟩)
    · show k = ep_sum _ i + (if ¬ cn i = 0 ∧ ¬ ve i < 0 then 1 else 0)
      rw [if_neg (fun t => t.1 z), ← H1]
      rfl
    · show k = ep_sum _ i + (if ¬ cn i = 0 ∧ ¬ ve i < 0 then 1 else 0)
      rw [if_neg (fun t => t.2 y), ← H1]
      rfl
    · show k + 1 = ep_sum _ i + (if ¬ cn i = 0 ∧ ¬ ve i < 0 then 1 else 0)
      rw [if_pos ⟨z, y⟩, ← H1]
theorem ep_Y_tot (Y : ep_Y sg h o V mk pw cf op rd wr ve bf) : ep_sum (fun i => if ¬ ve i < 0 then 1 else 0) 320 = ep_cnt h o mk 0 + ep_cnt h o mk 1 + (ep_cnt h o mk 2 + ep_cnt h o mk 3) := by
  rw [← ep_Y_vers Y (c := 0) (by omega), ← ep_Y_vers Y (c := 1) (by omega), ← ep_Y_vers Y (c := 2) (by omega), ← ep_Y_vers Y (c := 3) (by omega), ← ep_sum_add, ← ep_sum_add, ← ep_sum_add]
  refine ep_sum_c (fun i hi => ?_)
  have e8 : i / 8 * 8 + i % 8 = i := by omega
  rcases Y.2.2.2 (i / 8) (by omega) with ⟨c, n, l, z⟩ | z
  · have a1 := (Y.1 c n l).2.1
    rw [← z] at a1
    have hc := l.1
    have hx : ∀ d, d < 4 → d ≠ c → ¬ cf (i / 8) = nI d := fun d hd y t => y ((nI_eq (by omega) (by omega)).mp (t.symm.trans a1))
    by_cases y : ve i < 0
    · rw [if_neg (fun t => t y), if_neg (fun t => t.2 y), if_neg (fun t => t.2 y), if_neg (fun t => t.2 y), if_neg (fun t => t.2 y)]
    · rw [if_pos y]
      have : c = 0 ∨ c = 1 ∨ c = 2 ∨ c = 3 := by omega
      rcases this with t | t | t | t
      · subst t
        rw [if_pos ⟨a1, y⟩, if_neg (fun t => hx 1 (by omega) (by omega) t.1), if_neg (fun t => hx 2 (by omega) (by omega) t.1), if_neg (fun t => hx 3 (by omega) (by omega) t.1)]
      · subst t
        rw [if_neg (fun t => hx 0 (by omega) (by omega) t.1), if_pos ⟨a1, y⟩, if_neg (fun t => hx 2 (by omega) (by omega) t.1), if_neg (fun t => hx 3 (by omega) (by omega) t.1)]
      · subst t
        rw [if_neg (fun t => hx 0 (by omega) (by omega) t.1), if_neg (fun t => hx 1 (by omega) (by omega) t.1), if_pos ⟨a1, y⟩, if_neg (fun t => hx 3 (by omega) (by omega) t.1)]
      · subst t
        rw [if_neg (fun t => hx 0 (by omega) (by omega) t.1), if_neg (fun t => hx 1 (by omega) (by omega) t.1), if_neg (fun t => hx 2 (by omega) (by omega) t.1), if_pos ⟨a1, y⟩]
  · have y : ve i < 0 := by
      rw [← e8, (z.2.2.1 (i % 8) (by omega)).2.2]
      decide
    rw [if_neg (fun t => t y), if_neg (fun t => t.2 y), if_neg (fun t => t.2 y), if_neg (fun t => t.2 y), if_neg (fun t => t.2 y)]
theorem ep_cnt_h {c : Nat} (hh : h c ≤ h1 c) (ho : h1 c ≤ o c) (z : ∀ n, h c ≤ n → n < h1 c → ep_em mk c n) : ep_cnt h o mk c = ep_cnt h1 o mk c := by
  unfold ep_cnt
  have := ep_sum_sp (fun i => ep_rc (mk c (h c + i)) 8) (h1 c - h c) (o c + 1 - h1 c)
  rw [show h1 c - h c + (o c + 1 - h1 c) = o c + 1 - h c from by omega, ep_sum_0 (f := fun i => ep_rc (mk c (h c + i)) 8) (n := h1 c - h c) (fun i hi => ep_rc_0 (Nat.le_refl 8) (z (h c + i) (by omega) (by omega))), Nat.zero_add] at this
  rw [this]
  exact ep_sum_c (fun i hi => by
    show ep_rc (mk c (h c + (h1 c - h c + i))) 8 = ep_rc (mk c (h1 c + i)) 8
    rw [show h c + (h1 c - h c + i) = h1 c + i from by omega])
theorem ep_cnt_m {mk' : Nat → Nat → Nat → Bool} {c : Nat} (z : ∀ n l, h c ≤ n → n ≤ o c → l < 8 → mk' c n (16 + l) = mk c n (16 + l)) : ep_cnt h o mk' c = ep_cnt h o mk c := by
  unfold ep_cnt
  refine ep_sum_c (fun i hi => ep_sum_c (fun l hl => ?_))
  show (mk' c (h c + i) (16 + l)).toNat = (mk c (h c + i) (16 + l)).toNat
  rw [z _ l (by omega) (by omega) hl]
theorem ep_Y_fl {ve' : Nat → Int32} (Y : ep_Y sg h o V mk pw cf op rd wr ve bf) (hch : ∀ c n l, ep_lv h o c n → l < 8 → (¬ cn (sg c n * 8 + l) = 0 ↔ Ch c n l = true)) (hv : ∀ i, i < 320 → ve' i = if cn i = 0 then ve i else -1) : ep_Y sg h o V (ep_fm mk Ch) pw cf op rd wr ve' bf := by
  refine ⟨fun c n l => ?_, Y.2.1, Y.2.2.1, fun e he => ?_⟩
  · obtain ⟨a1, a2, a3, a4⟩ := Y.1 c n l
    refine ⟨a1, a2, a3, fun q hq => ?_⟩
    obtain ⟨b1, b2, b3, b4⟩ := a4 q hq
    have hc := hch c n q l hq
    rw [ep_fm_lo (by omega), ep_fm_lo (by omega), ep_fm_hi, hv _ (by omega)]
    refine ⟨b1, b2, ?_, fun t => b4 ?_⟩
    · cases z : Ch c n q
      · have y : cn (sg c n * 8 + q) = 0 := Classical.byContradiction fun y => by
          rw [hc.mp y] at z
          exact absurd z (by decide)
        rw [if_pos y, Bool.not_false, Bool.and_true]
        exact b3
      · rw [if_neg (hc.mpr z), Bool.not_true, Bool.and_false, if_neg Bool.false_ne_true]
    · rw [Bool.and_eq_true] at t
      exact t.1
  · rcases Y.2.2.2 e he with z | z
    · exact Or.inl z
    · refine Or.inr ⟨z.1, z.2.1, fun l hl => ⟨(z.2.2.1 l hl).1, (z.2.2.1 l hl).2.1, ?_⟩, z.2.2.2⟩
      rw [hv _ (by omega), (z.2.2.1 l hl).2.2]
      split <;> rfl
theorem ep_flush_y {post : Int32 → SY → Prop} (Ch : Nat → Nat → Nat → Bool) (hQ : Q ≤ 8) (hq : q ≤ Q) (I : ep_IV h o V) (lb : ep_LB h o) (Y : ep_Y sg h o V mk pw cf op rd wr ve bf) (hch : ∀ c n l, ep_lv h o c n → l < 8 → (¬ cn (sg c n * 8 + l) = 0 ↔ Ch c n l = true)) (K : ∀ (k : Nat) (h' : Nat → Nat) (du' cf' op' rd' wr' ve' bf' : Nat → Int32), ep_DY h o V mk pw Ch du du' → k + (ep_cnt h' o (ep_fm mk Ch) 0 + ep_cnt h' o (ep_fm mk Ch) 1 + (ep_cnt h' o (ep_fm mk Ch) 2 + ep_cnt h' o (ep_fm mk Ch) 3)) = ep_cnt h o mk 0 + ep_cnt h o mk 1 + (ep_cnt h o mk 2 + ep_cnt h o mk 3) → ep_Y sg h' o V (ep_fm mk Ch) pw cf' op' rd' wr' ve' bf' → (∀ c, c < 4 → h c ≤ h' c) → (∀ c, c < 4 → h' c ≤ o c) → ep_DC h h' V (ep_em (ep_fm mk Ch)) → ep_ST h' o V (ep_em (ep_fm mk Ch)) → post (nI k) ((nI L), (nI B), (nI E), (nI Q), (nI (min (q + k) Q)), cy, du', cf', op', rd', wr', ve', bf', so, it, cn)) : wpY_flush post ((nI L), (nI B), (nI E), (nI Q), (nI q), cy, du, cf, op, rd, wr, ve, bf, so, it, cn) := by
  have his : ∀ c n l, ep_lv h o c n → l < 8 → (ep_is cn ve (sg c n) l ↔ (mk c n (16 + l) = true ∧ Ch c n l = true)) := by
    intro c n l lv hl
    unfold ep_is
    rw [hch c n l lv hl, ep_Y_ve Y lv hl]
    cases mk c n (16 + l) <;> simp
  have hlv : ∀ e l, e < 40 → l < 8 → ep_is cn ve e l → ∃ c n, ep_lv h o c n ∧ e = sg c n := by
    intro e l he hl z
    rcases Y.2.2.2 e he with y | y
    · exact y
    · have := z.2
      rw [(y.2.2.1 l hl).2.2] at this
      exact absurd (by decide) this
  refine ep_flush0_y hQ hq ?_ (fun k du' ve' ek hdu hve => ?_)
  · intro e f l he hf hl q1 q2
    refine Classical.byContradiction fun y => ?_
    have x1 := q1.2 f hf (fun t => y t.symm) q2.1
    have x2 := q2.2 e he y q1.1
    obtain ⟨c, n, l1, rfl⟩ := hlv e l he hl q1.1
    obtain ⟨d, m, l2, rfl⟩ := hlv f l hf hl q2.1
    rw [Y.2.2.1 c n d m l1 l2, ep_bne, decide_eq_true_iff] at x1
    rw [Y.2.2.1 d m c n l2 l1, ep_bne, decide_eq_true_iff] at x2
    exact ep_asym I l1 l2 x1 x2
  · have Y' := ep_Y_fl Y hch hve
    refine ep_forget_y I lb Y' (fun h' cf' op' rd' wr' ve2 bf' Y2 b1 b2 dc st => K k h' du' cf' op' rd' wr' ve2 bf' ?_ ?_ Y2 b1 b2 dc st)
    · intro l hl
      obtain ⟨u1, u2⟩ := hdu l hl
      refine ⟨fun c n lv z1 z2 z3 => ?_, fun z => u2 (fun e he t => ?_)⟩
      · have hv : ve (sg c n * 8 + l) = pw c n l := by
          rw [((Y.1 c n lv).2.2.2 l hl).2.2.1, if_pos z1]
        rw [← hv]
        refine u1 _ (Y.1 c n lv).1 ⟨(his c n l lv hl).mpr ⟨z1, z2⟩, fun f hf q1 q2 => ?_⟩
        obtain ⟨d, m, ld, rfl⟩ := hlv f l hf hl q2
        obtain ⟨y1, y2⟩ := (his d m l ld hl).mp q2
        rw [Y.2.2.1 c n d m lv ld, ep_bne, decide_eq_true_iff]
        rcases z3 d m ld y1 y2 with t | t
        · obtain ⟨rfl, rfl⟩ := t
          exact absurd rfl q1
        · exact t
      · obtain ⟨c, n, lv, rfl⟩ := hlv e l he hl t.1
        obtain ⟨y1, y2⟩ := (his c n l lv hl).mp t.1
        rw [z c n lv y1] at y2
        exact absurd y2 (by decide)
    · have s1 := ep_Y_tot Y
      have s2 := ep_Y_tot Y'
      have s3 : ep_sum (fun i => if ¬ ve i < 0 then 1 else 0) 320 = k + ep_sum (fun i => if ¬ ve' i < 0 then 1 else 0) 320 := by
        rw [ek, ← ep_sum_add]
        refine ep_sum_c (fun i hi => ?_)
        rw [hve i hi]
        by_cases z : cn i = 0
        · rw [if_pos z, if_neg (c := ¬ cn i = 0 ∧ ¬ ve i < 0) (fun t => t.1 z), Nat.zero_add]
        · rw [if_neg z, if_neg (c := ¬ (-1 : Int32) < 0) (fun t => t (by decide)), Nat.add_zero]
          exact ite_congr (propext ⟨fun t => ⟨z, t⟩, fun t => t.2⟩) (fun _ => rfl) (fun _ => rfl)
      have e0 := ep_cnt_h (mk := ep_fm mk Ch) (b1 0 (by omega)) (b2 0 (by omega)) (fun n q1 q2 => (dc 0 n (by omega) q1 q2).1)
      have e1 := ep_cnt_h (mk := ep_fm mk Ch) (b1 1 (by omega)) (b2 1 (by omega)) (fun n q1 q2 => (dc 1 n (by omega) q1 q2).1)
      have e2 := ep_cnt_h (mk := ep_fm mk Ch) (b1 2 (by omega)) (b2 2 (by omega)) (fun n q1 q2 => (dc 2 n (by omega) q1 q2).1)
      have e3 := ep_cnt_h (mk := ep_fm mk Ch) (b1 3 (by omega)) (b2 3 (by omega)) (fun n q1 q2 => (dc 3 n (by omega) q1 q2).1)
      rw [← e0, ← e1, ← e2, ← e3]
      omega
end
end
section
/-! split and order on both sides; marks at one epoch -/
def ep_sp (sp : Bool) (c : Nat) : Nat → Bool := fun d => sp && decide (d = c)
theorem ep_sp_f {c : Nat} : ep_sp false c = fun _ => false := rfl
theorem ep_sp_t {c : Nat} : ep_sp true c = ep_one c := by
  funext d
  show (true && decide (d = c)) = decide (d = c)
  rw [Bool.true_and]
theorem ep_sp_n {sp : Bool} {c d : Nat} (z : d ≠ c) : ep_sp sp c d = false := by
  unfold ep_sp
  rw [decide_eq_false z, Bool.and_false]
section
variable {sg : Nat → Nat → Nat} {h o ct : Nat → Nat} {V : Nat → Nat → Nat → Nat} {mk mk' : Nat → Nat → Nat → Bool} {pw pw' : Nat → Nat → Nat → Int32} {L : Nat}
theorem ep_IV_sp (I : ep_IV h o V) {c : Nat} (hc : c < 4) (sp : Bool) : ep_IV h (ep_co o (ep_sp sp c)) (ep_cV o V (ep_sp sp c)) := by
  cases sp
  · rw [ep_sp_f, ep_co_0, ep_cV_0]; exact I
  · rw [ep_sp_t]; exact ep_IV_co I hc
theorem ep_IM_sp (J : ep_IM L h o V mk) {c : Nat} (sp : Bool) : ep_IM L h (ep_co o (ep_sp sp c)) (ep_cV o V (ep_sp sp c)) (ep_cm o mk (ep_sp sp c)) := by
  cases sp
  · rw [ep_sp_f, ep_co_0, ep_cV_0, ep_cm_0]; exact J
  · rw [ep_sp_t]; exact ep_IM_co J
theorem ep_G_sp (I : ep_IV h o V) {c : Nat} {P : Nat → Nat → Prop} (hP : ∀ n, ¬ P c n) (G : ep_G h o V P ct) (sp : Bool) : ep_G h (ep_co o (ep_sp sp c)) (ep_cV o V (ep_sp sp c)) P ct := by
  cases sp
  · rw [ep_sp_f, ep_co_0, ep_cV_0]; exact G
  · rw [ep_sp_t]; exact ep_G_co I hP G
theorem ep_XB_up {N N' : Nat} {w : Nat → Nat} (hb : ep_XB N h o w ct) (h1 : N ≤ N') (h2 : N' < 100000) : ep_XB N' h o w ct := by
  refine ⟨h2, fun i => ?_, fun i => ?_, fun i => ?_, fun i => ?_⟩
  · have := hb.2.1 i; omega
  · have := hb.2.2.1 i; omega
  · have := hb.2.2.2.1 i; omega
  · have := hb.2.2.2.2 i; omega
theorem ep_cnt_sp {c d : Nat} (hd : h d ≤ o d) (sp : Bool) : ep_cnt h (ep_co o (ep_sp sp c)) (ep_cm o mk (ep_sp sp c)) d = ep_cnt h o mk d := by
  by_cases z : ep_sp sp c d = true
  · unfold ep_cnt
    have e : ep_co o (ep_sp sp c) d = o d + 1 := if_pos z
    rw [e, show o d + 1 + 1 - h d = (o d + 1 - h d) + 1 from by omega]
    show ep_sum _ (o d + 1 - h d) + ep_rc (ep_cm o mk (ep_sp sp c) d (h d + (o d + 1 - h d))) 8 = _
    rw [show h d + (o d + 1 - h d) = o d + 1 from by omega, ep_rc_0 (Nat.le_refl 8) (fun l hl => ep_cm_n z), Nat.add_zero]
    exact ep_sum_c (fun i hi => by
      show ep_rc (ep_cm o mk (ep_sp sp c) d (h d + i)) 8 = ep_rc (mk d (h d + i)) 8
      exact ep_sum_c (fun l hl => by
        show (ep_cm o mk (ep_sp sp c) d (h d + i) (16 + l)).toNat = _
        rw [ep_cm_o (by omega)]))
  · unfold ep_cnt
    have e : ep_co o (ep_sp sp c) d = o d := ep_co_f (Bool.eq_false_iff.mpr z)
    rw [e]
    exact ep_sum_c (fun i hi => ep_sum_c (fun l hl => by
      show (ep_cm o mk (ep_sp sp c) d (h d + i) (16 + l)).toNat = _
      rw [ep_cm_f (Bool.eq_false_iff.mpr z)]))
/-- the count when one bit is set -/
theorem ep_cnt_set {c n l : Nat} (h1 : h c ≤ n) (h2 : n ≤ o c) (hl : l < 8) (e : ∀ m q, q < 8 → ¬ (m = n ∧ q = l) → mk' c m (16 + q) = mk c m (16 + q)) : ep_cnt h o mk' c + (mk c n (16 + l)).toNat = ep_cnt h o mk c + (mk' c n (16 + l)).toNat := by
  have row : ep_rc (mk' c n) 8 + (mk c n (16 + l)).toNat = ep_rc (mk c n) 8 + (mk' c n (16 + l)).toNat := by
    have := ep_sum_up (f := fun i => (mk c n (16 + i)).toNat) (v := (mk' c n (16 + l)).toNat) hl
    have e2 : ep_sum (ep_up (fun i => (mk c n (16 + i)).toNat) l (mk' c n (16 + l)).toNat) 8 = ep_rc (mk' c n) 8 := by
      refine ep_sum_c (fun i hi => ?_)
      by_cases z : i = l
      · rw [z, ep_us]
      · rw [ep_un z, e n i hi (fun t => z t.2)]
    rw [e2] at this
    exact this
  unfold ep_cnt
  have := ep_sum_up (f := fun i => ep_rc (mk c (h c + i)) 8) (i := n - h c) (v := ep_rc (mk' c n) 8) (show n - h c < o c + 1 - h c by omega)
  have e3 : ep_sum (ep_up (fun i => ep_rc (mk c (h c + i)) 8) (n - h c) (ep_rc (mk' c n) 8)) (o c + 1 - h c) = ep_sum (fun i => ep_rc (mk' c (h c + i)) 8) (o c + 1 - h c) := by
    refine ep_sum_c (fun i hi => ?_)
    by_cases z : i = n - h c
    · rw [z, ep_us, show h c + (n - h c) = n from by omega]
    · rw [ep_un z]
      exact ep_sum_c (fun q hq => by
        show (mk c (h c + i) (16 + q)).toNat = (mk' c (h c + i) (16 + q)).toNat
        rw [e (h c + i) q hq (fun t => by omega)])
  rw [e3, show h c + (n - h c) = n from by omega] at this
  omega
end
section
variable {L B E Q qh qc : Nat} {ch md ql qv : Nat → Int32} {h o b : Nat → Nat} {M vs : Nat → Int32} {w ct : Nat → Nat} {V : Nat → Nat → Nat → Nat} {mk mk' : Nat → Nat → Nat → Bool} {pw pw' : Nat → Nat → Nat → Int32} {N : Nat}
theorem ep_order_x {post : Int32 → SX → Prop} (c : Nat) (sp : Bool) (hc : c < 4) (I : ep_IV h o V) (A : ep_XA h o V mk pw w M vs) (lb : ep_LB h o) (lb' : ep_LB h (ep_co o (ep_sp sp c))) (hb : ep_XB N h o w ct) (hN : N + 1 < 100000) (hcc : ct c ≤ ep_co o (ep_sp sp c) c) (K : ∀ (w' : Nat → Nat) (M' : Nat → Int32), ep_XA h (ep_co o (ep_sp sp c)) (ep_rV c ct (ep_co o (ep_sp sp c)) (ep_cV o V (ep_sp sp c))) (ep_cm o mk (ep_sp sp c)) pw w' M' vs → ep_XB (N + 1) h (ep_co o (ep_sp sp c)) w' ct → post (nI (ep_sl c (ep_co o (ep_sp sp c) c))) (4, 64, (nI L), (nI B), (nI E), (nI Q), (nI qh), (nI qc), ch, md, ql, qv, (fun x_ => lN (h x_)), (fun x_ => lN ((ep_co o (ep_sp sp c)) x_)), (fun x_ => nI (b x_)), M', vs, (fun x_ => lN (w' x_)), (fun x_ => lN (ct x_)))) : wpX_orderOpen post (4, 64, (nI L), (nI B), (nI E), (nI Q), (nI qh), (nI qc), ch, md, ql, qv, (fun x_ => lN (h x_)), (fun x_ => lN (o x_)), (fun x_ => nI (b x_)), M, vs, (fun x_ => lN (w x_)), (fun x_ => lN (ct x_))) (nI c) (ep_b sp) := by
  cases sp
  · rw [ep_sp_f, ep_co_0, ep_cV_0, ep_cm_0] at K
    rw [ep_sp_f, ep_co_0] at hcc
    exact br_t rfl (ep_order9_x c hc I A lb hb hcc (fun w' A' hb' => K w' M A' (ep_XB_up hb' (by omega) hN)))
  · rw [ep_sp_t] at K hcc lb'
    refine br_f (by decide) (ep_close_x c hc I A lb hb hN (fun w1 M1 A1 hb1 => ?_))
    exact ep_order9_x c hc (ep_IV_co I hc) A1 lb' hb1 hcc (fun w' A' hb' => K w' M1 A' hb')
theorem ep_XA_mk {M' vs' : Nat → Int32} {c n : Nat} (A : ep_XA h o V mk pw w M vs) (l : ep_lv h o c n) (lb : ep_LB h o) (k1 : ∀ i, i ≠ ep_sl c n → M' i = M i) (k2 : ∀ j, j < 32 → bt (M' (ep_sl c n)) j = mk' c n j) (k3 : ∀ i, (i < ep_sl c n * 8 ∨ ep_sl c n * 8 + 8 ≤ i) → vs' i = vs i) (k4 : ∀ q, q < 8 → mk' c n (16 + q) = true → vs' (ep_sl c n * 8 + q) = pw' c n q) (e : ∀ d m j, ¬ (d = c ∧ m = n) → mk' d m j = mk d m j ∧ pw' d m j = pw d m j) : ep_XA h o V mk' pw' w M' vs' := by
  intro d m ld
  obtain ⟨a1, a2, a3⟩ := A d m ld
  by_cases z : d = c ∧ m = n
  · obtain ⟨rfl, rfl⟩ := z
    exact ⟨a1, k2, k4⟩
  · have h3 := lb c l.1
    have h4 := l.2.1
    have h5 := l.2.2
    have sn : ep_sl d m ≠ ep_sl c n := ep_sl_ne ld h4 (by omega) (fun q => by subst q; have := ld.2.2; omega) z
    refine ⟨a1, fun j hj => ?_, fun q hq y => ?_⟩
    · rw [k1 _ sn, (e d m j z).1]; exact a2 j hj
    · rw [(e d m _ z).1] at y
      rw [k3 _ (by omega), (e d m q z).2]
      exact a3 q hq y
end
section
variable {L B E Q q : Nat} {cy du cf op rd wr ve bf so it cn : Nat → Int32} {sg : Nat → Nat → Nat} {h o ct : Nat → Nat} {V : Nat → Nat → Nat → Nat} {mk mk' : Nat → Nat → Nat → Bool} {pw pw' : Nat → Nat → Nat → Int32}
theorem ep_join_y {post : Int32 → SY → Prop} {P : Nat → Nat → Prop} (c : Nat) (sp : Bool) (hc : c < 4) (I : ep_IV h o V) (lb : ep_LB h o) (Y : ep_Y sg h o V mk pw cf op rd wr ve bf) (hP : ∀ n, ¬ P c n) (G : ep_G h o V P ct) (hcc : ct c ≤ ep_co o (ep_sp sp c) c) (hso : ∀ d n, ep_lv h o d n → (¬ so (sg d n) = 0 ↔ P d n)) (hsd : ∀ e, e < 40 → ep_dead cf op rd wr ve bf e → so e = 0) (K : ∀ (f : Nat) (sg' : Nat → Nat → Nat) (cf' op' bf' : Nat → Int32), f = sg' c (ep_co o (ep_sp sp c) c) → ep_Y sg' h (ep_co o (ep_sp sp c)) (ep_rV c ct (ep_co o (ep_sp sp c)) (ep_cV o V (ep_sp sp c))) (ep_cm o mk (ep_sp sp c)) pw cf' op' rd wr ve bf' → post (nI f) ((nI L), (nI B), (nI E), (nI Q), (nI q), cy, du, cf', op', rd, wr, ve, bf', so, it, cn)) : wpY_join post ((nI L), (nI B), (nI E), (nI Q), (nI q), cy, du, cf, op, rd, wr, ve, bf, so, it, cn) (nI (sg c (o c))) (ep_b sp) := by
  have fin : ∀ (o1 : Nat → Nat) (V1 : Nat → Nat → Nat → Nat) (mk1 : Nat → Nat → Nat → Bool) (sg1 : Nat → Nat → Nat) (cf1 op1 bf1 : Nat → Int32), ep_IV h o1 V1 → ep_Y sg1 h o1 V1 mk1 pw cf1 op1 rd wr ve bf1 → ep_G h o1 V1 P ct → ct c ≤ o1 c → (∀ d n, ep_lv h o1 d n → (¬ so (sg1 d n) = 0 ↔ P d n)) → (∀ e, e < 40 → ep_dead cf1 op1 rd wr ve bf1 e → so e = 0) → (∀ bf' : Nat → Int32, ep_Y sg1 h o1 (ep_rV c ct o1 V1) mk1 pw cf1 op1 rd wr ve bf' → post (nI (sg1 c (o1 c))) ((nI L), (nI B), (nI E), (nI Q), (nI q), cy, du, cf1, op1, rd, wr, ve, bf', so, it, cn)) → ∃ n, wY_join_15 post (nI (sg1 c (o1 c))) n 0 (nI L) (nI B) (nI E) (nI Q) (nI q) cy du cf1 op1 rd wr ve bf1 so it cn := by
    intro o1 V1 mk1 sg1 cf1 op1 bf1 I1 Y1 G1 hc1 hs1 hd1 K1
    have lo := ep_lv_open I1 hc
    refine ep_join15_y (sg1 c (o1 c)) (Y1.1 c (o1 c) lo).1 (fun s hs z => ?_) (fun bf' p1 p2 => K1 bf' (ep_Y_join Y1 I1 hc G1 hs1 hd1 p1 p2))
    rcases Y1.2.2.2 s hs with ⟨d, n, l, y⟩ | y
    · subst y
      have hp := (hs1 d n l).mp z
      refine ⟨fun t => ?_, ?_⟩
      · have := (ep_Y_inj Y1 l lo t).1
        subst this
        exact hP n hp
      · rw [Y1.2.2.1 d n c (o1 c) l lo, decide_eq_false (fun t => ?_)]
        · rfl
        · have := (G1 c hc (o1 c)).mpr ⟨d, n, l, hp, Or.inl t⟩
          omega
    · exact absurd (hd1 s hs y) z
  cases sp
  · rw [ep_sp_f, ep_co_0, ep_cV_0, ep_cm_0] at K
    rw [ep_sp_f, ep_co_0] at hcc
    exact br_t rfl (fin o V mk sg cf op bf I Y G hcc hso hsd (fun bf' Y' => K _ sg cf op bf' rfl Y'))
  · rw [ep_sp_t] at K hcc
    refine br_f (by decide) (ep_close_y c hc I lb Y (fun f cf' op' bf' hf df Y' => ?_))
    have ef : f = ep_sg sg c (o c + 1) f c (ep_co o (ep_one c) c) := by rw [ep_co_1, ep_sg_s]
    have old : ∀ d n, ep_lv h o d n → ep_sg sg c (o c + 1) f d n = sg d n := fun d n l => ep_sg_n (fun t => by
      have := l.2.2
      rw [t.1] at this
      omega)
    have r := fin (ep_co o (ep_one c)) (ep_cV o V (ep_one c)) (ep_cm o mk (ep_one c)) (ep_sg sg c (o c + 1) f) cf' op' bf' (ep_IV_co I hc) Y' (ep_G_co I hP G) hcc (fun d n l => ?_) (fun e he z => ?_) (fun bf2 Y2 => K _ (ep_sg sg c (o c + 1) f) cf' op' bf2 rfl Y2)
    · rw [← ef] at r
      exact r
    · rcases ep_lv_co l with z | z
      · rw [old d n z.1]; exact hso d n z.1
      · have e : d = c := of_decide_eq_true z.1
        subst e
        rw [z.2, ep_sg_s]
        exact ⟨fun t => absurd (hsd f hf df) t, fun t => absurd t (hP _)⟩
    · rcases Y.2.2.2 e he with ⟨d, n, l, y⟩ | y
      · have a1 := (Y'.1 d n (ep_lv_up l)).2.1
        rw [old d n l, ← y, z.1] at a1
        exact absurd a1 (ep_m1nI l.1)
      · exact hsd e he y
theorem ep_Y_mk {rd' wr' ve' : Nat → Int32} {c n : Nat} (Y : ep_Y sg h o V mk pw cf op rd wr ve bf) (l : ep_lv h o c n) (k1 : ∀ e q, e ≠ sg c n → q < 8 → rd' (e * 8 + q) = rd (e * 8 + q) ∧ wr' (e * 8 + q) = wr (e * 8 + q) ∧ ve' (e * 8 + q) = ve (e * 8 + q)) (k2 : ∀ q, q < 8 → rd' (sg c n * 8 + q) = ep_b (mk' c n q) ∧ wr' (sg c n * 8 + q) = ep_b (mk' c n (8 + q)) ∧ ve' (sg c n * 8 + q) = (if mk' c n (16 + q) = true then pw' c n q else -1) ∧ (mk' c n (16 + q) = true → 0 ≤ pw' c n q)) (e : ∀ d m j, ¬ (d = c ∧ m = n) → mk' d m j = mk d m j ∧ pw' d m j = pw d m j) : ep_Y sg h o V mk' pw' cf op rd' wr' ve' bf := by
  refine ⟨fun d m ld => ?_, Y.2.1, Y.2.2.1, fun x hx => ?_⟩
  · obtain ⟨a1, a2, a3, a4⟩ := Y.1 d m ld
    refine ⟨a1, a2, a3, fun q hq => ?_⟩
    by_cases z : d = c ∧ m = n
    · obtain ⟨rfl, rfl⟩ := z
      exact k2 q hq
    · obtain ⟨b1, b2, b3⟩ := k1 (sg d m) q (fun t => z (ep_Y_inj Y ld l t)) hq
      rw [b1, b2, b3, (e d m _ z).1, (e d m _ z).1, (e d m _ z).1, (e d m q z).2]
      exact a4 q hq
  · rcases Y.2.2.2 x hx with z | z
    · exact Or.inl z
    · have nx : x ≠ sg c n := fun t => by
        have a1 := (Y.1 c n l).2.1
        rw [← t, z.1] at a1
        exact ep_m1nI l.1 a1
      refine Or.inr ⟨z.1, z.2.1, fun q hq => ?_, z.2.2.2⟩
      obtain ⟨b1, b2, b3⟩ := k1 x q nx hq
      rw [b1, b2, b3]
      exact z.2.2.1 q hq
end
end
section
/-! the relation -/
def ep_XN (N : Nat) (h o w ct : Nat → Nat) : Prop := (∀ i, h i ≤ N) ∧ (∀ i, o i ≤ N) ∧ (∀ i, w i ≤ N + 1) ∧ (∀ i, ct i ≤ N + 1)
def ep_F (k L B E Q qh qc : Nat) (ch md ql qv : Nat → Int32) (h o b : Nat → Nat) (M vs : Nat → Int32) (w ct : Nat → Nat) (cy du cf op rd wr ve bf : Nat → Int32) (V : Nat → Nat → Nat → Nat) (mk : Nat → Nat → Nat → Bool) (pw : Nat → Nat → Nat → Int32) (sg : Nat → Nat → Nat) : Prop :=
  (2 ≤ L ∧ L ≤ 8 ∧ B ≤ 8 ∧ 2 ≤ E ∧ E ≤ 8 ∧ 1 ≤ Q ∧ Q ≤ 8) ∧ ep_IV h o V ∧ ep_IM L h o V mk ∧ ep_XA h o V mk pw w M vs ∧ ep_XN k h o w ct ∧ (∀ c, c < 4 → o c + 1 ≤ h c + E) ∧ (∀ c, c < 4 → b c = ep_cnt h o mk c) ∧ ep_Q L Q qh qc md ql qv du ∧ (∀ l, l < L → ch l = cy l) ∧ ep_Y sg h o V mk pw cf op rd wr ve bf
/-- all that holds of every pair of related states holds of u and v -/
def i_Rel (k : Nat) (u : SX) (v : SY) : Prop := ∀ P : SX → SY → Prop, (∀ (L B E Q qh qc : Nat) (ch md ql qv : Nat → Int32) (h o b : Nat → Nat) (M vs : Nat → Int32) (w ct : Nat → Nat) (cy du cf op rd wr ve bf so it cn : Nat → Int32) (V : Nat → Nat → Nat → Nat) (mk : Nat → Nat → Nat → Bool) (pw : Nat → Nat → Nat → Int32) (sg : Nat → Nat → Nat), ep_F k L B E Q qh qc ch md ql qv h o b M vs w ct cy du cf op rd wr ve bf V mk pw sg → P (4, 64, (nI L), (nI B), (nI E), (nI Q), (nI qh), (nI qc), ch, md, ql, qv, (fun x_ => lN (h x_)), (fun x_ => lN (o x_)), (fun x_ => nI (b x_)), M, vs, (fun x_ => lN (w x_)), (fun x_ => lN (ct x_))) ((nI L), (nI B), (nI E), (nI Q), (nI qc), cy, du, cf, op, rd, wr, ve, bf, so, it, cn)) → P u v
theorem zz_in {k : Nat} {L B E Q qh qc : Nat} {ch md ql qv : Nat → Int32} {h o b : Nat → Nat} {M vs : Nat → Int32} {w ct : Nat → Nat} {cy du cf op rd wr ve bf so it cn : Nat → Int32} {V : Nat → Nat → Nat → Nat} {mk : Nat → Nat → Nat → Bool} {pw : Nat → Nat → Nat → Int32} {sg : Nat → Nat → Nat} (H : ep_F k L B E Q qh qc ch md ql qv h o b M vs w ct cy du cf op rd wr ve bf V mk pw sg) : i_Rel k (4, 64, (nI L), (nI B), (nI E), (nI Q), (nI qh), (nI qc), ch, md, ql, qv, (fun x_ => lN (h x_)), (fun x_ => lN (o x_)), (fun x_ => nI (b x_)), M, vs, (fun x_ => lN (w x_)), (fun x_ => lN (ct x_))) ((nI L), (nI B), (nI E), (nI Q), (nI qc), cy, du, cf, op, rd, wr, ve, bf, so, it, cn) := fun _ G => G L B E Q qh qc ch md ql qv h o b M vs w ct cy du cf op rd wr ve bf so it cn V mk pw sg H
theorem ep_XN_up {N N' : Nat} {h o w ct : Nat → Nat} (hn : N ≤ N') (H : ep_XN N h o w ct) : ep_XN N' h o w ct :=
  ⟨fun i => Nat.le_trans (H.1 i) hn, fun i => Nat.le_trans (H.2.1 i) hn, fun i => Nat.le_trans (H.2.2.1 i) (by omega), fun i => Nat.le_trans (H.2.2.2 i) (by omega)⟩
theorem ep_F_up {k k' : Nat} {L B E Q qh qc : Nat} {ch md ql qv : Nat → Int32} {h o b : Nat → Nat} {M vs : Nat → Int32} {w ct : Nat → Nat} {cy du cf op rd wr ve bf : Nat → Int32} {V : Nat → Nat → Nat → Nat} {mk : Nat → Nat → Nat → Bool} {pw : Nat → Nat → Nat → Int32} {sg : Nat → Nat → Nat} (hk : k ≤ k') (H : ep_F k L B E Q qh qc ch md ql qv h o b M vs w ct cy du cf op rd wr ve bf V mk pw sg) : ep_F k' L B E Q qh qc ch md ql qv h o b M vs w ct cy du cf op rd wr ve bf V mk pw sg := by
  obtain ⟨f1, f2, f3, f4, f5, f6⟩ := H
  exact ⟨f1, f2, f3, f4, ep_XN_up hk f5, f6⟩
theorem i_up {k : Nat} {u : SX} {v : SY} (h : i_Rel k u v) : i_Rel (k + 5) u v := h (fun u v => i_Rel (k + 5) u v) (fun L B E Q qh qc ch md ql qv h o b M vs w ct cy du cf op rd wr ve bf so it cn V mk pw sg H => zz_in (ep_F_up (by omega) H))
theorem zz_end {k N : Nat} {L B E Q qh qc : Nat} {ch md ql qv : Nat → Int32} {h o b : Nat → Nat} {M vs : Nat → Int32} {w ct : Nat → Nat} {cy du cf op rd wr ve bf so it cn : Nat → Int32} {V : Nat → Nat → Nat → Nat} {mk : Nat → Nat → Nat → Bool} {pw : Nat → Nat → Nat → Int32} {sg : Nat → Nat → Nat} {h0 h2 : Nat → Nat} (hsz : 2 ≤ L ∧ L ≤ 8 ∧ B ≤ 8 ∧ 2 ≤ E ∧ E ≤ 8 ∧ 1 ≤ Q ∧ Q ≤ 8) (I : ep_IV h0 o V) (J : ep_IM L h0 o V mk) (A : ep_XA h o V mk pw w M vs) (hb : ep_XB N h o w ct) (hN : N ≤ k) (r1 : ∀ c, c < 4 → h0 c ≤ h c) (r2 : ∀ c, c < 4 → h c ≤ o c) (lE : ∀ c, c < 4 → o c + 1 ≤ h c + E) (bc : ∀ c, c < 4 → b c = ep_cnt h o mk c) (q : ep_Q L Q qh qc md ql qv du) (coh : ∀ l, l < L → ch l = cy l) (Y : ep_Y sg h2 o V mk pw cf op rd wr ve bf) (y1 : ∀ c, c < 4 → h0 c ≤ h2 c) (y2 : ∀ c, c < 4 → h2 c ≤ o c) (dc : ep_DC h0 h V (ep_em mk)) (st : ep_ST h o V (ep_em mk)) (dc2 : ep_DC h0 h2 V (ep_em mk)) (st2 : ep_ST h2 o V (ep_em mk)) : i_Rel k (4, 64, (nI L), (nI B), (nI E), (nI Q), (nI qh), (nI qc), ch, md, ql, qv, (fun x_ => lN (h x_)), (fun x_ => lN (o x_)), (fun x_ => nI (b x_)), M, vs, (fun x_ => lN (w x_)), (fun x_ => lN (ct x_))) ((nI L), (nI B), (nI E), (nI Q), (nI qc), cy, du, cf, op, rd, wr, ve, bf, so, it, cn) := by
  have e := ep_fix I y1 y2 r1 r2 dc2 st2 dc st
  exact zz_in ⟨hsz, ep_IV_h I r1 r2, ep_IM_h J r1, A, ep_XN_up hN hb.2, lE, bc, q, coh, ep_Y_h Y e⟩
/-- the state stays -/
theorem zz_st {k : Nat} {L B E Q qh qc : Nat} {ch md ql qv : Nat → Int32} {h o b : Nat → Nat} {M vs : Nat → Int32} {w ct : Nat → Nat} {cy du cf op rd wr ve bf : Nat → Int32} {V : Nat → Nat → Nat → Nat} {mk : Nat → Nat → Nat → Bool} {pw : Nat → Nat → Nat → Int32} {sg : Nat → Nat → Nat} (H : ep_F k L B E Q qh qc ch md ql qv h o b M vs w ct cy du cf op rd wr ve bf V mk pw sg) {ct' : Nat → Nat} {so' it' cn' : Nat → Int32} (hc : ∀ i, ct' i ≤ k + 1) : i_Rel (k + 5) (4, 64, (nI L), (nI B), (nI E), (nI Q), (nI qh), (nI qc), ch, md, ql, qv, (fun x_ => lN (h x_)), (fun x_ => lN (o x_)), (fun x_ => nI (b x_)), M, vs, (fun x_ => lN (w x_)), (fun x_ => lN (ct' x_))) ((nI L), (nI B), (nI E), (nI Q), (nI qc), cy, du, cf, op, rd, wr, ve, bf, so', it', cn') := by
  obtain ⟨f1, f2, f3, f4, f5, f6⟩ := H
  have H' : ep_F k L B E Q qh qc ch md ql qv h o b M vs w ct' cy du cf op rd wr ve bf V mk pw sg := ⟨f1, f2, f3, f4, ⟨f5.1, f5.2.1, f5.2.2.1, hc⟩, f6⟩
  exact i_up (zz_in H')
end
section
/-! store -/
def ep_ms (mk : Nat → Nat → Nat → Bool) (c n l : Nat) : Nat → Nat → Nat → Bool := fun d m j => if d = c ∧ m = n ∧ (j = 8 + l ∨ j = 16 + l) then true else mk d m j
def ep_ps (pw : Nat → Nat → Nat → Int32) (c n l : Nat) (v : Int32) : Nat → Nat → Nat → Int32 := fun d m q => if d = c ∧ m = n ∧ q = l then v else pw d m q
def ep_ml (mk : Nat → Nat → Nat → Bool) (c n l : Nat) : Nat → Nat → Nat → Bool := fun d m j => if d = c ∧ m = n ∧ j = l then true else mk d m j
def ep_ra (sp fr : Bool) : Int32 := if sp = true then 2 else if fr = true then 0 else 1
theorem ep_ms_n {mk : Nat → Nat → Nat → Bool} {c n l d m j : Nat} (z : ¬ (d = c ∧ m = n)) : ep_ms mk c n l d m j = mk d m j := if_neg (fun t => z ⟨t.1, t.2.1⟩)
theorem ep_ms_s {mk : Nat → Nat → Nat → Bool} {c n l j : Nat} : ep_ms mk c n l c n j = (mk c n j || (decide (j = 8 + l) || decide (j = 16 + l))) := by
  unfold ep_ms
  by_cases z : j = 8 + l ∨ j = 16 + l
  · rw [if_pos ⟨rfl, rfl, z⟩]
    rcases z with z | z
    · rw [decide_eq_true z, Bool.true_or, Bool.or_true]
    · rw [decide_eq_true z, Bool.or_true, Bool.or_true]
  · rw [if_neg (fun t => z t.2.2), decide_eq_false (fun t => z (Or.inl t)), decide_eq_false (fun t => z (Or.inr t)), Bool.or_false, Bool.or_false]
theorem ep_ps_n {pw : Nat → Nat → Nat → Int32} {c n l d m q : Nat} {v : Int32} (z : ¬ (d = c ∧ m = n)) : ep_ps pw c n l v d m q = pw d m q := if_neg (fun t => z ⟨t.1, t.2.1⟩)
theorem ep_ps_q {pw : Nat → Nat → Nat → Int32} {c n l q : Nat} {v : Int32} (z : q ≠ l) : ep_ps pw c n l v c n q = pw c n q := if_neg (fun t => z t.2.2)
theorem ep_ps_s {pw : Nat → Nat → Nat → Int32} {c n l : Nat} {v : Int32} : ep_ps pw c n l v c n l = v := if_pos ⟨rfl, rfl, rfl⟩
section
variable {L B E Q qh qc : Nat} {ch md ql qv : Nat → Int32} {h o b : Nat → Nat} {M vs : Nat → Int32} {w ct : Nat → Nat} {V : Nat → Nat → Nat → Nat} {mk : Nat → Nat → Nat → Bool} {pw : Nat → Nat → Nat → Int32} {N : Nat} {du : Nat → Int32}
theorem ep_IM_ms {c l : Nat} (I : ep_IV h o V) (J : ep_IM L h o V mk) (hc : c < 4) (hl : l < L) (hL : L ≤ 8) (z : ∀ d m, ep_lv h o d m → d ≠ c → mk d m (8 + l) = true → m < V c (o c) d) : ep_IM L h o V (ep_ms mk c (o c) l) := by
  have lo := ep_lv_open I hc
  have eo := I.2.1 c (o c) lo
  have hold : ∀ d m q, ep_lv h o d m → q < 8 → ep_ms mk c (o c) l d m (16 + q) = true → mk d m (16 + q) = true ∨ (d = c ∧ m = o c ∧ q = l) := by
    intro d m q ld hq t
    unfold ep_ms at t
    split at t
    · rename_i y
      exact Or.inr ⟨y.1, y.2.1, by omega⟩
    · exact Or.inl t
  refine ⟨?_, ?_, ?_⟩
  · intro d n f m q l1 l2 hq a b
    have main : ∀ d m, ep_lv h o d m → mk d m (16 + l) = true → (d = c ∧ m = o c) ∨ m < V c (o c) d := by
      intro d m ld t
      by_cases e : d = c
      · subst e
        have := ld.2.2
        by_cases e2 : m = o d
        · exact Or.inl ⟨rfl, e2⟩
        · exact Or.inr (by omega)
      · exact Or.inr (z d m ld e (J.2.1 d m l ld (by omega) t))
    rcases hold d n q l1 hq a with a2 | ⟨rfl, rfl, rfl⟩
    · rcases hold f m q l2 hq b with b2 | ⟨rfl, rfl, rfl⟩
      · exact J.1 d n f m q l1 l2 hq a2 b2
      · rcases main d n l1 a2 with t | t
        · exact Or.inl t
        · exact Or.inr (Or.inr t)
    · rcases hold f m q l2 hq b with b2 | ⟨rfl, rfl, _⟩
      · rcases main f m l2 b2 with t | t
        · exact Or.inl ⟨t.1.symm, t.2.symm⟩
        · exact Or.inr (Or.inl t)
      · exact Or.inl ⟨rfl, rfl⟩
  · intro d n q l1 hq a
    rcases hold d n q l1 hq a with a2 | ⟨rfl, rfl, rfl⟩
    · have := J.2.1 d n q l1 hq a2
      unfold ep_ms
      split
      · rfl
      · exact this
    · exact if_pos ⟨rfl, rfl, Or.inl rfl⟩
  · intro d n j l1 j1 j2
    unfold ep_ms
    rw [if_neg (fun t => by omega)]
    exact J.2.2 d n j l1 j1 j2
theorem ep_store156_x {post : Int32 → SX → Prop} (c l : Nat) (v : Int32) (sp fr : Bool) (hc : c < 4) (hl : l < L) (hL : L ≤ 8) (hQ : Q ≤ 8) (hQ1 : 1 ≤ Q) (I : ep_IV h o V) (J' : ep_IM L h o V (ep_ms mk c (o c) l)) (A : ep_XA h o V mk pw w M vs) (lb : ep_LB h o) (hb : ep_XB N h o w ct) (hbc : ∀ d, d < 4 → b d = ep_cnt h o (ep_ms mk c (o c) l) d) (q : ep_Q L Q qh qc md ql qv du)
  (K : ∀ (h' b' : Nat → Nat) (M' vs' : Nat → Int32) (qh' : Nat) (md' ql' qv' : Nat → Int32) (ct' : Nat → Nat), ep_XA h' o V (ep_ms mk c (o c) l) (ep_ps pw c (o c) l (v &&& 65535)) w M' vs' → ep_XB N h' o w ct' → (∀ c, c < 4 → h c ≤ h' c) → (∀ c, c < 4 → h' c ≤ o c) → (∀ d, d < 4 → b' d = ep_cnt h' o (ep_ms mk c (o c) l) d) → ep_DC h h' V (ep_em (ep_ms mk c (o c) l)) → ep_ST h' o V (ep_em (ep_ms mk c (o c) l)) → ep_Q L Q qh' qc md' ql' qv' du → post (ep_ra sp fr) (4, 64, (nI L), (nI B), (nI E), (nI Q), (nI qh'), (nI qc), (upd ch l (v &&& 65535)), md', ql', qv', (fun x_ => lN (h' x_)), (fun x_ => lN (o x_)), (fun x_ => nI (b' x_)), M', vs', (fun x_ => lN (w x_)), (fun x_ => lN (ct' x_)))) : wX_store_156 post (nI l) v (ep_b sp) (nI (ep_sl c (o c))) (ep_b fr) 4 64 (nI L) (nI B) (nI E) (nI Q) (nI qh) (nI qc) ch md ql qv (fun x_ => lN (h x_)) (fun x_ => lN (o x_)) (fun x_ => nI (b x_)) M vs (fun x_ => lN (w x_)) (fun x_ => lN (ct x_)) := by
  have lo := ep_lv_open I hc
  have hs : ep_sl c (o c) < 64 := ep_sl_lt hc
  unfold wX_store_156
  rw [nI_clamp (show ep_sl c (o c) < 2 ^ 31 by omega), nI_clamp (show l < 2 ^ 31 by omega), ep_cl8 (by omega)]
  refine ⟨vp_in_nI hs (by decide), vp_in_nI hs (by decide), nm_e ⟨ep_in8 (by omega), nm_e ⟨vp_in_nI (by omega) (by decide), nm_e ?_⟩⟩⟩
  have A' : ep_XA h o V (ep_ms mk c (o c) l) (ep_ps pw c (o c) l (v &&& 65535)) w (upd M (ep_sl c (o c)) (M (ep_sl c (o c)) ||| ((65792 : Int32) <<< (nI l &&& 31)))) (upd vs (ep_sl c (o c) * 8 + l) (v &&& 65535)) := by
    refine ep_XA_mk A lo lb (fun i hi => pk_un hi) (fun j hj => ?_) (fun i hi => pk_un (by omega)) (fun x hx t => ?_) (fun d m j z => ⟨ep_ms_n z, ep_ps_n z⟩)
    · rw [pk_us, ep_set2 (by omega) hj, (A c (o c) lo).2.1 j hj, ep_ms_s]
    · by_cases y : x = l
      · rw [y, pk_us, ep_ps_s]
      · rw [pk_un (by omega), ep_ps_q y]
        refine (A c (o c) lo).2.2 x hx ?_
        rw [ep_ms_s, decide_eq_false (p := 16 + x = 8 + l) (by omega), decide_eq_false (p := 16 + x = 16 + l) (by omega), Bool.or_false, Bool.or_false] at t
        exact t
  refine ep_settle_x hL hQ hQ1 I J' A' lb hb hbc q (fun h' b' M' qh' md' ql' qv' ct' A2 lb2 hb2 r1 r2 bc2 dc st q2 => ?_)
  have k := K h' b' M' _ qh' md' ql' qv' ct' A2 hb2 r1 r2 bc2 dc st q2
  cases sp
  · refine br_t rfl ?_
    cases fr
    · exact br_t rfl k
    · exact br_f (by decide) k
  · exact br_f (by decide) k
end
end
section
/-! store, both sides -/
section
variable {h o ct : Nat → Nat} {V : Nat → Nat → Nat → Nat} {mk : Nat → Nat → Nat → Bool} {L : Nat}
/-- what the order gives behind a split -/
theorem ep_ord (I : ep_IV h o V) {c : Nat} (hc : c < 4) {P : Nat → Nat → Prop} (G : ep_G h o V (fun d n => d ≠ c ∧ P d n) ct) (sp : Bool) (hsp : sp = true ↔ o c < ct c) : ct c ≤ ep_co o (ep_sp sp c) c ∧ ep_IV h (ep_co o (ep_sp sp c)) (ep_rV c ct (ep_co o (ep_sp sp c)) (ep_cV o V (ep_sp sp c))) ∧ (∀ d m, ep_lv h (ep_co o (ep_sp sp c)) d m → d ≠ c → P d m → m < ep_rV c ct (ep_co o (ep_sp sp c)) (ep_cV o V (ep_sp sp c)) c (ep_co o (ep_sp sp c) c) d) := by
  have hcc : ct c ≤ ep_co o (ep_sp sp c) c := by
    have D := (ep_G_CD I G).1 c hc
    cases sp
    · rw [ep_sp_f, ep_co_0]
      refine Nat.not_lt.mp (fun t => absurd (hsp.mpr t) (by decide))
    · rw [ep_sp_t, ep_co_1]
      exact D
  have I1 := ep_IV_sp I hc sp
  have G1 := ep_G_sp I (fun n (t : c ≠ c ∧ P c n) => t.1 rfl) G sp
  refine ⟨hcc, ep_IV_rV I1 (ep_G_CD I1 G1) hc hcc, fun d m l z hp => ?_⟩
  have : m < ct d := (G1 d l.1 m).mpr ⟨d, m, l, ⟨z, hp⟩, Or.inr ⟨rfl, Nat.le_refl _⟩⟩
  unfold ep_rV
  rw [if_pos (Or.inl ⟨rfl, rfl⟩)]
  omega
end
section
variable {L B E Q qh qc : Nat} {ch md ql qv : Nat → Int32} {h o b : Nat → Nat} {M vs : Nat → Int32} {w ct : Nat → Nat} {V : Nat → Nat → Nat → Nat} {mk : Nat → Nat → Nat → Bool} {pw : Nat → Nat → Nat → Int32} {N : Nat} {du : Nat → Int32}
theorem ep_store49_x {post : Int32 → SX → Prop} (c l : Nat) (v : Int32) (sp fr : Bool) (hc : c < 4) (hl : l < L) (hL : L ≤ 8) (hB : B ≤ 8) (hE : E ≤ 8) (hQ : Q ≤ 8) (hQ1 : 1 ≤ Q) (I : ep_IV h o V) (J : ep_IM L h o V mk) (A : ep_XA h o V mk pw w M vs) (lE : ∀ c, c < 4 → o c + 1 ≤ h c + E) (hb : ep_XB N h o w ct) (hN : N + 1 < 100000) (hbc : ∀ d, d < 4 → b d = ep_cnt h o mk d) (q : ep_Q L Q qh qc md ql qv du) (G : ep_G h o V (fun d n => d ≠ c ∧ (mk d n l = true ∨ mk d n (8 + l) = true)) ct) (hsp : sp = true ↔ o c < ct c) (hfr : fr = !(ep_cm o mk (ep_sp sp c) c (ep_co o (ep_sp sp c) c) (16 + l)))
  (K1 : sp = true → ¬ o c - h c + 1 < E → post (-4) (4, 64, (nI L), (nI B), (nI E), (nI Q), (nI qh), (nI qc), ch, md, ql, qv, (fun x_ => lN (h x_)), (fun x_ => lN (o x_)), (fun x_ => nI (b x_)), M, vs, (fun x_ => lN (w x_)), (fun x_ => lN (ct x_))))
  (K2 : (sp = true → o c - h c + 1 < E) → fr = true → ¬ b c < B → post (-5) (4, 64, (nI L), (nI B), (nI E), (nI Q), (nI qh), (nI qc), ch, md, ql, qv, (fun x_ => lN (h x_)), (fun x_ => lN (o x_)), (fun x_ => nI (b x_)), M, vs, (fun x_ => lN (w x_)), (fun x_ => lN (ct x_))))
  (K3 : ∀ (h' b' : Nat → Nat) (w' : Nat → Nat) (M' vs' : Nat → Int32) (qh' : Nat) (md' ql' qv' : Nat → Int32) (ct' : Nat → Nat), (sp = true → o c - h c + 1 < E) → (fr = true → b c < B) → ep_IM L h (ep_co o (ep_sp sp c)) (ep_rV c ct (ep_co o (ep_sp sp c)) (ep_cV o V (ep_sp sp c))) (ep_ms (ep_cm o mk (ep_sp sp c)) c (ep_co o (ep_sp sp c) c) l) → ep_XA h' (ep_co o (ep_sp sp c)) (ep_rV c ct (ep_co o (ep_sp sp c)) (ep_cV o V (ep_sp sp c))) (ep_ms (ep_cm o mk (ep_sp sp c)) c (ep_co o (ep_sp sp c) c) l) (ep_ps pw c (ep_co o (ep_sp sp c) c) l (v &&& 65535)) w' M' vs' → ep_XB (N + 1) h' (ep_co o (ep_sp sp c)) w' ct' → (∀ c, c < 4 → h c ≤ h' c) → (∀ d, d < 4 → h' d ≤ ep_co o (ep_sp sp c) d) → (∀ d, d < 4 → b' d = ep_cnt h' (ep_co o (ep_sp sp c)) (ep_ms (ep_cm o mk (ep_sp sp c)) c (ep_co o (ep_sp sp c) c) l) d) → ep_DC h h' (ep_rV c ct (ep_co o (ep_sp sp c)) (ep_cV o V (ep_sp sp c))) (ep_em (ep_ms (ep_cm o mk (ep_sp sp c)) c (ep_co o (ep_sp sp c) c) l)) → ep_ST h' (ep_co o (ep_sp sp c)) (ep_rV c ct (ep_co o (ep_sp sp c)) (ep_cV o V (ep_sp sp c))) (ep_em (ep_ms (ep_cm o mk (ep_sp sp c)) c (ep_co o (ep_sp sp c) c) l)) → ep_Q L Q qh' qc md' ql' qv' du → post (ep_ra sp fr) (4, 64, (nI L), (nI B), (nI E), (nI Q), (nI qh'), (nI qc), (upd ch l (v &&& 65535)), md', ql', qv', (fun x_ => lN (h' x_)), (fun x_ => lN ((ep_co o (ep_sp sp c)) x_)), (fun x_ => nI (b' x_)), M', vs', (fun x_ => lN (w' x_)), (fun x_ => lN (ct' x_)))) : wX_store_49 post (nI c) (nI l) v (ep_b sp) 4 64 (nI L) (nI B) (nI E) (nI Q) (nI qh) (nI qc) ch md ql qv (fun x_ => lN (h x_)) (fun x_ => lN (o x_)) (fun x_ => nI (b x_)) M vs (fun x_ => lN (w x_)) (fun x_ => lN (ct x_)) := by
  have lo := ep_lv_open I hc
  have hoN := hb.2.2.1 c
  have hoc := I.1 c hc
  have hs : ep_sl c (o c) < 64 := ep_sl_lt hc
  have lb : ep_LB h o := fun d hd => by have := lE d hd; omega
  obtain ⟨hcc, I2, hsr⟩ := ep_ord I hc G sp hsp
  have J2 : ep_IM L h (ep_co o (ep_sp sp c)) (ep_rV c ct (ep_co o (ep_sp sp c)) (ep_cV o V (ep_sp sp c))) (ep_ms (ep_cm o mk (ep_sp sp c)) c (ep_co o (ep_sp sp c) c) l) := by
    refine ep_IM_ms I2 (ep_IM_rV (ep_IM_sp J sp)) hc hl hL (fun d m ld z t => hsr d m ld z (Or.inr ?_))
    rw [ep_cm_f (ep_sp_n z)] at t
    exact t
  have t132 : (sp = true → o c - h c + 1 < E) → (fr = true → b c < B) → wX_store_132 post (nI c) (nI l) v (ep_b sp) (ep_b fr) 4 64 (nI L) (nI B) (nI E) (nI Q) (nI qh) (nI qc) ch md ql qv (fun x_ => lN (h x_)) (fun x_ => lN (o x_)) (fun x_ => nI (b x_)) M vs (fun x_ => lN (w x_)) (fun x_ => lN (ct x_)) := by
    intro e1 e2
    have lb' : ep_LB h (ep_co o (ep_sp sp c)) := fun d hd => by
      have := lE d hd
      have := (ep_co_le (o := o) (S := ep_sp sp c) d).2
      omega
    unfold wX_store_132
    refine ep_order_x c sp hc I A lb lb' hb hN hcc (fun w' M' A' hb' => ?_)
    dsimp only
    have cset := ep_cnt_set (h := h) (o := ep_co o (ep_sp sp c)) (mk := ep_cm o mk (ep_sp sp c)) (mk' := ep_ms (ep_cm o mk (ep_sp sp c)) c (ep_co o (ep_sp sp c) c) l) (n := ep_co o (ep_sp sp c) c) (c := c) (l := l) (I2.1 c hc) (Nat.le_refl _) (by omega) (fun m x hx z => by
      by_cases y : m = ep_co o (ep_sp sp c) c
      · subst y
        rw [ep_ms_s, decide_eq_false (p := 16 + x = 8 + l) (by omega), decide_eq_false (p := 16 + x = 16 + l) (fun t => z ⟨rfl, by omega⟩), Bool.or_false, Bool.or_false]
      · exact ep_ms_n (fun t => y t.2))
    have mtrue : ep_ms (ep_cm o mk (ep_sp sp c)) c (ep_co o (ep_sp sp c) c) l c (ep_co o (ep_sp sp c) c) (16 + l) = true := if_pos ⟨rfl, rfl, Or.inr rfl⟩
    rw [mtrue, ep_cnt_sp hoc sp, ← hbc c hc] at cset
    have cother : ∀ d, d < 4 → d ≠ c → ep_cnt h (ep_co o (ep_sp sp c)) (ep_ms (ep_cm o mk (ep_sp sp c)) c (ep_co o (ep_sp sp c) c) l) d = b d := by
      intro d hd z
      rw [hbc d hd, ← ep_cnt_sp (mk := mk) (c := c) (I.1 d hd) sp]
      exact ep_cnt_m (fun n x _ _ _ => ep_ms_n (fun t => z t.1))
    cases hf : ep_cm o mk (ep_sp sp c) c (ep_co o (ep_sp sp c) c) (16 + l)
    · rw [hf] at hfr cset
      rw [hfr]
      refine br_f (by decide) ⟨vp_in_nI hc (by decide), vp_in_nI hc (by decide), nm_r (e' := fun i => nI (ep_up b c (b c + 1) i)) ?_ ?_⟩
      · rw [nI_clamp (by omega), nI_1]
        exact ep_uI b c _
      · refine ep_store156_x c l v sp true hc hl hL hQ hQ1 I2 J2 A' lb' hb' (fun d hd => ?_) q (fun h' b' M2 vs' qh' md' ql' qv' ct' A2 hb2 r1 r2 bc2 dc st q2 => ?_)
        · by_cases z : d = c
          · rw [z, ep_us]
            have e3 : (true : Bool).toNat = 1 := rfl
            have e4 : (false : Bool).toNat = 0 := rfl
            omega
          · rw [ep_un z]; exact (cother d hd z).symm
        · rw [show (!false) = true from rfl] at hfr
          have k3 := K3 h' b' w' M2 vs' qh' md' ql' qv' ct' e1 e2 J2 A2 hb2 r1 r2 bc2 dc st q2
          rw [hfr] at k3
          exact k3
    · rw [hf] at hfr cset
      rw [hfr]
      refine br_t rfl ?_
      refine ep_store156_x c l v sp false hc hl hL hQ hQ1 I2 J2 A' lb' hb' (fun d hd => ?_) q (fun h' b' M2 vs' qh' md' ql' qv' ct' A2 hb2 r1 r2 bc2 dc st q2 => ?_)
      · by_cases z : d = c
        · rw [z]; omega
        · exact (cother d hd z).symm
      · rw [show (!true) = false from rfl] at hfr
        have k3 := K3 h' b' w' M2 vs' qh' md' ql' qv' ct' e1 e2 J2 A2 hb2 r1 r2 bc2 dc st q2
        rw [hfr] at k3
        exact k3
  have t109 : (sp = true → o c - h c + 1 < E) → wX_store_109 post (nI c) (nI l) v (ep_b sp) (ep_b fr) 4 64 (nI L) (nI B) (nI E) (nI Q) (nI qh) (nI qc) ch md ql qv (fun x_ => lN (h x_)) (fun x_ => lN (o x_)) (fun x_ => nI (b x_)) M vs (fun x_ => lN (w x_)) (fun x_ => lN (ct x_)) := by
    intro e1
    have hbN : b c ≤ 100 := by
      rw [hbc c hc]
      unfold ep_cnt
      have s1 := ep_sum_le (f := fun i => ep_rc (mk c (h c + i)) 8) (g := fun _ => 8) (n := o c + 1 - h c) (fun i _ => by
        have s2 := ep_sum_le (f := fun i_1 => (mk c (h c + i) (16 + i_1)).toNat) (g := fun _ => 1) (n := 8) (fun x _ => by
          cases mk c (h c + i) (16 + x) <;> decide)
        rw [ep_sum_k] at s2
        exact s2)
      rw [ep_sum_k] at s1
      have := lb c hc
      omega
    cases fr
    · exact br_t rfl (t132 e1 (fun t => absurd t (by decide)))
    · refine br_f (by decide) ⟨vp_in_nI hc (by decide), ?_⟩
      rw [nI_clamp (show c < 2 ^ 31 by omega)]
      exact ek_if (nI_ltI (by omega) (by omega)) (fun t => t132 e1 (fun _ => t)) (fun t => K2 e1 rfl t)
  have t71 : (sp = true → o c - h c + 1 < E) → wX_store_71 post (nI c) (nI l) v (ep_b sp) 4 64 (nI L) (nI B) (nI E) (nI Q) (nI qh) (nI qc) ch md ql qv (fun x_ => lN (h x_)) (fun x_ => lN (o x_)) (fun x_ => nI (b x_)) M vs (fun x_ => lN (w x_)) (fun x_ => lN (ct x_)) := by
    intro e1
    unfold wX_store_71
    dsimp only
    rw [nI_clamp (show c < 2 ^ 31 by omega)]
    refine ⟨vp_in_nI hc (by decide), ep_slot_x c (o c) hc (by omega) ?_⟩
    cases sp
    · refine br_t rfl ⟨vp_in_nI hs (by decide), ?_⟩
      rw [nI_clamp (show ep_sl c (o c) < 2 ^ 31 by omega)]
      rw [ep_sp_f, ep_co_0, ep_cm_0] at hfr
      have hbit := (A c (o c) lo).2.1 (16 + l) (by omega)
      refine ek_if (ep_t65536 (by omega)) (fun t => ?_) (fun t => ?_)
      · rw [hbit] at t
        rw [t] at hfr
        have := t109 e1
        rw [hfr] at this
        exact this
      · rw [hbit] at t
        have t2 : mk c (o c) (16 + l) = true := by
          cases y : mk c (o c) (16 + l)
          · exact absurd y t
          · rfl
        rw [t2] at hfr
        have := t109 e1
        rw [hfr] at this
        exact this
    · have e3 : fr = true := by
        rw [hfr, ep_sp_t, ep_co_1, ep_cm_n ep_one_s]
        rfl
      have := t109 e1
      rw [e3] at this
      exact br_f (by decide) this
  cases sp
  · exact br_t rfl (t71 (fun t => absurd t (by decide)))
  · have := lb c hc
    exact br_f (by decide) (ep_live_x c hc hoc (ek_if (nI_ltI (by omega) (by omega)) (fun t => t71 (fun _ => t)) (fun t => K1 rfl t)))
end
end
section
/-! store and load of the reference -/
def ep_P (mk : Nat → Nat → Nat → Bool) (rt : Bool) (l d n : Nat) : Prop := (rt = true ∧ mk d n l = true) ∨ mk d n (8 + l) = true
theorem ep_G_iff {h o ct : Nat → Nat} {V : Nat → Nat → Nat → Nat} {P P' : Nat → Nat → Prop} (e : ∀ d n, P d n ↔ P' d n) (G : ep_G h o V P ct) : ep_G h o V P' ct := by
  intro d hd m
  rw [G d hd m]
  constructor
  · rintro ⟨c, n, l, hp, z⟩
    exact ⟨c, n, l, (e c n).mp hp, z⟩
  · rintro ⟨c, n, l, hp, z⟩
    exact ⟨c, n, l, (e c n).mpr hp, z⟩
section
variable {L B E Q q : Nat} {cy du cf op rd wr ve bf so it cn : Nat → Int32} {sg : Nat → Nat → Nat} {h o ct : Nat → Nat} {V : Nat → Nat → Nat → Nat} {mk mk' : Nat → Nat → Nat → Bool} {pw pw' : Nat → Nat → Nat → Int32}
theorem ep_open_y {post : Int32 → Prop} (c : Nat) (hc : c < 4) (I : ep_IV h o V) (Y : ep_Y sg h o V mk pw cf op rd wr ve bf) (K : post (nI (sg c (o c)))) : wpY_openOf post ((nI L), (nI B), (nI E), (nI Q), (nI q), cy, du, cf, op, rd, wr, ve, bf, so, it, cn) (nI c) := by
  have lo := ep_lv_open I hc
  obtain ⟨a1, a2, a3, a4⟩ := Y.1 c (o c) lo
  refine ep_openOf_y (nI c) (sg c (o c)) a1 a2 ?_ (fun f hf z1 z2 => ?_) K
  · rw [a3, ep_bne]
    exact decide_eq_true rfl
  · obtain ⟨n, l, e⟩ := ep_Y_cf Y hc hf z1
    rw [e, (Y.1 c n l).2.2.1, ep_bne] at z2
    rw [e, of_decide_eq_true z2]
theorem ep_find2_y {post : Int32 → SY → Prop} (c l : Nat) (rt : Bool) (hc : c < 4) (hl : l < 8) (I : ep_IV h o V) (Y : ep_Y sg h o V mk pw cf op rd wr ve bf) (G : ep_G h o V (fun d n => d ≠ c ∧ ep_P mk rt l d n) ct) (K : ∀ (so' : Nat → Int32) (sp : Bool), (∀ d n, ep_lv h o d n → (¬ so' (sg d n) = 0 ↔ (d ≠ c ∧ ep_P mk rt l d n))) → (∀ e, e < 40 → ep_dead cf op rd wr ve bf e → so' e = 0) → (sp = true ↔ o c < ct c) → post (ep_b sp) ((nI L), (nI B), (nI E), (nI Q), (nI q), cy, du, cf, op, rd, wr, ve, bf, so', it, cn)) : wpY_findSources post ((nI L), (nI B), (nI E), (nI Q), (nI q), cy, du, cf, op, rd, wr, ve, bf, so, it, cn) (nI (sg c (o c))) (nI l) (ep_b rt) := by
  have lo := ep_lv_open I hc
  obtain ⟨a1, a2, a3, a4⟩ := Y.1 c (o c) lo
  have hs : ∀ d n, ep_lv h o d n → (ep_src cf rd wr (sg c (o c)) l rt (sg d n) ↔ (d ≠ c ∧ ep_P mk rt l d n)) := by
    intro d n ld
    obtain ⟨b1, b2, b3, b4⟩ := Y.1 d n ld
    obtain ⟨r1, r2, _, _⟩ := b4 l hl
    have hd := ld.1
    unfold ep_src ep_P
    rw [a2, b2, r1, r2, nI_eq (by omega) (by omega), ep_bne, ep_bne]
    constructor
    · rintro ⟨t1, t2⟩
      refine ⟨t1, ?_⟩
      rcases t2 with t2 | t2
      · exact Or.inr t2
      · exact Or.inl t2
    · rintro ⟨t1, t2⟩
      refine ⟨t1, ?_⟩
      rcases t2 with t2 | t2
      · exact Or.inr t2
      · exact Or.inl t2
  have hd : ∀ e, e < 40 → ep_dead cf op rd wr ve bf e → ¬ ep_src cf rd wr (sg c (o c)) l rt e := by
    intro e he z t
    obtain ⟨r1, r2, _⟩ := z.2.2.1 l hl
    rcases t.2 with t | t
    · exact t r2
    · exact t.2 r1
  refine ep_find_y (sg c (o c)) l rt a1 hl (fun so' sp k1 k2 => K so' sp (fun d n ld => ?_) (fun e he z => ?_) ?_)
  · rw [k1 _ (Y.1 d n ld).1]
    exact hs d n ld
  · exact Classical.byContradiction fun t => hd e he z ((k1 e he).mp t)
  · rw [k2, G c hc (o c)]
    constructor
    · rintro ⟨e, he, t1, t2⟩
      rcases Y.2.2.2 e he with ⟨d, n, ld, z⟩ | z
      · subst z
        have hp := (hs d n ld).mp t1
        rw [Y.2.2.1 d n c (o c) ld lo, ep_bne, decide_eq_true_iff] at t2
        exact ⟨d, n, ld, hp, Or.inl t2⟩
      · exact absurd t1 (hd e he z)
    · rintro ⟨d, n, ld, hp, t⟩
      refine ⟨sg d n, (Y.1 d n ld).1, (hs d n ld).mpr hp, ?_⟩
      rw [Y.2.2.1 d n c (o c) ld lo, ep_bne, decide_eq_true_iff]
      rcases t with t | t
      · exact t
      · exact absurd t.1.symm hp.1
theorem ep_store_y {post : Int32 → SY → Prop} (c l : Nat) (v : Int32) (sp fr : Bool) (hc : c < 4) (hl : l < L) (hL : L ≤ 8) (hB : B ≤ 8) (hE : E ≤ 8) (I : ep_IV h o V) (lE : ∀ c, c < 4 → o c + 1 ≤ h c + E) (Y : ep_Y sg h o V mk pw cf op rd wr ve bf) (G : ep_G h o V (fun d n => d ≠ c ∧ (mk d n l = true ∨ mk d n (8 + l) = true)) ct) (hsp : sp = true ↔ o c < ct c) (hfr : fr = !(ep_cm o mk (ep_sp sp c) c (ep_co o (ep_sp sp c) c) (16 + l)))
  (K1 : sp = true → ¬ o c - h c + 1 < E → ∀ so' : Nat → Int32, post (-4) ((nI L), (nI B), (nI E), (nI Q), (nI q), cy, du, cf, op, rd, wr, ve, bf, so', it, cn))
  (K2 : (sp = true → o c - h c + 1 < E) → fr = true → ¬ ep_cnt h o mk c < B → ∀ so' : Nat → Int32, post (-5) ((nI L), (nI B), (nI E), (nI Q), (nI q), cy, du, cf, op, rd, wr, ve, bf, so', it, cn))
  (K3 : ∀ (h' : Nat → Nat) (sg' : Nat → Nat → Nat) (so' cf' op' rd' wr' ve' bf' : Nat → Int32), (sp = true → o c - h c + 1 < E) → (fr = true → ep_cnt h o mk c < B) → ep_Y sg' h' (ep_co o (ep_sp sp c)) (ep_rV c ct (ep_co o (ep_sp sp c)) (ep_cV o V (ep_sp sp c))) (ep_ms (ep_cm o mk (ep_sp sp c)) c (ep_co o (ep_sp sp c) c) l) (ep_ps pw c (ep_co o (ep_sp sp c) c) l (v &&& 65535)) cf' op' rd' wr' ve' bf' → (∀ c, c < 4 → h c ≤ h' c) → (∀ d, d < 4 → h' d ≤ ep_co o (ep_sp sp c) d) → ep_DC h h' (ep_rV c ct (ep_co o (ep_sp sp c)) (ep_cV o V (ep_sp sp c))) (ep_em (ep_ms (ep_cm o mk (ep_sp sp c)) c (ep_co o (ep_sp sp c) c) l)) → ep_ST h' (ep_co o (ep_sp sp c)) (ep_rV c ct (ep_co o (ep_sp sp c)) (ep_cV o V (ep_sp sp c))) (ep_em (ep_ms (ep_cm o mk (ep_sp sp c)) c (ep_co o (ep_sp sp c) c) l)) → post (ep_ra sp fr) ((nI L), (nI B), (nI E), (nI Q), (nI q), (upd cy l (v &&& 65535)), du, cf', op', rd', wr', ve', bf', so', it, cn)) : wpY_store post ((nI L), (nI B), (nI E), (nI Q), (nI q), cy, du, cf, op, rd, wr, ve, bf, so, it, cn) (nI c) (nI l) v := by
  have lo := ep_lv_open I hc
  have hoc := I.1 c hc
  have lb : ep_LB h o := fun d hd => by have := lE d hd; omega
  obtain ⟨hcc, I2, hsr⟩ := ep_ord I hc G sp hsp
  have he0 := (Y.1 c (o c) lo).1
  have lb' : ep_LB h (ep_co o (ep_sp sp c)) := fun d hd => by
    have := lE d hd
    have := (ep_co_le (o := o) (S := ep_sp sp c) d).2
    omega
  unfold wpY_store
  dsimp only
  refine ep_v_y c l hc hl hL (br_f (by decide) (ep_open_y c hc I Y (ep_find2_y c l true hc (by omega) I Y (ep_G_iff (fun d n => ?_) G) (fun so' sp2 k1 k2 k3 => ?_))))
  · unfold ep_P
    constructor
    · rintro ⟨t1, t2⟩
      refine ⟨t1, ?_⟩
      rcases t2 with t2 | t2
      · exact Or.inl ⟨rfl, t2⟩
      · exact Or.inr t2
    · rintro ⟨t1, t2⟩
      refine ⟨t1, ?_⟩
      rcases t2 with t2 | t2
      · exact Or.inl t2.2
      · exact Or.inr t2
  dsimp only
  have esp : sp2 = sp := by
    cases sp <;> cases sp2 <;> first | rfl | exact absurd (k3.mpr (hsp.mp rfl)) (by decide) | exact absurd (hsp.mpr (k3.mp rfl)) (by decide)
  subst esp
  have t95 : (sp2 = true → o c - h c + 1 < E) → (fr = true → ep_cnt h o mk c < B) → wY_store_95 post (nI l) v (nI (sg c (o c))) (ep_b sp2) (ep_b fr) (nI L) (nI B) (nI E) (nI Q) (nI q) cy du cf op rd wr ve bf so' it cn := by
    intro e1 e2
    unfold wY_store_95
    refine ep_join_y (P := fun d n => d ≠ c ∧ ep_P mk true l d n) c sp2 hc I lb Y (fun n t => t.1 rfl) (ep_G_iff (fun d n => ?_) G) hcc k1 k2 (fun f sg' cf' op' bf' ef Y' => ?_)
    · unfold ep_P
      constructor
      · rintro ⟨t1, t2⟩
        refine ⟨t1, ?_⟩
        rcases t2 with t2 | t2
        · exact Or.inl ⟨rfl, t2⟩
        · exact Or.inr t2
      · rintro ⟨t1, t2⟩
        refine ⟨t1, ?_⟩
        rcases t2 with t2 | t2
        · exact Or.inl t2.2
        · exact Or.inr t2
    · have lo2 := ep_lv_open I2 hc
      have hf : f < 40 := by rw [ef]; exact (Y'.1 c _ lo2).1
      dsimp only
      rw [ep_cl8 (by omega), nI_clamp (show l < 2 ^ 31 by omega)]
      refine ⟨ep_in8 (by omega), nm_e ⟨ep_in8 (by omega), nm_e ⟨vp_in_nI (by omega) (by decide), nm_e ?_⟩⟩⟩
      have Y2 : ep_Y sg' h (ep_co o (ep_sp sp2 c)) (ep_rV c ct (ep_co o (ep_sp sp2 c)) (ep_cV o V (ep_sp sp2 c))) (ep_ms (ep_cm o mk (ep_sp sp2 c)) c (ep_co o (ep_sp sp2 c) c) l) (ep_ps pw c (ep_co o (ep_sp sp2 c) c) l (v &&& 65535)) cf' op' rd (upd wr (f * 8 + l) (vp_nar .boolean 1)) (upd ve (f * 8 + l) (v &&& 65535)) bf' := by
        refine ep_Y_mk Y' lo2 (fun e x z hx => ⟨rfl, pk_un (by omega), pk_un (by omega)⟩) (fun x hx => ?_) (fun d m j z => ⟨ep_ms_n z, ep_ps_n z⟩)
        obtain ⟨b1, b2, b3, b4⟩ := (Y'.1 c _ lo2).2.2.2 x hx
        rw [← ef] at b1 b2 b3 ⊢
        rw [ep_ms_s, ep_ms_s, ep_ms_s]
        by_cases y : x = l
        · subst y
          rw [pk_us, pk_us, decide_eq_false (p := x = 8 + x) (by omega), decide_eq_false (p := x = 16 + x) (by omega), decide_eq_true (p := 8 + x = 8 + x) rfl, decide_eq_true (p := 16 + x = 16 + x) rfl, ep_ps_s]
          simp only [Bool.or_false, Bool.or_true, Bool.true_or, if_true]
          exact ⟨b1, rfl, trivial, fun _ => ep_mask v⟩
        · rw [pk_un (by omega), pk_un (by omega), decide_eq_false (p := x = 8 + l) (by omega), decide_eq_false (p := x = 16 + l) (by omega), decide_eq_false (p := 8 + x = 8 + l) (by omega), decide_eq_false (p := 8 + x = 16 + l) (by omega), decide_eq_false (p := 16 + x = 8 + l) (by omega), decide_eq_false (p := 16 + x = 16 + l) (by omega), ep_ps_q y]
          simp only [Bool.or_false]
          exact ⟨b1, b2, b3, b4⟩
      refine ep_forget_y I2 lb' Y2 (fun h' cf2 op2 rd2 wr2 ve2 bf2 Y3 r1 r2 dc st => ?_)
      have k := K3 h' sg' so' cf2 op2 rd2 wr2 ve2 bf2 e1 e2 Y3 r1 r2 dc st
      cases sp2
      · refine br_t rfl ?_
        cases fr
        · exact br_t rfl k
        · exact br_f (by decide) k
      · exact br_f (by decide) k
  have t73 : (sp2 = true → o c - h c + 1 < E) → wY_store_73 post (nI c) (nI l) v (nI (sg c (o c))) (ep_b sp2) (ep_b fr) (nI L) (nI B) (nI E) (nI Q) (nI q) cy du cf op rd wr ve bf so' it cn := by
    intro e1
    have hcn : ep_cnt h o mk c ≤ 100 := by
      unfold ep_cnt
      have s1 := ep_sum_le (f := fun i => ep_rc (mk c (h c + i)) 8) (g := fun _ => 8) (n := o c + 1 - h c) (fun i _ => by
        have s2 := ep_sum_le (f := fun i_1 => (mk c (h c + i) (16 + i_1)).toNat) (g := fun _ => 1) (n := 8) (fun x _ => by
          cases mk c (h c + i) (16 + x) <;> decide)
        rw [ep_sum_k] at s2
        exact s2)
      rw [ep_sum_k] at s1
      have := lb c hc
      omega
    cases fr
    · exact br_t rfl (t95 e1 (fun t => absurd t (by decide)))
    · refine br_f (by decide) (ep_vers_y (nI c) ?_)
      rw [ep_Y_vers Y hc]
      exact ek_if (nI_ltI (by omega) (by omega)) (fun t => t95 e1 (fun _ => t)) (fun t => K2 e1 rfl t so')
  have t48 : (sp2 = true → o c - h c + 1 < E) → wY_store_48 post (nI c) (nI l) v (nI (sg c (o c))) (ep_b sp2) (nI L) (nI B) (nI E) (nI Q) (nI q) cy du cf op rd wr ve bf so' it cn := by
    intro e1
    unfold wY_store_48
    rw [ep_cl8 (by omega)]
    cases sp2
    · refine br_t rfl ⟨ep_in8 (by omega), ?_⟩
      rw [ep_sp_f, ep_co_0, ep_cm_0] at hfr
      have hv := ep_Y_ve Y lo (l := l) (by omega)
      refine br_c (fun t => ?_) (fun t => ?_)
      · have t2 : mk c (o c) (16 + l) = true := by
          cases y : mk c (o c) (16 + l)
          · exact absurd (hv.mpr y) (ep_nn.mpr t)
          · rfl
        rw [t2] at hfr
        have := t73 e1
        rw [hfr] at this
        exact this
      · have t2 := hv.mp (Classical.byContradiction fun y => t (ep_nn.mp y))
        rw [t2] at hfr
        have := t73 e1
        rw [hfr] at this
        exact this
    · have e3 : fr = true := by
        rw [hfr, ep_sp_t, ep_co_1, ep_cm_n ep_one_s]
        rfl
      have := t73 e1
      rw [e3] at this
      exact br_f (by decide) this
  cases sp2
  · exact br_t rfl (t48 (fun t => absurd t (by decide)))
  · refine br_f (by decide) (ep_epo_y c hc (by omega) hL ?_)
    rw [ep_Y_epo Y hc, show o c + 1 - h c = o c - h c + 1 from by omega]
    have := lb c hc
    exact ek_if (nI_ltI (by omega) (by omega)) (fun t => t48 (fun _ => t)) (fun t => K1 rfl t so')
end
end
section
/-! i_vc_store -/
theorem ep_upd_c {L l : Nat} {f g : Nat → Int32} {v : Int32} (e : ∀ i, i < L → f i = g i) : ∀ i, i < L → upd f l v i = upd g l v i := by
  intro i hi
  by_cases z : i = l
  · rw [z, pk_us, pk_us]
  · rw [pk_un z, pk_un z]; exact e i hi
theorem ep_lE_sp {h o h' : Nat → Nat} {E c : Nat} {sp : Bool} (lE : ∀ c, c < 4 → o c + 1 ≤ h c + E) (e1 : sp = true → o c - h c + 1 < E) (hoc : h c ≤ o c) (r1 : ∀ c, c < 4 → h c ≤ h' c) : ∀ d, d < 4 → ep_co o (ep_sp sp c) d + 1 ≤ h' d + E := by
  intro d hd
  have a1 := lE d hd
  have a2 := r1 d hd
  by_cases z : ep_sp sp c d = true
  · have e : ep_co o (ep_sp sp c) d = o d + 1 := if_pos z
    unfold ep_sp at z
    rw [Bool.and_eq_true, decide_eq_true_iff] at z
    obtain ⟨z1, rfl⟩ := z
    have := e1 z1
    omega
  · have e : ep_co o (ep_sp sp c) d = o d := ep_co_f (Bool.eq_false_iff.mpr z)
    omega
theorem i_vc_store {k : Nat} {u : SX} {v : SY} (I : i_Rel k u v) (hk : k + 5 ≤ 2564) (v1 : Int32) (v2 : Int32) (v3 : Int32) : wpX_store (fun r u' => wpY_store (fun r' v' => r' = r ∧ i_Rel (k + 5) u' v') v v1 v2 v3) u v1 v2 v3 := by
  refine I (fun u v => wpX_store (fun r u' => wpY_store (fun r' v' => r' = r ∧ i_Rel (k + 5) u' v') v v1 v2 v3) u v1 v2 v3) ?_
  intro L B E Q qh qc ch md ql qv h o b M vs w ct cy du cf op rd wr ve bf so it cn V mk pw sg F
  obtain ⟨hsz, fI, fJ, fA, fN, fE, fb, fq, fc, fY⟩ := id F
  obtain ⟨hL2, hL, hB, hE2, hE, hQ1, hQ⟩ := id hsz
  have hb : ep_XB k h o w ct := ⟨by omega, fN⟩
  have bad : (v1 < 0 ∨ nI 4 ≤ v1 ∨ v2 < 0 ∨ nI L ≤ v2) → wpY_store (fun r' v' => r' = -1 ∧ i_Rel (k + 5) (4, 64, (nI L), (nI B), (nI E), (nI Q), (nI qh), (nI qc), ch, md, ql, qv, (fun x_ => lN (h x_)), (fun x_ => lN (o x_)), (fun x_ => nI (b x_)), M, vs, (fun x_ => lN (w x_)), (fun x_ => lN (ct x_))) v') ((nI L), (nI B), (nI E), (nI Q), (nI qc), cy, du, cf, op, rd, wr, ve, bf, so, it, cn) v1 v2 v3 := by
    intro z
    unfold wpY_store
    dsimp only
    exact ep_vb_y z (br_t rfl ⟨rfl, zz_st F fN.2.2.2⟩)
  unfold wpX_store
  dsimp only
  rcases pk_ix v1 (n := 4) (by decide) with z | z | ⟨c, hc, rfl⟩
  · exact ep_vcb_x (Or.inl z) (br_t rfl (bad (Or.inl z)))
  · exact ep_vcb_x (Or.inr z) (br_t rfl (bad (Or.inr (Or.inl z))))
  refine ep_vc_x c hc (br_f (by decide) ?_)
  rcases pk_ix v2 (n := L) (by omega) with z | z | ⟨l, hl, rfl⟩
  · exact ep_vlb_x (Or.inl z) (br_t rfl (bad (Or.inr (Or.inr (Or.inl z)))))
  · exact ep_vlb_x (Or.inr z) (br_t rfl (bad (Or.inr (Or.inr (Or.inr z)))))
  refine ep_vl_x l hl hL (br_f (by decide) ?_)
  refine ep_gather_x c _ (fun d n => mk d n l = true ∨ mk d n (8 + l) = true) hc fI fA hb (fun d n ld => ?_) (fun ct' G hb' => ?_)
  · rw [ep_t257 (by omega), (fA d n ld).2.1 l (by omega), (fA d n ld).2.1 (8 + l) (by omega)]
    cases mk d n l <;> cases mk d n (8 + l) <;> simp
  · dsimp only
    have h1 := hb'.2.2.2.2 c
    have h2 := hb'.2.2.1 c
    have key : ∀ sp : Bool, (sp = true ↔ o c < ct' c) → wX_store_49 (fun r u' => wpY_store (fun r' v' => r' = r ∧ i_Rel (k + 5) u' v') ((nI L), (nI B), (nI E), (nI Q), (nI qc), cy, du, cf, op, rd, wr, ve, bf, so, it, cn) (nI c) (nI l) v3) (nI c) (nI l) v3 (ep_b sp) 4 64 (nI L) (nI B) (nI E) (nI Q) (nI qh) (nI qc) ch md ql qv (fun x_ => lN (h x_)) (fun x_ => lN (o x_)) (fun x_ => nI (b x_)) M vs (fun x_ => lN (w x_)) (fun x_ => lN (ct' x_)) := by
      intro sp hsp
      obtain ⟨hcc, I2, hsr⟩ := ep_ord fI hc G sp hsp
      refine ep_store49_x c l v3 sp _ hc hl hL hB hE hQ hQ1 fI fJ fA fE hb' (by omega) fb fq G hsp rfl (fun e1 e2 => ?_) (fun e1 e2 e3 => ?_) (fun h' b' w' M' vs' qh' md' ql' qv' ct2 e1 e2 J2 A2 hb2 r1 r2 bc2 dc st q2 => ?_)
      · exact ep_store_y c l v3 sp _ hc hl hL hB hE fI fE fY G hsp rfl (fun _ _ so' => ⟨rfl, zz_st F hb'.2.2.2.2⟩) (fun e3 => absurd (e3 e1) e2) (fun _ _ _ _ _ _ _ _ _ e3 => absurd (e3 e1) e2)
      · exact ep_store_y c l v3 sp _ hc hl hL hB hE fI fE fY G hsp rfl (fun a1 a2 => absurd (e1 a1) a2) (fun _ _ _ so' => ⟨rfl, zz_st F hb'.2.2.2.2⟩) (fun _ _ _ _ _ _ _ _ _ _ a2 => absurd (by rw [fb c hc]; exact a2 e2) e3)
      · exact ep_store_y c l v3 sp _ hc hl hL hB hE fI fE fY G hsp rfl (fun a1 a2 => absurd (e1 a1) a2) (fun _ a2 a3 => absurd (by rw [← fb c hc]; exact e2 a2) a3) (fun h2 sg' so' cf' op' rd' wr' ve' bf' _ _ Y2 y1 y2 dc2 st2 => ⟨rfl, zz_end hsz I2 J2 A2 hb2 (by omega) r1 r2 (ep_lE_sp fE e1 (fI.1 c hc) r1) bc2 q2 (ep_upd_c fc) Y2 y1 y2 dc st dc2 st2⟩)
    refine ⟨vp_in_nI hc (by decide), vp_in_nI hc (by decide), ep_le (f := ct') (g := o) c c (nI_clamp (by omega)) (nI_clamp (by omega)) (by omega) (by omega) (fun t => key false ⟨fun y => absurd y (by decide), fun y => by omega⟩) (fun t => key true ⟨fun _ => t, fun _ => rfl⟩)⟩
end
section
/-! load, barrier -/
theorem ep_ml_n {mk : Nat → Nat → Nat → Bool} {c n l d m j : Nat} (z : ¬ (d = c ∧ m = n)) : ep_ml mk c n l d m j = mk d m j := if_neg (fun t => z ⟨t.1, t.2.1⟩)
theorem ep_ml_s {mk : Nat → Nat → Nat → Bool} {c n l j : Nat} : ep_ml mk c n l c n j = (mk c n j || decide (j = l)) := by
  unfold ep_ml
  by_cases z : j = l
  · rw [if_pos ⟨rfl, rfl, z⟩, decide_eq_true z, Bool.or_true]
  · rw [if_neg (fun t => z t.2.2), decide_eq_false z, Bool.or_false]
theorem ep_ml_j {mk : Nat → Nat → Nat → Bool} {c n l d m j : Nat} (z : j ≠ l) : ep_ml mk c n l d m j = mk d m j := if_neg (fun t => z t.2.2)
theorem ep_IM_ml {L : Nat} {h o : Nat → Nat} {V : Nat → Nat → Nat → Nat} {mk : Nat → Nat → Nat → Bool} {c n l : Nat} (J : ep_IM L h o V mk) (hl : l < 8) : ep_IM L h o V (ep_ml mk c n l) :=
  ep_IM_le J (fun d m j _ h1 _ t => by rw [ep_ml_j (by omega)] at t; exact t) (fun d m q _ hq t => by
    unfold ep_ml
    split
    · rfl
    · exact t)
section
variable {L B E Q qh qc : Nat} {ch md ql qv : Nat → Int32} {h o b : Nat → Nat} {M vs : Nat → Int32} {w ct : Nat → Nat} {V : Nat → Nat → Nat → Nat} {mk : Nat → Nat → Nat → Bool} {pw : Nat → Nat → Nat → Int32} {N : Nat} {du : Nat → Int32}
theorem ep_load49_x {post : Int32 → SX → Prop} (c l : Nat) (sp : Bool) (hc : c < 4) (hl : l < L) (hL : L ≤ 8) (hE : E ≤ 8) (hQ : Q ≤ 8) (hQ1 : 1 ≤ Q) (I : ep_IV h o V) (J : ep_IM L h o V mk) (A : ep_XA h o V mk pw w M vs) (lE : ∀ c, c < 4 → o c + 1 ≤ h c + E) (hb : ep_XB N h o w ct) (hN : N + 1 < 100000) (hbc : ∀ d, d < 4 → b d = ep_cnt h o mk d) (q : ep_Q L Q qh qc md ql qv du) (G : ep_G h o V (fun d n => d ≠ c ∧ mk d n (8 + l) = true) ct) (hsp : sp = true ↔ o c < ct c)
  (K1 : sp = true → ¬ o c - h c + 1 < E → post (-4) (4, 64, (nI L), (nI B), (nI E), (nI Q), (nI qh), (nI qc), ch, md, ql, qv, (fun x_ => lN (h x_)), (fun x_ => lN (o x_)), (fun x_ => nI (b x_)), M, vs, (fun x_ => lN (w x_)), (fun x_ => lN (ct x_))))
  (K3 : ∀ (h' b' : Nat → Nat) (w' : Nat → Nat) (M' : Nat → Int32) (qh' : Nat) (md' ql' qv' : Nat → Int32) (ct' : Nat → Nat), (sp = true → o c - h c + 1 < E) → ep_IM L h (ep_co o (ep_sp sp c)) (ep_rV c ct (ep_co o (ep_sp sp c)) (ep_cV o V (ep_sp sp c))) (ep_ml (ep_cm o mk (ep_sp sp c)) c (ep_co o (ep_sp sp c) c) l) → ep_XA h' (ep_co o (ep_sp sp c)) (ep_rV c ct (ep_co o (ep_sp sp c)) (ep_cV o V (ep_sp sp c))) (ep_ml (ep_cm o mk (ep_sp sp c)) c (ep_co o (ep_sp sp c) c) l) pw w' M' vs → ep_XB (N + 1) h' (ep_co o (ep_sp sp c)) w' ct' → (∀ c, c < 4 → h c ≤ h' c) → (∀ d, d < 4 → h' d ≤ ep_co o (ep_sp sp c) d) → (∀ d, d < 4 → b' d = ep_cnt h' (ep_co o (ep_sp sp c)) (ep_ml (ep_cm o mk (ep_sp sp c)) c (ep_co o (ep_sp sp c) c) l) d) → ep_DC h h' (ep_rV c ct (ep_co o (ep_sp sp c)) (ep_cV o V (ep_sp sp c))) (ep_em (ep_ml (ep_cm o mk (ep_sp sp c)) c (ep_co o (ep_sp sp c) c) l)) → ep_ST h' (ep_co o (ep_sp sp c)) (ep_rV c ct (ep_co o (ep_sp sp c)) (ep_cV o V (ep_sp sp c))) (ep_em (ep_ml (ep_cm o mk (ep_sp sp c)) c (ep_co o (ep_sp sp c) c) l)) → ep_Q L Q qh' qc md' ql' qv' du → post (ch l) (4, 64, (nI L), (nI B), (nI E), (nI Q), (nI qh'), (nI qc), ch, md', ql', qv', (fun x_ => lN (h' x_)), (fun x_ => lN ((ep_co o (ep_sp sp c)) x_)), (fun x_ => nI (b' x_)), M', vs, (fun x_ => lN (w' x_)), (fun x_ => lN (ct' x_)))) : wX_load_49 post (nI c) (nI l) (ep_b sp) 4 64 (nI L) (nI B) (nI E) (nI Q) (nI qh) (nI qc) ch md ql qv (fun x_ => lN (h x_)) (fun x_ => lN (o x_)) (fun x_ => nI (b x_)) M vs (fun x_ => lN (w x_)) (fun x_ => lN (ct x_)) := by
  have lo := ep_lv_open I hc
  have hoN := hb.2.2.1 c
  have hoc := I.1 c hc
  have lb : ep_LB h o := fun d hd => by have := lE d hd; omega
  obtain ⟨hcc, I2, hsr⟩ := ep_ord I hc G sp hsp
  have J2 : ep_IM L h (ep_co o (ep_sp sp c)) (ep_rV c ct (ep_co o (ep_sp sp c)) (ep_cV o V (ep_sp sp c))) (ep_ml (ep_cm o mk (ep_sp sp c)) c (ep_co o (ep_sp sp c) c) l) := ep_IM_ml (ep_IM_rV (ep_IM_sp J sp)) (by omega)
  have t69 : (sp = true → o c - h c + 1 < E) → wX_load_69 post (nI c) (nI l) (ep_b sp) 4 64 (nI L) (nI B) (nI E) (nI Q) (nI qh) (nI qc) ch md ql qv (fun x_ => lN (h x_)) (fun x_ => lN (o x_)) (fun x_ => nI (b x_)) M vs (fun x_ => lN (w x_)) (fun x_ => lN (ct x_)) := by
    intro e1
    have lb' : ep_LB h (ep_co o (ep_sp sp c)) := fun d hd => by
      have := lE d hd
      have := (ep_co_le (o := o) (S := ep_sp sp c) d).2
      omega
    unfold wX_load_69
    refine ep_order_x c sp hc I A lb lb' hb hN hcc (fun w' M' A' hb' => ?_)
    dsimp only
    have lo2 := ep_lv_open I2 hc
    have hs : ep_sl c (ep_co o (ep_sp sp c) c) < 64 := ep_sl_lt hc
    rw [nI_clamp (show ep_sl c (ep_co o (ep_sp sp c) c) < 2 ^ 31 by omega)]
    refine ⟨vp_in_nI hs (by decide), vp_in_nI hs (by decide), nm_e ?_⟩
    have A2 : ep_XA h (ep_co o (ep_sp sp c)) (ep_rV c ct (ep_co o (ep_sp sp c)) (ep_cV o V (ep_sp sp c))) (ep_ml (ep_cm o mk (ep_sp sp c)) c (ep_co o (ep_sp sp c) c) l) pw w' (upd M' (ep_sl c (ep_co o (ep_sp sp c) c)) (M' (ep_sl c (ep_co o (ep_sp sp c) c)) ||| ((1 : Int32) <<< (nI l &&& 31)))) vs := by
      refine ep_XA_mk A' lo2 lb' (fun i hi => pk_un hi) (fun j hj => ?_) (fun i hi => rfl) (fun x hx t => ?_) (fun d m j z => ⟨ep_ml_n z, rfl⟩)
      · rw [pk_us, ep_set1 (by omega) hj, (A' c _ lo2).2.1 j hj, ep_ml_s]
      · rw [ep_ml_j (by omega)] at t
        exact (A' c _ lo2).2.2 x hx t
    refine ep_settle_x hL hQ hQ1 I2 J2 A2 lb' hb' (fun d hd => ?_) q (fun h' b' M2 qh' md' ql' qv' ct' A3 lb3 hb3 r1 r2 bc2 dc st q2 => ?_)
    · rw [hbc d hd, ← ep_cnt_sp (mk := mk) (c := c) (I.1 d hd) sp]
      exact (ep_cnt_m (fun n x _ _ _ => ep_ml_j (by omega))).symm
    · dsimp only
      rw [nI_clamp (show l < 2 ^ 31 by omega)]
      exact ⟨vp_in_nI (by omega) (by decide), K3 h' b' w' M2 qh' md' ql' qv' ct' e1 J2 A3 hb3 r1 r2 bc2 dc st q2⟩
  cases sp
  · exact br_t rfl (t69 (fun t => absurd t (by decide)))
  · have := lb c hc
    exact br_f (by decide) (ep_live_x c hc hoc (ek_if (nI_ltI (by omega) (by omega)) (fun t => t69 (fun _ => t)) (fun t => K1 rfl t)))
end
section
variable {L B E Q q : Nat} {cy du cf op rd wr ve bf so it cn : Nat → Int32} {sg : Nat → Nat → Nat} {h o ct : Nat → Nat} {V : Nat → Nat → Nat → Nat} {mk mk' : Nat → Nat → Nat → Bool} {pw pw' : Nat → Nat → Nat → Int32}
theorem ep_load_y {post : Int32 → SY → Prop} (c l : Nat) (sp : Bool) (hc : c < 4) (hl : l < L) (hL : L ≤ 8) (hE : E ≤ 8) (I : ep_IV h o V) (lE : ∀ c, c < 4 → o c + 1 ≤ h c + E) (Y : ep_Y sg h o V mk pw cf op rd wr ve bf) (G : ep_G h o V (fun d n => d ≠ c ∧ mk d n (8 + l) = true) ct) (hsp : sp = true ↔ o c < ct c)
  (K1 : sp = true → ¬ o c - h c + 1 < E → ∀ so' : Nat → Int32, post (-4) ((nI L), (nI B), (nI E), (nI Q), (nI q), cy, du, cf, op, rd, wr, ve, bf, so', it, cn))
  (K3 : ∀ (h' : Nat → Nat) (sg' : Nat → Nat → Nat) (so' cf' op' rd' wr' ve' bf' : Nat → Int32), (sp = true → o c - h c + 1 < E) → ep_Y sg' h' (ep_co o (ep_sp sp c)) (ep_rV c ct (ep_co o (ep_sp sp c)) (ep_cV o V (ep_sp sp c))) (ep_ml (ep_cm o mk (ep_sp sp c)) c (ep_co o (ep_sp sp c) c) l) pw cf' op' rd' wr' ve' bf' → (∀ c, c < 4 → h c ≤ h' c) → (∀ d, d < 4 → h' d ≤ ep_co o (ep_sp sp c) d) → ep_DC h h' (ep_rV c ct (ep_co o (ep_sp sp c)) (ep_cV o V (ep_sp sp c))) (ep_em (ep_ml (ep_cm o mk (ep_sp sp c)) c (ep_co o (ep_sp sp c) c) l)) → ep_ST h' (ep_co o (ep_sp sp c)) (ep_rV c ct (ep_co o (ep_sp sp c)) (ep_cV o V (ep_sp sp c))) (ep_em (ep_ml (ep_cm o mk (ep_sp sp c)) c (ep_co o (ep_sp sp c) c) l)) → post (cy l) ((nI L), (nI B), (nI E), (nI Q), (nI q), cy, du, cf', op', rd', wr', ve', bf', so', it, cn)) : wpY_load post ((nI L), (nI B), (nI E), (nI Q), (nI q), cy, du, cf, op, rd, wr, ve, bf, so, it, cn) (nI c) (nI l) := by
  have lo := ep_lv_open I hc
  have hoc := I.1 c hc
  have lb : ep_LB h o := fun d hd => by have := lE d hd; omega
  obtain ⟨hcc, I2, hsr⟩ := ep_ord I hc G sp hsp
  have he0 := (Y.1 c (o c) lo).1
  have lb' : ep_LB h (ep_co o (ep_sp sp c)) := fun d hd => by
    have := lE d hd
    have := (ep_co_le (o := o) (S := ep_sp sp c) d).2
    omega
  have pe : ∀ d n, (d ≠ c ∧ mk d n (8 + l) = true) ↔ (d ≠ c ∧ ep_P mk false l d n) := by
    intro d n
    unfold ep_P
    constructor
    · rintro ⟨t1, t2⟩
      exact ⟨t1, Or.inr t2⟩
    · rintro ⟨t1, t2⟩
      refine ⟨t1, ?_⟩
      rcases t2 with t2 | t2
      · exact absurd t2.1 (by decide)
      · exact t2
  unfold wpY_load
  dsimp only
  refine ep_v_y c l hc hl hL (br_f (by decide) (ep_open_y c hc I Y (ep_find2_y c l false hc (by omega) I Y (ep_G_iff pe G) (fun so' sp2 k1 k2 k3 => ?_))))
  dsimp only
  have esp : sp2 = sp := by
    cases sp <;> cases sp2 <;> first | rfl | exact absurd (k3.mpr (hsp.mp rfl)) (by decide) | exact absurd (hsp.mpr (k3.mp rfl)) (by decide)
  subst esp
  have t46 : (sp2 = true → o c - h c + 1 < E) → wY_load_46 post (nI l) (nI (sg c (o c))) (ep_b sp2) (nI L) (nI B) (nI E) (nI Q) (nI q) cy du cf op rd wr ve bf so' it cn := by
    intro e1
    unfold wY_load_46
    refine ep_join_y (P := fun d n => d ≠ c ∧ ep_P mk false l d n) c sp2 hc I lb Y (fun n t => t.1 rfl) (ep_G_iff pe G) hcc k1 k2 (fun f sg' cf' op' bf' ef Y' => ?_)
    have lo2 := ep_lv_open I2 hc
    have hf : f < 40 := by rw [ef]; exact (Y'.1 c _ lo2).1
    dsimp only
    rw [ep_cl8 (by omega)]
    refine ⟨ep_in8 (by omega), nm_e ?_⟩
    have Y2 : ep_Y sg' h (ep_co o (ep_sp sp2 c)) (ep_rV c ct (ep_co o (ep_sp sp2 c)) (ep_cV o V (ep_sp sp2 c))) (ep_ml (ep_cm o mk (ep_sp sp2 c)) c (ep_co o (ep_sp sp2 c) c) l) pw cf' op' (upd rd (f * 8 + l) (vp_nar .boolean 1)) wr ve bf' := by
      refine ep_Y_mk Y' lo2 (fun e x z hx => ⟨pk_un (by omega), rfl, rfl⟩) (fun x hx => ?_) (fun d m j z => ⟨ep_ml_n z, rfl⟩)
      obtain ⟨b1, b2, b3, b4⟩ := (Y'.1 c _ lo2).2.2.2 x hx
      rw [← ef] at b1 b2 b3 ⊢
      rw [ep_ml_j (j := 8 + x) (by omega), ep_ml_j (j := 16 + x) (by omega)]
      refine ⟨?_, b2, b3, b4⟩
      rw [ep_ml_s]
      by_cases y : x = l
      · rw [y, pk_us, decide_eq_true rfl, Bool.or_true]
        rfl
      · rw [pk_un (by omega), decide_eq_false y, Bool.or_false]
        exact b1
    refine ep_forget_y I2 lb' Y2 (fun h' cf2 op2 rd2 wr2 ve2 bf2 Y3 r1 r2 dc st => ?_)
    dsimp only
    rw [nI_clamp (show l < 2 ^ 31 by omega)]
    exact ⟨vp_in_nI (by omega) (by decide), K3 h' sg' so' cf2 op2 rd2 wr2 ve2 bf2 e1 Y3 r1 r2 dc st⟩
  cases sp2
  · exact br_t rfl (t46 (fun t => absurd t (by decide)))
  · refine br_f (by decide) (ep_epo_y c hc (by omega) hL ?_)
    rw [ep_Y_epo Y hc, show o c + 1 - h c = o c - h c + 1 from by omega]
    have := lb c hc
    exact ek_if (nI_ltI (by omega) (by omega)) (fun t => t46 (fun _ => t)) (fun t => K1 rfl t so')
end
theorem i_vc_load {k : Nat} {u : SX} {v : SY} (I : i_Rel k u v) (hk : k + 5 ≤ 2564) (v1 : Int32) (v2 : Int32) : wpX_load (fun r u' => wpY_load (fun r' v' => r' = r ∧ i_Rel (k + 5) u' v') v v1 v2) u v1 v2 := by
  refine I (fun u v => wpX_load (fun r u' => wpY_load (fun r' v' => r' = r ∧ i_Rel (k + 5) u' v') v v1 v2) u v1 v2) ?_
  intro L B E Q qh qc ch md ql qv h o b M vs w ct cy du cf op rd wr ve bf so it cn V mk pw sg F
  obtain ⟨hsz, fI, fJ, fA, fN, fE, fb, fq, fc, fY⟩ := id F
  obtain ⟨hL2, hL, hB, hE2, hE, hQ1, hQ⟩ := id hsz
  have hb : ep_XB k h o w ct := ⟨by omega, fN⟩
  have bad : (v1 < 0 ∨ nI 4 ≤ v1 ∨ v2 < 0 ∨ nI L ≤ v2) → wpY_load (fun r' v' => r' = -1 ∧ i_Rel (k + 5) (4, 64, (nI L), (nI B), (nI E), (nI Q), (nI qh), (nI qc), ch, md, ql, qv, (fun x_ => lN (h x_)), (fun x_ => lN (o x_)), (fun x_ => nI (b x_)), M, vs, (fun x_ => lN (w x_)), (fun x_ => lN (ct x_))) v') ((nI L), (nI B), (nI E), (nI Q), (nI qc), cy, du, cf, op, rd, wr, ve, bf, so, it, cn) v1 v2 := by
    intro z
    unfold wpY_load
    dsimp only
    exact ep_vb_y z (br_t rfl ⟨rfl, zz_st F fN.2.2.2⟩)
  unfold wpX_load
  dsimp only
  rcases pk_ix v1 (n := 4) (by decide) with z | z | ⟨c, hc, rfl⟩
  · exact ep_vcb_x (Or.inl z) (br_t rfl (bad (Or.inl z)))
  · exact ep_vcb_x (Or.inr z) (br_t rfl (bad (Or.inr (Or.inl z))))
  refine ep_vc_x c hc (br_f (by decide) ?_)
  rcases pk_ix v2 (n := L) (by omega) with z | z | ⟨l, hl, rfl⟩
  · exact ep_vlb_x (Or.inl z) (br_t rfl (bad (Or.inr (Or.inr (Or.inl z)))))
  · exact ep_vlb_x (Or.inr z) (br_t rfl (bad (Or.inr (Or.inr (Or.inr z)))))
  refine ep_vl_x l hl hL (br_f (by decide) ?_)
  refine ep_gather_x c _ (fun d n => mk d n (8 + l) = true) hc fI fA hb (fun d n ld => ?_) (fun ct' G hb' => ?_)
  · rw [ep_t256 (by omega), (fA d n ld).2.1 (8 + l) (by omega)]
    cases mk d n (8 + l) <;> simp
  · dsimp only
    have h1 := hb'.2.2.2.2 c
    have h2 := hb'.2.2.1 c
    have key : ∀ sp : Bool, (sp = true ↔ o c < ct' c) → wX_load_49 (fun r u' => wpY_load (fun r' v' => r' = r ∧ i_Rel (k + 5) u' v') ((nI L), (nI B), (nI E), (nI Q), (nI qc), cy, du, cf, op, rd, wr, ve, bf, so, it, cn) (nI c) (nI l)) (nI c) (nI l) (ep_b sp) 4 64 (nI L) (nI B) (nI E) (nI Q) (nI qh) (nI qc) ch md ql qv (fun x_ => lN (h x_)) (fun x_ => lN (o x_)) (fun x_ => nI (b x_)) M vs (fun x_ => lN (w x_)) (fun x_ => lN (ct' x_)) := by
      intro sp hsp
      obtain ⟨hcc, I2, hsr⟩ := ep_ord fI hc G sp hsp
      refine ep_load49_x c l sp hc hl hL hE hQ hQ1 fI fJ fA fE hb' (by omega) fb fq G hsp (fun e1 e2 => ?_) (fun h' b' w' M' qh' md' ql' qv' ct2 e1 J2 A2 hb2 r1 r2 bc2 dc st q2 => ?_)
      · exact ep_load_y c l sp hc hl hL hE fI fE fY G hsp (fun _ _ so' => ⟨rfl, zz_st F hb'.2.2.2.2⟩) (fun _ _ _ _ _ _ _ _ _ e3 => absurd (e3 e1) e2)
      · exact ep_load_y c l sp hc hl hL hE fI fE fY G hsp (fun a1 a2 => absurd (e1 a1) a2) (fun h2 sg' so' cf' op' rd' wr' ve' bf' _ Y2 y1 y2 dc2 st2 => ⟨(fc l hl).symm, zz_end hsz I2 J2 A2 hb2 (by omega) r1 r2 (ep_lE_sp fE e1 (fI.1 c hc) r1) bc2 q2 fc Y2 y1 y2 dc st dc2 st2⟩)
    refine ⟨vp_in_nI hc (by decide), vp_in_nI hc (by decide), ep_le (f := ct') (g := o) c c (nI_clamp (by omega)) (nI_clamp (by omega)) (by omega) (by omega) (fun t => key false ⟨fun y => absurd y (by decide), fun y => by omega⟩) (fun t => key true ⟨fun _ => t, fun _ => rfl⟩)⟩
theorem i_vc_barrier {k : Nat} {u : SX} {v : SY} (I : i_Rel k u v) (hk : k + 5 ≤ 2564) (v1 : Int32) : wpX_barrier (fun r u' => wpY_barrier (fun r' v' => r' = r ∧ i_Rel (k + 5) u' v') v v1) u v1 := by
  refine I (fun u v => wpX_barrier (fun r u' => wpY_barrier (fun r' v' => r' = r ∧ i_Rel (k + 5) u' v') v v1) u v1) ?_
  intro L B E Q qh qc ch md ql qv h o b M vs w ct cy du cf op rd wr ve bf so it cn V mk pw sg F
  obtain ⟨hsz, fI, fJ, fA, fN, fE, fb, fq, fc, fY⟩ := id F
  obtain ⟨hL2, hL, hB, hE2, hE, hQ1, hQ⟩ := id hsz
  have hb : ep_XB k h o w ct := ⟨by omega, fN⟩
  have lb : ep_LB h o := fun d hd => by have := fE d hd; omega
  have bad : (v1 < 0 ∨ nI 4 ≤ v1) → wpY_barrier (fun r' v' => r' = -1 ∧ i_Rel (k + 5) (4, 64, (nI L), (nI B), (nI E), (nI Q), (nI qh), (nI qc), ch, md, ql, qv, (fun x_ => lN (h x_)), (fun x_ => lN (o x_)), (fun x_ => nI (b x_)), M, vs, (fun x_ => lN (w x_)), (fun x_ => lN (ct x_))) v') ((nI L), (nI B), (nI E), (nI Q), (nI qc), cy, du, cf, op, rd, wr, ve, bf, so, it, cn) v1 := by
    intro z
    unfold wpY_barrier
    dsimp only
    refine ep_vb_y ?_ (br_t rfl ⟨rfl, zz_st F fN.2.2.2⟩)
    rcases z with z | z
    · exact Or.inl z
    · exact Or.inr (Or.inl z)
  unfold wpX_barrier
  dsimp only
  rcases pk_ix v1 (n := 4) (by decide) with z | z | ⟨c, hc, rfl⟩
  · exact ep_vcb_x (Or.inl z) (br_t rfl (bad (Or.inl z)))
  · exact ep_vcb_x (Or.inr z) (br_t rfl (bad (Or.inr z)))
  have hoc := fI.1 c hc
  have l1 := lb c hc
  have yw : ∀ post : Int32 → SY → Prop, (¬ o c - h c + 1 < E → post (-4) ((nI L), (nI B), (nI E), (nI Q), (nI qc), cy, du, cf, op, rd, wr, ve, bf, so, it, cn)) → (o c - h c + 1 < E → wpY_close (fun _ u => wpY_forget (fun u => post 0 u) u) ((nI L), (nI B), (nI E), (nI Q), (nI qc), cy, du, cf, op, rd, wr, ve, bf, so, it, cn) (nI (sg c (o c)))) → wpY_barrier post ((nI L), (nI B), (nI E), (nI Q), (nI qc), cy, du, cf, op, rd, wr, ve, bf, so, it, cn) (nI c) := by
    intro post K1 K2
    unfold wpY_barrier
    dsimp only
    refine ep_v_y c 0 hc (by omega) hL (br_f (by decide) (ep_epo_y c hc (by omega) hL ?_))
    rw [ep_Y_epo fY hc, show o c + 1 - h c = o c - h c + 1 from by omega]
    exact ek_if (nI_ltI (by omega) (by omega)) (fun t => ep_open_y c hc fI fY (K2 t)) (fun t => K1 t)
  refine ep_vc_x c hc (br_f (by decide) (ep_live_x c hc hoc (ek_if (nI_ltI (by omega) (by omega)) (fun t => ?_) (fun t => ?_))))
  · refine ep_close_x c hc fI fA lb hb (by omega) (fun w' M' A' hb' => ?_)
    dsimp only
    have lb' : ep_LB h (ep_co o (ep_one c)) := fun d hd => by
      have := fE d hd
      have := (ep_co_le (o := o) (S := ep_one c) d).2
      omega
    refine ep_settle_x hL hQ hQ1 (ep_IV_co fI hc) (ep_IM_co fJ) A' lb' hb' (fun d hd => ?_) fq (fun h' b' M2 qh' md' ql' qv' ct' A3 lb3 hb3 r1 r2 bc2 dc st q2 => ?_)
    · rw [fb d hd, ← ep_sp_t (c := c)]
      exact (ep_cnt_sp (fI.1 d hd) true).symm
    · refine yw _ (fun y => absurd t y) (fun _ => ep_close_y c hc fI lb fY (fun f cf' op' bf' hf df Y' => ep_forget_y (ep_IV_co fI hc) lb' Y' (fun h2 cf2 op2 rd2 wr2 ve2 bf2 Y3 y1 y2 dc2 st2 => ⟨rfl, ?_⟩)))
      refine zz_end hsz (ep_IV_co fI hc) (ep_IM_co fJ) A3 hb3 (by omega) r1 r2 (fun d hd => ?_) bc2 q2 fc Y3 y1 y2 dc st dc2 st2
      have := ep_lE_sp (sp := true) (c := c) fE (fun _ => t) hoc r1 d hd
      rw [ep_sp_t] at this
      exact this
  · exact yw _ (fun _ => ⟨rfl, zz_st F fN.2.2.2⟩) (fun y => absurd y t)
end
section
/-! closeCut; the end of a call that drains -/
theorem ep_cnt_S {h o : Nat → Nat} {mk : Nat → Nat → Nat → Bool} {d : Nat} (hd : h d ≤ o d) (S : Nat → Bool) : ep_cnt h (ep_co o S) (ep_cm o mk S) d = ep_cnt h o mk d := by
  by_cases z : S d = true
  · unfold ep_cnt
    have e : ep_co o S d = o d + 1 := if_pos z
    rw [e, show o d + 1 + 1 - h d = (o d + 1 - h d) + 1 from by omega]
    show ep_sum _ (o d + 1 - h d) + ep_rc (ep_cm o mk S d (h d + (o d + 1 - h d))) 8 = _
    rw [show h d + (o d + 1 - h d) = o d + 1 from by omega, ep_rc_0 (Nat.le_refl 8) (fun l hl => ep_cm_n z), Nat.add_zero]
    exact ep_sum_c (fun i hi => by
      show ep_rc (ep_cm o mk S d (h d + i)) 8 = ep_rc (mk d (h d + i)) 8
      exact ep_sum_c (fun l hl => by
        show (ep_cm o mk S d (h d + i) (16 + l)).toNat = _
        rw [ep_cm_o (by omega)]))
  · unfold ep_cnt
    have e : ep_co o S d = o d := ep_co_f (Bool.eq_false_iff.mpr z)
    rw [e]
    exact ep_sum_c (fun i hi => ep_sum_c (fun l hl => by
      show (ep_cm o mk S d (h d + i) (16 + l)).toNat = _
      rw [ep_cm_f (Bool.eq_false_iff.mpr z)]))
def ep_T (ct : Nat → Nat) : Nat → Nat → Bool := fun c n => decide (n < ct c)
section
variable {L B E Q qh qc : Nat} {ch md ql qv : Nat → Int32} {h o b : Nat → Nat} {M vs : Nat → Int32} {w ct : Nat → Nat} {V : Nat → Nat → Nat → Nat} {mk : Nat → Nat → Nat → Bool} {pw : Nat → Nat → Nat → Int32} {N : Nat} {du : Nat → Int32}
theorem ep_closeCut_x {post : SX → Prop} (I : ep_IV h o V) (J : ep_IM L h o V mk) (A : ep_XA h o V mk pw w M vs) (lb : ∀ c, c < 4 → o c ≤ h c + 7) (hb : ep_XB N h o w ct) (hN : N + 4 < 100000) (K : ∀ (w' : Nat → Nat) (M' : Nat → Int32), ep_IV h (ep_co o (ep_cs o (ep_T ct))) (ep_cV o V (ep_cs o (ep_T ct))) → ep_IM L h (ep_co o (ep_cs o (ep_T ct))) (ep_cV o V (ep_cs o (ep_T ct))) (ep_cm o mk (ep_cs o (ep_T ct))) → ep_XA h (ep_co o (ep_cs o (ep_T ct))) (ep_cV o V (ep_cs o (ep_T ct))) (ep_cm o mk (ep_cs o (ep_T ct))) pw w' M' vs → ep_XB (N + 4) h (ep_co o (ep_cs o (ep_T ct))) w' ct → post (4, 64, (nI L), (nI B), (nI E), (nI Q), (nI qh), (nI qc), ch, md, ql, qv, (fun x_ => lN (h x_)), (fun x_ => lN ((ep_co o (ep_cs o (ep_T ct))) x_)), (fun x_ => nI (b x_)), M', vs, (fun x_ => lN (w' x_)), (fun x_ => lN (ct x_)))) : wpX_closeCut post (4, 64, (nI L), (nI B), (nI E), (nI Q), (nI qh), (nI qc), ch, md, ql, qv, (fun x_ => lN (h x_)), (fun x_ => lN (o x_)), (fun x_ => nI (b x_)), M, vs, (fun x_ => lN (w x_)), (fun x_ => lN (ct x_))) := by
  unfold wpX_closeCut
  dsimp only
  refine loop_0 (fun n i (s : (Nat → Bool) × (Nat → Nat) × (Nat → Int32)) => wX_closeCut_2 post n (nI i) 4 64 (nI L) (nI B) (nI E) (nI Q) (nI qh) (nI qc) ch md ql qv (fun x_ => lN (h x_)) (fun x_ => lN ((ep_co o s.1) x_)) (fun x_ => nI (b x_)) (s.2.2) vs (fun x_ => lN ((s.2.1) x_)) (fun x_ => lN (ct x_))) (fun i s => s.1 = (fun c => decide (c < i) && ep_cs o (ep_T ct) c) ∧ ep_IV h (ep_co o s.1) (ep_cV o V s.1) ∧ ep_IM L h (ep_co o s.1) (ep_cV o V s.1) (ep_cm o mk s.1) ∧ ep_XA h (ep_co o s.1) (ep_cV o V s.1) (ep_cm o mk s.1) pw s.2.1 s.2.2 vs ∧ ep_XB (N + i) h (ep_co o s.1) s.2.1 ct) 4 (fun _ => false, w, M) ?_ ?_ ?_ |> fun ⟨n, z⟩ => ⟨n, ?_⟩
  · dsimp only
    refine ⟨?_, ?_⟩
    · funext c
      rw [decide_eq_false (by omega), Bool.false_and]
    · rw [ep_co_0, ep_cV_0, ep_cm_0]
      exact ⟨I, J, A, hb⟩
  · rintro n ⟨S, w1, M1⟩ ⟨e, I1, J1, A1, hb1⟩
    dsimp only at e I1 J1 A1 hb1
    have e2 : S = ep_cs o (ep_T ct) := by
      rw [e]
      funext c
      by_cases z : c < 4
      · rw [decide_eq_true z, Bool.true_and]
      · rw [decide_eq_false z, Bool.false_and]
        exact (Bool.eq_false_iff.mpr (fun t => z (ep_cs_t.mp t).1)).symm
    subst e2
    exact br_t (nI_le (Nat.le_refl 4) (by decide)) (K w1 M1 I1 J1 A1 hb1)
  · rintro n i ⟨S, w1, M1⟩ hi ⟨e, I1, J1, A1, hb1⟩ next
    dsimp only at e I1 J1 A1 hb1
    have Sf : S i = false := by rw [e]; show (decide (i < i) && _) = false; rw [decide_eq_false (by omega), Bool.false_and]
    have eo : ep_co o S i = o i := ep_co_f Sf
    have g1 := hb1.2.2.2.2 i
    have g2 := hb1.2.2.1 i
    have g3 := hb1.1
    refine br_f (nI_ge (b := 4) hi (by decide)) ⟨vp_in_nI hi (by decide), vp_in_nI hi (by decide), ?_⟩
    refine ep_le (f := ct) (g := ep_co o S) i i (nI_clamp (by omega)) (nI_clamp (by omega)) (by omega) (by omega) (fun t => nm_r (nI_1 i) (next (S, w1, M1) ⟨?_, I1, J1, A1, ep_XB_up hb1 (by omega) (by omega)⟩)) (fun t => ?_)
    · dsimp only
      rw [e]
      funext c
      by_cases z : c = i
      · subst z
        have : ep_cs o (ep_T ct) c = false := Bool.eq_false_iff.mpr (fun y => by
          have := of_decide_eq_true (ep_cs_t.mp y).2
          omega)
        rw [this, Bool.and_false, Bool.and_false]
      · rw [decide_eq_decide.mpr (show c < i ↔ c < i + 1 by omega)]
    · have lbS : ep_LB h (ep_co o S) := fun d hd => by
        have := lb d hd
        have := (ep_co_le (o := o) (S := S) d).2
        omega
      refine ep_close_x i hi I1 A1 lbS hb1 (by omega) (fun w2 M2 A2 hb2 => ?_)
      have I2 := ep_IV_co I1 hi
      have J2 := ep_IM_co (c := i) J1
      rw [ep_co_add Sf, ep_cV_add Sf] at I2
      rw [ep_co_add Sf, ep_cV_add Sf, ep_cm_add Sf] at J2 A2
      rw [ep_co_add Sf] at hb2
      rw [ep_co_add Sf]
      refine nm_r (nI_1 i) (next (ep_add S i, w2, M2) ⟨?_, I2, J2, A2, hb2⟩)
      dsimp only
      funext c
      by_cases z : c = i
      · subst z
        rw [ep_add_s, decide_eq_true (by omega), Bool.true_and]
        exact (ep_cs_t.mpr ⟨hi, decide_eq_true (by omega)⟩).symm
      · rw [ep_add_n z, e]
        show (decide (c < i) && _) = _
        rw [decide_eq_decide.mpr (show c < i ↔ c < i + 1 by omega)]
  · dsimp only at z
    rw [ep_co_0] at z
    exact z
end
theorem ep_em_fm {mk : Nat → Nat → Nat → Bool} {Ch : Nat → Nat → Nat → Bool} {c n : Nat} : ep_em (ep_fm mk Ch) c n ↔ ∀ l, l < 8 → mk c n (16 + l) = true → Ch c n l = true := by
  unfold ep_em
  constructor
  · intro H l hl t
    have := H l hl
    rw [ep_fm_hi, t, Bool.true_and] at this
    cases z : Ch c n l
    · rw [z] at this; exact absurd this (by decide)
    · rfl
  · intro H l hl
    rw [ep_fm_hi]
    cases z : mk c n (16 + l)
    · rfl
    · rw [H l hl z]; rfl
theorem zz_flush {k N kX kY qc0 T0 : Nat} {L B E Q qh qc : Nat} {ch md ql qv : Nat → Int32} {h o b : Nat → Nat} {M vs : Nat → Int32} {w ct : Nat → Nat} {cy du cf op rd wr ve bf so it cn : Nat → Int32} {V : Nat → Nat → Nat → Nat} {mk : Nat → Nat → Nat → Bool} {pw : Nat → Nat → Nat → Int32} {sg : Nat → Nat → Nat} {h0 h2 : Nat → Nat} {mf : Nat → Nat → Nat → Bool} {dx : Nat → Int32} (hsz : 2 ≤ L ∧ L ≤ 8 ∧ B ≤ 8 ∧ 2 ≤ E ∧ E ≤ 8 ∧ 1 ≤ Q ∧ Q ≤ 8) (I : ep_IV h0 o V) (J : ep_IM L h o V mk) (A : ep_XA h o V mk pw w M vs) (hb : ep_XB N h o w ct) (hN : N ≤ k) (r1 : ∀ c, c < 4 → h0 c ≤ h c) (r2 : ∀ c, c < 4 → h c ≤ o c) (lE : ∀ c, c < 4 → o c + 1 ≤ h c + E) (bc : ∀ c, c < 4 → b c = ep_cnt h o mk c) (kx : kX + (b 0 + b 1 + b 2 + b 3) = T0) (ky : kY + (ep_cnt h2 o mf 0 + ep_cnt h2 o mf 1 + (ep_cnt h2 o mf 2 + ep_cnt h2 o mf 3)) = T0) (eq' : qc = min (qc0 + kX) Q) (q : ep_Q L Q qh qc md ql qv dx) (hdu : ∀ l, l < L → dx l = du l) (coh : ∀ l, l < L → ch l = cy l) (Y : ep_Y sg h2 o V mf pw cf op rd wr ve bf) (y1 : ∀ c, c < 4 → h0 c ≤ h2 c) (y2 : ∀ c, c < 4 → h2 c ≤ o c) (dc : ep_DC h0 h V (ep_em mf)) (st : ep_ST h o V (ep_em mf)) (dc2 : ep_DC h0 h2 V (ep_em mf)) (st2 : ep_ST h2 o V (ep_em mf)) (ag : ∀ c n j, ep_lv h o c n → j < 24 → mk c n j = mf c n j) : kY = kX ∧ i_Rel k (4, 64, (nI L), (nI B), (nI E), (nI Q), (nI qh), (nI qc), ch, md, ql, qv, (fun x_ => lN (h x_)), (fun x_ => lN (o x_)), (fun x_ => nI (b x_)), M, vs, (fun x_ => lN (w x_)), (fun x_ => lN (ct x_))) ((nI L), (nI B), (nI E), (nI Q), (nI (min (qc0 + kY) Q)), cy, du, cf, op, rd, wr, ve, bf, so, it, cn) := by
  have e := ep_fix I y1 y2 r1 r2 dc2 st2 dc st
  have ec : ∀ c, c < 4 → ep_cnt h2 o mf c = b c := by
    intro c hc
    rw [bc c hc]
    have : ep_cnt h2 o mf c = ep_cnt h o mf c := by
      unfold ep_cnt
      rw [e c hc]
    rw [this]
    exact ep_cnt_m (fun n l h1 h2 hl => (ag c n (16 + l) ⟨hc, h1, h2⟩ (by omega)).symm)
  rw [ec 0 (by omega), ec 1 (by omega), ec 2 (by omega), ec 3 (by omega)] at ky
  have ek : kY = kX := by omega
  refine ⟨ek, ?_⟩
  rw [ek, ← eq']
  exact zz_in ⟨hsz, ep_IV_h I r1 r2, J, A, ep_XN_up hN hb.2, lE, bc, ⟨q.1, q.2.1, q.2.2.1, fun l hl => by rw [q.2.2.2 l hl]; exact hdu l hl⟩, coh, ep_Y_c (ep_Y_h Y e) (fun _ _ _ _ _ => rfl) ag (fun _ _ _ _ _ => rfl)⟩
/-- the durable values agree -/
theorem ep_du_eq {L : Nat} {h0 h o : Nat → Nat} {V : Nat → Nat → Nat → Nat} {mk : Nat → Nat → Nat → Bool} {pw : Nat → Nat → Nat → Int32} {Ch : Nat → Nat → Nat → Bool} {du dx dy : Nat → Int32} (hL : L ≤ 8) (ho : ∀ c, c < 4 → h c ≤ o c) (X : ep_DU L h0 h V mk pw du dx) (Y : ep_DY h0 o V mk pw Ch du dy) (c1 : ∀ c n l, ep_lv h0 o c n → l < L → mk c n (16 + l) = true → (Ch c n l = true ↔ n < h c)) : ∀ l, l < L → dx l = dy l := by
  intro l hl
  obtain ⟨y1, y2⟩ := Y l (by omega)
  rcases X l hl with ⟨c, n, a1, a2, a3, a4, a5, a6⟩ | ⟨a1, a2⟩
  · have lc : ep_lv h0 o c n := ⟨a1, a2, Nat.le_trans (Nat.le_of_lt a3) (ho c a1)⟩
    rw [a5]
    exact (y1 c n lc a4 ((c1 c n l lc hl a4).mpr a3) (fun d m ld t1 t2 => a6 d m ld.1 ld.2.1 ((c1 d m l ld hl t1).mp t2) t1)).symm
  · rw [a2]
    refine (y2 (fun c n lc t => Bool.eq_false_iff.mpr (fun z => ?_))).symm
    have := (c1 c n l lc hl t).mp z
    rw [a1 c n lc.1 lc.2.1 this] at t
    exact absurd t (by decide)
end
section
/-! sync -/
theorem ep_fm_f {mk : Nat → Nat → Nat → Bool} {Ch : Nat → Nat → Nat → Bool} {c n j : Nat} (z : ∀ l, l < 8 → Ch c n l = false) (hj : j < 24) : mk c n j = ep_fm mk Ch c n j := by
  by_cases q : j < 16
  · rw [ep_fm_lo q]
  · have e := ep_fm_hi (mk := mk) (Ch := Ch) (c := c) (n := n) (l := j - 16)
    rw [show 16 + (j - 16) = j from by omega, z (j - 16) (by omega), Bool.not_false, Bool.and_true] at e
    exact e.symm
section
variable {L B E Q q : Nat} {cy du cf op rd wr ve bf so it cn : Nat → Int32} {sg : Nat → Nat → Nat} {h o ct : Nat → Nat} {V : Nat → Nat → Nat → Nat} {mk mk' : Nat → Nat → Nat → Bool} {pw pw' : Nat → Nat → Nat → Int32}
theorem ep_sync19_y {post : Int32 → SY → Prop} (e0 : Nat) (he0 : e0 < 40) (K : ∀ it' : Nat → Int32, (∀ e, e < 40 → it' e = ep_b (decide (e = e0 ∨ ¬ bf (e * 40 + e0) = 0))) → wpY_chooseT (fun u => wpY_flush post u) ((nI L), (nI B), (nI E), (nI Q), (nI q), cy, du, cf, op, rd, wr, ve, bf, so, it', cn)) : ∃ n, wY_sync_19 post (nI e0) (nI L) (nI B) (nI E) (nI Q) (nI q) n 0 cy du cf op rd wr ve bf so it cn := by
  refine loop_0 (fun n i (it' : Nat → Int32) => wY_sync_19 post (nI e0) (nI L) (nI B) (nI E) (nI Q) (nI q) n (nI i) cy du cf op rd wr ve bf so it' cn) (fun i it' => ∀ e, e < i → it' e = ep_b (decide (e = e0 ∨ ¬ bf (e * 40 + e0) = 0))) 40 it (fun e he => by omega) ?_ ?_
  · intro n it' H
    exact br_t (nI_le (Nat.le_refl 40) (by decide)) (K it' H)
  · intro n i it' hi H next
    have st : ∀ b : Bool, b = decide (i = e0 ∨ ¬ bf (i * 40 + e0) = 0) → wY_sync_19 post (nI e0) (nI L) (nI B) (nI E) (nI Q) (nI q) n (nI (i + 1)) cy du cf op rd wr ve bf so (upd it' i (ep_b b)) cn := by
      intro b hb
      refine next (upd it' i (ep_b b)) (fun e he => ?_)
      by_cases q : e = i
      · rw [q, pk_us, hb]
      · rw [pk_un q]; exact H e (by omega)
    refine br_f (nI_ge (b := 40) hi (by decide)) (ek_if (nI_eq (by omega) (by omega)) (fun z => ⟨vp_in_nI hi (by decide), nm_r (e' := upd it' i (ep_b true)) (by rw [nI_clamp (by omega)]; rfl) (nm_r (nI_1 i) (st true (decide_eq_true (Or.inl z)).symm))⟩) (fun z => ⟨ep_in40 (by omega), ?_⟩))
    rw [ep_cl40 (by omega)]
    refine br_c (fun y => ⟨vp_in_nI hi (by decide), nm_r (e' := upd it' i (ep_b false)) (by rw [nI_clamp (by omega)]; rfl) (nm_r (nI_1 i) (st false (decide_eq_false (fun t => ?_)).symm))⟩) (fun y => ⟨vp_in_nI hi (by decide), nm_r (e' := upd it' i (ep_b true)) (by rw [nI_clamp (by omega)]; rfl) (nm_r (nI_1 i) (st true (decide_eq_true (Or.inr y)).symm))⟩)
    rcases t with t | t
    · exact z t
    · exact t y
theorem ep_cf_y {post : Int32 → SY → Prop} (T : Nat → Nat → Bool) (hQ : Q ≤ 8) (hq : q ≤ Q) (I : ep_IV h o V) (lb : ∀ c, c < 4 → o c ≤ h c + 7) (Y : ep_Y sg h o V mk pw cf op rd wr ve bf) (t1 : ∀ c n, ep_lv h o c n → it (sg c n) = ep_b (T c n)) (t2 : ∀ e, e < 40 → ep_dead cf op rd wr ve bf e → it e = 0) (tn : ∀ c, ep_cs o T c = true → T c (o c + 1) = false) (K : ∀ (kY : Nat) (sg' : Nat → Nat → Nat) (h' : Nat → Nat) (du' cf' op' rd' wr' ve' bf' cn' : Nat → Int32), ep_DY h (ep_co o (ep_cs o T)) (ep_cV o V (ep_cs o T)) (ep_cm o mk (ep_cs o T)) pw (fun c n _ => T c n) du du' → kY + (ep_cnt h' (ep_co o (ep_cs o T)) (ep_fm (ep_cm o mk (ep_cs o T)) (fun c n _ => T c n)) 0 + ep_cnt h' (ep_co o (ep_cs o T)) (ep_fm (ep_cm o mk (ep_cs o T)) (fun c n _ => T c n)) 1 + (ep_cnt h' (ep_co o (ep_cs o T)) (ep_fm (ep_cm o mk (ep_cs o T)) (fun c n _ => T c n)) 2 + ep_cnt h' (ep_co o (ep_cs o T)) (ep_fm (ep_cm o mk (ep_cs o T)) (fun c n _ => T c n)) 3)) = ep_cnt h o mk 0 + ep_cnt h o mk 1 + ep_cnt h o mk 2 + ep_cnt h o mk 3 → ep_Y sg' h' (ep_co o (ep_cs o T)) (ep_cV o V (ep_cs o T)) (ep_fm (ep_cm o mk (ep_cs o T)) (fun c n _ => T c n)) pw cf' op' rd' wr' ve' bf' → (∀ c, c < 4 → h c ≤ h' c) → (∀ c, c < 4 → h' c ≤ ep_co o (ep_cs o T) c) → ep_DC h h' (ep_cV o V (ep_cs o T)) (ep_em (ep_fm (ep_cm o mk (ep_cs o T)) (fun c n _ => T c n))) → ep_ST h' (ep_co o (ep_cs o T)) (ep_cV o V (ep_cs o T)) (ep_em (ep_fm (ep_cm o mk (ep_cs o T)) (fun c n _ => T c n))) → post (nI kY) ((nI L), (nI B), (nI E), (nI Q), (nI (min (q + kY) Q)), cy, du', cf', op', rd', wr', ve', bf', so, it, cn')) : wpY_chooseT (fun u => wpY_flush post u) ((nI L), (nI B), (nI E), (nI Q), (nI q), cy, du, cf, op, rd, wr, ve, bf, so, it, cn) := by
  refine ep_choose_y T I lb Y t1 t2 (fun sg' cf' op' bf' cn' Y' I' sp si sc => ?_)
  have lb' : ep_LB h (ep_co o (ep_cs o T)) := fun d hd => by
    have := lb d hd
    have := (ep_co_le (o := o) (S := ep_cs o T) d).2
    omega
  refine ep_flush_y (fun c n _ => T c n) hQ hq I' lb' Y' (fun c n l lv hl => ?_) (fun k h' du' cf2 op2 rd2 wr2 ve2 bf2 hdu hk Y2 y1 y2 dc st => K k sg' h' du' cf2 op2 rd2 wr2 ve2 bf2 cn' hdu ?_ Y2 y1 y2 dc st)
  · rw [sc _ l (Y'.1 c n lv).1 hl]
    rcases ep_lv_co lv with z | z
    · rw [sp c n z.1, t1 c n z.1, ep_bne]
    · rw [z.2, si c z.1, tn c z.1]
      exact ⟨fun t => absurd rfl t, fun t => absurd t (by decide)⟩
  · rw [hk, ep_cnt_S (I.1 0 (by omega)), ep_cnt_S (I.1 1 (by omega)), ep_cnt_S (I.1 2 (by omega)), ep_cnt_S (I.1 3 (by omega))]
    omega
end
/-- the cut of a call that drains: down-closed, and closed after closeCut -/
theorem ep_CD_co {h o ct : Nat → Nat} {V : Nat → Nat → Nat → Nat} (D : ep_CD h o V ct) : (∀ c, c < 4 → ct c ≤ ep_co o (ep_cs o (ep_T ct)) c) ∧ (∀ d m, ep_lv h (ep_co o (ep_cs o (ep_T ct))) d m → m < ct d → ∀ k, k < 4 → ep_cV o V (ep_cs o (ep_T ct)) d m k ≤ ct k) := by
  refine ⟨fun c hc => ?_, fun d m l z k hk => ?_⟩
  · by_cases y : o c < ct c
    · have : ep_co o (ep_cs o (ep_T ct)) c = o c + 1 := if_pos (ep_cs_t.mpr ⟨hc, decide_eq_true y⟩)
      have := D.1 c hc
      omega
    · have := (ep_co_le (o := o) (S := ep_cs o (ep_T ct)) c).1
      omega
  · have := D.1 d l.1
    rw [ep_cV_o (by omega)]
    exact D.2 d m ⟨l.1, l.2.1, by omega⟩ z k hk
/-- what is in the cut leaves -/
theorem ep_cut_leave {h o ct h1 : Nat → Nat} {V : Nat → Nat → Nat → Nat} {mk : Nat → Nat → Nat → Bool} (I : ep_IV h o V) (hct : ∀ c, c < 4 → ct c ≤ o c) (hdn : ∀ d m, ep_lv h o d m → m < ct d → ∀ k, k < 4 → V d m k ≤ ct k) (r1 : ∀ c, c < 4 → h c ≤ h1 c) (r2 : ∀ c, c < 4 → h1 c ≤ o c) (st : ep_ST h1 o V (ep_gd ct mk)) {c n : Nat} (l : ep_lv h o c n) (z : n < ct c) : n < h1 c := by
  refine ep_leave (T := fun c n => n < ct c) I r1 r2 st (fun d m ld y => ⟨Nat.lt_of_lt_of_le y (hct d ld.1), Or.inl y, fun e x le t => ?_⟩) l z
  exact Nat.lt_of_lt_of_le t (hdn d m ld y e le.1)
theorem i_vc_sync {k : Nat} {u : SX} {v : SY} (I : i_Rel k u v) (hk : k + 5 ≤ 2564) (v1 : Int32) : wpX_sync (fun r u' => wpY_sync (fun r' v' => r' = r ∧ i_Rel (k + 5) u' v') v v1) u v1 := by
  refine I (fun u v => wpX_sync (fun r u' => wpY_sync (fun r' v' => r' = r ∧ i_Rel (k + 5) u' v') v v1) u v1) ?_
  intro L B E Q qh qc ch md ql qv h o b M vs w ct cy du cf op rd wr ve bf so it cn V mk pw sg F
  obtain ⟨hsz, fI, fJ, fA, fN, fE, fb, fq, fc, fY⟩ := id F
  obtain ⟨hL2, hL, hB, hE2, hE, hQ1, hQ⟩ := id hsz
  have hb : ep_XB k h o w ct := ⟨by omega, fN⟩
  have lb7 : ∀ c, c < 4 → o c ≤ h c + 7 := fun d hd => by have := fE d hd; omega
  have bad : (v1 < 0 ∨ nI 4 ≤ v1) → wpY_sync (fun r' v' => r' = -1 ∧ i_Rel (k + 5) (4, 64, (nI L), (nI B), (nI E), (nI Q), (nI qh), (nI qc), ch, md, ql, qv, (fun x_ => lN (h x_)), (fun x_ => lN (o x_)), (fun x_ => nI (b x_)), M, vs, (fun x_ => lN (w x_)), (fun x_ => lN (ct x_))) v') ((nI L), (nI B), (nI E), (nI Q), (nI qc), cy, du, cf, op, rd, wr, ve, bf, so, it, cn) v1 := by
    intro z
    unfold wpY_sync
    dsimp only
    refine ep_vb_y ?_ (br_t rfl ⟨rfl, zz_st F fN.2.2.2⟩)
    rcases z with z | z
    · exact Or.inl z
    · exact Or.inr (Or.inl z)
  unfold wpX_sync
  dsimp only
  rcases pk_ix v1 (n := 4) (by decide) with z | z | ⟨c, hc, rfl⟩
  · exact ep_vcb_x (Or.inl z) (br_t rfl (bad (Or.inl z)))
  · exact ep_vcb_x (Or.inr z) (br_t rfl (bad (Or.inr z)))
  have hoN := hb.2.2.1 c
  have lo := ep_lv_open fI hc
  have eo := fI.2.1 c (o c) lo
  have he0 := (fY.1 c (o c) lo).1
  have hs : ep_sl c (o c) < 64 := ep_sl_lt hc
  refine ep_vc_x c hc (br_f (by decide) ⟨vp_in_nI hc (by decide), ?_⟩)
  rw [nI_clamp (show c < 2 ^ 31 by omega)]
  refine ep_slot_x c (o c) hc (by omega) (ep_cutB_x _ hs hb (fun ct1 e1 hb1 => ?_))
  dsimp only
  refine ⟨vp_in_nI hc (by decide), vp_in_nI hc (by decide), nm_r (e' := fun x => lN (ep_up ct1 c (o c + 1) x)) (by rw [lN_1]; exact ep_uL ct1 c _) ?_⟩
  have e2 : ∀ d, d < 4 → ep_up ct1 c (o c + 1) d = if d = c then o c + 1 else V c (o c) d := by
    intro d hd
    by_cases z : d = c
    · rw [z, ep_us, if_pos rfl]
    · rw [ep_un z, if_neg z, e1 d hd]
      exact (fA c (o c) lo).1 d hd
  have hb2 : ep_XB k h o w (ep_up ct1 c (o c + 1)) := ⟨hb1.1, hb1.2.1, hb1.2.2.1, hb1.2.2.2.1, fun d => by
    by_cases z : d = c
    · rw [z, ep_us]; omega
    · rw [ep_un z]; exact hb1.2.2.2.2 d⟩
  generalize ep_up ct1 c (o c + 1) = ct2 at e2 hb2
  have D : ep_CD h o V ct2 := by
    refine ⟨fun d hd => ?_, fun d m ld z x hx => ?_⟩
    · rw [e2 d hd]
      split
      · rename_i y; rw [y]; exact Nat.le_refl _
      · exact fI.2.2.1 c (o c) d lo hd
    · have key : V d m x ≤ V c (o c) x := by
        rw [e2 d ld.1] at z
        by_cases y : d = c
        · rw [if_pos y] at z
          subst y
          exact ep_mono fI ld lo (by omega) x hx
        · rw [if_neg y] at z
          exact fI.2.2.2 c (o c) d m lo ld z x hx
      rw [e2 x hx]
      split
      · rename_i y; rw [y] at key ⊢; omega
      · exact key
  obtain ⟨D1, D2⟩ := ep_CD_co D
  refine ep_closeCut_x fI fJ fA lb7 hb2 (by omega) (fun w' M' I1 J1 A1 hb3 => ?_)
  dsimp only
  have lb' : ep_LB h (ep_co o (ep_cs o (ep_T ct2))) := fun d hd => by
    have := lb7 d hd
    have := (ep_co_le (o := o) (S := ep_cs o (ep_T ct2)) d).2
    omega
  refine ep_release_x hL hQ hQ1 I1 J1 A1 lb' hb3 (fun d hd => by rw [fb d hd]; exact (ep_cnt_S (fI.1 d hd) _).symm) fq (fun kX h1 b1 M1 qh1 qc1 md1 ql1 qv1 dx A2 lb2 hb4 R q2 st => ?_)
  obtain ⟨r1, r2, r3, r4, r5, r6, r7, r8⟩ := R
  have lv : ∀ c n, ep_lv h (ep_co o (ep_cs o (ep_T ct2))) c n → n < ct2 c → n < h1 c := fun c n l z => ep_cut_leave I1 D1 D2 r1 r2 st l z
  have emi : ∀ c n, ep_em (ep_fm (ep_cm o mk (ep_cs o (ep_T ct2))) (fun c n _ => ep_T ct2 c n)) c n ↔ ep_gd ct2 (ep_cm o mk (ep_cs o (ep_T ct2))) c n := by
    intro c n
    rw [ep_em_fm]
    constructor
    · intro H
      by_cases z : n < ct2 c
      · exact Or.inl z
      · refine Or.inr (fun l hl => Bool.eq_false_iff.mpr (fun t => z (of_decide_eq_true (H l hl t))))
    · intro H l hl t
      rcases H with H | H
      · exact decide_eq_true H
      · rw [H l hl] at t; exact absurd t (by decide)
  show wpY_sync _ ((nI L), (nI B), (nI E), (nI Q), (nI qc), cy, du, cf, op, rd, wr, ve, bf, so, it, cn) (nI c)
  unfold wpY_sync
  dsimp only
  refine ep_v_y c 0 hc (by omega) hL (br_f (by decide) (ep_open_y c hc fI fY (ep_sync19_y (sg c (o c)) he0 (fun it' hit => ?_))))
  refine ep_cf_y (ep_T ct2) hQ fq.2.1 fI lb7 fY (fun d n ld => ?_) (fun e he z => ?_) (fun d z => ?_) (fun kY sg' h2 dy cf' op' rd' wr' ve' bf' cn' hdu hky Y2 y1 y2 dc2 st2 => ?_)
  · rw [hit _ (fY.1 d n ld).1, fY.2.2.1 c (o c) d n lo ld]
    congr 1
    unfold ep_T
    refine decide_eq_decide.mpr ?_
    rw [ep_bne, decide_eq_true_iff, e2 d ld.1]
    by_cases y : d = c
    · subst y
      rw [if_pos rfl, eo]
      have := ld.2.2
      constructor
      · intro _; omega
      · intro _
        by_cases x : n = o d
        · exact Or.inl (by rw [x])
        · exact Or.inr (by omega)
    · rw [if_neg y]
      constructor
      · rintro (t | t)
        · exact absurd (ep_Y_inj fY ld lo t).1 y
        · exact t
      · exact Or.inr
  · rw [hit e he, decide_eq_false (fun t => ?_)]
    · rfl
    · rcases t with t | t
      · have a1 := (fY.1 c (o c) lo).2.1
        rw [← t, z.1] at a1
        exact ep_m1nI hc a1
      · exact t (z.2.2.2 _ he0).1
  · refine decide_eq_false ?_
    have := D.1 d (ep_cs_t.mp z).1
    omega
  · have fin := zz_flush (k := k + 5) (so := so) (it := it') (cn := cn') hsz I1 (ep_IM_h J1 r1) A2 hb4 (by omega) r1 r2 (fun d hd => ?_) r4 r5 (by rw [fb 0 (by omega), fb 1 (by omega), fb 2 (by omega), fb 3 (by omega)]; exact hky) r6 q2 (ep_du_eq hL r2 r7 hdu (fun d n l ld hl t => ?_)) fc Y2 y1 y2 (fun d n hd n1 n2 => ⟨(emi d n).mpr (r3 d n hd n1 n2).1, (r3 d n hd n1 n2).2⟩) (fun d hd x1 x2 => st d hd x1 ((emi d _).mp x2)) dc2 st2 (fun d n j ld hj => ep_fm_f (fun l _ => decide_eq_false (fun t => ?_)) hj)
    · exact ⟨congrArg nI fin.1, fin.2⟩
    · by_cases z : o d < ct2 d
      · have es : ep_co o (ep_cs o (ep_T ct2)) d = o d + 1 := if_pos (ep_cs_t.mpr ⟨hd, decide_eq_true z⟩)
        have := lv d (o d) (ep_lv_up (ep_lv_open fI hd)) z
        omega
      · have es : ep_co o (ep_cs o (ep_T ct2)) d = o d := ep_co_f (Bool.eq_false_iff.mpr (fun t => z (of_decide_eq_true (ep_cs_t.mp t).2)))
        have := fE d hd
        have := r1 d hd
        omega
    · constructor
      · intro y
        exact lv d n ld (of_decide_eq_true y)
      · intro y
        rcases (r3 d n ld.1 ld.2.1 y).1 with g | g
        · exact decide_eq_true g
        · rw [g l (by omega)] at t; exact absurd t (by decide)
    · have := lv d n (ep_lv_h r1 ld) t
      have := ld.2.1
      omega
end
section
/-! pump -/
def ep_tp (cf op bf : Nat → Int32) (e : Nat) : Prop := ¬ cf e < 0 ∧ op e = 0 ∧ ∀ f, f < 40 → ¬ bf (f * 40 + e) = 0 → op f = 0
def ep_TP (o : Nat → Nat) (V : Nat → Nat → Nat → Nat) : Nat → Nat → Bool := fun c n => decide (n < o c ∧ V c n 0 ≤ o 0 ∧ V c n 1 ≤ o 1 ∧ V c n 2 ≤ o 2 ∧ V c n 3 ≤ o 3)
theorem ep_TP_t {o : Nat → Nat} {V : Nat → Nat → Nat → Nat} {c n : Nat} : ep_TP o V c n = true ↔ n < o c ∧ ∀ d, d < 4 → V c n d ≤ o d := by
  unfold ep_TP
  rw [decide_eq_true_iff]
  constructor
  · rintro ⟨a, b0, b1, b2, b3⟩
    refine ⟨a, fun d hd => ?_⟩
    have q : d = 0 ∨ d = 1 ∨ d = 2 ∨ d = 3 := by omega
    rcases q with q | q | q | q <;> subst q <;> assumption
  · rintro ⟨a, b⟩
    exact ⟨a, b 0 (by omega), b 1 (by omega), b 2 (by omega), b 3 (by omega)⟩
section
variable {L B E Q qh qc : Nat} {ch md ql qv : Nat → Int32} {h o b : Nat → Nat} {M vs : Nat → Int32} {w ct : Nat → Nat} {N : Nat}
theorem ep_pump_x {post : Int32 → SX → Prop} (hb : ep_XB N h o w ct) (K : ∀ ct' : Nat → Nat, (∀ d, d < 4 → ct' d = o d) → ep_XB N h o w ct' → wpX_release (fun r u => post r u) (4, 64, (nI L), (nI B), (nI E), (nI Q), (nI qh), (nI qc), ch, md, ql, qv, (fun x_ => lN (h x_)), (fun x_ => lN (o x_)), (fun x_ => nI (b x_)), M, vs, (fun x_ => lN (w x_)), (fun x_ => lN (ct' x_)))) : wpX_pump post (4, 64, (nI L), (nI B), (nI E), (nI Q), (nI qh), (nI qc), ch, md, ql, qv, (fun x_ => lN (h x_)), (fun x_ => lN (o x_)), (fun x_ => nI (b x_)), M, vs, (fun x_ => lN (w x_)), (fun x_ => lN (ct x_))) := by
  unfold wpX_pump
  dsimp only
  refine loop_0 (fun n i (ct' : Nat → Nat) => wX_pump_2 post 4 64 (nI L) (nI B) (nI E) (nI Q) (nI qh) (nI qc) n (nI i) ch md ql qv (fun x_ => lN (h x_)) (fun x_ => lN (o x_)) (fun x_ => nI (b x_)) M vs (fun x_ => lN (w x_)) (fun x_ => lN (ct' x_))) (fun i ct' => (∀ d, d < i → ct' d = o d) ∧ ep_XB N h o w ct') 4 ct ⟨fun d hd => by omega, hb⟩ ?_ ?_
  · intro n ct' H
    exact br_t (nI_le (Nat.le_refl 4) (by decide)) (K ct' H.1 H.2)
  · intro n i ct' hi H next
    refine br_f (nI_ge (b := 4) hi (by decide)) ⟨vp_in_nI hi (by decide), vp_in_nI hi (by decide), nm_r (e' := fun x => lN (ep_up ct' i (o i) x)) ?_ (nm_r (nI_1 i) (next (ep_up ct' i (o i)) ⟨fun d hd => ?_, H.2.1, H.2.2.1, H.2.2.2.1, H.2.2.2.2.1, fun d => ?_⟩))⟩
    · rw [nI_clamp (by omega)]
      exact ep_uL ct' i _
    · by_cases z : d = i
      · rw [z, ep_us]
      · rw [ep_un z]; exact H.1 d (by omega)
    · by_cases z : d = i
      · rw [z, ep_us]
        have := hb.2.2.1 i
        omega
      · rw [ep_un z]; exact H.2.2.2.2.2 d
end
section
variable {L B E Q q : Nat} {cy du cf op rd wr ve bf so it cn : Nat → Int32} {sg : Nat → Nat → Nat} {h o ct : Nat → Nat} {V : Nat → Nat → Nat → Nat} {mk mk' : Nat → Nat → Nat → Bool} {pw pw' : Nat → Nat → Nat → Int32}
theorem ep_pump_y {post : Int32 → SY → Prop} (K : ∀ it' : Nat → Int32, (∀ e, e < 40 → ∃ b : Bool, it' e = ep_b b ∧ (b = true ↔ ep_tp cf op bf e)) → wpY_chooseT (fun u => wpY_flush post u) ((nI L), (nI B), (nI E), (nI Q), (nI q), cy, du, cf, op, rd, wr, ve, bf, so, it', cn)) : wpY_pump post ((nI L), (nI B), (nI E), (nI Q), (nI q), cy, du, cf, op, rd, wr, ve, bf, so, it, cn) := by
  unfold wpY_pump
  dsimp only
  refine loop_0 (fun n i (it' : Nat → Int32) => wY_pump_2 post (nI L) (nI B) (nI E) (nI Q) (nI q) n (nI i) cy du cf op rd wr ve bf so it' cn) (fun i it' => ∀ e, e < i → ∃ b : Bool, it' e = ep_b b ∧ (b = true ↔ ep_tp cf op bf e)) 40 it (fun e he => by omega) ?_ ?_
  · intro n it' H
    exact br_t (nI_le (Nat.le_refl 40) (by decide)) (K it' H)
  · intro n i it' hi H next
    have inner : ∀ b0 : Bool, (b0 = true ↔ (¬ cf i < 0 ∧ op i = 0)) → ∃ m, wY_pump_39 post (wY_pump_2 post (nI L) (nI B) (nI E) (nI Q) (nI q) n) (nI i) (nI L) (nI B) (nI E) (nI Q) (nI q) m 0 cy du cf op rd wr ve bf so (upd it' i (ep_b b0)) cn := by
      intro b0 hb0
      refine loop_0 (fun m j (it2 : Nat → Int32) => wY_pump_39 post (wY_pump_2 post (nI L) (nI B) (nI E) (nI Q) (nI q) n) (nI i) (nI L) (nI B) (nI E) (nI Q) (nI q) m (nI j) cy du cf op rd wr ve bf so it2 cn) (fun j it2 => (∀ e, e < i → it2 e = it' e) ∧ ∃ b : Bool, it2 i = ep_b b ∧ (b = true ↔ (b0 = true ∧ ∀ f, f < j → ¬ bf (f * 40 + i) = 0 → op f = 0))) 40 (upd it' i (ep_b b0)) ?_ ?_ ?_
      · refine ⟨fun e he => pk_un (by omega), b0, pk_us, ?_⟩
        exact ⟨fun t => ⟨t, fun f hf => by omega⟩, fun t => t.1⟩
      · rintro m it2 ⟨G1, b, G2, G3⟩
        refine br_t (nI_le (Nat.le_refl 40) (by decide)) (nm_r (nI_1 i) (next it2 (fun e he => ?_)))
        by_cases z : e = i
        · refine ⟨b, by rw [z]; exact G2, ?_⟩
          rw [G3, z, hb0]
          exact ⟨fun t => ⟨t.1.1, t.1.2, t.2⟩, fun t => ⟨⟨t.1, t.2.1⟩, t.2.2⟩⟩
        · rw [G1 e (by omega)]
          exact H e (by omega)
      · rintro m j it2 hj ⟨G1, b, G2, G3⟩ nx
        have keep : (¬ bf (j * 40 + i) = 0 → op j = 0) → wY_pump_39 post (wY_pump_2 post (nI L) (nI B) (nI E) (nI Q) (nI q) n) (nI i) (nI L) (nI B) (nI E) (nI Q) (nI q) m (nI (j + 1)) cy du cf op rd wr ve bf so it2 cn := by
          intro z
          refine nx it2 ⟨G1, b, G2, ?_⟩
          rw [G3]
          constructor
          · rintro ⟨t1, t2⟩
            refine ⟨t1, fun f hf y => ?_⟩
            by_cases x : f = j
            · rw [x] at y ⊢; exact z y
            · exact t2 f (by omega) y
          · rintro ⟨t1, t2⟩
            exact ⟨t1, fun f hf y => t2 f (by omega) y⟩
        refine br_f (nI_ge (b := 40) hj (by decide)) ⟨ep_in40 (by omega), ?_⟩
        rw [ep_cl40 (by omega)]
        refine br_c (fun z => nm_r (nI_1 j) (keep (fun t => absurd z t))) (fun z => ⟨vp_in_nI hj (by decide), ?_⟩)
        rw [nI_clamp (show j < 2 ^ 31 by omega)]
        refine br_c (fun y => nm_r (nI_1 j) (keep (fun _ => y))) (fun y => ⟨vp_in_nI hi (by decide), nm_r (e' := upd it2 i (ep_b false)) (by rw [nI_clamp (by omega)]; rfl) (nm_r (nI_1 j) (nx (upd it2 i (ep_b false)) ⟨fun e he => ?_, false, pk_us, ?_⟩))⟩)
        · rw [pk_un (by omega)]; exact G1 e he
        · exact ⟨fun t => absurd t (by decide), fun t => absurd (t.2 j (by omega) z) y⟩
    refine br_f (nI_ge (b := 40) hi (by decide)) ⟨vp_in_nI hi (by decide), ?_⟩
    rw [nI_clamp (show i < 2 ^ 31 by omega)]
    refine br_c (fun z => ⟨vp_in_nI hi (by decide), nm_r (e' := upd it' i (ep_b false)) rfl (inner false ⟨fun t => absurd t (by decide), fun t => absurd z t.1⟩)⟩) (fun z => ⟨vp_in_nI hi (by decide), br_c (fun y => ⟨vp_in_nI hi (by decide), nm_r (e' := upd it' i (ep_b true)) rfl (inner true ⟨fun _ => ⟨z, y⟩, fun _ => rfl⟩)⟩) (fun y => ⟨vp_in_nI hi (by decide), nm_r (e' := upd it' i (ep_b false)) rfl (inner false ⟨fun t => absurd t (by decide), fun t => absurd t.2 y⟩)⟩)⟩)
theorem ep_tp_iff (Y : ep_Y sg h o V mk pw cf op rd wr ve bf) (I : ep_IV h o V) {c n : Nat} (l : ep_lv h o c n) : ep_tp cf op bf (sg c n) ↔ n < o c ∧ ∀ d, d < 4 → V c n d ≤ o d := by
  obtain ⟨a1, a2, a3, a4⟩ := Y.1 c n l
  have hc := l.1
  have ho := l.2.2
  unfold ep_tp
  rw [a2, a3, ep_b0]
  constructor
  · rintro ⟨_, t2, t3⟩
    have := of_decide_eq_false t2
    refine ⟨by omega, fun d hd => Nat.not_lt.mp (fun y => ?_)⟩
    have ld := ep_lv_open I hd
    have x := t3 _ (Y.1 d (o d) ld).1 (by rw [Y.2.2.1 c n d (o d) l ld, ep_bne]; exact decide_eq_true y)
    rw [(Y.1 d (o d) ld).2.2.1, ep_b0] at x
    exact of_decide_eq_false x rfl
  · rintro ⟨t1, t2⟩
    refine ⟨nI_pos (by omega), decide_eq_false (by omega), fun f hf y => ?_⟩
    rcases Y.2.2.2 f hf with ⟨d, m, ld, z⟩ | z
    · rw [z, Y.2.2.1 c n d m l ld, ep_bne, decide_eq_true_iff] at y
      rw [z, (Y.1 d m ld).2.2.1, ep_b0]
      have := t2 d ld.1
      exact decide_eq_false (by omega)
    · exact absurd (z.2.2.2 _ a1).1 y
end
theorem i_vc_pump {k : Nat} {u : SX} {v : SY} (I : i_Rel k u v) (hk : k + 5 ≤ 2564) : wpX_pump (fun r u' => wpY_pump (fun r' v' => r' = r ∧ i_Rel (k + 5) u' v') v) u := by
  refine I (fun u v => wpX_pump (fun r u' => wpY_pump (fun r' v' => r' = r ∧ i_Rel (k + 5) u' v') v) u) ?_
  intro L B E Q qh qc ch md ql qv h o b M vs w ct cy du cf op rd wr ve bf so it cn V mk pw sg F
  obtain ⟨hsz, fI, fJ, fA, fN, fE, fb, fq, fc, fY⟩ := id F
  obtain ⟨hL2, hL, hB, hE2, hE, hQ1, hQ⟩ := id hsz
  have hb : ep_XB k h o w ct := ⟨by omega, fN⟩
  have lb7 : ∀ c, c < 4 → o c ≤ h c + 7 := fun d hd => by have := fE d hd; omega
  have lb : ep_LB h o := fun d hd => by have := fE d hd; omega
  have cs0 : ep_cs o (ep_TP o V) = fun _ => false := by
    funext c
    refine Bool.eq_false_iff.mpr (fun t => ?_)
    have := (ep_TP_t.mp (ep_cs_t.mp t).2).1
    omega
  refine ep_pump_x hb (fun ct2 ec hb2 => ?_)
  refine ep_release_x hL hQ hQ1 fI fJ fA lb hb2 fb fq (fun kX h1 b1 M1 qh1 qc1 md1 ql1 qv1 dx A2 lb2 hb4 R q2 st => ?_)
  obtain ⟨r1, r2, r3, r4, r5, r6, r7, r8⟩ := R
  have remT : ∀ d n, d < 4 → h d ≤ n → n < h1 d → ep_TP o V d n = true := by
    intro d n hd n1 n2
    refine ep_TP_t.mpr ⟨Nat.lt_of_lt_of_le n2 (r2 d hd), fun e he => Nat.le_trans ((r3 d n hd n1 n2).2 e he) (r2 e he)⟩
  have lv : ∀ c n, ep_lv h o c n → ep_TP o V c n = true → n < h1 c := by
    intro c n l z
    refine ep_leave (T := fun c n => ep_TP o V c n = true) fI r1 r2 st (fun d m ld y => ?_) l z
    obtain ⟨y1, y2⟩ := ep_TP_t.mp y
    refine ⟨y1, Or.inl (by rw [ec d ld.1]; exact y1), fun e x le t => ep_TP_t.mpr ⟨Nat.lt_of_lt_of_le t (y2 e le.1), fun f hf => ?_⟩⟩
    exact Nat.le_trans (fI.2.2.2 d m e x ld le t f hf) (y2 f hf)
  refine ep_pump_y (fun it' hit => ?_)
  refine ep_cf_y (ep_TP o V) hQ fq.2.1 fI lb7 fY (fun d n ld => ?_) (fun e he z => ?_) (fun d z => ?_) (fun kY sg' h2 dy cf' op' rd' wr' ve' bf' cn' hdu hky Y2 y1 y2 dc2 st2 => ?_)
  · obtain ⟨b2, e1, e2⟩ := hit _ (fY.1 d n ld).1
    rw [e1]
    congr 1
    have e3 := e2.trans ((ep_tp_iff fY fI ld).trans ep_TP_t.symm)
    cases z : ep_TP o V d n
    · exact Bool.eq_false_iff.mpr (fun t => by rw [e3.mp t] at z; exact absurd z (by decide))
    · exact e3.mpr z
  · obtain ⟨b2, e1, e2⟩ := hit e he
    rw [e1]
    cases b2
    · rfl
    · have := (e2.mp rfl).1
      rw [z.1] at this
      exact absurd (by decide) this
  · rw [cs0] at z
    exact absurd z Bool.false_ne_true
  · rw [cs0, ep_co_0, ep_cV_0, ep_cm_0] at hdu st2
    rw [cs0, ep_cV_0, ep_cm_0] at dc2
    rw [cs0, ep_co_0, ep_cm_0] at hky
    rw [cs0, ep_co_0, ep_cV_0, ep_cm_0] at Y2
    rw [cs0, ep_co_0] at y2
    have fin := zz_flush (k := k + 5) (so := so) (it := it') (cn := cn') hsz fI (ep_IM_h fJ r1) A2 hb4 (by omega) r1 r2 (fun d hd => by have := fE d hd; have := r1 d hd; omega) r4 r5 (by rw [fb 0 (by omega), fb 1 (by omega), fb 2 (by omega), fb 3 (by omega)]; exact hky) r6 q2 (ep_du_eq hL r2 r7 hdu (fun d n l ld hl t => ⟨lv d n ld, remT d n ld.1 ld.2.1⟩)) fc Y2 y1 y2 (fun d n hd n1 n2 => ⟨ep_em_fm.mpr (fun l hl _ => remT d n hd n1 n2), (r3 d n hd n1 n2).2⟩) (fun d hd x1 x2 => st d hd x1 (Or.inl (by rw [ec d hd]; exact x1))) dc2 st2 (fun d n j ld hj => ep_fm_f (fun l _ => Bool.eq_false_iff.mpr (fun t => ?_)) hj)
    · exact ⟨congrArg nI fin.1, fin.2⟩
    · have := lv d n (ep_lv_h r1 ld) t
      have := ld.2.1
      omega
end
section
/-! latestHolder, evict and drain of the component -/
def ep_C1 (c0 n0 l0 : Nat) : Nat → Nat → Nat → Bool := fun c n l => decide (c = c0 ∧ n = n0 ∧ l = l0)
theorem ep_C1_s {c0 n0 l0 : Nat} : ep_C1 c0 n0 l0 c0 n0 l0 = true := decide_eq_true ⟨rfl, rfl, rfl⟩
theorem ep_C1_n {c0 n0 l0 c n l : Nat} (z : ¬ (c = c0 ∧ n = n0)) : ep_C1 c0 n0 l0 c n l = false := decide_eq_false (fun t => z ⟨t.1, t.2.1⟩)
theorem ep_C1_l {c0 n0 l0 c n l : Nat} (z : l ≠ l0) : ep_C1 c0 n0 l0 c n l = false := decide_eq_false (fun t => z t.2.2)
theorem ep_C1_t {c0 n0 l0 c n l : Nat} : ep_C1 c0 n0 l0 c n l = true ↔ c = c0 ∧ n = n0 ∧ l = l0 := decide_eq_true_iff
theorem ep_fm_bit {mk : Nat → Nat → Nat → Bool} {c0 n0 l0 j : Nat} : ep_fm mk (ep_C1 c0 n0 l0) c0 n0 j = (mk c0 n0 j && !decide (j = 16 + l0)) := by
  by_cases q : j < 16
  · rw [ep_fm_lo q, decide_eq_false (by omega), Bool.not_false, Bool.and_true]
  · have e := ep_fm_hi (mk := mk) (Ch := ep_C1 c0 n0 l0) (c := c0) (n := n0) (l := j - 16)
    rw [show 16 + (j - 16) = j from by omega] at e
    rw [e]
    congr 2
    unfold ep_C1
    exact decide_eq_decide.mpr ⟨fun t => by omega, fun t => ⟨rfl, rfl, by omega⟩⟩
theorem ep_fm_oth {mk : Nat → Nat → Nat → Bool} {c0 n0 l0 c n j : Nat} (z : ¬ (c = c0 ∧ n = n0)) : ep_fm mk (ep_C1 c0 n0 l0) c n j = mk c n j := by
  unfold ep_fm
  rw [ep_C1_n z, Bool.and_false, Bool.not_false, Bool.and_true]
theorem ep_IM_fm {L : Nat} {h o : Nat → Nat} {V : Nat → Nat → Nat → Nat} {mk : Nat → Nat → Nat → Bool} {Ch : Nat → Nat → Nat → Bool} (J : ep_IM L h o V mk) : ep_IM L h o V (ep_fm mk Ch) :=
  ep_IM_le J (fun c n j _ _ _ t => by
    unfold ep_fm at t
    rw [Bool.and_eq_true] at t
    exact t.1) (fun c n l _ hl t => by rw [ep_fm_lo (by omega)]; exact t)
section
variable {L B E Q qh qc : Nat} {ch md ql qv : Nat → Int32} {h o b : Nat → Nat} {M vs : Nat → Int32} {w ct : Nat → Nat} {V : Nat → Nat → Nat → Nat} {mk : Nat → Nat → Nat → Bool} {pw : Nat → Nat → Nat → Int32} {N : Nat} {du : Nat → Int32}
theorem ep_slot_any {post : Int32 → Prop} {u : SX} {p0 : Int32} {p1 : Int64} (K : ∀ s, post s) : wpX_slot post u p0 p1 := by
  obtain ⟨a1, a2, a3, a4, a5, a6, a7, a8, a9, a10, a11, a12, a13, a14, a15, a16, a17, a18, a19⟩ := u
  exact K _
def ep_LH (h o : Nat → Nat) (V : Nat → Nat → Nat → Nat) (mk : Nat → Nat → Nat → Bool) (l i : Nat) (x2 : Int32) (x3 : Int64) : Prop :=
  (x2 = -1 ∧ ∀ d m, ep_lv h o d m → d < i → mk d m (16 + l) = false) ∨ ∃ c n, x2 = nI (ep_sl c n) ∧ x3 = lN n ∧ ep_lv h o c n ∧ c < i ∧ mk c n (16 + l) = true ∧ ∀ d m, ep_lv h o d m → d < i → mk d m (16 + l) = true → (d = c ∧ m = n) ∨ m < V c n d
theorem ep_latest_x {post : Int32 → Prop} (l : Nat) (hl : l < 8) (I : ep_IV h o V) (J : ep_IM L h o V mk) (A : ep_XA h o V mk pw w M vs) (hb : ep_XB N h o w ct) (K1 : (∀ d m, ep_lv h o d m → mk d m (16 + l) = false) → post (-1)) (K2 : ∀ c n, ep_lv h o c n → mk c n (16 + l) = true → (∀ d m, ep_lv h o d m → mk d m (16 + l) = true → (d = c ∧ m = n) ∨ m < V c n d) → post (nI (ep_sl c n))) : wpX_latestHolder post (4, 64, (nI L), (nI B), (nI E), (nI Q), (nI qh), (nI qc), ch, md, ql, qv, (fun x_ => lN (h x_)), (fun x_ => lN (o x_)), (fun x_ => nI (b x_)), M, vs, (fun x_ => lN (w x_)), (fun x_ => lN (ct x_))) (nI l) := by
  have hN := hb.1
  unfold wpX_latestHolder
  dsimp only
  refine loop_0 (fun f i (s : Int32 × Int64) => wX_latestHolder_7 post (nI l) 4 64 (nI L) (nI B) (nI E) (nI Q) (nI qh) (nI qc) ch md ql qv (fun x_ => lN (h x_)) (fun x_ => lN (o x_)) (fun x_ => nI (b x_)) M vs (fun x_ => lN (w x_)) (fun x_ => lN (ct x_)) f s.1 s.2 (nI i)) (fun i s => ep_LH h o V mk l i s.1 s.2) 4 (-1, 0) ?_ ?_ ?_
  · exact Or.inl ⟨rfl, fun d m _ z => by omega⟩
  · rintro f ⟨x2, x3⟩ H
    refine br_t (nI_le (Nat.le_refl 4) (by decide)) ?_
    rcases H with ⟨e, H⟩ | ⟨c, n, e1, e2, lc, _, hm, H⟩
    · rw [show x2 = -1 from e]
      exact K1 (fun d m ld => H d m ld ld.1)
    · rw [show x2 = nI (ep_sl c n) from e1]
      exact K2 c n lc hm (fun d m ld => H d m ld ld.1)
  · rintro f i ⟨x2, x3⟩ hi H next
    refine br_f (nI_ge (b := 4) hi (by decide)) (ep_newest_x i _ (fun n => mk i n (16 + l) = true) hi (I.1 i hi) hb (fun n n1 n2 => ?_) (fun r hr => ?_))
    · rw [ep_t65536 hl, (A i n ⟨hi, n1, n2⟩).2.1 (16 + l) (by omega)]
      cases mk i n (16 + l) <;> simp
    · rcases hr with ⟨rfl, hr⟩ | ⟨n, rfl, n1, n2, n3, n4⟩
      · refine ep_slot_any (fun s => br_t (by decide) (nm_r (nI_1 i) (next (x2, x3) ?_)))
        have none : ∀ m, ep_lv h o i m → mk i m (16 + l) = false := fun m lm => Bool.eq_false_iff.mpr (hr m lm.2.1 (Nat.lt_succ_of_le lm.2.2))
        rcases H with ⟨e, H⟩ | ⟨c, m, e1, e2, lc, hc, hm, H⟩
        · refine Or.inl ⟨e, fun d m ld z => ?_⟩
          by_cases y : d = i
          · subst y; exact none m ld
          · exact H d m ld (by omega)
        · refine Or.inr ⟨c, m, e1, e2, lc, by omega, hm, fun d x ld z t => ?_⟩
          by_cases y : d = i
          · subst y
            rw [none x ld] at t
            exact absurd t (by decide)
          · exact H d x ld (by omega) t
      · have hoN := hb.2.2.1 i
        have ln : ep_lv h o i n := ⟨hi, n1, by omega⟩
        have hsl : ep_sl i n < 64 := ep_sl_lt hi
        have own : ∀ m, ep_lv h o i m → mk i m (16 + l) = true → m ≤ n := fun m lm t => Nat.not_lt.mp (fun y => n4 m y (Nat.lt_succ_of_le lm.2.2) t)
        have eV := I.2.1 i n ln
        refine ep_slot_x i n hi (by omega) (br_f (by rw [ep_l0, lN_lt (by omega) (by omega)]; omega) ?_)
        rcases H with ⟨e, H⟩ | ⟨c, m, e1, e2, lc, hc, hm, H⟩
        · have e' : x2 = -1 := e
          subst e'
          refine br_t ep_m1neg (nm_r (nI_1 i) (next (nI (ep_sl i n), lN n) (Or.inr ⟨i, n, rfl, rfl, ln, by omega, n3, fun d x ld z t => ?_⟩)))
          by_cases y : d = i
          · subst y
            have := own x ld t
            by_cases x1 : x = n
            · exact Or.inl ⟨rfl, x1⟩
            · exact Or.inr (by omega)
          · rw [H d x ld (by omega)] at t
            exact absurd t (by decide)
        · have e1' : x2 = nI (ep_sl c m) := e1
          have e2' : x3 = lN m := e2
          subst e1' e2'
          have hsc : ep_sl c m < 64 := ep_sl_lt lc.1
          have hc4 := lc.1
          have hmN := hb.2.2.1 c
          have hm2 := lc.2.2
          have hwN := hb.2.2.2.1 (ep_sl i n * 4 + c)
          refine br_f (nI_pos (by omega)) ?_
          rw [ep_shr hsc, ep_sl_dv]
          refine ⟨ep_in4 (by omega), ?_⟩
          dsimp only
          rw [ep_cl4 (by omega), lN_le (by omega) (by omega), (A i n ln).1 c hc4]
          have ncm : ¬ (i = c ∧ n = m) := fun t => by omega
          refine br_c (fun y => nm_r (nI_1 i) (next (nI (ep_sl c m), lN m) (Or.inr ⟨c, m, rfl, rfl, lc, by omega, hm, fun d x ld z t => ?_⟩))) (fun y => nm_r (nI_1 i) (next (nI (ep_sl i n), lN n) (Or.inr ⟨i, n, rfl, rfl, ln, by omega, n3, fun d x ld z t => ?_⟩)))
          · by_cases v : d = i
            · subst v
              rcases J.1 d n c m l ln lc hl n3 hm with t2 | t2 | t2
              · exact absurd t2 ncm
              · omega
              · have := own x ld t
                exact Or.inr (by omega)
            · exact H d x ld (by omega) t
          · by_cases v : d = i
            · subst v
              have := own x ld t
              by_cases x1 : x = n
              · exact Or.inl ⟨rfl, x1⟩
              · exact Or.inr (by omega)
            · rcases H d x ld (by omega) t with t2 | t2
              · obtain ⟨rfl, rfl⟩ := t2
                exact Or.inr (by omega)
              · have := I.2.2.2 i n c m ln lc (by omega) d ld.1
                exact Or.inr (by omega)
/-- drainVersion, then settle -/
theorem ep_dvs_x {post : SX → Prop} (c0 n0 l : Nat) (hl : l < L) (hL : L ≤ 8) (hQ : Q ≤ 8) (hQ1 : 1 ≤ Q) (I : ep_IV h o V) (J : ep_IM L h o V mk) (A : ep_XA h o V mk pw w M vs) (lb : ep_LB h o) (hb : ep_XB N h o w ct) (hbc : ∀ c, c < 4 → b c = ep_cnt h o mk c) (q : ep_Q L Q qh qc md ql qv du) (l0 : ep_lv h o c0 n0) (hm : mk c0 n0 (16 + l) = true)
  (K : ∀ (h' b' : Nat → Nat) (M' : Nat → Int32) (qh' : Nat) (md' ql' qv' : Nat → Int32) (ct' : Nat → Nat), ep_XA h' o V (ep_fm mk (ep_C1 c0 n0 l)) pw w M' vs → ep_XB N h' o w ct' → (∀ c, c < 4 → h c ≤ h' c) → (∀ c, c < 4 → h' c ≤ o c) → (∀ c, c < 4 → b' c = ep_cnt h' o (ep_fm mk (ep_C1 c0 n0 l)) c) → b' 0 + b' 1 + b' 2 + b' 3 + 1 = b 0 + b 1 + b 2 + b 3 → ep_DC h h' V (ep_em (ep_fm mk (ep_C1 c0 n0 l))) → ep_ST h' o V (ep_em (ep_fm mk (ep_C1 c0 n0 l))) → ep_Q L Q qh' (min (qc + 1) Q) md' ql' qv' (upd du l (pw c0 n0 l)) → post (4, 64, (nI L), (nI B), (nI E), (nI Q), (nI qh'), (nI (min (qc + 1) Q)), ch, md', ql', qv', (fun x_ => lN (h' x_)), (fun x_ => lN (o x_)), (fun x_ => nI (b' x_)), M', vs, (fun x_ => lN (w x_)), (fun x_ => lN (ct' x_)))) : wpX_drainVersion (fun u => wpX_settle (fun u => post u) u) (4, 64, (nI L), (nI B), (nI E), (nI Q), (nI qh), (nI qc), ch, md, ql, qv, (fun x_ => lN (h x_)), (fun x_ => lN (o x_)), (fun x_ => nI (b x_)), M, vs, (fun x_ => lN (w x_)), (fun x_ => lN (ct x_))) (nI (ep_sl c0 n0)) (nI l) := by
  have hc := l0.1
  have hs : ep_sl c0 n0 < 64 := ep_sl_lt hc
  have fms : ep_fm mk (ep_C1 c0 n0 l) c0 n0 (16 + l) = false := by
    rw [ep_fm_bit, decide_eq_true rfl]
    exact Bool.and_false _
  have cset := ep_cnt_set (h := h) (o := o) (mk := mk) (mk' := ep_fm mk (ep_C1 c0 n0 l)) (c := c0) (n := n0) (l := l) l0.2.1 l0.2.2 (by omega) (fun m x hx z => by
    by_cases y : m = n0
    · subst y
      rw [ep_fm_bit, decide_eq_false (fun t => z ⟨rfl, by omega⟩), Bool.not_false, Bool.and_true]
    · exact ep_fm_oth (fun t => y t.2))
  rw [hm, fms, ← hbc c0 hc] at cset
  have e3 : (true : Bool).toNat = 1 := rfl
  have e4 : (false : Bool).toNat = 0 := rfl
  have hb1 : 1 ≤ b c0 := by omega
  refine ep_drainV_x c0 (ep_sl c0 n0) l hs ep_sl_dv hl hL hQ hQ1 hb1 q (fun qh' md' ql' qv' M' k1 k2 q' => ?_)
  rw [(A c0 n0 l0).2.2 l (by omega) hm] at q'
  have A' : ep_XA h o V (ep_fm mk (ep_C1 c0 n0 l)) pw w M' vs := by
    refine ep_XA_mk A l0 lb k1 (fun j hj => ?_) (fun _ _ => rfl) (fun x hx t => ?_) (fun d m j z => ⟨ep_fm_oth z, rfl⟩)
    · rw [k2 j hj, (A c0 n0 l0).2.1 j hj, ep_fm_bit]
    · rw [ep_fm_bit, Bool.and_eq_true] at t
      exact (A c0 n0 l0).2.2 x hx t.1
  have bc' : ∀ d, d < 4 → ep_up b c0 (b c0 - 1) d = ep_cnt h o (ep_fm mk (ep_C1 c0 n0 l)) d := by
    intro d hd
    by_cases z : d = c0
    · rw [z, ep_us]; omega
    · rw [ep_un z, hbc d hd]
      exact (ep_cnt_m (fun n x _ _ _ => ep_fm_oth (fun t => z t.1))).symm
  refine ep_settle_x hL hQ hQ1 I (ep_IM_fm J) A' lb hb bc' q' (fun h' b' M2 qh2 md2 ql2 qv2 ct2 A2 lb2 hb2 r1 r2 bc2 dc st q2 => K h' b' M2 qh2 md2 ql2 qv2 ct2 A2 hb2 r1 r2 bc2 ?_ dc st q2)
  have s4 := ep_sum4 hc hb1
  have eb : ∀ d, d < 4 → b' d = ep_up b c0 (b c0 - 1) d := by
    intro d hd
    rw [bc2 d hd, bc' d hd]
    exact (ep_cnt_h (r1 d hd) (r2 d hd) (fun n n1 n2 => (dc d n hd n1 n2).1)).symm
  rw [eb 0 (by omega), eb 1 (by omega), eb 2 (by omega), eb 3 (by omega)]
  omega
theorem ep_evict59_x {post : Int32 → SX → Prop} (c0 n0 l : Nat) (hl : l < L) (hL : L ≤ 8) (hQ : Q ≤ 8) (hQ1 : 1 ≤ Q) (I : ep_IV h o V) (J : ep_IM L h o V mk) (A : ep_XA h o V mk pw w M vs) (lb : ep_LB h o) (hb : ep_XB N h o w ct) (hbc : ∀ c, c < 4 → b c = ep_cnt h o mk c) (q : ep_Q L Q qh qc md ql qv du) (l0 : ep_lv h o c0 n0) (hm : mk c0 n0 (16 + l) = true) (D1 : ∀ c, c < 4 → ct c ≤ o c) (D2 : ∀ d m, ep_lv h o d m → m < ct d → ∀ k, k < 4 → V d m k ≤ ct k) (e0 : ct c0 = n0)
  (K : ∀ (kX : Nat) (h1 h' b' : Nat → Nat) (M' : Nat → Int32) (qh' : Nat) (md' ql' qv' dx : Nat → Int32) (ct' : Nat → Nat), (∀ c, c < 4 → h c ≤ h1 c) → (∀ c, c < 4 → h1 c ≤ o c) → ep_DC h h1 V (ep_gd ct mk) → ep_DU L h h1 V mk pw du dx → (∀ c n, ep_lv h o c n → n < ct c → n < h1 c) → h1 c0 = n0 → ep_XA h' o V (ep_fm mk (ep_C1 c0 n0 l)) pw w M' vs → ep_XB N h' o w ct' → (∀ c, c < 4 → h1 c ≤ h' c) → (∀ c, c < 4 → h' c ≤ o c) → (∀ c, c < 4 → b' c = ep_cnt h' o (ep_fm mk (ep_C1 c0 n0 l)) c) → kX + 1 + (b' 0 + b' 1 + b' 2 + b' 3) = b 0 + b 1 + b 2 + b 3 → ep_DC h1 h' V (ep_em (ep_fm mk (ep_C1 c0 n0 l))) → ep_ST h' o V (ep_em (ep_fm mk (ep_C1 c0 n0 l))) → ep_Q L Q qh' (min (qc + (kX + 1)) Q) md' ql' qv' (upd dx l (pw c0 n0 l)) → post (nI (kX + 1)) (4, 64, (nI L), (nI B), (nI E), (nI Q), (nI qh'), (nI (min (qc + (kX + 1)) Q)), ch, md', ql', qv', (fun x_ => lN (h' x_)), (fun x_ => lN (o x_)), (fun x_ => nI (b' x_)), M', vs, (fun x_ => lN (w x_)), (fun x_ => lN (ct' x_)))) : wX_evict_59 post (nI l) (nI (ep_sl c0 n0)) 4 64 (nI L) (nI B) (nI E) (nI Q) (nI qh) (nI qc) ch md ql qv (fun x_ => lN (h x_)) (fun x_ => lN (o x_)) (fun x_ => nI (b x_)) M vs (fun x_ => lN (w x_)) (fun x_ => lN (ct x_)) := by
  unfold wX_evict_59
  refine ep_release_x hL hQ hQ1 I J A lb hb hbc q (fun kX h1 b1 M1 qh1 qc1 md1 ql1 qv1 dx A2 lb2 hb4 R q2 st => ?_)
  obtain ⟨r1, r2, r3, r4, r5, r6, r7, r8⟩ := R
  have lv : ∀ c n, ep_lv h o c n → n < ct c → n < h1 c := fun c n l z => ep_cut_leave I D1 D2 r1 r2 st l z
  have hc := l0.1
  have e1 : h1 c0 = n0 := by
    refine Nat.le_antisymm (Nat.not_lt.mp (fun t => ?_)) (Nat.not_lt.mp (fun t => ?_))
    · rcases (r3 c0 n0 hc l0.2.1 t).1 with g | g
      · omega
      · rw [g l (by omega)] at hm; exact absurd hm (by decide)
    · have := lv c0 (h1 c0) ⟨hc, r1 c0 hc, r2 c0 hc⟩ (by omega)
      omega
  have e2 : min (qc1 + 1) Q = min (qc + (kX + 1)) Q := by rw [r6]; omega
  refine ep_dvs_x (post := fun u => post (nI kX + 1) u) c0 n0 l hl hL hQ hQ1 (ep_IV_h I r1 r2) (ep_IM_h J r1) A2 lb2 hb4 r4 q2 ⟨hc, by omega, l0.2.2⟩ hm (fun h' b' M' qh' md' ql' qv' ct' A3 hb3 s1 s2 bc3 sb dc st3 q3 => ?_)
  rw [nI_1]
  rw [e2] at q3 ⊢
  exact K kX h1 h' b' M' qh' md' ql' qv' dx ct' r1 r2 r3 r7 lv e1 A3 hb3 s1 s2 bc3 (by omega) dc st3 q3
end
end
section
/-! evict of the reference -/
section
variable {L B E Q q : Nat} {cy du cf op rd wr ve bf so it cn : Nat → Int32} {sg : Nat → Nat → Nat} {h o ct : Nat → Nat} {V : Nat → Nat → Nat → Nat} {mk mk' : Nat → Nat → Nat → Bool} {pw pw' : Nat → Nat → Nat → Int32}
theorem ep_evict15_y {post : Int32 → SY → Prop} (l : Nat) (hl : l < 8) (K : ∀ cn' : Nat → Int32, (∀ e x, e < 40 → x < 8 → (¬ cn' (e * 8 + x) = 0 ↔ x = l)) → ∃ n, wY_evict_49 post (nI l) (nI L) (nI B) (nI E) (nI Q) (nI q) cy du cf op rd wr ve bf so it cn' n (-1) 0) : ∃ n, wY_evict_15 post (nI l) (-1) (nI L) (nI B) (nI E) (nI Q) (nI q) n 0 cy du cf op rd wr ve bf so it cn := by
  refine loop_0 (fun n i (cn' : Nat → Int32) => wY_evict_15 post (nI l) (-1) (nI L) (nI B) (nI E) (nI Q) (nI q) n (nI i) cy du cf op rd wr ve bf so it cn') (fun i cn' => ∀ x, x < i → (¬ cn' x = 0 ↔ x % 8 = l)) 320 cn (fun x hx => by omega) ?_ ?_
  · intro n cn' H
    refine br_t (nI_le (Nat.le_refl 320) (by decide)) (K cn' (fun e x he hx => ?_))
    rw [H _ (by omega)]
    constructor <;> intro t <;> omega
  · intro n i cn' hi H next
    have st : ∀ b : Bool, (b = true ↔ i % 8 = l) → wY_evict_15 post (nI l) (-1) (nI L) (nI B) (nI E) (nI Q) (nI q) n (nI (i + 1)) cy du cf op rd wr ve bf so it (upd cn' i (ep_b b)) := by
      intro b hb
      refine next (upd cn' i (ep_b b)) (fun x hx => ?_)
      by_cases q : x = i
      · rw [q, pk_us, ep_bne]; exact hb
      · rw [pk_un q]; exact H x (by omega)
    refine br_f (nI_ge (b := 320) hi (by decide)) ⟨by decide, ?_⟩
    rw [ep_mod8 hi]
    refine ek_if (nI_eq (by omega) (by omega)) (fun z => ⟨vp_in_nI hi (by decide), nm_r (e' := upd cn' i (ep_b true)) (by rw [nI_clamp (by omega)]; rfl) (nm_r (nI_1 i) (st true ⟨fun _ => z, fun _ => rfl⟩))⟩) (fun z => ⟨vp_in_nI hi (by decide), nm_r (e' := upd cn' i (ep_b false)) (by rw [nI_clamp (by omega)]; rfl) (nm_r (nI_1 i) (st false ⟨fun t => absurd t (by decide), fun t => absurd t z⟩))⟩)
theorem ep_evict49_y {post : Int32 → SY → Prop} (l : Nat) (hl : l < 8) (K1 : (∀ e, e < 40 → ¬ ep_IL cn ve bf e l) → post 0 ((nI L), (nI B), (nI E), (nI Q), (nI q), cy, du, cf, op, rd, wr, ve, bf, so, it, cn)) (K2 : ∀ e, e < 40 → ep_IL cn ve bf e l → ∃ n, wY_evict_80 post (nI l) (nI e) (nI L) (nI B) (nI E) (nI Q) (nI q) n 0 cy du cf op rd wr ve bf so it cn) : ∃ n, wY_evict_49 post (nI l) (nI L) (nI B) (nI E) (nI Q) (nI q) cy du cf op rd wr ve bf so it cn n (-1) 0 := by
  refine loop_0 (fun n i (r : Int32) => wY_evict_49 post (nI l) (nI L) (nI B) (nI E) (nI Q) (nI q) cy du cf op rd wr ve bf so it cn n r (nI i)) (fun i r => (r = -1 ∧ ∀ e, e < i → ¬ ep_IL cn ve bf e l) ∨ ∃ e, e < 40 ∧ r = nI e ∧ ep_IL cn ve bf e l) 40 (-1) (Or.inl ⟨rfl, fun e he => by omega⟩) ?_ ?_
  · intro n r H
    refine br_t (nI_le (Nat.le_refl 40) (by decide)) ?_
    rcases H with ⟨e, H⟩ | ⟨e, he, er, H⟩
    · rw [e]
      exact br_f ep_ngm1 (K1 H)
    · rw [er]
      exact br_t (nI_pos' (by omega)) (K2 e he H)
  · intro n i r hi H next
    refine br_f (nI_ge (b := 40) hi (by decide)) (ep_isLast_y i l hi hl (fun b hb => ?_))
    cases b
    · refine br_t rfl (nm_r (nI_1 i) (next r ?_))
      rcases H with ⟨e, H⟩ | H
      · refine Or.inl ⟨e, fun x hx t => ?_⟩
        by_cases y : x = i
        · rw [y] at t
          exact absurd (hb.mpr t) (by decide)
        · exact H x (by omega) t
      · exact Or.inr H
    · exact br_f (by decide) (nm_r (nI_1 i) (next (nI i) (Or.inr ⟨i, hi, rfl, hb.mp rfl⟩)))
def ep_ev (post : Int32 → SY → Prop) (l e0 : Nat) (u : SY) : Prop := match u with
  | (f_lineCount, f_bufferMost, f_epochMost, f_queueMost, f_queueLen, a_coherent, a_durableValue, a_coreOf, a_open, a_read, a_written, a_version, a_bef, a_source, a_inT, a_chosen) => vp_in (nI e0) 40 ∧ (((a_open (nI e0).toNatClampNeg) = 0 → (wY_evict_128 post (nI l) (nI e0) f_lineCount f_bufferMost f_epochMost f_queueMost f_queueLen a_coherent a_durableValue a_coreOf a_open a_read a_written a_version a_bef a_source a_inT a_chosen)) ∧ (¬ (a_open (nI e0).toNatClampNeg) = 0 → (wpY_close (fun _ u => match u with | (f_lineCount, f_bufferMost, f_epochMost, f_queueMost, f_queueLen, a_coherent, a_durableValue, a_coreOf, a_open, a_read, a_written, a_version, a_bef, a_source, a_inT, a_chosen) => wY_evict_128 post (nI l) (nI e0) f_lineCount f_bufferMost f_epochMost f_queueMost f_queueLen a_coherent a_durableValue a_coreOf a_open a_read a_written a_version a_bef a_source a_inT a_chosen) (f_lineCount, f_bufferMost, f_epochMost, f_queueMost, f_queueLen, a_coherent, a_durableValue, a_coreOf, a_open, a_read, a_written, a_version, a_bef, a_source, a_inT, a_chosen) (nI e0))))
theorem ep_evict80_y {post : Int32 → SY → Prop} (l e0 : Nat) (he0 : e0 < 40) (hbf : ∀ e, e < 40 → ∃ b : Bool, bf (e * 40 + e0) = ep_b b) (K : ∀ it' : Nat → Int32, (∀ e, e < 40 → it' e = bf (e * 40 + e0)) → wpY_chooseT (fun u => ep_ev post l e0 u) ((nI L), (nI B), (nI E), (nI Q), (nI q), cy, du, cf, op, rd, wr, ve, bf, so, it', cn)) : ∃ n, wY_evict_80 post (nI l) (nI e0) (nI L) (nI B) (nI E) (nI Q) (nI q) n 0 cy du cf op rd wr ve bf so it cn := by
  refine loop_0 (fun n i (it' : Nat → Int32) => wY_evict_80 post (nI l) (nI e0) (nI L) (nI B) (nI E) (nI Q) (nI q) n (nI i) cy du cf op rd wr ve bf so it' cn) (fun i it' => ∀ e, e < i → it' e = bf (e * 40 + e0)) 40 it (fun e he => by omega) ?_ ?_
  · intro n it' H
    exact br_t (nI_le (Nat.le_refl 40) (by decide)) (K it' H)
  · intro n i it' hi H next
    obtain ⟨b, hb⟩ := hbf i hi
    refine br_f (nI_ge (b := 40) hi (by decide)) ⟨ep_in40 (by omega), vp_in_nI hi (by decide), nm_r (e' := upd it' i (bf (i * 40 + e0))) ?_ (nm_r (nI_1 i) (next (upd it' i (bf (i * 40 + e0))) (fun e he => ?_)))⟩
    · rw [ep_cl40 (by omega), nI_clamp (by omega), hb, ep_bn]
    · by_cases q : e = i
      · rw [q, pk_us]
      · rw [pk_un q]; exact H e (by omega)
end
end
section
/-! i_vc_evict -/
theorem ep_du_1 {L l : Nat} {h0 h o : Nat → Nat} {V : Nat → Nat → Nat → Nat} {mk : Nat → Nat → Nat → Bool} {pw : Nat → Nat → Nat → Int32} {Ch : Nat → Nat → Nat → Bool} {du dx dy : Nat → Int32} (hl : l < L) (hL : L ≤ 8) (ho : ∀ c, c < 4 → h c ≤ o c) (X : ep_DU L h0 h V mk pw du dx) (Y : ep_DY h0 o V mk pw Ch du dy) (c1 : ∀ c n, ep_lv h0 o c n → mk c n (16 + l) = true → (Ch c n l = true ↔ n < h c)) : dx l = dy l := by
  obtain ⟨y1, y2⟩ := Y l (by omega)
  rcases X l hl with ⟨c, n, a1, a2, a3, a4, a5, a6⟩ | ⟨a1, a2⟩
  · have lc : ep_lv h0 o c n := ⟨a1, a2, Nat.le_trans (Nat.le_of_lt a3) (ho c a1)⟩
    rw [a5]
    exact (y1 c n lc a4 ((c1 c n lc a4).mpr a3) (fun d m ld t1 t2 => a6 d m ld.1 ld.2.1 ((c1 d m ld t1).mp t2) t1)).symm
  · rw [a2]
    refine (y2 (fun c n lc t => Bool.eq_false_iff.mpr (fun z => ?_))).symm
    have := (c1 c n lc t).mp z
    rw [a1 c n lc.1 lc.2.1 this] at t
    exact absurd t (by decide)
theorem ep_ve_t {sg : Nat → Nat → Nat} {h o : Nat → Nat} {V : Nat → Nat → Nat → Nat} {mk : Nat → Nat → Nat → Bool} {pw : Nat → Nat → Nat → Int32} {cf op rd wr ve bf : Nat → Int32} (Y : ep_Y sg h o V mk pw cf op rd wr ve bf) {c n l : Nat} (lv : ep_lv h o c n) (hl : l < 8) : ¬ ve (sg c n * 8 + l) < 0 ↔ mk c n (16 + l) = true := by
  rw [ep_Y_ve Y lv hl]
  cases mk c n (16 + l) <;> simp
theorem i_vc_evict {k : Nat} {u : SX} {v : SY} (I : i_Rel k u v) (hk : k + 5 ≤ 2564) (v1 : Int32) : wpX_evict (fun r u' => wpY_evict (fun r' v' => r' = r ∧ i_Rel (k + 5) u' v') v v1) u v1 := by
  refine I (fun u v => wpX_evict (fun r u' => wpY_evict (fun r' v' => r' = r ∧ i_Rel (k + 5) u' v') v v1) u v1) ?_
  intro L B E Q qh qc ch md ql qv h o b M vs w ct cy du cf op rd wr ve bf so it cn V mk pw sg F
  obtain ⟨hsz, fI, fJ, fA, fN, fE, fb, fq, fc, fY⟩ := id F
  obtain ⟨hL2, hL, hB, hE2, hE, hQ1, hQ⟩ := id hsz
  have hb : ep_XB k h o w ct := ⟨by omega, fN⟩
  have lb7 : ∀ c, c < 4 → o c ≤ h c + 7 := fun d hd => by have := fE d hd; omega
  have bad : (v1 < 0 ∨ nI L ≤ v1) → wpY_evict (fun r' v' => r' = -1 ∧ i_Rel (k + 5) (4, 64, (nI L), (nI B), (nI E), (nI Q), (nI qh), (nI qc), ch, md, ql, qv, (fun x_ => lN (h x_)), (fun x_ => lN (o x_)), (fun x_ => nI (b x_)), M, vs, (fun x_ => lN (w x_)), (fun x_ => lN (ct x_))) v') ((nI L), (nI B), (nI E), (nI Q), (nI qc), cy, du, cf, op, rd, wr, ve, bf, so, it, cn) v1 := by
    intro z
    unfold wpY_evict
    dsimp only
    exact ep_vb_y (Or.inr (Or.inr z)) (br_t rfl ⟨rfl, zz_st F fN.2.2.2⟩)
  unfold wpX_evict
  dsimp only
  rcases pk_ix v1 (n := L) (by omega) with z | z | ⟨l, hl, rfl⟩
  · exact ep_vlb_x (Or.inl z) (br_t rfl (bad (Or.inl z)))
  · exact ep_vlb_x (Or.inr z) (br_t rfl (bad (Or.inr z)))
  have hl8 : l < 8 := by omega
  -- the reference up to the last holder
  have ystart : ∀ post : Int32 → SY → Prop, (∀ cn' : Nat → Int32, (∀ d m, ep_lv h o d m → mk d m (16 + l) = false) → post 0 ((nI L), (nI B), (nI E), (nI Q), (nI qc), cy, du, cf, op, rd, wr, ve, bf, so, it, cn')) → (∀ (cn' : Nat → Int32) (c n : Nat), ep_lv h o c n → mk c n (16 + l) = true → (∀ d m, ep_lv h o d m → mk d m (16 + l) = true → (d = c ∧ m = n) ∨ m < V c n d) → ∃ x, wY_evict_80 post (nI l) (nI (sg c n)) (nI L) (nI B) (nI E) (nI Q) (nI qc) x 0 cy du cf op rd wr ve bf so it cn') → wpY_evict post ((nI L), (nI B), (nI E), (nI Q), (nI qc), cy, du, cf, op, rd, wr, ve, bf, so, it, cn) (nI l) := by
    intro post K1 K2
    unfold wpY_evict
    dsimp only
    refine ep_v_y 0 l (by omega) hl hL (br_f (by decide) (ep_evict15_y l hl8 (fun cn' hcn => ?_)))
    have hil : ∀ e, e < 40 → ep_IL cn' ve bf e l → ∃ c n, ep_lv h o c n ∧ e = sg c n ∧ mk c n (16 + l) = true ∧ ∀ d m, ep_lv h o d m → mk d m (16 + l) = true → (d = c ∧ m = n) ∨ m < V c n d := by
      intro e he t
      rcases fY.2.2.2 e he with ⟨c, n, lc, z⟩ | z
      · subst z
        refine ⟨c, n, lc, rfl, (ep_ve_t fY lc hl8).mp t.1.2, fun d m ld y => ?_⟩
        by_cases x : d = c ∧ m = n
        · exact Or.inl x
        · have := t.2 (sg d m) (fY.1 d m ld).1 (fun s => x (ep_Y_inj fY ld lc s)) ⟨(hcn _ l (fY.1 d m ld).1 hl8).mpr rfl, (ep_ve_t fY ld hl8).mpr y⟩
          rw [fY.2.2.1 c n d m lc ld, ep_bne, decide_eq_true_iff] at this
          exact Or.inr this
      · have := t.1.2
        rw [(z.2.2.1 l hl8).2.2] at this
        exact absurd (by decide) this
    refine ep_evict49_y l hl8 (fun t => K1 cn' (fun d m ld => ?_)) (fun e he t => ?_)
    · -- a holder would have a last one
      refine Bool.eq_false_iff.mpr (fun y => ?_)
      have climb : ∀ (s : Nat) (d m : Nat), 20000 ≤ s + (V d m 0 + V d m 1 + V d m 2 + V d m 3) → ep_lv h o d m → mk d m (16 + l) = true → False := by
        intro s
        induction s with
        | zero =>
          intro d m hs ld _
          have b0 := fI.2.2.1 d m 0 ld (by omega)
          have b1 := fI.2.2.1 d m 1 ld (by omega)
          have b2 := fI.2.2.1 d m 2 ld (by omega)
          have b3 := fI.2.2.1 d m 3 ld (by omega)
          have c0 := fN.2.1 0
          have c1 := fN.2.1 1
          have c2 := fN.2.1 2
          have c3 := fN.2.1 3
          omega
        | succ s ih =>
          intro d m hs ld y
          refine t (sg d m) (fY.1 d m ld).1 ⟨⟨(hcn _ l (fY.1 d m ld).1 hl8).mpr rfl, (ep_ve_t fY ld hl8).mpr y⟩, fun f hf q1 q2 => ?_⟩
          rcases fY.2.2.2 f hf with ⟨c, n, lc, z⟩ | z
          · subst z
            have y2 := (ep_ve_t fY lc hl8).mp q2.2
            rw [fY.2.2.1 d m c n ld lc, ep_bne, decide_eq_true_iff]
            rcases fJ.1 d m c n l ld lc hl8 y y2 with t2 | t2 | t2
            · obtain ⟨rfl, rfl⟩ := t2
              exact absurd rfl q1
            · exact t2
            · exfalso
              refine ih c n ?_ lc y2
              have a0 := fI.2.2.2 c n d m lc ld t2 0 (by omega)
              have a1 := fI.2.2.2 c n d m lc ld t2 1 (by omega)
              have a2 := fI.2.2.2 c n d m lc ld t2 2 (by omega)
              have a3 := fI.2.2.2 c n d m lc ld t2 3 (by omega)
              have e := fI.2.1 d m ld
              have hd := ld.1
              have lt : V d m 0 + V d m 1 + V d m 2 + V d m 3 < V c n 0 + V c n 1 + V c n 2 + V c n 3 := by
                have q4 : d = 0 ∨ d = 1 ∨ d = 2 ∨ d = 3 := by omega
                rcases q4 with q4 | q4 | q4 | q4 <;> subst q4 <;> omega
              omega
          · have := q2.2
            rw [(z.2.2.1 l hl8).2.2] at this
            exact absurd (by decide) this
      exact climb 20000 d m (by omega) ld y
    · obtain ⟨c, n, lc, rfl, y1, y2⟩ := hil e he t
      exact K2 cn' c n lc y1 y2
  refine ep_vl_x l hl hL (br_f (by decide) (ep_latest_x l hl8 fI fJ fA hb (fun none => ?_) (fun c0 n0 l0 hm hmax => ?_)))
  · refine br_f ep_ngm1 (ystart _ (fun cn' _ => ⟨rfl, zz_st F fN.2.2.2⟩) (fun cn' c n lc y => ?_))
    rw [none c n lc] at y
    exact absurd y (by decide)
  have hc0 := l0.1
  have hs0 : ep_sl c0 n0 < 64 := ep_sl_lt hc0
  have hso : ep_sl c0 (o c0) < 64 := ep_sl_lt hc0
  have hoN := hb.2.2.1 c0
  have e00 := fI.2.1 c0 n0 l0
  refine br_t (nI_pos' (by omega)) (nm_r (e' := nI c0) (by rw [ep_shr hs0, ep_sl_dv]) ⟨vp_in_nI hc0 (by decide), ?_⟩)
  rw [nI_clamp (show c0 < 2 ^ 31 by omega)]
  refine ep_slot_x c0 (o c0) hc0 (by omega) (ep_cutB_x _ hs0 hb (fun ct1 e1 hb1 => ?_))
  dsimp only
  have ec : ∀ d, d < 4 → ct1 d = V c0 n0 d := fun d hd => by rw [e1 d hd]; exact (fA c0 n0 l0).1 d hd
  have D : ep_CD h o V ct1 := by
    refine ⟨fun d hd => by rw [ec d hd]; exact fI.2.2.1 c0 n0 d l0 hd, fun d m ld z x hx => ?_⟩
    rw [ec d ld.1] at z
    rw [ec x hx]
    exact fI.2.2.2 c0 n0 d m l0 ld z x hx
  obtain ⟨D1, D2⟩ := ep_CD_co D
  have Sf : ep_cs o (ep_T ct1) c0 = false := Bool.eq_false_iff.mpr (fun t => by
    have := of_decide_eq_true (ep_cs_t.mp t).2
    rw [ec c0 hc0] at this
    have := l0.2.2
    omega)
  have eo1 : ep_co o (ep_cs o (ep_T ct1)) c0 = o c0 := ep_co_f Sf
  refine ep_closeCut_x fI fJ fA lb7 hb1 (by omega) (fun w1 M1 I1 J1 A1 hb3 => ?_)
  dsimp only
  have lb1 : ep_LB h (ep_co o (ep_cs o (ep_T ct1))) := fun d hd => by
    have := lb7 d hd
    have := (ep_co_le (o := o) (S := ep_cs o (ep_T ct1)) d).2
    omega
  have xfin : ∀ (sp : Bool) (w2 : Nat → Nat) (M2 : Nat → Int32), (sp = true ↔ n0 = o c0) → ep_XA h (ep_co (ep_co o (ep_cs o (ep_T ct1))) (ep_sp sp c0)) (ep_cV (ep_co o (ep_cs o (ep_T ct1))) (ep_cV o V (ep_cs o (ep_T ct1))) (ep_sp sp c0)) (ep_cm (ep_co o (ep_cs o (ep_T ct1))) (ep_cm o mk (ep_cs o (ep_T ct1))) (ep_sp sp c0)) pw w2 M2 vs → ep_XB (k + 5) h (ep_co (ep_co o (ep_cs o (ep_T ct1))) (ep_sp sp c0)) w2 ct1 → wX_evict_59 (fun r u' => wpY_evict (fun r' v' => r' = r ∧ i_Rel (k + 5) u' v') ((nI L), (nI B), (nI E), (nI Q), (nI qc), cy, du, cf, op, rd, wr, ve, bf, so, it, cn) (nI l)) (nI l) (nI (ep_sl c0 n0)) 4 64 (nI L) (nI B) (nI E) (nI Q) (nI qh) (nI qc) ch md ql qv (fun x_ => lN (h x_)) (fun x_ => lN ((ep_co (ep_co o (ep_cs o (ep_T ct1))) (ep_sp sp c0)) x_)) (fun x_ => nI (b x_)) M2 vs (fun x_ => lN (w2 x_)) (fun x_ => lN (ct1 x_)) := by
    intro sp w2 M2 hsp A2 hb2
    have I2 := ep_IV_sp I1 hc0 sp
    have J2 := ep_IM_sp (c := c0) J1 sp
    have hnold : n0 ≤ o c0 := l0.2.2
    have eo2 : ep_co (ep_co o (ep_cs o (ep_T ct1))) (ep_sp sp c0) c0 = if sp = true then o c0 + 1 else o c0 := by
      cases sp
      · rw [ep_sp_f, ep_co_0, eo1]; rfl
      · rw [ep_sp_t, ep_co_1, eo1]; rfl
    have eo3 : ∀ d, d ≠ c0 → ep_co (ep_co o (ep_cs o (ep_T ct1))) (ep_sp sp c0) d = ep_co o (ep_cs o (ep_T ct1)) d := fun d z => ep_co_f (ep_sp_n z)
    have lb2 : ep_LB h (ep_co (ep_co o (ep_cs o (ep_T ct1))) (ep_sp sp c0)) := fun d hd => by
      by_cases z : d = c0
      · rw [z, eo2]
        have := lb7 c0 hc0
        split <;> omega
      · rw [eo3 d z]; exact lb1 d hd
    have hbc : ∀ d, d < 4 → b d = ep_cnt h (ep_co (ep_co o (ep_cs o (ep_T ct1))) (ep_sp sp c0)) (ep_cm (ep_co o (ep_cs o (ep_T ct1))) (ep_cm o mk (ep_cs o (ep_T ct1))) (ep_sp sp c0)) d := fun d hd => by
      rw [ep_cnt_sp (I1.1 d hd) sp, ep_cnt_S (fI.1 d hd), fb d hd]
    have l2 : ep_lv h (ep_co (ep_co o (ep_cs o (ep_T ct1))) (ep_sp sp c0)) c0 n0 := ep_lv_up (ep_lv_up l0)
    have hmo : ∀ d m j, ep_lv h o d m → ep_cm (ep_co o (ep_cs o (ep_T ct1))) (ep_cm o mk (ep_cs o (ep_T ct1))) (ep_sp sp c0) d m j = mk d m j := fun d m j ld => by
      rw [ep_cm_o (Nat.le_trans ld.2.2 (ep_co_le d).1), ep_cm_o ld.2.2]
    have hVo : ∀ d m j, ep_lv h o d m → ep_cV (ep_co o (ep_cs o (ep_T ct1))) (ep_cV o V (ep_cs o (ep_T ct1))) (ep_sp sp c0) d m j = V d m j := fun d m j ld => by
      rw [ep_cV_o (Nat.le_trans ld.2.2 (ep_co_le d).1), ep_cV_o ld.2.2]
    -- a live epoch is an old one, or new and empty and not in the cut
    have lvc : ∀ d m, ep_lv h (ep_co (ep_co o (ep_cs o (ep_T ct1))) (ep_sp sp c0)) d m → ep_lv h o d m ∨ ((∀ j, ep_cm (ep_co o (ep_cs o (ep_T ct1))) (ep_cm o mk (ep_cs o (ep_T ct1))) (ep_sp sp c0) d m j = false) ∧ ¬ m < ct1 d ∧ ((ep_lv h (ep_co o (ep_cs o (ep_T ct1))) d m ∧ ep_cs o (ep_T ct1) d = true ∧ m = o d + 1) ∨ (sp = true ∧ d = c0 ∧ m = o c0 + 1))) := by
      intro d m ld
      rcases ep_lv_co ld with z | z
      · rcases ep_lv_co z.1 with y | y
        · exact Or.inl y.1
        · refine Or.inr ⟨fun j => ?_, ?_, Or.inl ⟨z.1, y⟩⟩
          · rw [ep_cm_o z.2, y.2, ep_cm_n y.1]
          · have := D.1 d ld.1
            omega
      · have z1 := z.1
        unfold ep_sp at z1
        rw [Bool.and_eq_true, decide_eq_true_iff] at z1
        obtain ⟨s1, rfl⟩ := z1
        rw [eo1] at z
        refine Or.inr ⟨fun j => ?_, ?_, Or.inr ⟨s1, rfl, z.2⟩⟩
        · have := ep_cm_n (o := ep_co o (ep_cs o (ep_T ct1))) (mk := ep_cm o mk (ep_cs o (ep_T ct1))) (d := j) z.1
          rw [eo1] at this
          rw [z.2]
          exact this
        · rw [ec d hc0, e00]
          omega
    have D1' : ∀ c, c < 4 → ct1 c ≤ ep_co (ep_co o (ep_cs o (ep_T ct1))) (ep_sp sp c0) c := fun c hc => Nat.le_trans (D1 c hc) (ep_co_le c).1
    have D2' : ∀ d m, ep_lv h (ep_co (ep_co o (ep_cs o (ep_T ct1))) (ep_sp sp c0)) d m → m < ct1 d → ∀ x, x < 4 → ep_cV (ep_co o (ep_cs o (ep_T ct1))) (ep_cV o V (ep_cs o (ep_T ct1))) (ep_sp sp c0) d m x ≤ ct1 x := by
      intro d m ld z x hx
      rcases lvc d m ld with y | y
      · rw [hVo d m x y]; exact D.2 d m y z x hx
      · exact absurd z y.2.1
    refine ep_evict59_x c0 n0 l hl hL hQ hQ1 I2 J2 A2 lb2 hb2 hbc fq l2 (by rw [hmo c0 n0 _ l0]; exact hm) D1' D2' (by rw [ec c0 hc0, e00]) (fun kX h1 h3 b3 M3 qh3 md3 ql3 qv3 dx ct3 r1 r2 r3 r7 lvv e5 A3 hb5 s1 s2 bc3 kx dc3 st3 q3 => ?_)
    generalize eO : ep_co (ep_co o (ep_cs o (ep_T ct1))) (ep_sp sp c0) = o2 at *
    generalize eVV : ep_cV (ep_co o (ep_cs o (ep_T ct1))) (ep_cV o V (ep_cs o (ep_T ct1))) (ep_sp sp c0) = V2 at *
    generalize eM : ep_cm (ep_co o (ep_cs o (ep_T ct1))) (ep_cm o mk (ep_cs o (ep_T ct1))) (ep_sp sp c0) = mk2 at *
    have r13 : ∀ c, c < 4 → h c ≤ h3 c := fun c hc => Nat.le_trans (r1 c hc) (s1 c hc)
    refine ystart _ (fun cn' t => absurd hm (by rw [t c0 n0 l0]; decide)) (fun cn1 c n lc y1 y2 => ?_)
    have same : c = c0 ∧ n = n0 := by
      rcases hmax c n lc y1 with t | t
      · exact t
      · rcases y2 c0 n0 l0 hm with t2 | t2
        · exact ⟨t2.1.symm, t2.2.symm⟩
        · exact absurd (ep_asym fI l0 lc t t2) (by simp)
    obtain ⟨rfl, rfl⟩ := same
    have he0 := (fY.1 c n l0).1
    refine ep_evict80_y l (sg c n) he0 (fun e he => ?_) (fun it' hit => ?_)
    · rcases fY.2.2.2 e he with ⟨d, m, ld, z⟩ | z
      · exact ⟨_, by rw [z]; exact fY.2.2.1 c n d m l0 ld⟩
      · exact ⟨false, (z.2.2.2 _ he0).1⟩
    have t1 : ∀ d m, ep_lv h o d m → it' (sg d m) = ep_b (ep_T ct1 d m) := fun d m ld => by
      rw [hit _ (fY.1 d m ld).1, fY.2.2.1 c n d m l0 ld]
      unfold ep_T
      rw [ec d ld.1]
    have t2 : ∀ e, e < 40 → ep_dead cf op rd wr ve bf e → it' e = 0 := fun e he z => by
      rw [hit e he]
      exact (z.2.2.2 _ he0).1
    refine ep_choose_y (ep_T ct1) fI lb7 fY t1 t2 (fun sg' cf' op' bf' cn' Y' I' sgo si sc => ?_)
    have yfin : ∀ (sg2 : Nat → Nat → Nat) (cf2 op2 bf2 : Nat → Int32), ep_Y sg2 h o2 V2 mk2 pw cf2 op2 rd wr ve bf2 → (∀ d m, ep_lv h (ep_co o (ep_cs o (ep_T ct1))) d m → sg2 d m = sg' d m) → (sp = true → it' (sg2 c (o c + 1)) = 0) → wY_evict_128 (fun r' v' => r' = nI (kX + 1) ∧ i_Rel (k + 5) (4, 64, (nI L), (nI B), (nI E), (nI Q), (nI qh3), (nI (min (qc + (kX + 1)) Q)), ch, md3, ql3, qv3, (fun x_ => lN (h3 x_)), (fun x_ => lN (o2 x_)), (fun x_ => nI (b3 x_)), M3, vs, (fun x_ => lN (w2 x_)), (fun x_ => lN (ct3 x_))) v') (nI l) (nI (sg c n)) (nI L) (nI B) (nI E) (nI Q) (nI qc) cy du cf2 op2 rd wr ve bf2 so it' cn' := by
      intro sg2 cf2 op2 bf2 Y2 g1 g2
      have es : sg2 c n = sg c n := by rw [g1 c n (ep_lv_up l0)]; exact sgo c n l0
      refine ⟨ep_in8 (by omega), nm_r (e' := upd cn' (sg c n * 8 + l) 1) (by rw [ep_cl8 (by omega)]; rfl) ?_⟩
      refine ep_flush_y (fun d m x => ep_T ct1 d m || ep_C1 c n l d m x) hQ fq.2.1 I2 lb2 Y2 (fun d m x ld hx => ?_) (fun kY h2 dy cf3 op3 rd3 wr3 ve3 bf3 hdu hky Y3 z1 z2 dc2 st2 => ?_)
      · have hdm := (Y2.1 d m ld).1
        by_cases y : d = c ∧ m = n
        · obtain ⟨rfl, rfl⟩ := y
          rw [es]
          have tf : ep_T ct1 d m = false := decide_eq_false (by rw [ec d hc0, e00]; omega)
          by_cases x1 : x = l
          · rw [x1, pk_us, ep_C1_s, Bool.or_true]
            exact ⟨fun _ => rfl, fun _ => by decide⟩
          · rw [pk_un (by omega), sc _ x he0 hx, t1 d m l0, tf, ep_C1_l x1]
            exact ⟨fun t => absurd rfl t, fun t => absurd t (by decide)⟩
        · have ne : sg2 d m ≠ sg c n := fun t => y (ep_Y_inj Y2 ld l2 (t.trans es.symm))
          rw [pk_un (by omega), sc _ x hdm hx, ep_C1_n y, Bool.or_false]
          rcases lvc d m ld with o1 | ⟨_, nt, nw⟩
          · rw [g1 d m (ep_lv_up o1), sgo d m o1, t1 d m o1, ep_bne]
          · have tf : ep_T ct1 d m = false := decide_eq_false nt
            rw [tf]
            have it0 : it' (sg2 d m) = 0 := by
              rcases nw with ⟨q1, q2, q3⟩ | ⟨q1, q2, q3⟩
              · rw [g1 d m q1, q3]; exact si d q2
              · rw [q2, q3]; exact g2 q1
            rw [it0]
            exact ⟨fun t => absurd rfl t, fun t => absurd t (by decide)⟩
      · have emi : ∀ d m, ep_lv h o2 d m → h3 d ≤ m → ∀ x, (ep_T ct1 d m || ep_C1 c n l d m x) = ep_C1 c n l d m x := by
          intro d m ld hm3 x
          have : ep_T ct1 d m = false := decide_eq_false (fun t => by
            have := lvv d m ld t
            have := s1 d ld.1
            omega)
          rw [this, Bool.false_or]
        have fin := zz_flush (k := k + 5) (kY := kY) (du := dy) (so := so) (it := it') (cn := upd cn' (sg c n * 8 + l) 1) hsz I2 (ep_IM_fm (ep_IM_h J2 r13)) A3 hb5 (Nat.le_refl _) r13 s2 (fun d hd => ?_) bc3 kx (by rw [hbc 0 (by omega), hbc 1 (by omega), hbc 2 (by omega), hbc 3 (by omega), hky]; omega) rfl q3 (fun x hx => ?_) fc Y3 z1 z2 (fun d m hd m1 m2 => ?_) (fun d hd x1 x2 => ?_) dc2 st2 (fun d m j ld hj => ?_)
        · exact ⟨congrArg nI fin.1, fin.2⟩
        · -- live count
          have a1 := fE d hd
          have a2 := r13 d hd
          by_cases y : d = c
          · subst y
            have a3 := s1 d hd
            rw [eo2]
            cases sp
            · rw [if_neg (by decide)]; omega
            · have := hsp.mp rfl
              rw [if_pos rfl]; omega
          · rw [eo3 d y]
            by_cases v : o d < ct1 d
            · have es2 : ep_co o (ep_cs o (ep_T ct1)) d = o d + 1 := if_pos (ep_cs_t.mpr ⟨hd, decide_eq_true v⟩)
              have lod : ep_lv h o2 d (o d) := ⟨hd, fI.1 d hd, by rw [eo3 d y]; omega⟩
              have := lvv d (o d) lod v
              have := s1 d hd
              omega
            · have es2 : ep_co o (ep_cs o (ep_T ct1)) d = o d := ep_co_f (Bool.eq_false_iff.mpr (fun t => v (of_decide_eq_true (ep_cs_t.mp t).2)))
              omega
        · -- durable
          by_cases y : x = l
          · rw [y, pk_us]
            refine ((hdu l hl8).1 c n l2 (by rw [hmo c n _ l0]; exact hm) (by dsimp only; rw [ep_C1_s, Bool.or_true]) (fun d m ld t1 _ => ?_)).symm
            rcases lvc d m ld with o1 | ⟨nt, _⟩
            · rw [hmo d m _ o1] at t1
              rw [hVo c n d l0]
              exact hmax d m o1 t1
            · rw [nt] at t1; exact absurd t1 (by decide)
          · rw [pk_un y]
            refine ep_du_1 hx hL r2 r7 hdu (fun d m ld t => ?_)
            rw [ep_C1_l y, Bool.or_false]
            constructor
            · intro t2; exact lvv d m ld (of_decide_eq_true t2)
            · intro t2
              rcases (r3 d m ld.1 ld.2.1 t2).1 with g | g
              · exact decide_eq_true g
              · rw [g x (by omega)] at t; exact absurd t (by decide)
        · -- removed ones are good
          by_cases y : m < h1 d
          · obtain ⟨g, ub⟩ := r3 d m hd m1 y
            refine ⟨ep_em_fm.mpr (fun x hx t => ?_), fun e he => Nat.le_trans (ub e he) (s1 e he)⟩
            rcases g with g | g
            · rw [show ep_T ct1 d m = true from decide_eq_true g, Bool.true_or]
            · rw [g x hx] at t; exact absurd t (by decide)
          · obtain ⟨g, ub⟩ := dc3 d m hd (by omega) m2
            refine ⟨ep_em_fm.mpr (fun x hx t => ?_), ub⟩
            rw [ep_em_fm.mp g x hx t, Bool.or_true]
        · -- stable
          have ld : ep_lv h o2 d (h3 d) := ⟨hd, r13 d hd, s2 d hd⟩
          refine st3 d hd x1 (ep_em_fm.mpr (fun x hx t => ?_))
          have := ep_em_fm.mp x2 x hx t
          rw [emi d (h3 d) ld (Nat.le_refl _) x] at this
          exact this
        · -- marks of what stays
          have ld2 := ep_lv_h r13 ld
          unfold ep_fm
          dsimp only
          rw [emi d m ld2 ld.2.1]
    show ep_ev _ l (sg c n) _
    unfold ep_ev
    dsimp only
    rw [nI_clamp (show sg c n < 2 ^ 31 by omega)]
    have ho' := (Y'.1 c n (ep_lv_up l0)).2.2.1
    rw [sgo c n l0, eo1] at ho'
    refine ⟨vp_in_nI he0 (by decide), br_c (fun t => ?_) (fun t => ?_)⟩
    · rw [ho', ep_b0] at t
      have sf : sp = false := Bool.eq_false_iff.mpr (fun y => of_decide_eq_false t (hsp.mp y))
      subst sf
      rw [ep_sp_f, ep_co_0] at eO
      rw [ep_sp_f, ep_cV_0] at eVV
      rw [ep_sp_f, ep_cm_0] at eM
      rw [eO, eVV, eM] at Y'
      exact yfin sg' cf' op' bf' Y' (fun _ _ _ => rfl) (fun y => absurd y (by decide))
    · rw [ho', ep_bne] at t
      have en := of_decide_eq_true t
      have st : sp = true := hsp.mpr en
      subst st
      have e6 : sg c n = sg' c (ep_co o (ep_cs o (ep_T ct1)) c) := by rw [eo1, ← en, sgo c n l0]
      have lbI : ep_LB h (ep_co o (ep_cs o (ep_T ct1))) := lb1
      have go : wpY_close (fun _ u => match u with | (f_lineCount, f_bufferMost, f_epochMost, f_queueMost, f_queueLen, a_coherent, a_durableValue, a_coreOf, a_open, a_read, a_written, a_version, a_bef, a_source, a_inT, a_chosen) => wY_evict_128 (fun r' v' => r' = nI (kX + 1) ∧ i_Rel (k + 5) (4, 64, (nI L), (nI B), (nI E), (nI Q), (nI qh3), (nI (min (qc + (kX + 1)) Q)), ch, md3, ql3, qv3, (fun x_ => lN (h3 x_)), (fun x_ => lN (o2 x_)), (fun x_ => nI (b3 x_)), M3, vs, (fun x_ => lN (w2 x_)), (fun x_ => lN (ct3 x_))) v') (nI l) (nI (sg c n)) f_lineCount f_bufferMost f_epochMost f_queueMost f_queueLen a_coherent a_durableValue a_coreOf a_open a_read a_written a_version a_bef a_source a_inT a_chosen) ((nI L), (nI B), (nI E), (nI Q), (nI qc), cy, du, cf', op', rd, wr, ve, bf', so, it', cn') (nI (sg' c (ep_co o (ep_cs o (ep_T ct1)) c))) := by
        refine ep_close_y c hc0 I' lbI Y' (fun f cf2 op2 bf2 hf df Y2 => ?_)
        rw [ep_sp_t] at eO eVV eM
        rw [eO, eVV, eM] at Y2
        refine yfin _ cf2 op2 bf2 Y2 (fun d m ld => ep_sg_n (fun y => ?_)) (fun _ => ?_)
        · obtain ⟨rfl, rfl⟩ := y
          have := ld.2.2
          omega
        · rw [eo1, ep_sg_s]
          refine t2 f hf ?_
          rcases fY.2.2.2 f hf with ⟨c2, n2, l3, v⟩ | v
          · have a1 := (Y'.1 c2 n2 (ep_lv_up l3)).2.1
            rw [sgo c2 n2 l3, ← v, df.1] at a1
            exact absurd a1 (ep_m1nI l3.1)
          · exact v
      rw [← e6] at go
      exact go
  refine ek_if (d := n0 = o c0) ?_ (fun t => ?_) (fun t => ?_)
  · rw [nI_eq (by omega) (by omega)]
    constructor
    · intro y
      have a1 := l0.2.1
      have a2 := l0.2.2
      have a3 := lb7 c0 hc0
      exact (ep_sl_inj y (by omega) (by omega)).2.symm
    · intro y; rw [y]
  · refine ep_close_x c0 hc0 I1 A1 lb1 hb3 (by omega) (fun w2 M2 A2 hb2 => ?_)
    have := xfin true w2 M2 ⟨fun _ => t, fun _ => rfl⟩
    rw [ep_sp_t] at this
    exact this A2 hb2
  · have := xfin false w1 M1 ⟨fun y => absurd y (by decide), fun y => absurd y t⟩
    rw [ep_sp_f, ep_co_0, ep_cV_0, ep_cm_0] at this
    exact this A1 (ep_XB_up hb3 (by omega) (by omega))
end
section
/-! questions that change nothing; retire -/
def ep_bix (h o : Nat → Nat) (x y : Int32) : Prop := (x < 0 ∨ nI 4 ≤ x) ∨ ∃ c, c < 4 ∧ x = nI c ∧ (y < 0 ∨ nI (o c - h c + 1) ≤ y)
theorem ep_ix (h o : Nat → Nat) (hb : ∀ c, c < 4 → o c ≤ h c + 8) (ho : ∀ c, c < 4 → h c ≤ o c) (x y : Int32) : (∃ c i, c < 4 ∧ h c + i ≤ o c ∧ x = nI c ∧ y = nI i) ∨ ep_bix h o x y := by
  rcases pk_ix x (n := 4) (by decide) with z | z | ⟨c, hc, rfl⟩
  · exact Or.inr (Or.inl (Or.inl z))
  · exact Or.inr (Or.inl (Or.inr z))
  · have h1 := hb c hc
    have h2 := ho c hc
    rcases pk_ix y (n := o c - h c + 1) (by omega) with z | z | ⟨i, hi, rfl⟩
    · exact Or.inr (Or.inr ⟨c, hc, rfl, Or.inl z⟩)
    · exact Or.inr (Or.inr ⟨c, hc, rfl, Or.inr z⟩)
    · exact Or.inl ⟨c, i, hc, by omega, rfl, rfl⟩
section
variable {L B E Q qh qc : Nat} {ch md ql qv : Nat → Int32} {h o b : Nat → Nat} {M vs : Nat → Int32} {w ct : Nat → Nat} {V : Nat → Nat → Nat → Nat} {mk : Nat → Nat → Nat → Bool} {pw : Nat → Nat → Nat → Int32} {N : Nat} {du : Nat → Int32}
theorem ep_vi1_x {post : Int32 → Prop} (c i : Nat) (hc : c < 4) (hi : h c + i ≤ o c) (hb : o c ≤ h c + 8) (K : post 1) : wpX_validIndex post (4, 64, (nI L), (nI B), (nI E), (nI Q), (nI qh), (nI qc), ch, md, ql, qv, (fun x_ => lN (h x_)), (fun x_ => lN (o x_)), (fun x_ => nI (b x_)), M, vs, (fun x_ => lN (w x_)), (fun x_ => lN (ct x_))) (nI c) (nI i) := by
  unfold wpX_validIndex
  dsimp only
  exact ep_vc_x c hc (br_f (by decide) (br_f (nI_pos (by omega)) (ep_live_x c hc (by omega) (br_f (nI_ge (by omega) (by omega)) K))))
theorem ep_vi0_x {post : Int32 → Prop} {x y : Int32} (hb : ∀ c, c < 4 → h c ≤ o c) (z : ep_bix h o x y) (K : post 0) : wpX_validIndex post (4, 64, (nI L), (nI B), (nI E), (nI Q), (nI qh), (nI qc), ch, md, ql, qv, (fun x_ => lN (h x_)), (fun x_ => lN (o x_)), (fun x_ => nI (b x_)), M, vs, (fun x_ => lN (w x_)), (fun x_ => lN (ct x_))) x y := by
  unfold wpX_validIndex
  dsimp only
  rcases z with z | ⟨c, hc, rfl, z⟩
  · exact ep_vcb_x z (br_t rfl K)
  · refine ep_vc_x c hc (br_f (by decide) ?_)
    by_cases t : y < 0
    · exact br_t t K
    · rcases z with z | z
      · exact absurd z t
      · exact br_f t (ep_live_x c hc (hb c hc) (br_t z K))
theorem ep_dur_x {post : Int32 → Prop} (l : Nat) (hl : l < L) (hL : L ≤ 8) (hQ : Q ≤ 8) (q : ep_Q L Q qh qc md ql qv du) (K : post (du l)) : wpX_durable post (4, 64, (nI L), (nI B), (nI E), (nI Q), (nI qh), (nI qc), ch, md, ql, qv, (fun x_ => lN (h x_)), (fun x_ => lN (o x_)), (fun x_ => nI (b x_)), M, vs, (fun x_ => lN (w x_)), (fun x_ => lN (ct x_))) (nI l) := by
  obtain ⟨q1, q2, q3, q4⟩ := q
  unfold wpX_durable
  dsimp only
  refine ep_vl_x l hl hL (br_f (by decide) ⟨vp_in_nI (by omega) (by decide), nm_e ?_⟩)
  rw [nI_clamp (show l < 2 ^ 31 by omega)]
  refine loop_0 (fun f i (x : Int32) => wX_durable_19 post (nI l) 4 64 (nI L) (nI B) (nI E) (nI Q) (nI qh) (nI qc) ch md ql qv (fun x_ => lN (h x_)) (fun x_ => lN (o x_)) (fun x_ => nI (b x_)) M vs (fun x_ => lN (w x_)) (fun x_ => lN (ct x_)) f x (nI i)) (fun i x => x = ep_dv md ql qv qh l i) qc (md l) rfl ?_ ?_
  · intro f x H
    refine br_t (nI_le (Nat.le_refl _) (by omega)) ?_
    rw [H, q4 l hl]
    exact K
  · intro f i x hi H next
    refine br_f (nI_ge hi (by omega)) (nm_r (e' := nI ((qh + i) % 8)) (by rw [nI_add]; exact pk_andN (by omega) 3 (by decide)) ?_)
    rw [nI_clamp (show (qh + i) % 8 < 2 ^ 31 by omega)]
    refine ⟨vp_in_nI (by omega) (by decide), br_c (fun z => ⟨vp_in_nI (by omega) (by decide), nm_e (nm_r (nI_1 i) (next (qv ((qh + i) % 8)) ?_))⟩) (fun z => nm_r (nI_1 i) (next x ?_))⟩
    · exact (if_pos z).symm
    · rw [H]
      exact (if_neg z).symm
end
section
variable {L B E Q q : Nat} {cy du cf op rd wr ve bf so it cn : Nat → Int32} {sg : Nat → Nat → Nat} {h o ct : Nat → Nat} {V : Nat → Nat → Nat → Nat} {mk mk' : Nat → Nat → Nat → Bool} {pw pw' : Nat → Nat → Nat → Int32}
theorem ep_at1_y {post : Int32 → Prop} (c i : Nat) (hc : c < 4) (hi : h c + i ≤ o c) (hb : o c ≤ h c + 8) (I : ep_IV h o V) (Y : ep_Y sg h o V mk pw cf op rd wr ve bf) (K : post (nI (sg c (h c + i)))) : wpY_at post ((nI L), (nI B), (nI E), (nI Q), (nI q), cy, du, cf, op, rd, wr, ve, bf, so, it, cn) (nI c) (nI i) := by
  have l : ep_lv h o c (h c + i) := ⟨hc, by omega, hi⟩
  obtain ⟨a1, a2, a3, a4⟩ := Y.1 c (h c + i) l
  refine ep_at_y (nI c) (nI i) (fun r hr => ?_)
  rcases hr with ⟨e, he, rfl, z1, z2, z3⟩ | ⟨_, hr⟩
  · obtain ⟨n, ln, en⟩ := ep_Y_cf Y hc he z2
    rw [en, ep_Y_rk Y I ln] at z3
    have h1 := ln.2.1
    have h2 := ln.2.2
    have : n - h c = i := (nI_eq (by omega) (by omega)).mp z3
    rw [en, show n = h c + i from by omega]
    exact K
  · refine absurd ⟨nI_pos (by omega), a2, ?_⟩ (hr _ a1)
    rw [ep_Y_rk Y I l, show h c + i - h c = i from by omega]
theorem ep_at0_y {post : Int32 → Prop} {x y : Int32} (z : ep_bix h o x y) (hb : ∀ c, c < 4 → o c ≤ h c + 8) (I : ep_IV h o V) (Y : ep_Y sg h o V mk pw cf op rd wr ve bf) (K : post (-1)) : wpY_at post ((nI L), (nI B), (nI E), (nI Q), (nI q), cy, du, cf, op, rd, wr, ve, bf, so, it, cn) x y := by
  refine ep_at_y x y (fun r hr => ?_)
  rcases hr with ⟨e, he, rfl, z1, z2, z3⟩ | ⟨rfl, _⟩
  · exfalso
    rcases Y.2.2.2 e he with ⟨d, n, ld, en⟩ | zd
    · have a2 := (Y.1 d n ld).2.1
      have hd := ld.1
      have h1 := ld.2.1
      have h2 := ld.2.2
      have h3 := hb d hd
      rw [en, a2] at z2
      rw [en, ep_Y_rk Y I ld] at z3
      rcases z with z | ⟨c, hc, ex, z⟩
      · rcases z with z | z
        · exact z1 z
        · rw [← z2, nI_leI (by omega) (by omega)] at z
          omega
      · have : d = c := (nI_eq (by omega) (by omega)).mp (z2.trans ex)
        subst this
        rcases z with z | z
        · rw [← z3] at z
          exact nI_pos (by omega) z
        · rw [← z3, nI_leI (by omega) (by omega)] at z
          omega
    · rw [zd.1] at z2
      rw [← z2] at z1
      exact z1 (by decide)
  · exact K
end
theorem i_vc_peek {k : Nat} {u : SX} {v : SY} (I : i_Rel k u v) (hk : k + 5 ≤ 2564) (v1 : Int32) : wpX_peek (fun r => wpY_peek (fun r' => r' = r ∧ i_Rel (k + 5) u v) v v1) u v1 := by
  refine I (fun u v => wpX_peek (fun r => wpY_peek (fun r' => r' = r ∧ i_Rel (k + 5) u v) v v1) u v1) ?_
  intro L B E Q qh qc ch md ql qv h o b M vs w ct cy du cf op rd wr ve bf so it cn V mk pw sg F
  obtain ⟨hsz, fI, fJ, fA, fN, fE, fb, fq, fc, fY⟩ := id F
  obtain ⟨hL2, hL, hB, hE2, hE, hQ1, hQ⟩ := id hsz
  have R : i_Rel (k + 5) (4, 64, (nI L), (nI B), (nI E), (nI Q), (nI qh), (nI qc), ch, md, ql, qv, (fun x_ => lN (h x_)), (fun x_ => lN (o x_)), (fun x_ => nI (b x_)), M, vs, (fun x_ => lN (w x_)), (fun x_ => lN (ct x_))) ((nI L), (nI B), (nI E), (nI Q), (nI qc), cy, du, cf, op, rd, wr, ve, bf, so, it, cn) := zz_st F fN.2.2.2
  have bad : (v1 < 0 ∨ nI L ≤ v1) → wpY_peek (fun r' => r' = -1 ∧ i_Rel (k + 5) (4, 64, (nI L), (nI B), (nI E), (nI Q), (nI qh), (nI qc), ch, md, ql, qv, (fun x_ => lN (h x_)), (fun x_ => lN (o x_)), (fun x_ => nI (b x_)), M, vs, (fun x_ => lN (w x_)), (fun x_ => lN (ct x_))) ((nI L), (nI B), (nI E), (nI Q), (nI qc), cy, du, cf, op, rd, wr, ve, bf, so, it, cn)) ((nI L), (nI B), (nI E), (nI Q), (nI qc), cy, du, cf, op, rd, wr, ve, bf, so, it, cn) v1 := by
    intro z
    unfold wpY_peek
    dsimp only
    exact ep_vb_y (Or.inr (Or.inr z)) (br_t rfl ⟨rfl, R⟩)
  unfold wpX_peek
  dsimp only
  rcases pk_ix v1 (n := L) (by omega) with z | z | ⟨l, hl, rfl⟩
  · exact ep_vlb_x (Or.inl z) (br_t rfl (bad (Or.inl z)))
  · exact ep_vlb_x (Or.inr z) (br_t rfl (bad (Or.inr z)))
  · refine ep_vl_x l hl hL (br_f (by decide) ⟨vp_in_nI (by omega) (by decide), ?_⟩)
    unfold wpY_peek
    dsimp only
    refine ep_v_y 0 l (by omega) hl hL (br_f (by decide) ⟨vp_in_nI (by omega) (by decide), ?_, R⟩)
    rw [nI_clamp (show l < 2 ^ 31 by omega)]
    exact (fc l hl).symm
theorem i_vc_durable {k : Nat} {u : SX} {v : SY} (I : i_Rel k u v) (hk : k + 5 ≤ 2564) (v1 : Int32) : wpX_durable (fun r => wpY_durable (fun r' => r' = r ∧ i_Rel (k + 5) u v) v v1) u v1 := by
  refine I (fun u v => wpX_durable (fun r => wpY_durable (fun r' => r' = r ∧ i_Rel (k + 5) u v) v v1) u v1) ?_
  intro L B E Q qh qc ch md ql qv h o b M vs w ct cy du cf op rd wr ve bf so it cn V mk pw sg F
  obtain ⟨hsz, fI, fJ, fA, fN, fE, fb, fq, fc, fY⟩ := id F
  obtain ⟨hL2, hL, hB, hE2, hE, hQ1, hQ⟩ := id hsz
  have R : i_Rel (k + 5) (4, 64, (nI L), (nI B), (nI E), (nI Q), (nI qh), (nI qc), ch, md, ql, qv, (fun x_ => lN (h x_)), (fun x_ => lN (o x_)), (fun x_ => nI (b x_)), M, vs, (fun x_ => lN (w x_)), (fun x_ => lN (ct x_))) ((nI L), (nI B), (nI E), (nI Q), (nI qc), cy, du, cf, op, rd, wr, ve, bf, so, it, cn) := zz_st F fN.2.2.2
  have bad : (v1 < 0 ∨ nI L ≤ v1) → wpY_durable (fun r' => r' = -1 ∧ i_Rel (k + 5) (4, 64, (nI L), (nI B), (nI E), (nI Q), (nI qh), (nI qc), ch, md, ql, qv, (fun x_ => lN (h x_)), (fun x_ => lN (o x_)), (fun x_ => nI (b x_)), M, vs, (fun x_ => lN (w x_)), (fun x_ => lN (ct x_))) ((nI L), (nI B), (nI E), (nI Q), (nI qc), cy, du, cf, op, rd, wr, ve, bf, so, it, cn)) ((nI L), (nI B), (nI E), (nI Q), (nI qc), cy, du, cf, op, rd, wr, ve, bf, so, it, cn) v1 := by
    intro z
    unfold wpY_durable
    dsimp only
    exact ep_vb_y (Or.inr (Or.inr z)) (br_t rfl ⟨rfl, R⟩)
  rcases pk_ix v1 (n := L) (by omega) with z | z | ⟨l, hl, rfl⟩
  · unfold wpX_durable
    dsimp only
    exact ep_vlb_x (Or.inl z) (br_t rfl (bad (Or.inl z)))
  · unfold wpX_durable
    dsimp only
    exact ep_vlb_x (Or.inr z) (br_t rfl (bad (Or.inr z)))
  · refine ep_dur_x l hl hL hQ fq ?_
    unfold wpY_durable
    dsimp only
    refine ep_v_y 0 l (by omega) hl hL (br_f (by decide) ⟨vp_in_nI (by omega) (by decide), ?_, R⟩)
    rw [nI_clamp (show l < 2 ^ 31 by omega)]
theorem i_vc_queued {k : Nat} {u : SX} {v : SY} (I : i_Rel k u v) (hk : k + 5 ≤ 2564) : wpX_queued (fun r => wpY_queued (fun r' => r' = r ∧ i_Rel (k + 5) u v) v) u := by
  refine I (fun u v => wpX_queued (fun r => wpY_queued (fun r' => r' = r ∧ i_Rel (k + 5) u v) v) u) ?_
  intro L B E Q qh qc ch md ql qv h o b M vs w ct cy du cf op rd wr ve bf so it cn V mk pw sg F
  have fN := F.2.2.2.2.1
  have R : i_Rel (k + 5) (4, 64, (nI L), (nI B), (nI E), (nI Q), (nI qh), (nI qc), ch, md, ql, qv, (fun x_ => lN (h x_)), (fun x_ => lN (o x_)), (fun x_ => nI (b x_)), M, vs, (fun x_ => lN (w x_)), (fun x_ => lN (ct x_))) ((nI L), (nI B), (nI E), (nI Q), (nI qc), cy, du, cf, op, rd, wr, ve, bf, so, it, cn) := zz_st F fN.2.2.2
  exact ⟨rfl, R⟩
theorem i_vc_epochs {k : Nat} {u : SX} {v : SY} (I : i_Rel k u v) (hk : k + 5 ≤ 2564) (v1 : Int32) : wpX_epochs (fun r => wpY_epochs (fun r' => r' = r ∧ i_Rel (k + 5) u v) v v1) u v1 := by
  refine I (fun u v => wpX_epochs (fun r => wpY_epochs (fun r' => r' = r ∧ i_Rel (k + 5) u v) v v1) u v1) ?_
  intro L B E Q qh qc ch md ql qv h o b M vs w ct cy du cf op rd wr ve bf so it cn V mk pw sg F
  obtain ⟨hsz, fI, fJ, fA, fN, fE, fb, fq, fc, fY⟩ := id F
  obtain ⟨hL2, hL, hB, hE2, hE, hQ1, hQ⟩ := id hsz
  have R : i_Rel (k + 5) (4, 64, (nI L), (nI B), (nI E), (nI Q), (nI qh), (nI qc), ch, md, ql, qv, (fun x_ => lN (h x_)), (fun x_ => lN (o x_)), (fun x_ => nI (b x_)), M, vs, (fun x_ => lN (w x_)), (fun x_ => lN (ct x_))) ((nI L), (nI B), (nI E), (nI Q), (nI qc), cy, du, cf, op, rd, wr, ve, bf, so, it, cn) := zz_st F fN.2.2.2
  have bad : (v1 < 0 ∨ nI 4 ≤ v1) → wpY_epochs (fun r' => r' = -1 ∧ i_Rel (k + 5) (4, 64, (nI L), (nI B), (nI E), (nI Q), (nI qh), (nI qc), ch, md, ql, qv, (fun x_ => lN (h x_)), (fun x_ => lN (o x_)), (fun x_ => nI (b x_)), M, vs, (fun x_ => lN (w x_)), (fun x_ => lN (ct x_))) ((nI L), (nI B), (nI E), (nI Q), (nI qc), cy, du, cf, op, rd, wr, ve, bf, so, it, cn)) ((nI L), (nI B), (nI E), (nI Q), (nI qc), cy, du, cf, op, rd, wr, ve, bf, so, it, cn) v1 := by
    intro z
    unfold wpY_epochs
    dsimp only
    refine ep_vb_y ?_ (br_t rfl ⟨rfl, R⟩)
    rcases z with z | z
    · exact Or.inl z
    · exact Or.inr (Or.inl z)
  unfold wpX_epochs
  dsimp only
  rcases pk_ix v1 (n := 4) (by decide) with z | z | ⟨c, hc, rfl⟩
  · exact ep_vcb_x (Or.inl z) (br_t rfl (bad (Or.inl z)))
  · exact ep_vcb_x (Or.inr z) (br_t rfl (bad (Or.inr z)))
  · have hoc := fI.1 c hc
    refine ep_vc_x c hc (br_f (by decide) (ep_live_x c hc hoc (ep_epo_y c hc (by omega) hL ?_)))
    rw [ep_Y_epo fY hc, show o c + 1 - h c = o c - h c + 1 from by omega]
    exact ⟨rfl, R⟩
theorem i_vc_retire {k : Nat} {u : SX} {v : SY} (I : i_Rel k u v) (hk : k + 5 ≤ 2564) : wpX_retire (fun r u' => wpY_retire (fun r' v' => r' = r ∧ i_Rel (k + 5) u' v') v) u := by
  refine I (fun u v => wpX_retire (fun r u' => wpY_retire (fun r' v' => r' = r ∧ i_Rel (k + 5) u' v') v) u) ?_
  intro L B E Q qh qc ch md ql qv h o b M vs w ct cy du cf op rd wr ve bf so it cn V mk pw sg F
  obtain ⟨hsz, fI, fJ, fA, fN, fE, fb, fq, fc, fY⟩ := id F
  obtain ⟨hL2, hL, hB, hE2, hE, hQ1, hQ⟩ := id hsz
  have hq := fq.2.1
  unfold wpX_retire
  dsimp only
  refine ek_if (d := qc = 0) (nI_eq (b := 0) (by omega) (by omega)) (fun z => ?_) (fun z => ?_)
  · subst z
    exact br_t rfl ⟨rfl, zz_st F fN.2.2.2⟩
  · refine ep_pop_x hL hQ (by omega) fq (fun md' qh' q' => ?_)
    have h1q : 1 ≤ qc := by omega
    refine br_f (nI_ne0 (by omega) (by omega)) (nm_r (e' := nI (qc - 1)) (pk_sub h1q) ⟨rfl, ?_⟩)
    have F' : ep_F k L B E Q qh' (qc - 1) ch md' ql qv h o b M vs w ct cy du cf op rd wr ve bf V mk pw sg := ⟨hsz, fI, fJ, fA, fN, fE, fb, q', fc, fY⟩
    exact i_up (zz_in F')
theorem i_vc_pending {k : Nat} {u : SX} {v : SY} (I : i_Rel k u v) (hk : k + 5 ≤ 2564) (v1 : Int32) (v2 : Int32) (v3 : Int32) : wpX_pending (fun r => wpY_pending (fun r' => r' = r ∧ i_Rel (k + 5) u v) v v1 v2 v3) u v1 v2 v3 := by
  refine I (fun u v => wpX_pending (fun r => wpY_pending (fun r' => r' = r ∧ i_Rel (k + 5) u v) v v1 v2 v3) u v1 v2 v3) ?_
  intro L B E Q qh qc ch md ql qv h o b M vs w ct cy du cf op rd wr ve bf so it cn V mk pw sg F
  obtain ⟨hsz, fI, fJ, fA, fN, fE, fb, fq, fc, fY⟩ := id F
  obtain ⟨hL2, hL, hB, hE2, hE, hQ1, hQ⟩ := id hsz
  have R : i_Rel (k + 5) (4, 64, (nI L), (nI B), (nI E), (nI Q), (nI qh), (nI qc), ch, md, ql, qv, (fun x_ => lN (h x_)), (fun x_ => lN (o x_)), (fun x_ => nI (b x_)), M, vs, (fun x_ => lN (w x_)), (fun x_ => lN (ct x_))) ((nI L), (nI B), (nI E), (nI Q), (nI qc), cy, du, cf, op, rd, wr, ve, bf, so, it, cn) := zz_st F fN.2.2.2
  have lb : ∀ c, c < 4 → o c ≤ h c + 8 := fun d hd => by have := fE d hd; omega
  unfold wpX_pending
  dsimp only
  rcases ep_ix h o lb fI.1 v1 v2 with ⟨c, i, hc, hi, rfl, rfl⟩ | z
  · have hoN := fN.2.1 c
    have l : ep_lv h o c (h c + i) := ⟨hc, by omega, hi⟩
    obtain ⟨a1, a2, a3, a4⟩ := fY.1 c (h c + i) l
    have hs : ep_sl c (h c + i) < 64 := ep_sl_lt hc
    refine ep_vi1_x c i hc hi (lb c hc) (br_f (by decide) ?_)
    have bad : (v3 < 0 ∨ nI L ≤ v3) → wpY_pending (fun r' => r' = -1 ∧ i_Rel (k + 5) (4, 64, (nI L), (nI B), (nI E), (nI Q), (nI qh), (nI qc), ch, md, ql, qv, (fun x_ => lN (h x_)), (fun x_ => lN (o x_)), (fun x_ => nI (b x_)), M, vs, (fun x_ => lN (w x_)), (fun x_ => lN (ct x_))) ((nI L), (nI B), (nI E), (nI Q), (nI qc), cy, du, cf, op, rd, wr, ve, bf, so, it, cn)) ((nI L), (nI B), (nI E), (nI Q), (nI qc), cy, du, cf, op, rd, wr, ve, bf, so, it, cn) (nI c) (nI i) v3 := by
      intro z
      unfold wpY_pending
      dsimp only
      exact ep_at1_y c i hc hi (lb c hc) fI fY (br_f (nI_pos (by omega)) (ep_vb_y (Or.inr (Or.inr z)) (br_t rfl ⟨rfl, R⟩)))
    rcases pk_ix v3 (n := L) (by omega) with z | z | ⟨x, hx, rfl⟩
    · exact ep_vlb_x (Or.inl z) (br_t rfl (bad (Or.inl z)))
    · exact ep_vlb_x (Or.inr z) (br_t rfl (bad (Or.inr z)))
    · obtain ⟨b1, b2, b3, b4⟩ := a4 x (by omega)
      have yw : ∀ post : Int32 → Prop, post (if mk c (h c + i) (16 + x) = true then pw c (h c + i) x else -2) → wpY_pending post ((nI L), (nI B), (nI E), (nI Q), (nI qc), cy, du, cf, op, rd, wr, ve, bf, so, it, cn) (nI c) (nI i) (nI x) := by
        intro post K
        unfold wpY_pending
        dsimp only
        refine ep_at1_y c i hc hi (lb c hc) fI fY (br_f (nI_pos (by omega)) (ep_v_y c x hc hx hL (br_f (by decide) ⟨ep_in8 (by omega), ?_⟩)))
        rw [ep_cl8 (by omega), b3]
        cases y : mk c (h c + i) (16 + x)
        · rw [y, if_neg Bool.false_ne_true] at K
          rw [if_neg Bool.false_ne_true]
          exact br_f ep_ngm1 K
        · rw [y, if_pos rfl] at K
          rw [if_pos rfl]
          exact br_t (b4 y) ⟨ep_in8 (by omega), K⟩
      refine ep_vl_x x hx hL (br_f (by decide) ⟨vp_in_nI hc (by decide), ?_⟩)
      rw [nI_clamp (show c < 2 ^ 31 by omega), nI_l (show i < 2 ^ 31 by omega), lN_add]
      refine ep_slot_x c (h c + i) hc (by omega) ⟨vp_in_nI hs (by decide), ?_⟩
      rw [nI_clamp (show ep_sl c (h c + i) < 2 ^ 31 by omega), ep_cl8 (by omega)]
      have hbit := (fA c (h c + i) l).2.1 (16 + x) (by omega)
      refine ek_if (ep_t65536 (by omega)) (fun t => yw _ ?_) (fun t => ⟨ep_in8 (by omega), yw _ ?_⟩)
      · rw [hbit] at t
        rw [t]
        exact ⟨rfl, R⟩
      · rw [hbit] at t
        have t2 : mk c (h c + i) (16 + x) = true := by
          cases y : mk c (h c + i) (16 + x)
          · exact absurd y t
          · rfl
        rw [if_pos t2]
        exact ⟨((fA c (h c + i) l).2.2 x (by omega) t2).symm, R⟩
  · refine ep_vi0_x fI.1 z (br_t rfl ?_)
    unfold wpY_pending
    dsimp only
    exact ep_at0_y z lb fI fY (br_t (by decide) ⟨rfl, R⟩)
theorem i_vc_before {k : Nat} {u : SX} {v : SY} (I : i_Rel k u v) (hk : k + 5 ≤ 2564) (v1 : Int32) (v2 : Int32) (v3 : Int32) (v4 : Int32) : wpX_before (fun r => wpY_before (fun r' => r' = r ∧ i_Rel (k + 5) u v) v v1 v2 v3 v4) u v1 v2 v3 v4 := by
  refine I (fun u v => wpX_before (fun r => wpY_before (fun r' => r' = r ∧ i_Rel (k + 5) u v) v v1 v2 v3 v4) u v1 v2 v3 v4) ?_
  intro L B E Q qh qc ch md ql qv h o b M vs w ct cy du cf op rd wr ve bf so it cn V mk pw sg F
  obtain ⟨hsz, fI, fJ, fA, fN, fE, fb, fq, fc, fY⟩ := id F
  obtain ⟨hL2, hL, hB, hE2, hE, hQ1, hQ⟩ := id hsz
  have R : i_Rel (k + 5) (4, 64, (nI L), (nI B), (nI E), (nI Q), (nI qh), (nI qc), ch, md, ql, qv, (fun x_ => lN (h x_)), (fun x_ => lN (o x_)), (fun x_ => nI (b x_)), M, vs, (fun x_ => lN (w x_)), (fun x_ => lN (ct x_))) ((nI L), (nI B), (nI E), (nI Q), (nI qc), cy, du, cf, op, rd, wr, ve, bf, so, it, cn) := zz_st F fN.2.2.2
  have lb : ∀ c, c < 4 → o c ≤ h c + 8 := fun d hd => by have := fE d hd; omega
  unfold wpX_before
  dsimp only
  rcases ep_ix h o lb fI.1 v1 v2 with ⟨c, i, hc, hi, rfl, rfl⟩ | z
  · have hoN := fN.2.1 c
    have l : ep_lv h o c (h c + i) := ⟨hc, by omega, hi⟩
    have a1 := (fY.1 c (h c + i) l).1
    refine ep_vi1_x c i hc hi (lb c hc) (br_f (by decide) ?_)
    rcases ep_ix h o lb fI.1 v3 v4 with ⟨d, j, hd, hj, rfl, rfl⟩ | z
    · have hoM := fN.2.1 d
      have ld : ep_lv h o d (h d + j) := ⟨hd, by omega, hj⟩
      have a2 := (fY.1 d (h d + j) ld).1
      have hs : ep_sl d (h d + j) < 64 := ep_sl_lt hd
      have hw := fN.2.2.1 (ep_sl d (h d + j) * 4 + c)
      refine ep_vi1_x d j hd hj (lb d hd) (br_f (by decide) ⟨vp_in_nI hd (by decide), ?_⟩)
      rw [nI_clamp (show c < 2 ^ 31 by omega), nI_clamp (show d < 2 ^ 31 by omega), nI_l (show i < 2 ^ 31 by omega), nI_l (show j < 2 ^ 31 by omega), lN_add, lN_add]
      have yw : ∀ post : Int32 → Prop, post (ep_b (decide (h c + i < V d (h d + j) c))) → wpY_before post ((nI L), (nI B), (nI E), (nI Q), (nI qc), cy, du, cf, op, rd, wr, ve, bf, so, it, cn) (nI c) (nI i) (nI d) (nI j) := by
        intro post K
        unfold wpY_before
        dsimp only
        refine ep_at1_y c i hc hi (lb c hc) fI fY (ep_at1_y d j hd hj (lb d hd) fI fY (br_f (nI_pos (by omega)) (br_t (nI_pos' (by omega)) ⟨ep_in40 (by omega), ?_⟩)))
        rw [ep_cl40 (by omega), fY.2.2.1 d (h d + j) c (h c + i) ld l]
        cases y : decide (h c + i < V d (h d + j) c)
        · rw [y] at K; exact br_t rfl K
        · rw [y] at K; exact br_f (by decide) K
      refine ep_slot_x d (h d + j) hd (by omega) ⟨ep_in4 (by omega), vp_in_nI hc (by decide), ?_⟩
      rw [ep_cl4 (by omega), lN_le (by omega) (by omega), (fA d (h d + j) ld).1 c hc]
      refine br_c (fun t => yw _ ?_) (fun t => yw _ ?_)
      · rw [decide_eq_false (by omega)]
        exact ⟨rfl, R⟩
      · rw [decide_eq_true (by omega)]
        exact ⟨rfl, R⟩
    · refine ep_vi0_x fI.1 z (br_t rfl ?_)
      unfold wpY_before
      dsimp only
      exact ep_at1_y c i hc hi (lb c hc) fI fY (ep_at0_y z lb fI fY (br_f (nI_pos (by omega)) (br_f (by decide) ⟨rfl, R⟩)))
  · refine ep_vi0_x fI.1 z (br_t rfl ?_)
    unfold wpY_before
    dsimp only
    refine ep_at0_y z lb fI fY ?_
    rcases ep_ix h o lb fI.1 v3 v4 with ⟨d, j, hd, hj, rfl, rfl⟩ | z2
    · exact ep_at1_y d j hd hj (lb d hd) fI fY (br_t (by decide) ⟨rfl, R⟩)
    · exact ep_at0_y z2 lb fI fY (br_t (by decide) ⟨rfl, R⟩)
end
section
/-! lastUse, drain -/
section
variable {L B E Q q : Nat} {cy du cf op rd wr ve bf so it cn : Nat → Int32} {sg : Nat → Nat → Nat} {h o ct : Nat → Nat} {V : Nat → Nat → Nat → Nat} {mk mk' : Nat → Nat → Nat → Bool} {pw pw' : Nat → Nat → Nat → Int32}
theorem ep_dn0 : nI 0 + (-1) < 0 := by decide
theorem ep_last_y {post : Int32 → Prop} (c x : Nat) (kd : Int32) (P : Nat → Prop) (hc : c < 4) (hx : x < 8) (hb : ∀ c, c < 4 → o c ≤ h c + 8) (hb7 : o c ≤ h c + 7) (I : ep_IV h o V) (Y : ep_Y sg h o V mk pw cf op rd wr ve bf) (hP0 : kd = 0 → ∀ n, P n ↔ mk c n x = true) (hP1 : ¬ kd = 0 → ∀ n, P n ↔ mk c n (8 + x) = true) (K1 : (∀ n, ep_lv h o c n → ¬ P n) → post (-2)) (K2 : ∀ i, h c + i ≤ o c → P (h c + i) → (∀ n, ep_lv h o c n → h c + i < n → ¬ P n) → post (nI i)) : ∃ n, wY_lastUse_24 post (nI c) (nI x) kd (nI L) (nI B) (nI E) (nI Q) (nI q) cy du cf op rd wr ve bf so it cn n 7 := by
  refine ⟨9, ?_⟩
  have := pk_loopD (fun n j (_ : Unit) => wY_lastUse_24 post (nI c) (nI x) kd (nI L) (nI B) (nI E) (nI Q) (nI q) cy du cf op rd wr ve bf so it cn n (nI j + (-1))) (fun j _ => j ≤ 8 ∧ ∀ i, j ≤ i → h c + i ≤ o c → ¬ P (h c + i)) ?_ ?_ 8 () ⟨Nat.le_refl _, fun i hi h2 => by omega⟩
  · exact this
  · intro n _ H
    refine br_t ep_dn0 (K1 (fun m lm => ?_))
    have := H.2 (m - h c) (by omega)
    have h1 := lm.2.1
    rw [show h c + (m - h c) = m from by omega] at this
    exact this lm.2.2
  · rintro n i _ ⟨H8, H⟩ next
    show wY_lastUse_24 post (nI c) (nI x) kd (nI L) (nI B) (nI E) (nI Q) (nI q) cy du cf op rd wr ve bf so it cn (n + 1) (nI (i + 1) + (-1))
    rw [pk_m1]
    have hi31 : i < 2 ^ 31 := by omega
    · refine br_f (nI_pos hi31) ?_
      rcases ep_ix h o hb I.1 (nI c) (nI i) with ⟨c', i', hc', hi', e1, e2⟩ | z
      · have : c = c' := (nI_eq (by omega) (by omega)).mp e1
        subst this
        have h8 := hb c hc
        have : i = i' := (nI_eq hi31 (by omega)).mp e2
        subst this
        have l : ep_lv h o c (h c + i) := ⟨hc, by omega, hi'⟩
        obtain ⟨a1, a2, a3, a4⟩ := Y.1 c (h c + i) l
        obtain ⟨b1, b2, _, _⟩ := a4 x hx
        have nx : ¬ P (h c + i) → wY_lastUse_24 post (nI c) (nI x) kd (nI L) (nI B) (nI E) (nI Q) (nI q) cy du cf op rd wr ve bf so it cn n (nI i + (-1)) := by
          intro t
          refine next () ⟨by omega, fun j hj h2 => ?_⟩
          by_cases y : j = i
          · rw [y]; exact t
          · exact H j (by omega) h2
        have fnd : P (h c + i) → post (nI i) := by
          intro t
          refine K2 i hi' t (fun m lm hm => ?_)
          have := H (m - h c) (by omega)
          have h1 := lm.2.1
          rw [show h c + (m - h c) = m from by omega] at this
          exact this lm.2.2
        refine ep_at1_y c i hc hi' (hb c hc) I Y (br_f (nI_pos (by omega)) ?_)
        refine br_c (fun y => ⟨ep_in8 (by omega), ?_⟩) (fun y => ⟨ep_in8 (by omega), ?_⟩)
        · rw [ep_cl8 (by omega), b1]
          refine ek_if ep_b0 (fun t => nm_e (nx (fun s => ?_))) (fun t => fnd ?_)
          · rw [(hP0 y _).mp s] at t; exact absurd t (by decide)
          · refine (hP0 y _).mpr ?_
            cases v : mk c (h c + i) x
            · exact absurd v t
            · rfl
        · rw [ep_cl8 (by omega), b2]
          refine ek_if ep_b0 (fun t => nm_e (nx (fun s => ?_))) (fun t => fnd ?_)
          · rw [(hP1 y _).mp s] at t; exact absurd t (by decide)
          · refine (hP1 y _).mpr ?_
            cases v : mk c (h c + i) (8 + x)
            · exact absurd v t
            · rfl
      · refine ep_at0_y z hb I Y (br_t (by decide) (nm_e (next () ⟨by omega, fun j hj h2 => ?_⟩)))
        by_cases y : j = i
        · subst y
          exfalso
          rcases z with z | ⟨c', hc', e1, z⟩
          · rcases z with z | z
            · exact nI_pos (by omega) z
            · rw [nI_leI (by omega) (by omega)] at z
              omega
          · have : c = c' := (nI_eq (by omega) (by omega)).mp e1
            subst this
            rcases z with z | z
            · exact nI_pos hi31 z
            · have := I.1 c hc
              have := hb c hc
              rw [nI_leI (by omega) hi31] at z
              omega
        · exact H j (by omega) h2
theorem ep_pend1_y {post : Int32 → Prop} (c i x : Nat) (hc : c < 4) (hi : h c + i ≤ o c) (hb : o c ≤ h c + 8) (hx : x < L) (hL : L ≤ 8) (I : ep_IV h o V) (Y : ep_Y sg h o V mk pw cf op rd wr ve bf) (K0 : mk c (h c + i) (16 + x) = false → post (-2)) (K1 : mk c (h c + i) (16 + x) = true → 0 ≤ pw c (h c + i) x → post (pw c (h c + i) x)) : wpY_pending post ((nI L), (nI B), (nI E), (nI Q), (nI q), cy, du, cf, op, rd, wr, ve, bf, so, it, cn) (nI c) (nI i) (nI x) := by
  have l : ep_lv h o c (h c + i) := ⟨hc, by omega, hi⟩
  obtain ⟨a1, a2, a3, a4⟩ := Y.1 c (h c + i) l
  obtain ⟨b1, b2, b3, b4⟩ := a4 x (by omega)
  unfold wpY_pending
  dsimp only
  refine ep_at1_y c i hc hi hb I Y (br_f (nI_pos (by omega)) (ep_v_y c x hc hx hL (br_f (by decide) ⟨ep_in8 (by omega), ?_⟩)))
  rw [ep_cl8 (by omega), b3]
  cases y : mk c (h c + i) (16 + x)
  · rw [if_neg Bool.false_ne_true]
    exact br_f ep_ngm1 (K0 y)
  · rw [if_pos rfl]
    exact br_t (b4 y) ⟨ep_in8 (by omega), K1 y (b4 y)⟩
theorem ep_pend0_y {post : Int32 → Prop} {x y z : Int32} (t : ep_bix h o x y) (hb : ∀ c, c < 4 → o c ≤ h c + 8) (I : ep_IV h o V) (Y : ep_Y sg h o V mk pw cf op rd wr ve bf) (K : post (-1)) : wpY_pending post ((nI L), (nI B), (nI E), (nI Q), (nI q), cy, du, cf, op, rd, wr, ve, bf, so, it, cn) x y z := by
  unfold wpY_pending
  dsimp only
  exact ep_at0_y t hb I Y (br_t (by decide) K)
theorem ep_nbix {c i : Nat} (hc : c < 4) (hi31 : i < 2 ^ 31) (hb : ∀ c, c < 4 → o c ≤ h c + 8) (hi : h c + i ≤ o c) : ¬ ep_bix h o (nI c) (nI i) := by
  rintro (z | ⟨c', hc', e1, z⟩)
  · rcases z with z | z
    · exact nI_pos (by omega) z
    · rw [nI_leI (by omega) (by omega)] at z
      omega
  · have : c = c' := (nI_eq (by omega) (by omega)).mp e1
    subst this
    rcases z with z | z
    · exact nI_pos hi31 z
    · have := hb c hc
      rw [nI_leI (by omega) hi31] at z
      omega
theorem ep_drain17_y {post : Int32 → SY → Prop} (c x : Nat) (hc : c < 4) (hx : x < L) (hL : L ≤ 8) (hQ : Q ≤ 8) (hq : q ≤ Q) (hb : ∀ c, c < 4 → o c ≤ h c + 8) (hb7 : o c ≤ h c + 7) (I : ep_IV h o V) (Y : ep_Y sg h o V mk pw cf op rd wr ve bf) (K1 : (∀ n, ep_lv h o c n → mk c n (16 + x) = false) → post (-2) ((nI L), (nI B), (nI E), (nI Q), (nI q), cy, du, cf, op, rd, wr, ve, bf, so, it, cn)) (K2 : ∀ n, ep_lv h o c n → mk c n (16 + x) = true → (∀ m, ep_lv h o c m → m < n → mk c m (16 + x) = false) → (∃ d m, ep_lv h o d m ∧ m < V c n d) → post (-3) ((nI L), (nI B), (nI E), (nI Q), (nI q), cy, du, cf, op, rd, wr, ve, bf, so, it, cn)) (K3 : ∀ n, ep_lv h o c n → mk c n (16 + x) = true → (∀ m, ep_lv h o c m → m < n → mk c m (16 + x) = false) → (∀ d m, ep_lv h o d m → ¬ m < V c n d) → ¬ q < Q → post (-6) ((nI L), (nI B), (nI E), (nI Q), (nI q), cy, du, cf, op, rd, wr, ve, bf, so, it, cn)) (K4 : ∀ n, ep_lv h o c n → mk c n (16 + x) = true → (∀ m, ep_lv h o c m → m < n → mk c m (16 + x) = false) → (∀ d m, ep_lv h o d m → ¬ m < V c n d) → q < Q → ∃ f, wY_drain_82 post (nI x) (nI (sg c n)) (nI L) (nI B) (nI E) (nI Q) (nI q) f 0 cy du cf op rd wr ve bf so it cn) : wpY_drain post ((nI L), (nI B), (nI E), (nI Q), (nI q), cy, du, cf, op, rd, wr, ve, bf, so, it, cn) (nI c) (nI x) := by
  unfold wpY_drain
  dsimp only
  refine ep_v_y c x hc hx hL (br_f (by decide) ⟨9, ?_⟩)
  have := pk_loopD (fun n j (r : Int32) => wY_drain_17 post (nI c) (nI x) (nI L) (nI B) (nI E) (nI Q) (nI q) cy du cf op rd wr ve bf so it cn n r (nI j + (-1))) (fun j r => j ≤ 8 ∧ ((r = -1 ∧ ∀ i, j ≤ i → h c + i ≤ o c → mk c (h c + i) (16 + x) = false) ∨ ∃ i, j ≤ i ∧ h c + i ≤ o c ∧ r = nI (sg c (h c + i)) ∧ mk c (h c + i) (16 + x) = true ∧ ∀ i', j ≤ i' → i' < i → mk c (h c + i') (16 + x) = false)) ?_ ?_ 8 (-1) ⟨Nat.le_refl _, Or.inl ⟨rfl, fun i hi h2 => by omega⟩⟩
  · exact this
  · rintro n r ⟨_, H⟩
    refine br_t ep_dn0 ?_
    rcases H with ⟨rfl, H⟩ | ⟨i, _, hi, rfl, hm, H⟩
    · refine br_f ep_ngm1 (K1 (fun m lm => ?_))
      have := H (m - h c) (by omega)
      have h1 := lm.2.1
      rw [show h c + (m - h c) = m from by omega] at this
      exact this lm.2.2
    · have l : ep_lv h o c (h c + i) := ⟨hc, by omega, hi⟩
      have a1 := (Y.1 c (h c + i) l).1
      have mn : ∀ m, ep_lv h o c m → m < h c + i → mk c m (16 + x) = false := by
        intro m lm t
        have h1 := lm.2.1
        have := H (m - h c) (by omega) (by omega)
        rw [show h c + (m - h c) = m from by omega] at this
        exact this
      refine br_t (nI_pos' (by omega)) (ep_hasB_y _ a1 (fun b hb2 => ?_))
      have hbe : (∃ f, f < 40 ∧ ¬ bf (f * 40 + sg c (h c + i)) = 0) ↔ ∃ d m, ep_lv h o d m ∧ m < V c (h c + i) d := by
        constructor
        · rintro ⟨f, hf, t⟩
          rcases Y.2.2.2 f hf with ⟨d, m, ld, z⟩ | z
          · rw [z, Y.2.2.1 c (h c + i) d m l ld, ep_bne, decide_eq_true_iff] at t
            exact ⟨d, m, ld, t⟩
          · exact absurd (z.2.2.2 _ a1).1 t
        · rintro ⟨d, m, ld, t⟩
          refine ⟨sg d m, (Y.1 d m ld).1, ?_⟩
          rw [Y.2.2.1 c (h c + i) d m l ld, ep_bne, decide_eq_true_iff]
          exact t
      rw [hbe] at hb2
      cases b
      · have nb : ∀ d m, ep_lv h o d m → ¬ m < V c (h c + i) d := fun d m ld t => absurd (hb2.mpr ⟨d, m, ld, t⟩) (by decide)
        exact br_t rfl (ek_if (nI_ltI (by omega) (by omega)) (fun t => K4 _ l hm mn nb t) (fun t => K3 _ l hm mn nb t))
      · exact br_f (by decide) (K2 _ l hm mn (hb2.mp rfl))
  · rintro n i r ⟨H8, H⟩ next
    show wY_drain_17 post (nI c) (nI x) (nI L) (nI B) (nI E) (nI Q) (nI q) cy du cf op rd wr ve bf so it cn (n + 1) r (nI (i + 1) + (-1))
    rw [pk_m1]
    have hi31 : i < 2 ^ 31 := by omega
    refine br_f (nI_pos hi31) ?_
    rcases ep_ix h o hb I.1 (nI c) (nI i) with ⟨c', i', hc', hi', e1, e2⟩ | z
    · have : c = c' := (nI_eq (by omega) (by omega)).mp e1
      subst this
      have h8 := hb c hc
      have : i = i' := (nI_eq hi31 (by omega)).mp e2
      subst this
      refine ep_pend1_y c i x hc hi' (hb c hc) hx hL I Y (fun t => br_t (by decide) (nm_e (next r ⟨by omega, ?_⟩))) (fun t1 t2 => br_f (ep_nn.mpr t2) (ep_at1_y c i hc hi' (hb c hc) I Y (nm_e (next _ ⟨by omega, Or.inr ⟨i, Nat.le_refl _, hi', rfl, t1, fun i' q1 q2 => by omega⟩⟩))))
      rcases H with ⟨e, H⟩ | ⟨i0, q1, q2, q3, q4, q5⟩
      · refine Or.inl ⟨e, fun j hj h2 => ?_⟩
        by_cases y : j = i
        · rw [y]; exact t
        · exact H j (by omega) h2
      · refine Or.inr ⟨i0, by omega, q2, q3, q4, fun i' y1 y2 => ?_⟩
        by_cases y : i' = i
        · rw [y]; exact t
        · exact q5 i' (by omega) y2
    · refine ep_pend0_y z hb I Y (br_t (by decide) (nm_e (next r ⟨by omega, ?_⟩)))
      have nv : ¬ h c + i ≤ o c := fun t => ep_nbix hc hi31 hb t z
      rcases H with ⟨e, H⟩ | ⟨i0, q1, q2, q3, q4, q5⟩
      · refine Or.inl ⟨e, fun j hj h2 => ?_⟩
        by_cases y : j = i
        · subst y; exact absurd h2 nv
        · exact H j (by omega) h2
      · exact absurd (by omega) nv
theorem ep_drain82_y {post : Int32 → SY → Prop} (x e0 : Nat) (he0 : e0 < 40) (hx : x < 8) (K : ∀ cn' : Nat → Int32, (∀ e y, e < 40 → y < 8 → (¬ cn' (e * 8 + y) = 0 ↔ (e = e0 ∧ y = x))) → (op e0 = 0 → wpY_flush (fun _ u => post 0 u) ((nI L), (nI B), (nI E), (nI Q), (nI q), cy, du, cf, op, rd, wr, ve, bf, so, it, cn')) ∧ (¬ op e0 = 0 → wpY_close (fun _ u => wpY_flush (fun _ u => post 0 u) u) ((nI L), (nI B), (nI E), (nI Q), (nI q), cy, du, cf, op, rd, wr, ve, bf, so, it, cn') (nI e0))) : ∃ n, wY_drain_82 post (nI x) (nI e0) (nI L) (nI B) (nI E) (nI Q) (nI q) n 0 cy du cf op rd wr ve bf so it cn := by
  refine loop_0 (fun n i (cn' : Nat → Int32) => wY_drain_82 post (nI x) (nI e0) (nI L) (nI B) (nI E) (nI Q) (nI q) n (nI i) cy du cf op rd wr ve bf so it cn') (fun i cn' => ∀ y, y < i → (¬ cn' y = 0 ↔ y = e0 * 8 + x)) 320 cn (fun y hy => by omega) ?_ ?_
  · intro n cn' H
    refine br_t (nI_le (Nat.le_refl 320) (by decide)) ⟨vp_in_nI he0 (by decide), ?_⟩
    rw [nI_clamp (show e0 < 2 ^ 31 by omega)]
    refine K cn' (fun e y he hy => ?_)
    rw [H _ (by omega)]
    constructor
    · intro t; exact ⟨by omega, by omega⟩
    · rintro ⟨rfl, rfl⟩; rfl
  · intro n i cn' hi H next
    have st : ∀ b : Bool, (b = true ↔ i = e0 * 8 + x) → wY_drain_82 post (nI x) (nI e0) (nI L) (nI B) (nI E) (nI Q) (nI q) n (nI (i + 1)) cy du cf op rd wr ve bf so it (upd cn' i (ep_b b)) := by
      intro b hb
      refine next (upd cn' i (ep_b b)) (fun y hy => ?_)
      by_cases q : y = i
      · rw [q, pk_us, ep_bne]; exact hb
      · rw [pk_un q]; exact H y (by omega)
    refine br_f (nI_ge (b := 320) hi (by decide)) ?_
    rw [ep_i8]
    refine ek_if (nI_eq (by omega) (by omega)) (fun z => ⟨vp_in_nI hi (by decide), nm_r (e' := upd cn' i (ep_b true)) (by rw [nI_clamp (by omega)]; rfl) (nm_r (nI_1 i) (st true ⟨fun _ => z, fun _ => rfl⟩))⟩) (fun z => ⟨vp_in_nI hi (by decide), nm_r (e' := upd cn' i (ep_b false)) (by rw [nI_clamp (by omega)]; rfl) (nm_r (nI_1 i) (st false ⟨fun t => absurd t (by decide), fun t => absurd t z⟩))⟩)
end
end
section
/-! i_vc_lastUse, i_vc_drain -/
theorem i_vc_lastUse {k : Nat} {u : SX} {v : SY} (I : i_Rel k u v) (hk : k + 5 ≤ 2564) (v1 : Int32) (v2 : Int32) (v3 : Int32) : wpX_lastUse (fun r => wpY_lastUse (fun r' => r' = r ∧ i_Rel (k + 5) u v) v v1 v2 v3) u v1 v2 v3 := by
  refine I (fun u v => wpX_lastUse (fun r => wpY_lastUse (fun r' => r' = r ∧ i_Rel (k + 5) u v) v v1 v2 v3) u v1 v2 v3) ?_
  intro L B E Q qh qc ch md ql qv h o b M vs w ct cy du cf op rd wr ve bf so it cn V mk pw sg F
  obtain ⟨hsz, fI, fJ, fA, fN, fE, fb, fq, fc, fY⟩ := id F
  obtain ⟨hL2, hL, hB, hE2, hE, hQ1, hQ⟩ := id hsz
  have R : i_Rel (k + 5) (4, 64, (nI L), (nI B), (nI E), (nI Q), (nI qh), (nI qc), ch, md, ql, qv, (fun x_ => lN (h x_)), (fun x_ => lN (o x_)), (fun x_ => nI (b x_)), M, vs, (fun x_ => lN (w x_)), (fun x_ => lN (ct x_))) ((nI L), (nI B), (nI E), (nI Q), (nI qc), cy, du, cf, op, rd, wr, ve, bf, so, it, cn) := zz_st F fN.2.2.2
  have hb : ep_XB k h o w ct := ⟨by omega, fN⟩
  have lb : ∀ c, c < 4 → o c ≤ h c + 8 := fun d hd => by have := fE d hd; omega
  have bad : (v1 < 0 ∨ nI 4 ≤ v1 ∨ v2 < 0 ∨ nI L ≤ v2) → wpY_lastUse (fun r' => r' = -1 ∧ i_Rel (k + 5) (4, 64, (nI L), (nI B), (nI E), (nI Q), (nI qh), (nI qc), ch, md, ql, qv, (fun x_ => lN (h x_)), (fun x_ => lN (o x_)), (fun x_ => nI (b x_)), M, vs, (fun x_ => lN (w x_)), (fun x_ => lN (ct x_))) ((nI L), (nI B), (nI E), (nI Q), (nI qc), cy, du, cf, op, rd, wr, ve, bf, so, it, cn)) ((nI L), (nI B), (nI E), (nI Q), (nI qc), cy, du, cf, op, rd, wr, ve, bf, so, it, cn) v1 v2 v3 := by
    intro z
    unfold wpY_lastUse
    dsimp only
    exact ep_vb_y z (br_t rfl ⟨rfl, R⟩)
  unfold wpX_lastUse
  dsimp only
  rcases pk_ix v1 (n := 4) (by decide) with z | z | ⟨c, hc, rfl⟩
  · exact ep_vcb_x (Or.inl z) (br_t rfl (bad (Or.inl z)))
  · exact ep_vcb_x (Or.inr z) (br_t rfl (bad (Or.inr (Or.inl z))))
  refine ep_vc_x c hc (br_f (by decide) ?_)
  rcases pk_ix v2 (n := L) (by omega) with z | z | ⟨x, hx, rfl⟩
  · exact ep_vlb_x (Or.inl z) (br_t rfl (bad (Or.inr (Or.inr (Or.inl z)))))
  · exact ep_vlb_x (Or.inr z) (br_t rfl (bad (Or.inr (Or.inr (Or.inr z)))))
  refine ep_vl_x x hx hL (br_f (by decide) ?_)
  have hoN := fN.2.1 c
  have hhN := fN.1 c
  -- both against the newest marked epoch
  have go : ∀ (P : Nat → Prop) (mask : Int32), (v3 = 0 → ∀ n, P n ↔ mk c n x = true) → (¬ v3 = 0 → ∀ n, P n ↔ mk c n (8 + x) = true) → (v3 = 0 ∨ v3 = 1) → (∀ n, h c ≤ n → n ≤ o c → (¬ (M (ep_sl c n)) &&& mask = 0 ↔ P n)) → wX_lastUse_44 (fun r => wpY_lastUse (fun r' => r' = r ∧ i_Rel (k + 5) (4, 64, (nI L), (nI B), (nI E), (nI Q), (nI qh), (nI qc), ch, md, ql, qv, (fun x_ => lN (h x_)), (fun x_ => lN (o x_)), (fun x_ => nI (b x_)), M, vs, (fun x_ => lN (w x_)), (fun x_ => lN (ct x_))) ((nI L), (nI B), (nI E), (nI Q), (nI qc), cy, du, cf, op, rd, wr, ve, bf, so, it, cn)) ((nI L), (nI B), (nI E), (nI Q), (nI qc), cy, du, cf, op, rd, wr, ve, bf, so, it, cn) (nI c) (nI x) v3) (nI c) mask 4 64 (nI L) (nI B) (nI E) (nI Q) (nI qh) (nI qc) ch md ql qv (fun x_ => lN (h x_)) (fun x_ => lN (o x_)) (fun x_ => nI (b x_)) M vs (fun x_ => lN (w x_)) (fun x_ => lN (ct x_)) := by
    intro P mask p0 p1 hv hP
    have yw : ∀ post : Int32 → Prop, ((∀ n, ep_lv h o c n → ¬ P n) → post (-2)) → (∀ i, h c + i ≤ o c → P (h c + i) → (∀ n, ep_lv h o c n → h c + i < n → ¬ P n) → post (nI i)) → wpY_lastUse post ((nI L), (nI B), (nI E), (nI Q), (nI qc), cy, du, cf, op, rd, wr, ve, bf, so, it, cn) (nI c) (nI x) v3 := by
      intro post K1 K2
      have l24 := ep_last_y (post := post) c x v3 P hc (by omega) lb (by have := fE c hc; omega) fI fY p0 p1 K1 K2 (L := L) (B := B) (E := E) (Q := Q) (q := qc) (cy := cy) (du := du) (so := so) (it := it) (cn := cn)
      unfold wpY_lastUse
      dsimp only
      refine ep_v_y c x hc hx hL (br_f (by decide) ?_)
      rcases hv with hv | hv
      · exact br_t hv l24
      · exact br_f (by rw [hv]; decide) (br_t hv l24)
    unfold wX_lastUse_44
    refine ep_newest_x c mask P hc (fI.1 c hc) hb hP (fun r hr => ?_)
    rcases hr with ⟨rfl, hr⟩ | ⟨n, rfl, n1, n2, n3, n4⟩
    · refine br_f (by decide) (yw _ (fun _ => ⟨rfl, R⟩) (fun i hi t _ => ?_))
      exact absurd t (hr _ (by omega) (by omega))
    · refine br_t (by rw [ep_l0, lN_le (by omega) (by omega)]; omega) ⟨vp_in_nI hc (by decide), ?_⟩
      dsimp only
      rw [nI_clamp (show c < 2 ^ 31 by omega), lN_sub n1, lN_i]
      refine yw _ (fun t => absurd n3 (t n ⟨hc, n1, by omega⟩)) (fun i hi t1 t2 => ⟨congrArg nI ?_, R⟩)
      by_cases y : h c + i < n
      · exact absurd n3 (t2 n ⟨hc, n1, by omega⟩ y)
      · by_cases y2 : n < h c + i
        · exact absurd t1 (n4 _ y2 (by omega))
        · omega
  have go0 : v3 = 0 → wX_lastUse_29 (fun r => wpY_lastUse (fun r' => r' = r ∧ i_Rel (k + 5) (4, 64, (nI L), (nI B), (nI E), (nI Q), (nI qh), (nI qc), ch, md, ql, qv, (fun x_ => lN (h x_)), (fun x_ => lN (o x_)), (fun x_ => nI (b x_)), M, vs, (fun x_ => lN (w x_)), (fun x_ => lN (ct x_))) ((nI L), (nI B), (nI E), (nI Q), (nI qc), cy, du, cf, op, rd, wr, ve, bf, so, it, cn)) ((nI L), (nI B), (nI E), (nI Q), (nI qc), cy, du, cf, op, rd, wr, ve, bf, so, it, cn) (nI c) (nI x) v3) (nI c) (nI x) v3 4 64 (nI L) (nI B) (nI E) (nI Q) (nI qh) (nI qc) ch md ql qv (fun x_ => lN (h x_)) (fun x_ => lN (o x_)) (fun x_ => nI (b x_)) M vs (fun x_ => lN (w x_)) (fun x_ => lN (ct x_)) := by
    intro hv
    refine br_t hv (go (fun n => mk c n x = true) _ (fun _ _ => Iff.rfl) (fun t => absurd hv t) (Or.inl hv) (fun n n1 n2 => ?_))
    rw [ep_t1 (by omega), (fA c n ⟨hc, n1, n2⟩).2.1 x (by omega)]
    cases mk c n x <;> simp
  have go1 : v3 = 1 → wX_lastUse_29 (fun r => wpY_lastUse (fun r' => r' = r ∧ i_Rel (k + 5) (4, 64, (nI L), (nI B), (nI E), (nI Q), (nI qh), (nI qc), ch, md, ql, qv, (fun x_ => lN (h x_)), (fun x_ => lN (o x_)), (fun x_ => nI (b x_)), M, vs, (fun x_ => lN (w x_)), (fun x_ => lN (ct x_))) ((nI L), (nI B), (nI E), (nI Q), (nI qc), cy, du, cf, op, rd, wr, ve, bf, so, it, cn)) ((nI L), (nI B), (nI E), (nI Q), (nI qc), cy, du, cf, op, rd, wr, ve, bf, so, it, cn) (nI c) (nI x) v3) (nI c) (nI x) v3 4 64 (nI L) (nI B) (nI E) (nI Q) (nI qh) (nI qc) ch md ql qv (fun x_ => lN (h x_)) (fun x_ => lN (o x_)) (fun x_ => nI (b x_)) M vs (fun x_ => lN (w x_)) (fun x_ => lN (ct x_)) := by
    intro hv
    have nv : ¬ v3 = 0 := by rw [hv]; decide
    refine br_f nv (go (fun n => mk c n (8 + x) = true) _ (fun t => absurd t nv) (fun _ _ => Iff.rfl) (Or.inr hv) (fun n n1 n2 => ?_))
    rw [ep_t256 (by omega), (fA c n ⟨hc, n1, n2⟩).2.1 (8 + x) (by omega)]
    cases mk c n (8 + x) <;> simp
  refine br_c (fun t => go0 t) (fun t => br_c (fun t2 => go1 t2) (fun t2 => ?_))
  unfold wpY_lastUse
  dsimp only
  exact ep_v_y c x hc hx hL (br_f (by decide) (br_f t (br_f t2 ⟨rfl, R⟩)))
theorem i_vc_drain {k : Nat} {u : SX} {v : SY} (I : i_Rel k u v) (hk : k + 5 ≤ 2564) (v1 : Int32) (v2 : Int32) : wpX_drain (fun r u' => wpY_drain (fun r' v' => r' = r ∧ i_Rel (k + 5) u' v') v v1 v2) u v1 v2 := by
  refine I (fun u v => wpX_drain (fun r u' => wpY_drain (fun r' v' => r' = r ∧ i_Rel (k + 5) u' v') v v1 v2) u v1 v2) ?_
  intro L B E Q qh qc ch md ql qv h o b M vs w ct cy du cf op rd wr ve bf so it cn V mk pw sg F
  obtain ⟨hsz, fI, fJ, fA, fN, fE, fb, fq, fc, fY⟩ := id F
  obtain ⟨hL2, hL, hB, hE2, hE, hQ1, hQ⟩ := id hsz
  have hb : ep_XB k h o w ct := ⟨by omega, fN⟩
  have R : i_Rel (k + 5) (4, 64, (nI L), (nI B), (nI E), (nI Q), (nI qh), (nI qc), ch, md, ql, qv, (fun x_ => lN (h x_)), (fun x_ => lN (o x_)), (fun x_ => nI (b x_)), M, vs, (fun x_ => lN (w x_)), (fun x_ => lN (ct x_))) ((nI L), (nI B), (nI E), (nI Q), (nI qc), cy, du, cf, op, rd, wr, ve, bf, so, it, cn) := zz_st F fN.2.2.2
  have lb : ep_LB h o := fun d hd => by have := fE d hd; omega
  have bad : (v1 < 0 ∨ nI 4 ≤ v1 ∨ v2 < 0 ∨ nI L ≤ v2) → wpY_drain (fun r' v' => r' = -1 ∧ i_Rel (k + 5) (4, 64, (nI L), (nI B), (nI E), (nI Q), (nI qh), (nI qc), ch, md, ql, qv, (fun x_ => lN (h x_)), (fun x_ => lN (o x_)), (fun x_ => nI (b x_)), M, vs, (fun x_ => lN (w x_)), (fun x_ => lN (ct x_))) v') ((nI L), (nI B), (nI E), (nI Q), (nI qc), cy, du, cf, op, rd, wr, ve, bf, so, it, cn) v1 v2 := by
    intro z
    unfold wpY_drain
    dsimp only
    exact ep_vb_y z (br_t rfl ⟨rfl, R⟩)
  unfold wpX_drain
  dsimp only
  rcases pk_ix v1 (n := 4) (by decide) with z | z | ⟨c, hc, rfl⟩
  · exact ep_vcb_x (Or.inl z) (br_t rfl (bad (Or.inl z)))
  · exact ep_vcb_x (Or.inr z) (br_t rfl (bad (Or.inr (Or.inl z))))
  refine ep_vc_x c hc (br_f (by decide) ?_)
  rcases pk_ix v2 (n := L) (by omega) with z | z | ⟨x, hx, rfl⟩
  · exact ep_vlb_x (Or.inl z) (br_t rfl (bad (Or.inr (Or.inr (Or.inl z)))))
  · exact ep_vlb_x (Or.inr z) (br_t rfl (bad (Or.inr (Or.inr (Or.inr z)))))
  have hx8 : x < 8 := by omega
  have hoc := fI.1 c hc
  have hoN := fN.2.1 c
  have hhN := fN.1 c
  have l0 := ep_lv_head fI hc
  have e0 := fI.2.1 c (h c) l0
  have hs : ep_sl c (h c) < 64 := ep_sl_lt hc
  have hb7 : o c ≤ h c + 7 := by have := fE c hc; omega
  refine ep_vl_x x hx hL (br_f (by decide) (nm_e ?_))
  refine ep_newest_x c _ (fun n => mk c n (16 + x) = true) hc hoc hb (fun n n1 n2 => ?_) (fun r hr => ?_)
  · rw [ep_t65536 hx8, (fA c n ⟨hc, n1, n2⟩).2.1 (16 + x) (by omega)]
    cases mk c n (16 + x) <;> simp
  rcases hr with ⟨rfl, hr⟩ | ⟨n, rfl, n1, n2, n3, n4⟩
  · refine br_f (by decide) ?_
    have none : ∀ m, ep_lv h o c m → mk c m (16 + x) = true → False := fun m lm t => hr m lm.2.1 (Nat.lt_succ_of_le lm.2.2) t
    exact ep_drain17_y c x hc hx hL hQ fq.2.1 lb hb7 fI fY (fun _ => ⟨rfl, R⟩) (fun m lm t => (none m lm t).elim) (fun m lm t => (none m lm t).elim) (fun m lm t => (none m lm t).elim)
  have lnn : ep_lv h o c n := ⟨hc, n1, by omega⟩
  have some : (∀ m, ep_lv h o c m → mk c m (16 + x) = false) → False := fun t => by
    rw [t n lnn] at n3
    exact absurd n3 (by decide)
  refine br_t (by rw [ep_l0, lN_le (by omega) (by omega)]; omega) ⟨vp_in_nI hc (by decide), ?_⟩
  rw [nI_clamp (show c < 2 ^ 31 by omega)]
  refine ep_slot_x c (h c) hc (by omega) ⟨vp_in_nI hs (by decide), ?_⟩
  rw [nI_clamp (show ep_sl c (h c) < 2 ^ 31 by omega)]
  have hbit := (fA c (h c) l0).2.1 (16 + x) (by omega)
  refine ek_if (ep_t65536 hx8) (fun t => ?_) (fun t => ?_)
  · rw [hbit] at t
    have later : ∀ m, ep_lv h o c m → mk c m (16 + x) = true → h c < V c m c := by
      intro m lm y
      rw [fI.2.1 c m lm]
      have := lm.2.1
      have : m ≠ h c := fun e => by
        rw [e, t] at y
        exact absurd y (by decide)
      omega
    exact ep_drain17_y c x hc hx hL hQ fq.2.1 lb hb7 fI fY (fun y => (some y).elim) (fun m lm _ _ _ => ⟨rfl, R⟩) (fun m lm y _ nb => absurd (later m lm y) (nb c (h c) l0)) (fun m lm y _ nb => absurd (later m lm y) (nb c (h c) l0))
  rw [hbit] at t
  have hm : mk c (h c) (16 + x) = true := by
    cases y : mk c (h c) (16 + x)
    · exact absurd y t
    · rfl
  have first : ∀ m, ep_lv h o c m → (∀ m', ep_lv h o c m' → m' < m → mk c m' (16 + x) = false) → m = h c := by
    intro m lm y
    refine Classical.byContradiction fun z => ?_
    have h1 := lm.2.1
    have := y (h c) l0 (by omega)
    rw [hm] at this
    exact absurd this (by decide)
  refine ep_unb_x c (h c) l0 fA hb (fun b2 hb2 => ?_)
  cases b2
  · refine br_t rfl ?_
    have blk : ∃ d m, ep_lv h o d m ∧ m < V c (h c) d := by
      refine Classical.byContradiction fun z => ?_
      refine absurd (hb2.mpr (fun d hd => Nat.not_lt.mp (fun y => z ⟨d, h d, ep_lv_head fI hd, y⟩))) (by decide)
    obtain ⟨d, m, ld, y⟩ := blk
    exact ep_drain17_y c x hc hx hL hQ fq.2.1 lb hb7 fI fY (fun y => (some y).elim) (fun m' lm _ _ _ => ⟨rfl, R⟩) (fun m' lm _ mn nb => by rw [first m' lm mn] at nb; exact absurd y (nb d m ld)) (fun m' lm _ mn nb => by rw [first m' lm mn] at nb; exact absurd y (nb d m ld))
  have ub := hb2.mp rfl
  have nblk : ∀ d m, ep_lv h o d m → ¬ m < V c (h c) d := fun d m ld y => by
    have := ub d ld.1
    have := ld.2.1
    omega
  have hq := fq.2.1
  refine br_f (by decide) (ek_if (nI_ltI (by omega) (by omega)) (fun tq => ?_) (fun tq => ?_))
  rotate_left
  · exact ep_drain17_y c x hc hx hL hQ fq.2.1 lb hb7 fI fY (fun y => (some y).elim) (fun m lm _ mn ⟨d, m', ld, y⟩ => by rw [first m lm mn] at y; exact absurd y (nblk d m' ld)) (fun m lm _ _ _ _ => ⟨rfl, R⟩) (fun m lm _ _ _ y => absurd y tq)
  -- the drain itself
  have xfin : ∀ (sp : Bool) (w2 : Nat → Nat) (M2 : Nat → Int32), (sp = true ↔ h c = o c) → ep_XA h (ep_co o (ep_sp sp c)) (ep_cV o V (ep_sp sp c)) (ep_cm o mk (ep_sp sp c)) pw w2 M2 vs → ep_XB (k + 1) h (ep_co o (ep_sp sp c)) w2 ct → wX_drain_109 (fun r u' => wpY_drain (fun r' v' => r' = r ∧ i_Rel (k + 5) u' v') ((nI L), (nI B), (nI E), (nI Q), (nI qc), cy, du, cf, op, rd, wr, ve, bf, so, it, cn) (nI c) (nI x)) (nI x) (nI (ep_sl c (h c))) 4 64 (nI L) (nI B) (nI E) (nI Q) (nI qh) (nI qc) ch md ql qv (fun x_ => lN (h x_)) (fun x_ => lN ((ep_co o (ep_sp sp c)) x_)) (fun x_ => nI (b x_)) M2 vs (fun x_ => lN (w2 x_)) (fun x_ => lN (ct x_)) := by
    intro sp w2 M2 hsp A2 hb3
    have I2 := ep_IV_sp fI hc sp
    have J2 := ep_IM_sp (c := c) fJ sp
    have lb2 : ep_LB h (ep_co o (ep_sp sp c)) := fun d hd => by
      have := fE d hd
      have := (ep_co_le (o := o) (S := ep_sp sp c) d).2
      omega
    have hbc : ∀ d, d < 4 → b d = ep_cnt h (ep_co o (ep_sp sp c)) (ep_cm o mk (ep_sp sp c)) d := fun d hd => by
      rw [ep_cnt_sp (fI.1 d hd) sp, fb d hd]
    have hmo : ep_cm o mk (ep_sp sp c) c (h c) (16 + x) = true := by rw [ep_cm_o hoc]; exact hm
    unfold wX_drain_109
    refine ep_dvs_x (post := fun u' => wpY_drain (fun r' v' => r' = 0 ∧ i_Rel (k + 5) u' v') ((nI L), (nI B), (nI E), (nI Q), (nI qc), cy, du, cf, op, rd, wr, ve, bf, so, it, cn) (nI c) (nI x)) c (h c) x hx hL hQ hQ1 I2 J2 A2 lb2 hb3 hbc fq (ep_lv_up l0) hmo (fun h3 b3 M3 qh3 md3 ql3 qv3 ct3 A3 hb5 s1 s2 bc3 sb dc3 st3 q3 => ?_)
    have yfin : ∀ (sg2 : Nat → Nat → Nat) (cf2 op2 bf2 cn' : Nat → Int32), ep_Y sg2 h (ep_co o (ep_sp sp c)) (ep_cV o V (ep_sp sp c)) (ep_cm o mk (ep_sp sp c)) pw cf2 op2 rd wr ve bf2 → sg2 c (h c) = sg c (h c) → (∀ e y, e < 40 → y < 8 → (¬ cn' (e * 8 + y) = 0 ↔ (e = sg c (h c) ∧ y = x))) → wpY_flush (fun _ u => (0 : Int32) = 0 ∧ i_Rel (k + 5) (4, 64, (nI L), (nI B), (nI E), (nI Q), (nI qh3), (nI (min (qc + 1) Q)), ch, md3, ql3, qv3, (fun x_ => lN (h3 x_)), (fun x_ => lN ((ep_co o (ep_sp sp c)) x_)), (fun x_ => nI (b3 x_)), M3, vs, (fun x_ => lN (w2 x_)), (fun x_ => lN (ct3 x_))) u) ((nI L), (nI B), (nI E), (nI Q), (nI qc), cy, du, cf2, op2, rd, wr, ve, bf2, so, it, cn') := by
      intro sg2 cf2 op2 bf2 cn' Y2 es hcn
      refine ep_flush_y (ep_C1 c (h c) x) hQ fq.2.1 I2 lb2 Y2 (fun d m y ld hy => ?_) (fun kY h2 dy cf3 op3 rd3 wr3 ve3 bf3 hdu hky Y3 z1 z2 dc2 st2 => ⟨rfl, ?_⟩)
      · rw [hcn _ y (Y2.1 d m ld).1 hy, ep_C1_t, ← es]
        constructor
        · rintro ⟨t1, t2⟩
          obtain ⟨rfl, rfl⟩ := ep_Y_inj Y2 ld (ep_lv_up l0) t1
          exact ⟨rfl, rfl, t2⟩
        · rintro ⟨rfl, rfl, t2⟩
          exact ⟨rfl, t2⟩
      · exact (zz_flush (k := k + 5) (kX := 1) (kY := kY) (du := dy) (so := so) (it := it) (cn := cn') hsz I2 (ep_IM_fm (ep_IM_h J2 s1)) A3 hb5 (by omega) s1 s2 (ep_lE_sp fE (fun y => by have := hsp.mp y; omega) hoc s1) bc3 (T0 := b 0 + b 1 + b 2 + b 3) (by omega) (by rw [hbc 0 (by omega), hbc 1 (by omega), hbc 2 (by omega), hbc 3 (by omega), hky]; omega) rfl q3 (fun y hy => by
          by_cases e : y = x
          · rw [e, pk_us]
            exact ((hdu x hx8).1 c (h c) (ep_lv_up l0) hmo ep_C1_s (fun d m ld _ t2 => Or.inl ⟨(ep_C1_t.mp t2).1, (ep_C1_t.mp t2).2.1⟩)).symm
          · rw [pk_un e]
            exact ((hdu y (by omega)).2 (fun d m ld _ => ep_C1_l e)).symm) fc Y3 z1 z2 dc3 st3 dc2 st2 (fun _ _ _ _ _ => rfl)).2
    have ho' := (fY.1 c (h c) l0).2.2.1
    refine ep_drain17_y c x hc hx hL hQ fq.2.1 lb hb7 fI fY (fun y => (some y).elim) (fun m lm _ mn ⟨d, m', ld, y⟩ => by rw [first m lm mn] at y; exact absurd y (nblk d m' ld)) (fun m lm _ _ _ y => absurd tq y) (fun m lm _ mn _ _ => ?_)
    rw [first m lm mn]
    refine ep_drain82_y x (sg c (h c)) (fY.1 c (h c) l0).1 hx8 (fun cn' hcn => br_c (fun y => ?_) (fun y => ?_))
    · rw [ho', ep_b0] at y
      have sf : sp = false := Bool.eq_false_iff.mpr (fun y2 => of_decide_eq_false y (hsp.mp y2))
      subst sf
      have := yfin sg cf op bf cn'
      rw [ep_sp_f, ep_co_0, ep_cV_0, ep_cm_0] at this
      rw [ep_sp_f, ep_co_0]
      exact this fY rfl hcn
    · rw [ho', ep_bne] at y
      have en := of_decide_eq_true y
      have st : sp = true := hsp.mpr en
      subst st
      rw [ep_sp_t] at yfin ⊢
      have go : wpY_close (fun _ u => wpY_flush (fun _ u => (0 : Int32) = 0 ∧ i_Rel (k + 5) (4, 64, (nI L), (nI B), (nI E), (nI Q), (nI qh3), (nI (min (qc + 1) Q)), ch, md3, ql3, qv3, (fun x_ => lN (h3 x_)), (fun x_ => lN ((ep_co o (ep_one c)) x_)), (fun x_ => nI (b3 x_)), M3, vs, (fun x_ => lN (w2 x_)), (fun x_ => lN (ct3 x_))) u) u) ((nI L), (nI B), (nI E), (nI Q), (nI qc), cy, du, cf, op, rd, wr, ve, bf, so, it, cn') (nI (sg c (o c))) := by
        refine ep_close_y c hc fI lb fY (fun f cf2 op2 bf2 hf df Y2 => ?_)
        exact yfin _ cf2 op2 bf2 cn' Y2 (ep_sg_n (fun y => by omega)) hcn
      rw [← en] at go
      exact go
  refine ⟨vp_in_nI hc (by decide), vp_in_nI hc (by decide), ek_if (d := h c = o c) (lN_eq (by omega) (by omega)) (fun y => ?_) (fun y => ?_)⟩
  · refine ep_close_x c hc fI fA lb hb (by omega) (fun w2 M2 A2 hb3 => ?_)
    have := xfin true w2 M2 ⟨fun _ => y, fun _ => rfl⟩
    rw [ep_sp_t] at this
    exact this A2 hb3
  · have := xfin false w M ⟨fun s => absurd s (by decide), fun s => absurd s y⟩
    rw [ep_sp_f, ep_co_0, ep_cV_0, ep_cm_0] at this
    exact this fA (ep_XB_up hb (by omega) (by omega))
end
section
/-! crash, the constructors -/
def ep_fr (cf op rd wr ve bf : Nat → Int32) : Prop :=
  (∀ e, e < 4 → cf e = nI e ∧ op e = 1) ∧ (∀ e, 4 ≤ e → e < 40 → cf e = -1 ∧ op e = 0) ∧ (∀ e l, e < 40 → l < 8 → rd (e * 8 + l) = 0 ∧ wr (e * 8 + l) = 0 ∧ ve (e * 8 + l) = -1) ∧ (∀ a b, a < 40 → b < 40 → bf (a * 40 + b) = 0)
theorem ep_fr_Y {cf op rd wr ve bf : Nat → Int32} {h o : Nat → Nat} {pw : Nat → Nat → Nat → Int32} (H : ep_fr cf op rd wr ve bf) (hh : ∀ c, c < 4 → h c = 0) (ho : ∀ c, c < 4 → o c = 0) : ep_Y (fun c _ => c) h o (fun _ _ _ => 0) (fun _ _ _ => false) pw cf op rd wr ve bf := by
  obtain ⟨f1, f2, f3, f4⟩ := H
  have lz : ∀ {c n : Nat}, ep_lv h o c n → n = 0 := fun l => by
    have := l.2.2
    rw [ho _ l.1] at this
    omega
  refine ⟨fun c n l => ?_, fun c n m l1 l2 _ => by rw [lz l1, lz l2], fun c n d m l1 l2 => ?_, fun e he => ?_⟩
  · have hc := l.1
    refine ⟨show c < 40 by omega, (f1 c hc).1, ?_, fun x hx => ?_⟩
    · rw [(f1 c hc).2, lz l, ho c hc]
      rfl
    · obtain ⟨b1, b2, b3⟩ := f3 c x (by omega) hx
      rw [b1, b2, b3]
      exact ⟨rfl, rfl, rfl, fun t => absurd t Bool.false_ne_true⟩
  · have := l1.1
    have := l2.1
    rw [f4 d c (by omega) (by omega), decide_eq_false (show ¬ m < 0 by omega)]
    rfl
  · by_cases z : e < 4
    · exact Or.inl ⟨e, 0, ⟨z, by rw [hh e z]; omega, by omega⟩, rfl⟩
    · exact Or.inr ⟨(f2 e (by omega) he).1, (f2 e (by omega) he).2, fun l hl => f3 e l he hl, fun f hf => ⟨f4 e f he hf, f4 f e hf he⟩⟩
theorem ep_IV_0 {h o : Nat → Nat} (hh : ∀ c, c < 4 → h c = 0) (ho : ∀ c, c < 4 → o c = 0) : ep_IV h o (fun _ _ _ => 0) := by
  refine ⟨fun c hc => by rw [hh c hc]; omega, fun c n l => ?_, fun c n d _ _ => Nat.zero_le _, fun c n d m _ _ (t : m < 0) => by omega⟩
  have := l.2.2
  rw [ho c l.1] at this
  show 0 = n
  omega
theorem ep_IM_0 {L : Nat} {h o : Nat → Nat} : ep_IM L h o (fun _ _ _ => 0) (fun _ _ _ => false) :=
  ⟨fun _ _ _ _ _ _ _ _ t => absurd t Bool.false_ne_true, fun _ _ _ _ _ t => absurd t Bool.false_ne_true, fun _ _ _ _ _ _ => rfl⟩
theorem ep_cnt_0 {h o : Nat → Nat} {c : Nat} : ep_cnt h o (fun _ _ _ => false) c = 0 := ep_sum_0 (fun _ _ => ep_rc_0 (Nat.le_refl 8) (fun _ _ => rfl))
section
variable {L B E Q q : Nat} {cy du cf op rd wr ve bf so it cn : Nat → Int32}
theorem ep_begin2_y {post : Int32 → SY → Prop} (x : Int32) (hf : ∃ e, e < 40 ∧ ¬ 0 ≤ cf e) (K : ∀ e, e < 40 → ¬ 0 ≤ cf e → (∀ f, f < e → 0 ≤ cf f) → post (nI e) ((nI L), (nI B), (nI E), (nI Q), (nI q), cy, du, (upd cf e x), (upd op e 1), rd, wr, ve, bf, so, it, cn)) : wpY_begin post ((nI L), (nI B), (nI E), (nI Q), (nI q), cy, du, cf, op, rd, wr, ve, bf, so, it, cn) x := by
  unfold wpY_begin
  dsimp only
  refine loop_0 (fun n i (_ : Unit) => wY_begin_2 post x (nI L) (nI B) (nI E) (nI Q) (nI q) cy du cf op rd wr ve bf so it cn n (nI i)) (fun i _ => ∀ e, e < i → 0 ≤ cf e) 40 () (fun e he => by omega) ?_ ?_
  · intro n _ H
    obtain ⟨e, he, z⟩ := hf
    exact absurd (H e he) z
  · intro n i _ hi H next
    refine br_f (nI_ge (b := 40) hi (by decide)) ⟨vp_in_nI hi (by decide), ?_⟩
    rw [nI_clamp (show i < 2 ^ 31 by omega)]
    refine br_c (fun z => nm_r (nI_1 i) (next () (fun e he => ?_))) (fun z => ⟨vp_in_nI hi (by decide), nm_e ⟨vp_in_nI hi (by decide), nm_e (K i hi z H)⟩⟩)
    by_cases q : e = i
    · rw [q]; exact z
    · exact H e (by omega)
theorem ep_crash63_y {post : Int32 → SY → Prop} (x : Int32) (K : ∀ cy' : Nat → Int32, (∀ l, l < 8 → cy' l = du l) → post x ((nI L), (nI B), (nI E), (nI Q), (nI 0), cy', du, cf, op, rd, wr, ve, bf, so, it, cn)) : ∃ n, wY_crash_63 post x (nI L) (nI B) (nI E) (nI Q) (nI q) n 0 cy du cf op rd wr ve bf so it cn := by
  refine loop_0 (fun n i (cy' : Nat → Int32) => wY_crash_63 post x (nI L) (nI B) (nI E) (nI Q) (nI q) n (nI i) cy' du cf op rd wr ve bf so it cn) (fun i cy' => ∀ l, l < i → cy' l = du l) 8 cy (fun l hl => by omega) ?_ ?_
  · intro n cy' H
    exact br_t (nI_le (Nat.le_refl 8) (by decide)) (K cy' H)
  · intro n i cy' hi H next
    refine br_f (nI_ge (b := 8) hi (by decide)) ⟨vp_in_nI hi (by decide), vp_in_nI hi (by decide), nm_r (e' := upd cy' i (du i)) (by rw [nI_clamp (by omega)]) (nm_r (nI_1 i) (next (upd cy' i (du i)) (fun l hl => ?_)))⟩
    by_cases q : l = i
    · rw [q, pk_us]
    · rw [pk_un q]; exact H l (by omega)
theorem ep_crash44_y {post : Int32 → SY → Prop} (x : Int32) (h1 : ∀ e, e < 40 → cf e = -1 ∧ op e = 0) (K : ∀ (cf' op' cy' : Nat → Int32), (∀ e, e < 4 → cf' e = nI e ∧ op' e = 1) → (∀ e, 4 ≤ e → e < 40 → cf' e = -1 ∧ op' e = 0) → (∀ l, l < 8 → cy' l = du l) → post x ((nI L), (nI B), (nI E), (nI Q), (nI 0), cy', du, cf', op', rd, wr, ve, bf, so, it, cn)) : ∃ n, wY_crash_44 post x n 0 (nI L) (nI B) (nI E) (nI Q) (nI q) cy du cf op rd wr ve bf so it cn := by
  refine loop_0 (fun n i (s : (Nat → Int32) × (Nat → Int32)) => wY_crash_44 post x n (nI i) (nI L) (nI B) (nI E) (nI Q) (nI q) cy du (s.1) (s.2) rd wr ve bf so it cn) (fun i s => (∀ e, e < i → s.1 e = nI e ∧ s.2 e = 1) ∧ (∀ e, i ≤ e → e < 40 → s.1 e = -1 ∧ s.2 e = 0)) 4 (cf, op) ⟨fun e he => by omega, fun e _ he => h1 e he⟩ ?_ ?_
  · rintro n ⟨cf', op'⟩ ⟨H1, H2⟩
    exact br_t (nI_le (Nat.le_refl 4) (by decide)) (ep_crash63_y x (fun cy' hcy => K cf' op' cy' H1 H2 hcy))
  · rintro n i ⟨cf', op'⟩ hi ⟨H1, H2⟩ next
    dsimp only at H1 H2
    refine br_f (nI_ge (b := 4) hi (by decide)) (ep_begin2_y (nI i) ⟨i, by omega, by dsimp only; rw [(H2 i (Nat.le_refl _) (by omega)).1]; exact ep_ngm1⟩ (fun e he z1 z2 => nm_r (nI_1 i) ?_))
    dsimp only at z1 z2
    have e1 : ¬ e < i := fun t => z1 (by rw [(H1 e t).1]; exact nI_pos' (by omega))
    have e2 : ¬ i < e := fun t => by
      have := z2 i t
      rw [(H2 i (Nat.le_refl _) (by omega)).1] at this
      exact ep_ngm1 this
    have e3 : e = i := by omega
    subst e3
    refine next (upd cf' e (nI e), upd op' e 1) ⟨fun f hf => ?_, fun f hf hf2 => ?_⟩
    · dsimp only
      by_cases q : f = e
      · rw [q, pk_us, pk_us]; exact ⟨rfl, rfl⟩
      · rw [pk_un q, pk_un q]; exact H1 f (by omega)
    · dsimp only
      rw [pk_un (by omega), pk_un (by omega)]; exact H2 f (by omega) hf2
theorem ep_crash25_y {post : Int32 → SY → Prop} (x : Int32) (K : ∀ (cf' op' rd' wr' ve' bf' cy' : Nat → Int32), ep_fr cf' op' rd' wr' ve' bf' → (∀ l, l < 8 → cy' l = du l) → post x ((nI L), (nI B), (nI E), (nI Q), (nI 0), cy', du, cf', op', rd', wr', ve', bf', so, it, cn)) : ∃ n, wY_crash_25 post x n 0 (nI L) (nI B) (nI E) (nI Q) (nI q) cy du cf op rd wr ve bf so it cn := by
  refine loop_0 (fun n i (s : (Nat → Int32) × (Nat → Int32) × (Nat → Int32) × (Nat → Int32) × (Nat → Int32) × (Nat → Int32)) => wY_crash_25 post x n (nI i) (nI L) (nI B) (nI E) (nI Q) (nI q) cy du (s.1) (s.2.1) (s.2.2.1) (s.2.2.2.1) (s.2.2.2.2.1) (s.2.2.2.2.2) so it cn) (fun i s => (∀ e, e < i → s.1 e = -1 ∧ s.2.1 e = 0) ∧ (∀ e l, e < i → l < 8 → s.2.2.1 (e * 8 + l) = 0 ∧ s.2.2.2.1 (e * 8 + l) = 0 ∧ s.2.2.2.2.1 (e * 8 + l) = -1) ∧ (∀ a b, a < 40 → b < 40 → (a < i ∨ b < i) → s.2.2.2.2.2 (a * 40 + b) = 0)) 40 (cf, op, rd, wr, ve, bf) ?_ ?_ ?_
  · exact ⟨fun e he => by omega, fun e l he => by omega, fun a b _ _ t => by omega⟩
  · rintro n ⟨cf1, op1, rd1, wr1, ve1, bf1⟩ ⟨H1, H2, H3⟩
    refine br_t (nI_le (Nat.le_refl 40) (by decide)) (ep_crash44_y x H1 (fun cf' op' cy' k1 k2 k3 => K cf' op' rd1 wr1 ve1 bf1 cy' ⟨k1, k2, H2, fun a b ha hb => H3 a b ha hb (Or.inl ha)⟩ k3))
  · rintro n i ⟨cf1, op1, rd1, wr1, ve1, bf1⟩ hi ⟨H1, H2, H3⟩ next
    dsimp only at H1 H2 H3
    refine br_f (nI_ge (b := 40) hi (by decide)) (ep_drop_y i hi (fun rd' wr' ve' bf' k1 k2 p1 p2 => nm_r (nI_1 i) (next (upd cf1 i (-1), upd op1 i 0, rd', wr', ve', bf') ⟨fun e he => ?_, fun e l he hl => ?_, fun a b ha hb t => ?_⟩)))
    · dsimp only
      by_cases q : e = i
      · rw [q, pk_us, pk_us]; exact ⟨rfl, rfl⟩
      · rw [pk_un q, pk_un q]; exact H1 e (by omega)
    · dsimp only
      by_cases q : e = i
      · rw [q]; exact k2 l hl
      · obtain ⟨b1, b2, b3⟩ := k1 e l q hl
        rw [b1, b2, b3]
        exact H2 e l (by omega) hl
    · dsimp only
      by_cases q : a = i ∨ b = i
      · exact p1 a b ha hb q
      · rw [p2 a b ha hb (fun y => q (Or.inl y)) (fun y => q (Or.inr y))]
        refine H3 a b ha hb ?_
        rcases t with t | t
        · exact Or.inl (by have : a ≠ i := fun y => q (Or.inl y); omega)
        · exact Or.inr (by have : b ≠ i := fun y => q (Or.inr y); omega)
theorem ep_crash_y {post : Int32 → SY → Prop} (K : ∀ (cf' op' rd' wr' ve' bf' cy' : Nat → Int32), ep_fr cf' op' rd' wr' ve' bf' → (∀ l, l < 8 → cy' l = du l) → post (nI (ep_sum (fun c => ep_sum (fun i => if cf (i / 8) = nI c ∧ ¬ ve i < 0 then 1 else 0) 320) 4)) ((nI L), (nI B), (nI E), (nI Q), (nI 0), cy', du, cf', op', rd', wr', ve', bf', so, it, cn)) : wpY_crash post ((nI L), (nI B), (nI E), (nI Q), (nI q), cy, du, cf, op, rd, wr, ve, bf, so, it, cn) := by
  unfold wpY_crash
  dsimp only
  refine loop_0 (fun n i (k : Nat) => wY_crash_4 post (nI L) (nI B) (nI E) (nI Q) (nI q) cy du cf op rd wr ve bf so it cn n (nI k) (nI i)) (fun i k => k = ep_sum (fun c => ep_sum (fun i => if cf (i / 8) = nI c ∧ ¬ ve i < 0 then 1 else 0) 320) i) 4 0 rfl ?_ ?_
  · intro n k H
    rw [← H] at K
    exact br_t (nI_le (Nat.le_refl 4) (by decide)) (ep_crash25_y (nI k) K)
  · intro n i k hi H next
    refine br_f (nI_ge (b := 4) hi (by decide)) (ep_vers_y (nI i) (nm_r (nI_add _ _) (nm_r (nI_1 i) (next _ ?_))))
    rw [H]
    rfl
end
section
variable {L B E Q qh qc : Nat} {ch md ql qv : Nat → Int32} {h o b : Nat → Nat} {M vs : Nat → Int32} {w ct : Nat → Nat} {N : Nat} {du : Nat → Int32}
theorem ep_reset_x {post : SX → Prop} (c : Nat) (hc : c < 4) (hb : ep_XB N h o w ct) (K : ∀ w' : Nat → Nat, (∀ j, (j < ep_sl c 0 * 4 ∨ ep_sl c 0 * 4 + 4 ≤ j) → w' j = w j) → (∀ d, d < 4 → w' (ep_sl c 0 * 4 + d) = 0) → ep_XB N (ep_up h c 0) (ep_up o c 0) w' ct → post (4, 64, (nI L), (nI B), (nI E), (nI Q), (nI qh), (nI qc), ch, md, ql, qv, (fun x_ => lN ((ep_up h c 0) x_)), (fun x_ => lN ((ep_up o c 0) x_)), (fun x_ => nI ((ep_up b c 0) x_)), (upd M (ep_sl c 0) 0), vs, (fun x_ => lN (w' x_)), (fun x_ => lN (ct x_)))) : wpX_resetCore post (4, 64, (nI L), (nI B), (nI E), (nI Q), (nI qh), (nI qc), ch, md, ql, qv, (fun x_ => lN (h x_)), (fun x_ => lN (o x_)), (fun x_ => nI (b x_)), M, vs, (fun x_ => lN (w x_)), (fun x_ => lN (ct x_))) (nI c) := by
  have hs : ep_sl c 0 < 64 := ep_sl_lt hc
  unfold wpX_resetCore
  dsimp only
  rw [nI_clamp (show c < 2 ^ 31 by omega)]
  refine ⟨vp_in_nI hc (by decide), nm_r (e' := fun x => nI (ep_up b c 0 x)) (ep_uI b c 0) ⟨vp_in_nI hc (by decide), nm_r (e' := fun x => lN (ep_up h c 0 x)) (ep_uL h c 0) ⟨vp_in_nI hc (by decide), nm_r (e' := fun x => lN (ep_up o c 0 x)) (ep_uL o c 0) ?_⟩⟩⟩
  refine ep_slot_x c 0 hc (by omega) ⟨vp_in_nI hs (by decide), nm_r (e' := upd M (ep_sl c 0) 0) (by rw [nI_clamp (by omega)]) ?_⟩
  refine loop_0 (fun n i (w' : Nat → Nat) => wX_resetCore_37 post (nI (ep_sl c 0)) 4 64 (nI L) (nI B) (nI E) (nI Q) (nI qh) (nI qc) n (nI i) ch md ql qv (fun x_ => lN ((ep_up h c 0) x_)) (fun x_ => lN ((ep_up o c 0) x_)) (fun x_ => nI ((ep_up b c 0) x_)) (upd M (ep_sl c 0) 0) vs (fun x_ => lN (w' x_)) (fun x_ => lN (ct x_))) (fun i w' => (∀ j, (j < ep_sl c 0 * 4 ∨ ep_sl c 0 * 4 + 4 ≤ j) → w' j = w j) ∧ (∀ d, d < i → w' (ep_sl c 0 * 4 + d) = 0) ∧ (∀ j, w' j ≤ N + 1)) 4 w ⟨fun j _ => rfl, fun d hd => by omega, hb.2.2.2.1⟩ ?_ ?_
  · intro n w' H
    refine br_t (nI_le (Nat.le_refl 4) (by decide)) (K w' H.1 H.2.1 ⟨hb.1, fun i => ?_, fun i => ?_, H.2.2, hb.2.2.2.2⟩)
    · by_cases z : i = c
      · rw [z, ep_us]; omega
      · rw [ep_un z]; exact hb.2.1 i
    · by_cases z : i = c
      · rw [z, ep_us]; omega
      · rw [ep_un z]; exact hb.2.2.1 i
  · intro n i w' hi H next
    refine br_f (nI_ge (b := 4) hi (by decide)) ⟨ep_in4 (by omega), nm_r (e' := fun x => lN (ep_up w' (ep_sl c 0 * 4 + i) 0 x)) (by rw [ep_cl4 (by omega)]; exact ep_uL w' _ 0) (nm_r (nI_1 i) (next (ep_up w' (ep_sl c 0 * 4 + i) 0) ⟨fun j hj => ?_, fun d hd => ?_, fun j => ?_⟩))⟩
    · rw [ep_un (by omega)]; exact H.1 j hj
    · by_cases z : d = i
      · rw [z, ep_us]
      · rw [ep_un (by omega)]; exact H.2.1 d (by omega)
    · by_cases z : j = ep_sl c 0 * 4 + i
      · rw [z, ep_us]; omega
      · rw [ep_un z]; exact H.2.2 j
theorem ep_crash53_x {post : Int32 → SX → Prop} (x : Int32) (hL : L ≤ 8) (K : ∀ ch' : Nat → Int32, (∀ l, l < L → ch' l = md l) → post x (4, 64, (nI L), (nI B), (nI E), (nI Q), (nI qh), (nI qc), ch', md, ql, qv, (fun x_ => lN (h x_)), (fun x_ => lN (o x_)), (fun x_ => nI (b x_)), M, vs, (fun x_ => lN (w x_)), (fun x_ => lN (ct x_)))) : ∃ n, wX_crash_53 post x 4 64 (nI L) (nI B) (nI E) (nI Q) (nI qh) (nI qc) n 0 ch md ql qv (fun x_ => lN (h x_)) (fun x_ => lN (o x_)) (fun x_ => nI (b x_)) M vs (fun x_ => lN (w x_)) (fun x_ => lN (ct x_)) := by
  refine loop_0 (fun n i (ch' : Nat → Int32) => wX_crash_53 post x 4 64 (nI L) (nI B) (nI E) (nI Q) (nI qh) (nI qc) n (nI i) ch' md ql qv (fun x_ => lN (h x_)) (fun x_ => lN (o x_)) (fun x_ => nI (b x_)) M vs (fun x_ => lN (w x_)) (fun x_ => lN (ct x_))) (fun i ch' => ∀ l, l < i → ch' l = md l) L ch (fun l hl => by omega) ?_ ?_
  · intro n ch' H
    exact br_t (nI_le (Nat.le_refl L) (by omega)) (K ch' H)
  · intro n i ch' hi H next
    refine br_f (nI_ge hi (by omega)) ⟨vp_in_nI (by omega) (by decide), vp_in_nI (by omega) (by decide), nm_r (e' := upd ch' i (md i)) (by rw [nI_clamp (by omega)]) (nm_r (nI_1 i) (next (upd ch' i (md i)) (fun l hl => ?_)))⟩
    by_cases q : l = i
    · rw [q, pk_us]
    · rw [pk_un q]; exact H l (by omega)
theorem ep_crash36_x {post : Int32 → SX → Prop} (x : Int32) (hL : L ≤ 8) (hQ : Q ≤ 8) (q : ep_Q L Q qh qc md ql qv du) (K : ∀ (qh' : Nat) (md' ch' : Nat → Int32), ep_Q L Q qh' 0 md' ql qv du → (∀ l, l < L → ch' l = du l) → post x (4, 64, (nI L), (nI B), (nI E), (nI Q), (nI qh'), (nI 0), ch', md', ql, qv, (fun x_ => lN (h x_)), (fun x_ => lN (o x_)), (fun x_ => nI (b x_)), M, vs, (fun x_ => lN (w x_)), (fun x_ => lN (ct x_)))) : ∃ n, wX_crash_36 post x (nI qc) n 0 4 64 (nI L) (nI B) (nI E) (nI Q) (nI qh) (nI qc) ch md ql qv (fun x_ => lN (h x_)) (fun x_ => lN (o x_)) (fun x_ => nI (b x_)) M vs (fun x_ => lN (w x_)) (fun x_ => lN (ct x_)) := by
  have hq := q.2.1
  have := loop_0 (fun n i (s : Nat × (Nat → Int32)) => wX_crash_36 post x (nI qc) n (nI i) 4 64 (nI L) (nI B) (nI E) (nI Q) (nI (s.1)) (nI (qc - i)) ch (s.2) ql qv (fun x_ => lN (h x_)) (fun x_ => lN (o x_)) (fun x_ => nI (b x_)) M vs (fun x_ => lN (w x_)) (fun x_ => lN (ct x_))) (fun i s => ep_Q L Q s.1 (qc - i) s.2 ql qv du) qc (qh, md) q ?_ ?_
  · exact this
  · rintro n ⟨qh', md'⟩ H
    dsimp only at H
    refine br_t (nI_le (Nat.le_refl _) (by omega)) ?_
    rw [Nat.sub_self] at H ⊢
    exact ep_crash53_x x hL (fun ch' hch => K qh' md' ch' H (fun l hl => by rw [hch l hl]; exact H.2.2.2 l hl))
  · rintro n i ⟨qh', md'⟩ hi H next
    dsimp only at H
    refine br_f (nI_ge hi (by omega)) (ep_pop_x hL hQ (by omega) H (fun md2 qh2 H2 => nm_r (nI_1 i) ?_))
    rw [show qc - i - 1 = qc - (i + 1) from by omega] at H2 ⊢
    exact next (qh2, md2) H2
theorem ep_crash_x {post : Int32 → SX → Prop} (hL : L ≤ 8) (hQ : Q ≤ 8) (hb : ep_XB N h o w ct) (q : ep_Q L Q qh qc md ql qv du) (K : ∀ (h' o' b' w' : Nat → Nat) (M' : Nat → Int32) (qh' : Nat) (md' ch' : Nat → Int32), (∀ c, c < 4 → h' c = 0 ∧ o' c = 0 ∧ b' c = 0 ∧ M' (ep_sl c 0) = 0 ∧ ∀ d, d < 4 → w' (ep_sl c 0 * 4 + d) = 0) → ep_XB N h' o' w' ct → ep_Q L Q qh' 0 md' ql qv du → (∀ l, l < L → ch' l = du l) → post (nI (ep_sum b 4)) (4, 64, (nI L), (nI B), (nI E), (nI Q), (nI qh'), (nI 0), ch', md', ql, qv, (fun x_ => lN (h' x_)), (fun x_ => lN (o' x_)), (fun x_ => nI (b' x_)), M', vs, (fun x_ => lN (w' x_)), (fun x_ => lN (ct x_)))) : wpX_crash post (4, 64, (nI L), (nI B), (nI E), (nI Q), (nI qh), (nI qc), ch, md, ql, qv, (fun x_ => lN (h x_)), (fun x_ => lN (o x_)), (fun x_ => nI (b x_)), M, vs, (fun x_ => lN (w x_)), (fun x_ => lN (ct x_))) := by
  unfold wpX_crash
  dsimp only
  refine loop_0 (fun n i (s : Nat × (Nat → Nat) × (Nat → Nat) × (Nat → Nat) × (Nat → Nat) × (Nat → Int32)) => wX_crash_4 post n (nI s.1) (nI i) 4 64 (nI L) (nI B) (nI E) (nI Q) (nI qh) (nI qc) ch md ql qv (fun x_ => lN ((s.2.1) x_)) (fun x_ => lN ((s.2.2.1) x_)) (fun x_ => nI ((s.2.2.2.1) x_)) (s.2.2.2.2.2) vs (fun x_ => lN ((s.2.2.2.2.1) x_)) (fun x_ => lN (ct x_))) (fun i s => s.1 = ep_sum b i ∧ (∀ c, i ≤ c → s.2.2.2.1 c = b c) ∧ (∀ c, c < i → s.2.1 c = 0 ∧ s.2.2.1 c = 0 ∧ s.2.2.2.1 c = 0 ∧ s.2.2.2.2.2 (ep_sl c 0) = 0 ∧ ∀ d, d < 4 → s.2.2.2.2.1 (ep_sl c 0 * 4 + d) = 0) ∧ ep_XB N s.2.1 s.2.2.1 s.2.2.2.2.1 ct) 4 (0, h, o, b, w, M) ⟨rfl, fun _ _ => rfl, fun c hc => by omega, hb⟩ ?_ ?_
  · rintro n ⟨k, h', o', b', w', M'⟩ ⟨H1, H2, H3, H4⟩
    dsimp only at H1 H2 H3 H4
    rw [← H1] at K
    exact br_t (nI_le (Nat.le_refl 4) (by decide)) (ep_crash36_x (nI k) hL hQ q (fun qh' md' ch' k1 k2 => K h' o' b' w' M' qh' md' ch' H3 H4 k1 k2))
  · rintro n i ⟨k, h', o', b', w', M'⟩ hi ⟨H1, H2, H3, H4⟩ next
    dsimp only at H1 H2 H3 H4
    refine br_f (nI_ge (b := 4) hi (by decide)) ⟨vp_in_nI hi (by decide), nm_r (e' := nI (k + b' i)) (by rw [nI_clamp (by omega)]; exact nI_add _ _) (ep_reset_x i hi H4 (fun w2 k1 k2 hb2 => nm_r (nI_1 i) (next (k + b' i, ep_up h' i 0, ep_up o' i 0, ep_up b' i 0, w2, upd M' (ep_sl i 0) 0) ⟨?_, fun c hc => ?_, fun c hc => ?_, hb2⟩)))⟩
    · dsimp only
      rw [H1, H2 i (Nat.le_refl _)]
      rfl
    · dsimp only
      rw [ep_un (by omega)]; exact H2 c (by omega)
    · dsimp only
      by_cases z : c = i
      · subst z
        rw [ep_us, ep_us, ep_us, pk_us]
        exact ⟨rfl, rfl, rfl, rfl, k2⟩
      · obtain ⟨a1, a2, a3, a4, a5⟩ := H3 c (by omega)
        have sn : ep_sl c 0 ≠ ep_sl i 0 := fun t => by unfold ep_sl at t; omega
        rw [ep_un z, ep_un z, ep_un z, pk_un sn]
        exact ⟨a1, a2, a3, a4, fun d hd => by rw [k1 _ (by omega)]; exact a5 d hd⟩
end
theorem ep_XA_0 {h o w : Nat → Nat} {M vs : Nat → Int32} {pw : Nat → Nat → Nat → Int32} (ho : ∀ c, c < 4 → o c = 0) (H : ∀ c, c < 4 → M (ep_sl c 0) = 0 ∧ ∀ d, d < 4 → w (ep_sl c 0 * 4 + d) = 0) : ep_XA h o (fun _ _ _ => 0) (fun _ _ _ => false) pw w M vs := by
  intro c n l
  have e : n = 0 := by
    have := l.2.2
    rw [ho c l.1] at this
    omega
  subst e
  exact ⟨(H c l.1).2, fun j _ => by rw [(H c l.1).1, b_0], fun x _ t => absurd t Bool.false_ne_true⟩
theorem i_vc_crash {k : Nat} {u : SX} {v : SY} (I : i_Rel k u v) (hk : k + 5 ≤ 2564) : wpX_crash (fun r u' => wpY_crash (fun r' v' => r' = r ∧ i_Rel (k + 5) u' v') v) u := by
  refine I (fun u v => wpX_crash (fun r u' => wpY_crash (fun r' v' => r' = r ∧ i_Rel (k + 5) u' v') v) u) ?_
  intro L B E Q qh qc ch md ql qv h o b M vs w ct cy du cf op rd wr ve bf so it cn V mk pw sg F
  obtain ⟨hsz, fI, fJ, fA, fN, fE, fb, fq, fc, fY⟩ := id F
  obtain ⟨hL2, hL, hB, hE2, hE, hQ1, hQ⟩ := id hsz
  have hb : ep_XB k h o w ct := ⟨by omega, fN⟩
  refine ep_crash_x hL hQ hb fq (fun h' o' b' w' M' qh' md' ch' H hb2 q2 hch => ?_)
  refine ep_crash_y (fun cf' op' rd' wr' ve' bf' cy' fr hcy => ⟨congrArg nI ?_, ?_⟩)
  · exact ep_sum_c (fun c hc => by rw [ep_Y_vers fY hc, fb c hc])
  · have hh : ∀ c, c < 4 → h' c = 0 := fun c hc => (H c hc).1
    have ho : ∀ c, c < 4 → o' c = 0 := fun c hc => (H c hc).2.1
    have F' : ep_F k L B E Q qh' 0 ch' md' ql qv h' o' b' M' vs w' ct cy' du cf' op' rd' wr' ve' bf' (fun _ _ _ => 0) (fun _ _ _ => false) pw (fun c _ => c) := ⟨hsz, ep_IV_0 hh ho, ep_IM_0, ep_XA_0 ho (fun c hc => (H c hc).2.2.2), hb2.2, fun c hc => by rw [hh c hc, ho c hc]; omega, fun c hc => by rw [(H c hc).2.2.1]; exact ep_cnt_0.symm, q2, fun l hl => by rw [hch l hl, hcy l (by omega)], ep_fr_Y fr hh ho⟩
    exact i_up (zz_in F')
theorem ep_clamp (x : Int32) (lo : Nat) (hlo : lo ≤ 8) : ∃ n, lo ≤ n ∧ n ≤ 8 ∧ (∀ (post : Int32 → Prop) (u : SX), post (nI n) → wpX_clamp post u x (nI lo) 8) ∧ (∀ (post : Int32 → Prop) (u : SY), post (nI n) → wpY_clamp post u x (nI lo)) := by
  have key : ∀ n, ((nI lo ≤ x ∧ x ≤ 8 ∧ nI n = x) ∨ (nI lo ≤ x ∧ ¬ x ≤ 8 ∧ n = 8) ∨ (¬ nI lo ≤ x ∧ n = lo)) → (∀ (post : Int32 → Prop) (u : SX), post (nI n) → wpX_clamp post u x (nI lo) 8) ∧ (∀ (post : Int32 → Prop) (u : SY), post (nI n) → wpY_clamp post u x (nI lo)) := by
    intro n H
    refine ⟨fun post u hp => ?_, fun post u hp => ?_⟩
    · obtain ⟨a1, a2, a3, a4, a5, a6, a7, a8, a9, a10, a11, a12, a13, a14, a15, a16, a17, a18, a19⟩ := u
      rcases H with ⟨h1, h2, h3⟩ | ⟨h1, h2, h3⟩ | ⟨h1, h2⟩
      · rw [h3] at hp; exact br_t h1 (br_t h2 hp)
      · rw [h3] at hp; exact br_t h1 (br_f h2 hp)
      · rw [h2] at hp; exact br_f h1 hp
    · obtain ⟨a1, a2, a3, a4, a5, a6, a7, a8, a9, a10, a11, a12, a13, a14, a15, a16⟩ := u
      rcases H with ⟨h1, h2, h3⟩ | ⟨h1, h2, h3⟩ | ⟨h1, h2⟩
      · rw [h3] at hp; exact br_t h1 (br_t h2 hp)
      · rw [h3] at hp; exact br_t h1 (br_f h2 hp)
      · rw [h2] at hp; exact br_f h1 hp
  rcases pk_ix x (n := 9) (by decide) with z | z | ⟨j, hj, rfl⟩
  · refine ⟨lo, Nat.le_refl _, hlo, key lo (Or.inr (Or.inr ⟨fun t => ?_, rfl⟩))⟩
    exact Int32.not_lt.mpr (Int32.le_trans (nI_pos' (by omega)) t) z
  · have h8 : ¬ x ≤ 8 := fun t => absurd (Int32.le_trans z t) (by decide)
    have hl : nI lo ≤ x := Int32.le_trans (nI_le (b := 9) (by omega) (by decide)) z
    exact ⟨8, hlo, Nat.le_refl _, key 8 (Or.inr (Or.inl ⟨hl, h8, rfl⟩))⟩
  · by_cases t : lo ≤ j
    · exact ⟨j, t, by omega, key j (Or.inl ⟨nI_le t (by omega), nI_le (b := 8) (by omega) (by decide), rfl⟩)⟩
    · exact ⟨lo, Nat.le_refl _, hlo, key lo (Or.inr (Or.inr ⟨nI_ge (by omega) (by omega), rfl⟩))⟩
theorem i_vc0 (k0 : Int32) (k1 : Int32) (k2 : Int32) (k3 : Int32) : wpX_init (fun u => wpY_init (fun v => i_Rel 4 u v) k0 k1 k2 k3) k0 k1 k2 k3 := by
  obtain ⟨L, L1, L2, xL, yL⟩ := ep_clamp k0 2 (by omega)
  obtain ⟨B, B1, B2, xB, yB⟩ := ep_clamp k1 2 (by omega)
  obtain ⟨E, E1, E2, xE, yE⟩ := ep_clamp k2 2 (by omega)
  obtain ⟨Q, Q1, Q2, xQ, yQ⟩ := ep_clamp k3 1 (by omega)
  refine xL _ _ (xB _ _ (xE _ _ (xQ _ _ ?_)))
  refine yL _ _ (yB _ _ (yE _ _ (yQ _ _ ?_)))
  refine ep_crash_y (q := 0) (fun cf' op' rd' wr' ve' bf' cy' fr hcy => ?_)
  have F' : ep_F 4 L B E Q 0 0 (fun _ => 0) (fun _ => 0) (fun _ => 0) (fun _ => 0) (fun _ => 0) (fun _ => 0) (fun _ => 0) (fun _ => 0) (fun _ => 0) (fun _ => 0) (fun _ => 0) cy' (fun _ => 0) cf' op' rd' wr' ve' bf' (fun _ _ _ => 0) (fun _ _ _ => false) (fun _ _ _ => 0) (fun c _ => c) := by
    refine ⟨⟨L1, L2, B2, E1, E2, Q1, Q2⟩, ep_IV_0 (fun _ _ => rfl) (fun _ _ => rfl), ep_IM_0, ep_XA_0 (fun _ _ => rfl) (fun _ _ => ⟨rfl, fun _ _ => rfl⟩), ⟨fun _ => Nat.zero_le _, fun _ => Nat.zero_le _, fun _ => Nat.zero_le _, fun _ => Nat.zero_le _⟩, fun _ _ => show 0 + 1 ≤ 0 + E by omega, fun c hc => ep_cnt_0.symm, ⟨by omega, by omega, fun i hi => by omega, fun l hl => rfl⟩, fun l hl => (hcy l (by omega)).symm, ep_fr_Y fr (fun _ _ => rfl) (fun _ _ => rfl)⟩
  exact zz_in F'
end

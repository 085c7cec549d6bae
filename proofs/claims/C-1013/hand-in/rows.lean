section
/-! pure rows to paste: stores, nI and lN arithmetic, masks, shifts, narrowing, branches by naturals (pk_le, pk_lt, pk_eq), loops (lp1 .. lp16: the measure of the state; rp1 ..: recursion), negatives. Take what you need -/
theorem pk_us {f : Nat → Int32} {k : Nat} {x : Int32} : upd f k x k = x := if_pos rfl
theorem pk_un {f : Nat → Int32} {k j : Nat} {x : Int32} (h : j ≠ k) : upd f k x j = f j := if_neg h
theorem pk_uLs {f : Nat → Int64} {k : Nat} {x : Int64} : vp_updL f k x k = x := if_pos rfl
theorem pk_uLn {f : Nat → Int64} {k j : Nat} {x : Int64} (h : j ≠ k) : vp_updL f k x j = f j := if_neg h
theorem pk_sub {a b : Nat} (h : b ≤ a) : nI a - nI b = nI (a - b) := by
  obtain ⟨c, rfl⟩ : ∃ c, a = c + b := ⟨a - b, by omega⟩
  rw [← nI_add, Int32.add_sub_cancel, Nat.add_sub_cancel]
theorem pk_m1 (n : Nat) : nI (n + 1) + (-1) = nI n := by
  rw [← nI_1, Int32.add_assoc, show (1 : Int32) + (-1) = 0 from rfl, Int32.add_zero]
theorem pk_mul (a b : Nat) : nI a * nI b = nI (a * b) := (Int32.ofNat_mul a b).symm
theorem pk_div {a d : Nat} (ha : a < 2 ^ 31) (h0 : 0 < d) (hd : d < 2 ^ 31) : nI a / nI d = nI (a / d) := by
  apply Int32.toInt_inj.mp
  rw [lg_idiv_nonneg (by rw [nI_toInt ha]; omega) (by rw [nI_toInt hd]; omega), nI_toInt ha, nI_toInt hd, nI_toInt (Nat.lt_of_le_of_lt (Nat.div_le_self a d) ha)]
  first | rfl | exact (Int.natCast_ediv _ _).symm
theorem pk_rem {a d : Nat} (ha : a < 2 ^ 31) (h0 : 0 < d) (hd : d < 2 ^ 31) : nI a - nI a / nI d * nI d = nI (a % d) := by
  rw [pk_div ha h0 hd, pk_mul, pk_sub (Nat.div_mul_le_self a d)]
  exact congrArg nI (by have := Nat.div_add_mod' a d; omega)
theorem pk_sub_toInt {a b : Nat} (ha : a < 2 ^ 30) (hb : b < 2 ^ 30) : (nI a - nI b).toInt = (a : Int) - b := by
  rw [Int32.toInt_sub, nI_toInt (by omega), nI_toInt (by omega)]
  exact Int.bmod_eq_of_le (by omega) (by omega)
theorem pk_sneg {a b : Nat} (hb : b < 2 ^ 30) (h : a < b) : nI a - nI b < 0 := by
  rw [Int32.lt_iff_toInt_lt, pk_sub_toInt (by omega) hb, show (0 : Int32).toInt = 0 from by decide]
  omega
theorem pk_ix (x : Int32) {n : Nat} (hn : n < 2 ^ 31) : x < 0 ∨ nI n ≤ x ∨ ∃ j : Nat, j < n ∧ x = nI j := by
  by_cases h : x < 0
  · exact Or.inl h
  · obtain ⟨j, hj, rfl⟩ := nI_of h
    by_cases h2 : j < n
    · exact Or.inr (Or.inr ⟨j, h2, rfl⟩)
    · exact Or.inr (Or.inl (nI_le (by omega) hj))
theorem pk_le {x y : Int32} {A B : Prop} (a b : Nat) (f : a ≤ b → A) (g : b < a → B) (hx : x = nI a := by rfl) (hy : y = nI b := by rfl) (ha : a < 2 ^ 31 := by omega) (hb : b < 2 ^ 31 := by omega) : (x ≤ y → A) ∧ (¬ x ≤ y → B) := by
  subst hx hy
  rw [nI_leI ha hb]
  exact ⟨f, fun z => g (by omega)⟩
theorem pk_lt {x y : Int32} {A B : Prop} (a b : Nat) (f : a < b → A) (g : b ≤ a → B) (hx : x = nI a := by rfl) (hy : y = nI b := by rfl) (ha : a < 2 ^ 31 := by omega) (hb : b < 2 ^ 31 := by omega) : (x < y → A) ∧ (¬ x < y → B) := by
  subst hx hy
  rw [nI_ltI ha hb]
  exact ⟨f, fun z => g (by omega)⟩
theorem pk_eq {x y : Int32} {A B : Prop} (a b : Nat) (f : a = b → A) (g : a ≠ b → B) (hx : x = nI a := by rfl) (hy : y = nI b := by rfl) (ha : a < 2 ^ 31 := by omega) (hb : b < 2 ^ 31 := by omega) : (x = y → A) ∧ (¬ x = y → B) := by
  subst hx hy
  rw [nI_eq ha hb]
  exact ⟨f, g⟩
theorem pk_in {x : Int32} (n N : Nat) (h : n < N) (hx : x = nI n := by rfl) (hN : N < 2 ^ 31 := by omega) : vp_in x N := by
  subst hx
  exact vp_in_nI h hN
theorem pk_cl {x : Int32} (n : Nat) (hx : x = nI n := by rfl) (h : n < 2 ^ 31 := by omega) : x.toNatClampNeg = n := by
  subst hx
  exact nI_clamp h
theorem pk_tn {n : Nat} (h : n < 2 ^ 32) : (nI n).toBitVec.toNat = n := Nat.mod_eq_of_lt h
theorem pk_and (x : Int32) {m : Int32} (k : Nat) (hm : m.toBitVec.toNat = 2 ^ k - 1) : x &&& m = nI (x.toBitVec.toNat % 2 ^ k) := by
  apply Int32.toBitVec_inj.mp
  apply BitVec.eq_of_toNat_eq
  rw [Int32.toBitVec_and, BitVec.toNat_and, hm, Nat.and_two_pow_sub_one_eq_mod]
  show _ = (BitVec.ofNat 32 _).toNat
  rw [BitVec.toNat_ofNat]
  exact (Nat.mod_eq_of_lt (Nat.lt_of_le_of_lt (Nat.mod_le _ _) x.toBitVec.isLt)).symm
theorem pk_andN {n : Nat} (h : n < 2 ^ 32) {m : Int32} (k : Nat) (hm : m.toBitVec.toNat = 2 ^ k - 1) : nI n &&& m = nI (n % 2 ^ k) := by
  rw [pk_and _ k hm, pk_tn h]
theorem pk_andE (x : Int32) {m : Int32} (k : Nat) (hm : m.toBitVec.toNat = 2 ^ k - 1) : ∃ j : Nat, j < 2 ^ k ∧ x &&& m = nI j := ⟨_, Nat.mod_lt _ (Nat.two_pow_pos k), pk_and x k hm⟩
theorem pk_andIn (x : Int32) {m : Int32} (k : Nat) (hm : m.toBitVec.toNat = 2 ^ k - 1) (hk : k ≤ 30) : vp_in (x &&& m) (2 ^ k) := by
  obtain ⟨j, hj, e⟩ := pk_andE x k hm
  rw [e]
  exact vp_in_nI hj (Nat.lt_of_le_of_lt (Nat.pow_le_pow_right (by decide) hk) (by decide))
theorem pk_shl (a s : Int32) (k : Nat) (hs : (s.toBitVec.smod 32).toNat = k) : (a <<< s).toBitVec.toNat = a.toBitVec.toNat * 2 ^ k % 2 ^ 32 := by
  show (a.toBitVec <<< (s.toBitVec.smod 32).toNat).toNat = _
  rw [hs, BitVec.toNat_shiftLeft, Nat.shiftLeft_eq]
theorem pk_shlN {n : Nat} (s : Int32) (k : Nat) (hs : (s.toBitVec.smod 32).toNat = k) (h : n * 2 ^ k < 2 ^ 32) : nI n <<< s = nI (n * 2 ^ k) := by
  apply Int32.toBitVec_inj.mp
  apply BitVec.eq_of_toNat_eq
  have hn : n < 2 ^ 32 := Nat.lt_of_le_of_lt (Nat.le_mul_of_pos_right n (Nat.two_pow_pos k)) h
  rw [pk_shl _ _ k hs, pk_tn hn, pk_tn h, Nat.mod_eq_of_lt h]
theorem pk_shr (a s : Int32) (k : Nat) (hs : (s.toBitVec.smod 32).toNat = k) : (a >>> s).toInt = a.toInt >>> k := by
  show (a.toBitVec.sshiftRight (s.toBitVec.smod 32).toNat).toInt = _
  rw [hs, BitVec.toInt_sshiftRight]
  rfl
theorem pk_shrN {n : Nat} (h : n < 2 ^ 31) (s : Int32) (k : Nat) (hs : (s.toBitVec.smod 32).toNat = k) : nI n >>> s = nI (n / 2 ^ k) := by
  apply Int32.toInt_inj.mp
  have h2 : n / 2 ^ k ≤ n := Nat.div_le_self _ _
  rw [pk_shr _ _ k hs, nI_toInt h, nI_toInt (by omega), Int.shiftRight_eq_div_pow]
  rfl
theorem pk_ushr (x s : Int32) (k : Nat) (hs : ((s.toUInt32 &&& Int32.toUInt32 31).toBitVec % 32).toNat = k) : (x.toUInt32 >>> (s.toUInt32 &&& Int32.toUInt32 31)).toInt32.toBitVec.toNat = x.toBitVec.toNat / 2 ^ k := by
  have e : (x.toUInt32 >>> (s.toUInt32 &&& Int32.toUInt32 31)).toInt32.toBitVec = x.toBitVec >>> k := by
    rw [← hs]
    exact UInt32.toBitVec_shiftRight _ _
  rw [e, BitVec.toNat_ushiftRight, Nat.shiftRight_eq_div_pow]
theorem pk_ushrN {n : Nat} (hn : n < 2 ^ 32) (s : Int32) (k : Nat) (hs : ((s.toUInt32 &&& Int32.toUInt32 31).toBitVec % 32).toNat = k) : ((nI n).toUInt32 >>> (s.toUInt32 &&& Int32.toUInt32 31)).toInt32 = nI (n / 2 ^ k) := by
  apply Int32.toBitVec_inj.mp
  apply BitVec.eq_of_toNat_eq
  rw [pk_ushr _ s k hs, pk_tn hn, pk_tn (Nat.lt_of_le_of_lt (Nat.div_le_self _ _) hn)]
theorem pk_nb (z : Int32) : narrow .byte (.int z.toInt8.toInt32) = .int z.toInt8.toInt32 := congrArg Value.int (by simp)
theorem pk_ns (z : Int32) : narrow .short (.int z.toInt16.toInt32) = .int z.toInt16.toInt32 := congrArg Value.int (by simp)
theorem pk_fb (r : Int32) : fits .byte (.int r.toInt8.toInt32) = true := by
  have ⟨a, b⟩ := lg_i2b_range r
  have h1 : (-128 : Int32).toInt = -128 := by decide
  have h2 : (127 : Int32).toInt = 127 := by decide
  simp only [fits, Bool.and_eq_true, decide_eq_true_eq, Int32.le_iff_toInt_le, h1, h2]
  omega
theorem pk_fs (r : Int32) : fits .short (.int r.toInt16.toInt32) = true := by
  have ⟨a, b⟩ := lg_i2s_range r
  have h1 : (-32768 : Int32).toInt = -32768 := by decide
  have h2 : (32767 : Int32).toInt = 32767 := by decide
  simp only [fits, Bool.and_eq_true, decide_eq_true_eq, Int32.le_iff_toInt_le, h1, h2]
  omega
theorem pk_charN {q : Nat} (hq : q < 65536) : narrow .char (.int (nI q)) = .int (nI q) ∧ fits .char (.int (nI q)) = true := by
  constructor
  · have e : (nI q).toUInt32.toUInt16.toUInt32.toInt32 = nI q := by
      apply Int32.toBitVec_inj.mp
      apply BitVec.eq_of_toNat_eq
      show (nI q).toUInt32.toUInt16.toUInt32.toNat = q % 2 ^ 32
      rw [UInt16.toNat_toUInt32, UInt32.toNat_toUInt16, show (nI q).toUInt32.toNat = q % 2 ^ 32 from rfl]
      omega
    exact congrArg Value.int e
  · have a : (0 : Int32) ≤ nI q := nI_pos' (by omega)
    have b : nI q ≤ 65535 := nI_le (b := 65535) (by omega) (by decide)
    show (decide ((0 : Int32) ≤ nI q) && decide (nI q ≤ 65535)) = true
    rw [decide_eq_true a, decide_eq_true b]
    rfl
theorem pk_char (x : Int32) : (x.toUInt32 % 65536).toInt32 = nI (x.toBitVec.toNat % 65536) := by
  apply Int32.toBitVec_inj.mp
  apply BitVec.eq_of_toNat_eq
  rw [pk_tn (by omega)]
  show (x.toUInt32 % 65536).toNat = _
  rw [UInt32.toNat_mod]
  rfl
theorem pk_nc (x : Int32) : narrow .char (.int (x.toUInt32 % 65536).toInt32) = .int (x.toUInt32 % 65536).toInt32 := by
  rw [pk_char]
  exact (pk_charN (Nat.mod_lt _ (by decide))).1
theorem pk_fc (x : Int32) : fits .char (.int (x.toUInt32 % 65536).toInt32) = true := by
  rw [pk_char]
  exact (pk_charN (Nat.mod_lt _ (by decide))).2
theorem pk_vb (z : Int32) : vp_nar .byte z.toInt8.toInt32 = z.toInt8.toInt32 := by rw [vp_nar_byte]; simp
theorem pk_vs (z : Int32) : vp_nar .short z.toInt16.toInt32 = z.toInt16.toInt32 := by rw [vp_nar_short]; simp
theorem pk_vc (z : Int32) : vp_nar .char (z.toUInt32 % 65536).toInt32 = (z.toUInt32 % 65536).toInt32 := Value.int.inj (pk_nc z)
theorem pk_lT {n : Nat} (h : n < 2 ^ 63) : (lN n).toInt = (n : Int) := lg_ofNat_toInt h
theorem pk_lLT {a b : Nat} (ha : a < 2 ^ 63) (hb : b < 2 ^ 63) : lN a < lN b ↔ a < b := by
  rw [Int64.lt_iff_toInt_lt, pk_lT ha, pk_lT hb]; omega
theorem pk_lLE {a b : Nat} (ha : a < 2 ^ 63) (hb : b < 2 ^ 63) : lN a ≤ lN b ↔ a ≤ b := by
  rw [Int64.le_iff_toInt_le, pk_lT ha, pk_lT hb]; omega
theorem pk_lEQ {a b : Nat} (ha : a < 2 ^ 63) (hb : b < 2 ^ 63) : lN a = lN b ↔ a = b := by
  rw [← Int64.toInt_inj, pk_lT ha, pk_lT hb]; omega
theorem pk_lOf {x : Int64} (h : ¬ x < 0) : ∃ k : Nat, k < 2 ^ 63 ∧ x = lN k := by
  rw [Int64.lt_iff_toInt_lt] at h
  have h0 : (0 : Int64).toInt = 0 := by decide
  have hx := Int64.toInt_lt x
  refine ⟨x.toInt.toNat, by omega, Int64.toInt_inj.mp ?_⟩
  rw [pk_lT (by omega)]
  omega
theorem pk_lDiv {a b : Nat} (ha : a < 2 ^ 63) (h0 : 0 < b) (hb : b < 2 ^ 63) : lN a / lN b = lN (a / b) := by
  apply Int64.toInt_inj.mp
  rw [lg_ldiv_nonneg (by rw [pk_lT ha]; omega) (by rw [pk_lT hb]; omega), pk_lT ha, pk_lT hb, pk_lT (Nat.lt_of_le_of_lt (Nat.div_le_self a b) ha)]
  rfl
theorem pk_lRem {a b : Nat} (ha : a < 2 ^ 63) (h0 : 0 < b) (hb : b < 2 ^ 63) : lN a - lN a / lN b * lN b = lN (a % b) := by
  rw [pk_lDiv ha h0 hb, lN_mul, lN_sub (Nat.div_mul_le_self a b)]
  exact congrArg lN (by have := Nat.div_add_mod' a b; omega)
theorem pk_loop {σ : Type} (W : Nat → Nat → σ → Prop) (I : Nat → σ → Prop) (e i0 : Nat) (s : σ) (hi : i0 ≤ e) (h0 : I i0 s) (hx : ∀ n s, I e s → W (n + 1) e s)
    (hs : ∀ n i s, i < e → I i s → (∀ s', I (i + 1) s' → W n (i + 1) s') → W (n + 1) i s) : ∃ n, W n i0 s :=
  ⟨e + 1, loop_i W I e hx hs (e + 1) i0 s hi (by omega) h0⟩
theorem pk_loopD {σ : Type} (W : Nat → Nat → σ → Prop) (I : Nat → σ → Prop) (hx : ∀ n s, I 0 s → W (n + 1) 0 s)
    (hs : ∀ n i s, I (i + 1) s → (∀ s', I i s' → W n i s') → W (n + 1) (i + 1) s) : ∀ (e : Nat) (s : σ), I e s → W (e + 1) e s := by
  intro e
  induction e with
  | zero => exact fun s h => hx 0 s h
  | succ e ih => exact fun s h => hs (e + 1) e s h (fun s' h' => ih s' h')
theorem lp1 {A1 : Type} (W : Nat → A1 → Prop) (I : A1 → Prop) (μ : A1 → Nat) (hs : ∀ (n : Nat) (a1 : A1), I a1 → (∀ (b1 : A1), I b1 → μ b1 < μ a1 → W n b1) → W (n + 1) a1) (a1 : A1) (h : I a1) : ∃ n, W n a1 :=
  loop_m (σ := A1) (fun n s => W n s) (fun s => I s) (fun s => μ s) (fun n s hI hk => hs n s hI (fun b1 h9 hm => hk b1 h9 hm)) a1 h
theorem lp2 {A1 A2 : Type} (W : Nat → A1 → A2 → Prop) (I : A1 → A2 → Prop) (μ : A1 → A2 → Nat) (hs : ∀ (n : Nat) (a1 : A1) (a2 : A2), I a1 a2 → (∀ (b1 : A1) (b2 : A2), I b1 b2 → μ b1 b2 < μ a1 a2 → W n b1 b2) → W (n + 1) a1 a2) (a1 : A1) (a2 : A2) (h : I a1 a2) : ∃ n, W n a1 a2 :=
  loop_m (σ := A1 × A2) (fun n s => W n s.1 s.2) (fun s => I s.1 s.2) (fun s => μ s.1 s.2) (fun n s hI hk => hs n s.1 s.2 hI (fun b1 b2 h9 hm => hk (b1, b2) h9 hm)) (a1, a2) h
theorem lp3 {A1 A2 A3 : Type} (W : Nat → A1 → A2 → A3 → Prop) (I : A1 → A2 → A3 → Prop) (μ : A1 → A2 → A3 → Nat) (hs : ∀ (n : Nat) (a1 : A1) (a2 : A2) (a3 : A3), I a1 a2 a3 → (∀ (b1 : A1) (b2 : A2) (b3 : A3), I b1 b2 b3 → μ b1 b2 b3 < μ a1 a2 a3 → W n b1 b2 b3) → W (n + 1) a1 a2 a3) (a1 : A1) (a2 : A2) (a3 : A3) (h : I a1 a2 a3) : ∃ n, W n a1 a2 a3 :=
  loop_m (σ := A1 × A2 × A3) (fun n s => W n s.1 s.2.1 s.2.2) (fun s => I s.1 s.2.1 s.2.2) (fun s => μ s.1 s.2.1 s.2.2) (fun n s hI hk => hs n s.1 s.2.1 s.2.2 hI (fun b1 b2 b3 h9 hm => hk (b1, b2, b3) h9 hm)) (a1, a2, a3) h
theorem lp4 {A1 A2 A3 A4 : Type} (W : Nat → A1 → A2 → A3 → A4 → Prop) (I : A1 → A2 → A3 → A4 → Prop) (μ : A1 → A2 → A3 → A4 → Nat) (hs : ∀ (n : Nat) (a1 : A1) (a2 : A2) (a3 : A3) (a4 : A4), I a1 a2 a3 a4 → (∀ (b1 : A1) (b2 : A2) (b3 : A3) (b4 : A4), I b1 b2 b3 b4 → μ b1 b2 b3 b4 < μ a1 a2 a3 a4 → W n b1 b2 b3 b4) → W (n + 1) a1 a2 a3 a4) (a1 : A1) (a2 : A2) (a3 : A3) (a4 : A4) (h : I a1 a2 a3 a4) : ∃ n, W n a1 a2 a3 a4 :=
  loop_m (σ := A1 × A2 × A3 × A4) (fun n s => W n s.1 s.2.1 s.2.2.1 s.2.2.2) (fun s => I s.1 s.2.1 s.2.2.1 s.2.2.2) (fun s => μ s.1 s.2.1 s.2.2.1 s.2.2.2) (fun n s hI hk => hs n s.1 s.2.1 s.2.2.1 s.2.2.2 hI (fun b1 b2 b3 b4 h9 hm => hk (b1, b2, b3, b4) h9 hm)) (a1, a2, a3, a4) h
theorem lp5 {A1 A2 A3 A4 A5 : Type} (W : Nat → A1 → A2 → A3 → A4 → A5 → Prop) (I : A1 → A2 → A3 → A4 → A5 → Prop) (μ : A1 → A2 → A3 → A4 → A5 → Nat) (hs : ∀ (n : Nat) (a1 : A1) (a2 : A2) (a3 : A3) (a4 : A4) (a5 : A5), I a1 a2 a3 a4 a5 → (∀ (b1 : A1) (b2 : A2) (b3 : A3) (b4 : A4) (b5 : A5), I b1 b2 b3 b4 b5 → μ b1 b2 b3 b4 b5 < μ a1 a2 a3 a4 a5 → W n b1 b2 b3 b4 b5) → W (n + 1) a1 a2 a3 a4 a5) (a1 : A1) (a2 : A2) (a3 : A3) (a4 : A4) (a5 : A5) (h : I a1 a2 a3 a4 a5) : ∃ n, W n a1 a2 a3 a4 a5 :=
  loop_m (σ := A1 × A2 × A3 × A4 × A5) (fun n s => W n s.1 s.2.1 s.2.2.1 s.2.2.2.1 s.2.2.2.2) (fun s => I s.1 s.2.1 s.2.2.1 s.2.2.2.1 s.2.2.2.2) (fun s => μ s.1 s.2.1 s.2.2.1 s.2.2.2.1 s.2.2.2.2) (fun n s hI hk => hs n s.1 s.2.1 s.2.2.1 s.2.2.2.1 s.2.2.2.2 hI (fun b1 b2 b3 b4 b5 h9 hm => hk (b1, b2, b3, b4, b5) h9 hm)) (a1, a2, a3, a4, a5) h
theorem lp6 {A1 A2 A3 A4 A5 A6 : Type} (W : Nat → A1 → A2 → A3 → A4 → A5 → A6 → Prop) (I : A1 → A2 → A3 → A4 → A5 → A6 → Prop) (μ : A1 → A2 → A3 → A4 → A5 → A6 → Nat) (hs : ∀ (n : Nat) (a1 : A1) (a2 : A2) (a3 : A3) (a4 : A4) (a5 : A5) (a6 : A6), I a1 a2 a3 a4 a5 a6 → (∀ (b1 : A1) (b2 : A2) (b3 : A3) (b4 : A4) (b5 : A5) (b6 : A6), I b1 b2 b3 b4 b5 b6 → μ b1 b2 b3 b4 b5 b6 < μ a1 a2 a3 a4 a5 a6 → W n b1 b2 b3 b4 b5 b6) → W (n + 1) a1 a2 a3 a4 a5 a6) (a1 : A1) (a2 : A2) (a3 : A3) (a4 : A4) (a5 : A5) (a6 : A6) (h : I a1 a2 a3 a4 a5 a6) : ∃ n, W n a1 a2 a3 a4 a5 a6 :=
  loop_m (σ := A1 × A2 × A3 × A4 × A5 × A6) (fun n s => W n s.1 s.2.1 s.2.2.1 s.2.2.2.1 s.2.2.2.2.1 s.2.2.2.2.2) (fun s => I s.1 s.2.1 s.2.2.1 s.2.2.2.1 s.2.2.2.2.1 s.2.2.2.2.2) (fun s => μ s.1 s.2.1 s.2.2.1 s.2.2.2.1 s.2.2.2.2.1 s.2.2.2.2.2) (fun n s hI hk => hs n s.1 s.2.1 s.2.2.1 s.2.2.2.1 s.2.2.2.2.1 s.2.2.2.2.2 hI (fun b1 b2 b3 b4 b5 b6 h9 hm => hk (b1, b2, b3, b4, b5, b6) h9 hm)) (a1, a2, a3, a4, a5, a6) h
theorem lp7 {A1 A2 A3 A4 A5 A6 A7 : Type} (W : Nat → A1 → A2 → A3 → A4 → A5 → A6 → A7 → Prop) (I : A1 → A2 → A3 → A4 → A5 → A6 → A7 → Prop) (μ : A1 → A2 → A3 → A4 → A5 → A6 → A7 → Nat) (hs : ∀ (n : Nat) (a1 : A1) (a2 : A2) (a3 : A3) (a4 : A4) (a5 : A5) (a6 : A6) (a7 : A7), I a1 a2 a3 a4 a5 a6 a7 → (∀ (b1 : A1) (b2 : A2) (b3 : A3) (b4 : A4) (b5 : A5) (b6 : A6) (b7 : A7), I b1 b2 b3 b4 b5 b6 b7 → μ b1 b2 b3 b4 b5 b6 b7 < μ a1 a2 a3 a4 a5 a6 a7 → W n b1 b2 b3 b4 b5 b6 b7) → W (n + 1) a1 a2 a3 a4 a5 a6 a7) (a1 : A1) (a2 : A2) (a3 : A3) (a4 : A4) (a5 : A5) (a6 : A6) (a7 : A7) (h : I a1 a2 a3 a4 a5 a6 a7) : ∃ n, W n a1 a2 a3 a4 a5 a6 a7 :=
  loop_m (σ := A1 × A2 × A3 × A4 × A5 × A6 × A7) (fun n s => W n s.1 s.2.1 s.2.2.1 s.2.2.2.1 s.2.2.2.2.1 s.2.2.2.2.2.1 s.2.2.2.2.2.2) (fun s => I s.1 s.2.1 s.2.2.1 s.2.2.2.1 s.2.2.2.2.1 s.2.2.2.2.2.1 s.2.2.2.2.2.2) (fun s => μ s.1 s.2.1 s.2.2.1 s.2.2.2.1 s.2.2.2.2.1 s.2.2.2.2.2.1 s.2.2.2.2.2.2) (fun n s hI hk => hs n s.1 s.2.1 s.2.2.1 s.2.2.2.1 s.2.2.2.2.1 s.2.2.2.2.2.1 s.2.2.2.2.2.2 hI (fun b1 b2 b3 b4 b5 b6 b7 h9 hm => hk (b1, b2, b3, b4, b5, b6, b7) h9 hm)) (a1, a2, a3, a4, a5, a6, a7) h
theorem lp8 {A1 A2 A3 A4 A5 A6 A7 A8 : Type} (W : Nat → A1 → A2 → A3 → A4 → A5 → A6 → A7 → A8 → Prop) (I : A1 → A2 → A3 → A4 → A5 → A6 → A7 → A8 → Prop) (μ : A1 → A2 → A3 → A4 → A5 → A6 → A7 → A8 → Nat) (hs : ∀ (n : Nat) (a1 : A1) (a2 : A2) (a3 : A3) (a4 : A4) (a5 : A5) (a6 : A6) (a7 : A7) (a8 : A8), I a1 a2 a3 a4 a5 a6 a7 a8 → (∀ (b1 : A1) (b2 : A2) (b3 : A3) (b4 : A4) (b5 : A5) (b6 : A6) (b7 : A7) (b8 : A8), I b1 b2 b3 b4 b5 b6 b7 b8 → μ b1 b2 b3 b4 b5 b6 b7 b8 < μ a1 a2 a3 a4 a5 a6 a7 a8 → W n b1 b2 b3 b4 b5 b6 b7 b8) → W (n + 1) a1 a2 a3 a4 a5 a6 a7 a8) (a1 : A1) (a2 : A2) (a3 : A3) (a4 : A4) (a5 : A5) (a6 : A6) (a7 : A7) (a8 : A8) (h : I a1 a2 a3 a4 a5 a6 a7 a8) : ∃ n, W n a1 a2 a3 a4 a5 a6 a7 a8 :=
  loop_m (σ := A1 × A2 × A3 × A4 × A5 × A6 × A7 × A8) (fun n s => W n s.1 s.2.1 s.2.2.1 s.2.2.2.1 s.2.2.2.2.1 s.2.2.2.2.2.1 s.2.2.2.2.2.2.1 s.2.2.2.2.2.2.2) (fun s => I s.1 s.2.1 s.2.2.1 s.2.2.2.1 s.2.2.2.2.1 s.2.2.2.2.2.1 s.2.2.2.2.2.2.1 s.2.2.2.2.2.2.2) (fun s => μ s.1 s.2.1 s.2.2.1 s.2.2.2.1 s.2.2.2.2.1 s.2.2.2.2.2.1 s.2.2.2.2.2.2.1 s.2.2.2.2.2.2.2) (fun n s hI hk => hs n s.1 s.2.1 s.2.2.1 s.2.2.2.1 s.2.2.2.2.1 s.2.2.2.2.2.1 s.2.2.2.2.2.2.1 s.2.2.2.2.2.2.2 hI (fun b1 b2 b3 b4 b5 b6 b7 b8 h9 hm => hk (b1, b2, b3, b4, b5, b6, b7, b8) h9 hm)) (a1, a2, a3, a4, a5, a6, a7, a8) h
theorem lp9 {A1 A2 A3 A4 A5 A6 A7 A8 A9 : Type} (W : Nat → A1 → A2 → A3 → A4 → A5 → A6 → A7 → A8 → A9 → Prop) (I : A1 → A2 → A3 → A4 → A5 → A6 → A7 → A8 → A9 → Prop) (μ : A1 → A2 → A3 → A4 → A5 → A6 → A7 → A8 → A9 → Nat) (hs : ∀ (n : Nat) (a1 : A1) (a2 : A2) (a3 : A3) (a4 : A4) (a5 : A5) (a6 : A6) (a7 : A7) (a8 : A8) (a9 : A9), I a1 a2 a3 a4 a5 a6 a7 a8 a9 → (∀ (b1 : A1) (b2 : A2) (b3 : A3) (b4 : A4) (b5 : A5) (b6 : A6) (b7 : A7) (b8 : A8) (b9 : A9), I b1 b2 b3 b4 b5 b6 b7 b8 b9 → μ b1 b2 b3 b4 b5 b6 b7 b8 b9 < μ a1 a2 a3 a4 a5 a6 a7 a8 a9 → W n b1 b2 b3 b4 b5 b6 b7 b8 b9) → W (n + 1) a1 a2 a3 a4 a5 a6 a7 a8 a9) (a1 : A1) (a2 : A2) (a3 : A3) (a4 : A4) (a5 : A5) (a6 : A6) (a7 : A7) (a8 : A8) (a9 : A9) (h : I a1 a2 a3 a4 a5 a6 a7 a8 a9) : ∃ n, W n a1 a2 a3 a4 a5 a6 a7 a8 a9 :=
  loop_m (σ := A1 × A2 × A3 × A4 × A5 × A6 × A7 × A8 × A9) (fun n s => W n s.1 s.2.1 s.2.2.1 s.2.2.2.1 s.2.2.2.2.1 s.2.2.2.2.2.1 s.2.2.2.2.2.2.1 s.2.2.2.2.2.2.2.1 s.2.2.2.2.2.2.2.2) (fun s => I s.1 s.2.1 s.2.2.1 s.2.2.2.1 s.2.2.2.2.1 s.2.2.2.2.2.1 s.2.2.2.2.2.2.1 s.2.2.2.2.2.2.2.1 s.2.2.2.2.2.2.2.2) (fun s => μ s.1 s.2.1 s.2.2.1 s.2.2.2.1 s.2.2.2.2.1 s.2.2.2.2.2.1 s.2.2.2.2.2.2.1 s.2.2.2.2.2.2.2.1 s.2.2.2.2.2.2.2.2) (fun n s hI hk => hs n s.1 s.2.1 s.2.2.1 s.2.2.2.1 s.2.2.2.2.1 s.2.2.2.2.2.1 s.2.2.2.2.2.2.1 s.2.2.2.2.2.2.2.1 s.2.2.2.2.2.2.2.2 hI (fun b1 b2 b3 b4 b5 b6 b7 b8 b9 h9 hm => hk (b1, b2, b3, b4, b5, b6, b7, b8, b9) h9 hm)) (a1, a2, a3, a4, a5, a6, a7, a8, a9) h
theorem lp10 {A1 A2 A3 A4 A5 A6 A7 A8 A9 A10 : Type} (W : Nat → A1 → A2 → A3 → A4 → A5 → A6 → A7 → A8 → A9 → A10 → Prop) (I : A1 → A2 → A3 → A4 → A5 → A6 → A7 → A8 → A9 → A10 → Prop) (μ : A1 → A2 → A3 → A4 → A5 → A6 → A7 → A8 → A9 → A10 → Nat) (hs : ∀ (n : Nat) (a1 : A1) (a2 : A2) (a3 : A3) (a4 : A4) (a5 : A5) (a6 : A6) (a7 : A7) (a8 : A8) (a9 : A9) (a10 : A10), I a1 a2 a3 a4 a5 a6 a7 a8 a9 a10 → (∀ (b1 : A1) (b2 : A2) (b3 : A3) (b4 : A4) (b5 : A5) (b6 : A6) (b7 : A7) (b8 : A8) (b9 : A9) (b10 : A10), I b1 b2 b3 b4 b5 b6 b7 b8 b9 b10 → μ b1 b2 b3 b4 b5 b6 b7 b8 b9 b10 < μ a1 a2 a3 a4 a5 a6 a7 a8 a9 a10 → W n b1 b2 b3 b4 b5 b6 b7 b8 b9 b10) → W (n + 1) a1 a2 a3 a4 a5 a6 a7 a8 a9 a10) (a1 : A1) (a2 : A2) (a3 : A3) (a4 : A4) (a5 : A5) (a6 : A6) (a7 : A7) (a8 : A8) (a9 : A9) (a10 : A10) (h : I a1 a2 a3 a4 a5 a6 a7 a8 a9 a10) : ∃ n, W n a1 a2 a3 a4 a5 a6 a7 a8 a9 a10 :=
  loop_m (σ := A1 × A2 × A3 × A4 × A5 × A6 × A7 × A8 × A9 × A10) (fun n s => W n s.1 s.2.1 s.2.2.1 s.2.2.2.1 s.2.2.2.2.1 s.2.2.2.2.2.1 s.2.2.2.2.2.2.1 s.2.2.2.2.2.2.2.1 s.2.2.2.2.2.2.2.2.1 s.2.2.2.2.2.2.2.2.2) (fun s => I s.1 s.2.1 s.2.2.1 s.2.2.2.1 s.2.2.2.2.1 s.2.2.2.2.2.1 s.2.2.2.2.2.2.1 s.2.2.2.2.2.2.2.1 s.2.2.2.2.2.2.2.2.1 s.2.2.2.2.2.2.2.2.2) (fun s => μ s.1 s.2.1 s.2.2.1 s.2.2.2.1 s.2.2.2.2.1 s.2.2.2.2.2.1 s.2.2.2.2.2.2.1 s.2.2.2.2.2.2.2.1 s.2.2.2.2.2.2.2.2.1 s.2.2.2.2.2.2.2.2.2) (fun n s hI hk => hs n s.1 s.2.1 s.2.2.1 s.2.2.2.1 s.2.2.2.2.1 s.2.2.2.2.2.1 s.2.2.2.2.2.2.1 s.2.2.2.2.2.2.2.1 s.2.2.2.2.2.2.2.2.1 s.2.2.2.2.2.2.2.2.2 hI (fun b1 b2 b3 b4 b5 b6 b7 b8 b9 b10 h9 hm => hk (b1, b2, b3, b4, b5, b6, b7, b8, b9, b10) h9 hm)) (a1, a2, a3, a4, a5, a6, a7, a8, a9, a10) h
theorem lp11 {A1 A2 A3 A4 A5 A6 A7 A8 A9 A10 A11 : Type} (W : Nat → A1 → A2 → A3 → A4 → A5 → A6 → A7 → A8 → A9 → A10 → A11 → Prop) (I : A1 → A2 → A3 → A4 → A5 → A6 → A7 → A8 → A9 → A10 → A11 → Prop) (μ : A1 → A2 → A3 → A4 → A5 → A6 → A7 → A8 → A9 → A10 → A11 → Nat) (hs : ∀ (n : Nat) (a1 : A1) (a2 : A2) (a3 : A3) (a4 : A4) (a5 : A5) (a6 : A6) (a7 : A7) (a8 : A8) (a9 : A9) (a10 : A10) (a11 : A11), I a1 a2 a3 a4 a5 a6 a7 a8 a9 a10 a11 → (∀ (b1 : A1) (b2 : A2) (b3 : A3) (b4 : A4) (b5 : A5) (b6 : A6) (b7 : A7) (b8 : A8) (b9 : A9) (b10 : A10) (b11 : A11), I b1 b2 b3 b4 b5 b6 b7 b8 b9 b10 b11 → μ b1 b2 b3 b4 b5 b6 b7 b8 b9 b10 b11 < μ a1 a2 a3 a4 a5 a6 a7 a8 a9 a10 a11 → W n b1 b2 b3 b4 b5 b6 b7 b8 b9 b10 b11) → W (n + 1) a1 a2 a3 a4 a5 a6 a7 a8 a9 a10 a11) (a1 : A1) (a2 : A2) (a3 : A3) (a4 : A4) (a5 : A5) (a6 : A6) (a7 : A7) (a8 : A8) (a9 : A9) (a10 : A10) (a11 : A11) (h : I a1 a2 a3 a4 a5 a6 a7 a8 a9 a10 a11) : ∃ n, W n a1 a2 a3 a4 a5 a6 a7 a8 a9 a10 a11 :=
  loop_m (σ := A1 × A2 × A3 × A4 × A5 × A6 × A7 × A8 × A9 × A10 × A11) (fun n s => W n s.1 s.2.1 s.2.2.1 s.2.2.2.1 s.2.2.2.2.1 s.2.2.2.2.2.1 s.2.2.2.2.2.2.1 s.2.2.2.2.2.2.2.1 s.2.2.2.2.2.2.2.2.1 s.2.2.2.2.2.2.2.2.2.1 s.2.2.2.2.2.2.2.2.2.2) (fun s => I s.1 s.2.1 s.2.2.1 s.2.2.2.1 s.2.2.2.2.1 s.2.2.2.2.2.1 s.2.2.2.2.2.2.1 s.2.2.2.2.2.2.2.1 s.2.2.2.2.2.2.2.2.1 s.2.2.2.2.2.2.2.2.2.1 s.2.2.2.2.2.2.2.2.2.2) (fun s => μ s.1 s.2.1 s.2.2.1 s.2.2.2.1 s.2.2.2.2.1 s.2.2.2.2.2.1 s.2.2.2.2.2.2.1 s.2.2.2.2.2.2.2.1 s.2.2.2.2.2.2.2.2.1 s.2.2.2.2.2.2.2.2.2.1 s.2.2.2.2.2.2.2.2.2.2) (fun n s hI hk => hs n s.1 s.2.1 s.2.2.1 s.2.2.2.1 s.2.2.2.2.1 s.2.2.2.2.2.1 s.2.2.2.2.2.2.1 s.2.2.2.2.2.2.2.1 s.2.2.2.2.2.2.2.2.1 s.2.2.2.2.2.2.2.2.2.1 s.2.2.2.2.2.2.2.2.2.2 hI (fun b1 b2 b3 b4 b5 b6 b7 b8 b9 b10 b11 h9 hm => hk (b1, b2, b3, b4, b5, b6, b7, b8, b9, b10, b11) h9 hm)) (a1, a2, a3, a4, a5, a6, a7, a8, a9, a10, a11) h
theorem lp12 {A1 A2 A3 A4 A5 A6 A7 A8 A9 A10 A11 A12 : Type} (W : Nat → A1 → A2 → A3 → A4 → A5 → A6 → A7 → A8 → A9 → A10 → A11 → A12 → Prop) (I : A1 → A2 → A3 → A4 → A5 → A6 → A7 → A8 → A9 → A10 → A11 → A12 → Prop) (μ : A1 → A2 → A3 → A4 → A5 → A6 → A7 → A8 → A9 → A10 → A11 → A12 → Nat) (hs : ∀ (n : Nat) (a1 : A1) (a2 : A2) (a3 : A3) (a4 : A4) (a5 : A5) (a6 : A6) (a7 : A7) (a8 : A8) (a9 : A9) (a10 : A10) (a11 : A11) (a12 : A12), I a1 a2 a3 a4 a5 a6 a7 a8 a9 a10 a11 a12 → (∀ (b1 : A1) (b2 : A2) (b3 : A3) (b4 : A4) (b5 : A5) (b6 : A6) (b7 : A7) (b8 : A8) (b9 : A9) (b10 : A10) (b11 : A11) (b12 : A12), I b1 b2 b3 b4 b5 b6 b7 b8 b9 b10 b11 b12 → μ b1 b2 b3 b4 b5 b6 b7 b8 b9 b10 b11 b12 < μ a1 a2 a3 a4 a5 a6 a7 a8 a9 a10 a11 a12 → W n b1 b2 b3 b4 b5 b6 b7 b8 b9 b10 b11 b12) → W (n + 1) a1 a2 a3 a4 a5 a6 a7 a8 a9 a10 a11 a12) (a1 : A1) (a2 : A2) (a3 : A3) (a4 : A4) (a5 : A5) (a6 : A6) (a7 : A7) (a8 : A8) (a9 : A9) (a10 : A10) (a11 : A11) (a12 : A12) (h : I a1 a2 a3 a4 a5 a6 a7 a8 a9 a10 a11 a12) : ∃ n, W n a1 a2 a3 a4 a5 a6 a7 a8 a9 a10 a11 a12 :=
  loop_m (σ := A1 × A2 × A3 × A4 × A5 × A6 × A7 × A8 × A9 × A10 × A11 × A12) (fun n s => W n s.1 s.2.1 s.2.2.1 s.2.2.2.1 s.2.2.2.2.1 s.2.2.2.2.2.1 s.2.2.2.2.2.2.1 s.2.2.2.2.2.2.2.1 s.2.2.2.2.2.2.2.2.1 s.2.2.2.2.2.2.2.2.2.1 s.2.2.2.2.2.2.2.2.2.2.1 s.2.2.2.2.2.2.2.2.2.2.2) (fun s => I s.1 s.2.1 s.2.2.1 s.2.2.2.1 s.2.2.2.2.1 s.2.2.2.2.2.1 s.2.2.2.2.2.2.1 s.2.2.2.2.2.2.2.1 s.2.2.2.2.2.2.2.2.1 s.2.2.2.2.2.2.2.2.2.1 s.2.2.2.2.2.2.2.2.2.2.1 s.2.2.2.2.2.2.2.2.2.2.2) (fun s => μ s.1 s.2.1 s.2.2.1 s.2.2.2.1 s.2.2.2.2.1 s.2.2.2.2.2.1 s.2.2.2.2.2.2.1 s.2.2.2.2.2.2.2.1 s.2.2.2.2.2.2.2.2.1 s.2.2.2.2.2.2.2.2.2.1 s.2.2.2.2.2.2.2.2.2.2.1 s.2.2.2.2.2.2.2.2.2.2.2) (fun n s hI hk => hs n s.1 s.2.1 s.2.2.1 s.2.2.2.1 s.2.2.2.2.1 s.2.2.2.2.2.1 s.2.2.2.2.2.2.1 s.2.2.2.2.2.2.2.1 s.2.2.2.2.2.2.2.2.1 s.2.2.2.2.2.2.2.2.2.1 s.2.2.2.2.2.2.2.2.2.2.1 s.2.2.2.2.2.2.2.2.2.2.2 hI (fun b1 b2 b3 b4 b5 b6 b7 b8 b9 b10 b11 b12 h9 hm => hk (b1, b2, b3, b4, b5, b6, b7, b8, b9, b10, b11, b12) h9 hm)) (a1, a2, a3, a4, a5, a6, a7, a8, a9, a10, a11, a12) h
theorem lp13 {A1 A2 A3 A4 A5 A6 A7 A8 A9 A10 A11 A12 A13 : Type} (W : Nat → A1 → A2 → A3 → A4 → A5 → A6 → A7 → A8 → A9 → A10 → A11 → A12 → A13 → Prop) (I : A1 → A2 → A3 → A4 → A5 → A6 → A7 → A8 → A9 → A10 → A11 → A12 → A13 → Prop) (μ : A1 → A2 → A3 → A4 → A5 → A6 → A7 → A8 → A9 → A10 → A11 → A12 → A13 → Nat) (hs : ∀ (n : Nat) (a1 : A1) (a2 : A2) (a3 : A3) (a4 : A4) (a5 : A5) (a6 : A6) (a7 : A7) (a8 : A8) (a9 : A9) (a10 : A10) (a11 : A11) (a12 : A12) (a13 : A13), I a1 a2 a3 a4 a5 a6 a7 a8 a9 a10 a11 a12 a13 → (∀ (b1 : A1) (b2 : A2) (b3 : A3) (b4 : A4) (b5 : A5) (b6 : A6) (b7 : A7) (b8 : A8) (b9 : A9) (b10 : A10) (b11 : A11) (b12 : A12) (b13 : A13), I b1 b2 b3 b4 b5 b6 b7 b8 b9 b10 b11 b12 b13 → μ b1 b2 b3 b4 b5 b6 b7 b8 b9 b10 b11 b12 b13 < μ a1 a2 a3 a4 a5 a6 a7 a8 a9 a10 a11 a12 a13 → W n b1 b2 b3 b4 b5 b6 b7 b8 b9 b10 b11 b12 b13) → W (n + 1) a1 a2 a3 a4 a5 a6 a7 a8 a9 a10 a11 a12 a13) (a1 : A1) (a2 : A2) (a3 : A3) (a4 : A4) (a5 : A5) (a6 : A6) (a7 : A7) (a8 : A8) (a9 : A9) (a10 : A10) (a11 : A11) (a12 : A12) (a13 : A13) (h : I a1 a2 a3 a4 a5 a6 a7 a8 a9 a10 a11 a12 a13) : ∃ n, W n a1 a2 a3 a4 a5 a6 a7 a8 a9 a10 a11 a12 a13 :=
  loop_m (σ := A1 × A2 × A3 × A4 × A5 × A6 × A7 × A8 × A9 × A10 × A11 × A12 × A13) (fun n s => W n s.1 s.2.1 s.2.2.1 s.2.2.2.1 s.2.2.2.2.1 s.2.2.2.2.2.1 s.2.2.2.2.2.2.1 s.2.2.2.2.2.2.2.1 s.2.2.2.2.2.2.2.2.1 s.2.2.2.2.2.2.2.2.2.1 s.2.2.2.2.2.2.2.2.2.2.1 s.2.2.2.2.2.2.2.2.2.2.2.1 s.2.2.2.2.2.2.2.2.2.2.2.2) (fun s => I s.1 s.2.1 s.2.2.1 s.2.2.2.1 s.2.2.2.2.1 s.2.2.2.2.2.1 s.2.2.2.2.2.2.1 s.2.2.2.2.2.2.2.1 s.2.2.2.2.2.2.2.2.1 s.2.2.2.2.2.2.2.2.2.1 s.2.2.2.2.2.2.2.2.2.2.1 s.2.2.2.2.2.2.2.2.2.2.2.1 s.2.2.2.2.2.2.2.2.2.2.2.2) (fun s => μ s.1 s.2.1 s.2.2.1 s.2.2.2.1 s.2.2.2.2.1 s.2.2.2.2.2.1 s.2.2.2.2.2.2.1 s.2.2.2.2.2.2.2.1 s.2.2.2.2.2.2.2.2.1 s.2.2.2.2.2.2.2.2.2.1 s.2.2.2.2.2.2.2.2.2.2.1 s.2.2.2.2.2.2.2.2.2.2.2.1 s.2.2.2.2.2.2.2.2.2.2.2.2) (fun n s hI hk => hs n s.1 s.2.1 s.2.2.1 s.2.2.2.1 s.2.2.2.2.1 s.2.2.2.2.2.1 s.2.2.2.2.2.2.1 s.2.2.2.2.2.2.2.1 s.2.2.2.2.2.2.2.2.1 s.2.2.2.2.2.2.2.2.2.1 s.2.2.2.2.2.2.2.2.2.2.1 s.2.2.2.2.2.2.2.2.2.2.2.1 s.2.2.2.2.2.2.2.2.2.2.2.2 hI (fun b1 b2 b3 b4 b5 b6 b7 b8 b9 b10 b11 b12 b13 h9 hm => hk (b1, b2, b3, b4, b5, b6, b7, b8, b9, b10, b11, b12, b13) h9 hm)) (a1, a2, a3, a4, a5, a6, a7, a8, a9, a10, a11, a12, a13) h
theorem lp14 {A1 A2 A3 A4 A5 A6 A7 A8 A9 A10 A11 A12 A13 A14 : Type} (W : Nat → A1 → A2 → A3 → A4 → A5 → A6 → A7 → A8 → A9 → A10 → A11 → A12 → A13 → A14 → Prop) (I : A1 → A2 → A3 → A4 → A5 → A6 → A7 → A8 → A9 → A10 → A11 → A12 → A13 → A14 → Prop) (μ : A1 → A2 → A3 → A4 → A5 → A6 → A7 → A8 → A9 → A10 → A11 → A12 → A13 → A14 → Nat) (hs : ∀ (n : Nat) (a1 : A1) (a2 : A2) (a3 : A3) (a4 : A4) (a5 : A5) (a6 : A6) (a7 : A7) (a8 : A8) (a9 : A9) (a10 : A10) (a11 : A11) (a12 : A12) (a13 : A13) (a14 : A14), I a1 a2 a3 a4 a5 a6 a7 a8 a9 a10 a11 a12 a13 a14 → (∀ (b1 : A1) (b2 : A2) (b3 : A3) (b4 : A4) (b5 : A5) (b6 : A6) (b7 : A7) (b8 : A8) (b9 : A9) (b10 : A10) (b11 : A11) (b12 : A12) (b13 : A13) (b14 : A14), I b1 b2 b3 b4 b5 b6 b7 b8 b9 b10 b11 b12 b13 b14 → μ b1 b2 b3 b4 b5 b6 b7 b8 b9 b10 b11 b12 b13 b14 < μ a1 a2 a3 a4 a5 a6 a7 a8 a9 a10 a11 a12 a13 a14 → W n b1 b2 b3 b4 b5 b6 b7 b8 b9 b10 b11 b12 b13 b14) → W (n + 1) a1 a2 a3 a4 a5 a6 a7 a8 a9 a10 a11 a12 a13 a14) (a1 : A1) (a2 : A2) (a3 : A3) (a4 : A4) (a5 : A5) (a6 : A6) (a7 : A7) (a8 : A8) (a9 : A9) (a10 : A10) (a11 : A11) (a12 : A12) (a13 : A13) (a14 : A14) (h : I a1 a2 a3 a4 a5 a6 a7 a8 a9 a10 a11 a12 a13 a14) : ∃ n, W n a1 a2 a3 a4 a5 a6 a7 a8 a9 a10 a11 a12 a13 a14 :=
  loop_m (σ := A1 × A2 × A3 × A4 × A5 × A6 × A7 × A8 × A9 × A10 × A11 × A12 × A13 × A14) (fun n s => W n s.1 s.2.1 s.2.2.1 s.2.2.2.1 s.2.2.2.2.1 s.2.2.2.2.2.1 s.2.2.2.2.2.2.1 s.2.2.2.2.2.2.2.1 s.2.2.2.2.2.2.2.2.1 s.2.2.2.2.2.2.2.2.2.1 s.2.2.2.2.2.2.2.2.2.2.1 s.2.2.2.2.2.2.2.2.2.2.2.1 s.2.2.2.2.2.2.2.2.2.2.2.2.1 s.2.2.2.2.2.2.2.2.2.2.2.2.2) (fun s => I s.1 s.2.1 s.2.2.1 s.2.2.2.1 s.2.2.2.2.1 s.2.2.2.2.2.1 s.2.2.2.2.2.2.1 s.2.2.2.2.2.2.2.1 s.2.2.2.2.2.2.2.2.1 s.2.2.2.2.2.2.2.2.2.1 s.2.2.2.2.2.2.2.2.2.2.1 s.2.2.2.2.2.2.2.2.2.2.2.1 s.2.2.2.2.2.2.2.2.2.2.2.2.1 s.2.2.2.2.2.2.2.2.2.2.2.2.2) (fun s => μ s.1 s.2.1 s.2.2.1 s.2.2.2.1 s.2.2.2.2.1 s.2.2.2.2.2.1 s.2.2.2.2.2.2.1 s.2.2.2.2.2.2.2.1 s.2.2.2.2.2.2.2.2.1 s.2.2.2.2.2.2.2.2.2.1 s.2.2.2.2.2.2.2.2.2.2.1 s.2.2.2.2.2.2.2.2.2.2.2.1 s.2.2.2.2.2.2.2.2.2.2.2.2.1 s.2.2.2.2.2.2.2.2.2.2.2.2.2) (fun n s hI hk => hs n s.1 s.2.1 s.2.2.1 s.2.2.2.1 s.2.2.2.2.1 s.2.2.2.2.2.1 s.2.2.2.2.2.2.1 s.2.2.2.2.2.2.2.1 s.2.2.2.2.2.2.2.2.1 s.2.2.2.2.2.2.2.2.2.1 s.2.2.2.2.2.2.2.2.2.2.1 s.2.2.2.2.2.2.2.2.2.2.2.1 s.2.2.2.2.2.2.2.2.2.2.2.2.1 s.2.2.2.2.2.2.2.2.2.2.2.2.2 hI (fun b1 b2 b3 b4 b5 b6 b7 b8 b9 b10 b11 b12 b13 b14 h9 hm => hk (b1, b2, b3, b4, b5, b6, b7, b8, b9, b10, b11, b12, b13, b14) h9 hm)) (a1, a2, a3, a4, a5, a6, a7, a8, a9, a10, a11, a12, a13, a14) h
theorem lp15 {A1 A2 A3 A4 A5 A6 A7 A8 A9 A10 A11 A12 A13 A14 A15 : Type} (W : Nat → A1 → A2 → A3 → A4 → A5 → A6 → A7 → A8 → A9 → A10 → A11 → A12 → A13 → A14 → A15 → Prop) (I : A1 → A2 → A3 → A4 → A5 → A6 → A7 → A8 → A9 → A10 → A11 → A12 → A13 → A14 → A15 → Prop) (μ : A1 → A2 → A3 → A4 → A5 → A6 → A7 → A8 → A9 → A10 → A11 → A12 → A13 → A14 → A15 → Nat) (hs : ∀ (n : Nat) (a1 : A1) (a2 : A2) (a3 : A3) (a4 : A4) (a5 : A5) (a6 : A6) (a7 : A7) (a8 : A8) (a9 : A9) (a10 : A10) (a11 : A11) (a12 : A12) (a13 : A13) (a14 : A14) (a15 : A15), I a1 a2 a3 a4 a5 a6 a7 a8 a9 a10 a11 a12 a13 a14 a15 → (∀ (b1 : A1) (b2 : A2) (b3 : A3) (b4 : A4) (b5 : A5) (b6 : A6) (b7 : A7) (b8 : A8) (b9 : A9) (b10 : A10) (b11 : A11) (b12 : A12) (b13 : A13) (b14 : A14) (b15 : A15), I b1 b2 b3 b4 b5 b6 b7 b8 b9 b10 b11 b12 b13 b14 b15 → μ b1 b2 b3 b4 b5 b6 b7 b8 b9 b10 b11 b12 b13 b14 b15 < μ a1 a2 a3 a4 a5 a6 a7 a8 a9 a10 a11 a12 a13 a14 a15 → W n b1 b2 b3 b4 b5 b6 b7 b8 b9 b10 b11 b12 b13 b14 b15) → W (n + 1) a1 a2 a3 a4 a5 a6 a7 a8 a9 a10 a11 a12 a13 a14 a15) (a1 : A1) (a2 : A2) (a3 : A3) (a4 : A4) (a5 : A5) (a6 : A6) (a7 : A7) (a8 : A8) (a9 : A9) (a10 : A10) (a11 : A11) (a12 : A12) (a13 : A13) (a14 : A14) (a15 : A15) (h : I a1 a2 a3 a4 a5 a6 a7 a8 a9 a10 a11 a12 a13 a14 a15) : ∃ n, W n a1 a2 a3 a4 a5 a6 a7 a8 a9 a10 a11 a12 a13 a14 a15 :=
  loop_m (σ := A1 × A2 × A3 × A4 × A5 × A6 × A7 × A8 × A9 × A10 × A11 × A12 × A13 × A14 × A15) (fun n s => W n s.1 s.2.1 s.2.2.1 s.2.2.2.1 s.2.2.2.2.1 s.2.2.2.2.2.1 s.2.2.2.2.2.2.1 s.2.2.2.2.2.2.2.1 s.2.2.2.2.2.2.2.2.1 s.2.2.2.2.2.2.2.2.2.1 s.2.2.2.2.2.2.2.2.2.2.1 s.2.2.2.2.2.2.2.2.2.2.2.1 s.2.2.2.2.2.2.2.2.2.2.2.2.1 s.2.2.2.2.2.2.2.2.2.2.2.2.2.1 s.2.2.2.2.2.2.2.2.2.2.2.2.2.2) (fun s => I s.1 s.2.1 s.2.2.1 s.2.2.2.1 s.2.2.2.2.1 s.2.2.2.2.2.1 s.2.2.2.2.2.2.1 s.2.2.2.2.2.2.2.1 s.2.2.2.2.2.2.2.2.1 s.2.2.2.2.2.2.2.2.2.1 s.2.2.2.2.2.2.2.2.2.2.1 s.2.2.2.2.2.2.2.2.2.2.2.1 s.2.2.2.2.2.2.2.2.2.2.2.2.1 s.2.2.2.2.2.2.2.2.2.2.2.2.2.1 s.2.2.2.2.2.2.2.2.2.2.2.2.2.2) (fun s => μ s.1 s.2.1 s.2.2.1 s.2.2.2.1 s.2.2.2.2.1 s.2.2.2.2.2.1 s.2.2.2.2.2.2.1 s.2.2.2.2.2.2.2.1 s.2.2.2.2.2.2.2.2.1 s.2.2.2.2.2.2.2.2.2.1 s.2.2.2.2.2.2.2.2.2.2.1 s.2.2.2.2.2.2.2.2.2.2.2.1 s.2.2.2.2.2.2.2.2.2.2.2.2.1 s.2.2.2.2.2.2.2.2.2.2.2.2.2.1 s.2.2.2.2.2.2.2.2.2.2.2.2.2.2) (fun n s hI hk => hs n s.1 s.2.1 s.2.2.1 s.2.2.2.1 s.2.2.2.2.1 s.2.2.2.2.2.1 s.2.2.2.2.2.2.1 s.2.2.2.2.2.2.2.1 s.2.2.2.2.2.2.2.2.1 s.2.2.2.2.2.2.2.2.2.1 s.2.2.2.2.2.2.2.2.2.2.1 s.2.2.2.2.2.2.2.2.2.2.2.1 s.2.2.2.2.2.2.2.2.2.2.2.2.1 s.2.2.2.2.2.2.2.2.2.2.2.2.2.1 s.2.2.2.2.2.2.2.2.2.2.2.2.2.2 hI (fun b1 b2 b3 b4 b5 b6 b7 b8 b9 b10 b11 b12 b13 b14 b15 h9 hm => hk (b1, b2, b3, b4, b5, b6, b7, b8, b9, b10, b11, b12, b13, b14, b15) h9 hm)) (a1, a2, a3, a4, a5, a6, a7, a8, a9, a10, a11, a12, a13, a14, a15) h
theorem lp16 {A1 A2 A3 A4 A5 A6 A7 A8 A9 A10 A11 A12 A13 A14 A15 A16 : Type} (W : Nat → A1 → A2 → A3 → A4 → A5 → A6 → A7 → A8 → A9 → A10 → A11 → A12 → A13 → A14 → A15 → A16 → Prop) (I : A1 → A2 → A3 → A4 → A5 → A6 → A7 → A8 → A9 → A10 → A11 → A12 → A13 → A14 → A15 → A16 → Prop) (μ : A1 → A2 → A3 → A4 → A5 → A6 → A7 → A8 → A9 → A10 → A11 → A12 → A13 → A14 → A15 → A16 → Nat) (hs : ∀ (n : Nat) (a1 : A1) (a2 : A2) (a3 : A3) (a4 : A4) (a5 : A5) (a6 : A6) (a7 : A7) (a8 : A8) (a9 : A9) (a10 : A10) (a11 : A11) (a12 : A12) (a13 : A13) (a14 : A14) (a15 : A15) (a16 : A16), I a1 a2 a3 a4 a5 a6 a7 a8 a9 a10 a11 a12 a13 a14 a15 a16 → (∀ (b1 : A1) (b2 : A2) (b3 : A3) (b4 : A4) (b5 : A5) (b6 : A6) (b7 : A7) (b8 : A8) (b9 : A9) (b10 : A10) (b11 : A11) (b12 : A12) (b13 : A13) (b14 : A14) (b15 : A15) (b16 : A16), I b1 b2 b3 b4 b5 b6 b7 b8 b9 b10 b11 b12 b13 b14 b15 b16 → μ b1 b2 b3 b4 b5 b6 b7 b8 b9 b10 b11 b12 b13 b14 b15 b16 < μ a1 a2 a3 a4 a5 a6 a7 a8 a9 a10 a11 a12 a13 a14 a15 a16 → W n b1 b2 b3 b4 b5 b6 b7 b8 b9 b10 b11 b12 b13 b14 b15 b16) → W (n + 1) a1 a2 a3 a4 a5 a6 a7 a8 a9 a10 a11 a12 a13 a14 a15 a16) (a1 : A1) (a2 : A2) (a3 : A3) (a4 : A4) (a5 : A5) (a6 : A6) (a7 : A7) (a8 : A8) (a9 : A9) (a10 : A10) (a11 : A11) (a12 : A12) (a13 : A13) (a14 : A14) (a15 : A15) (a16 : A16) (h : I a1 a2 a3 a4 a5 a6 a7 a8 a9 a10 a11 a12 a13 a14 a15 a16) : ∃ n, W n a1 a2 a3 a4 a5 a6 a7 a8 a9 a10 a11 a12 a13 a14 a15 a16 :=
  loop_m (σ := A1 × A2 × A3 × A4 × A5 × A6 × A7 × A8 × A9 × A10 × A11 × A12 × A13 × A14 × A15 × A16) (fun n s => W n s.1 s.2.1 s.2.2.1 s.2.2.2.1 s.2.2.2.2.1 s.2.2.2.2.2.1 s.2.2.2.2.2.2.1 s.2.2.2.2.2.2.2.1 s.2.2.2.2.2.2.2.2.1 s.2.2.2.2.2.2.2.2.2.1 s.2.2.2.2.2.2.2.2.2.2.1 s.2.2.2.2.2.2.2.2.2.2.2.1 s.2.2.2.2.2.2.2.2.2.2.2.2.1 s.2.2.2.2.2.2.2.2.2.2.2.2.2.1 s.2.2.2.2.2.2.2.2.2.2.2.2.2.2.1 s.2.2.2.2.2.2.2.2.2.2.2.2.2.2.2) (fun s => I s.1 s.2.1 s.2.2.1 s.2.2.2.1 s.2.2.2.2.1 s.2.2.2.2.2.1 s.2.2.2.2.2.2.1 s.2.2.2.2.2.2.2.1 s.2.2.2.2.2.2.2.2.1 s.2.2.2.2.2.2.2.2.2.1 s.2.2.2.2.2.2.2.2.2.2.1 s.2.2.2.2.2.2.2.2.2.2.2.1 s.2.2.2.2.2.2.2.2.2.2.2.2.1 s.2.2.2.2.2.2.2.2.2.2.2.2.2.1 s.2.2.2.2.2.2.2.2.2.2.2.2.2.2.1 s.2.2.2.2.2.2.2.2.2.2.2.2.2.2.2) (fun s => μ s.1 s.2.1 s.2.2.1 s.2.2.2.1 s.2.2.2.2.1 s.2.2.2.2.2.1 s.2.2.2.2.2.2.1 s.2.2.2.2.2.2.2.1 s.2.2.2.2.2.2.2.2.1 s.2.2.2.2.2.2.2.2.2.1 s.2.2.2.2.2.2.2.2.2.2.1 s.2.2.2.2.2.2.2.2.2.2.2.1 s.2.2.2.2.2.2.2.2.2.2.2.2.1 s.2.2.2.2.2.2.2.2.2.2.2.2.2.1 s.2.2.2.2.2.2.2.2.2.2.2.2.2.2.1 s.2.2.2.2.2.2.2.2.2.2.2.2.2.2.2) (fun n s hI hk => hs n s.1 s.2.1 s.2.2.1 s.2.2.2.1 s.2.2.2.2.1 s.2.2.2.2.2.1 s.2.2.2.2.2.2.1 s.2.2.2.2.2.2.2.1 s.2.2.2.2.2.2.2.2.1 s.2.2.2.2.2.2.2.2.2.1 s.2.2.2.2.2.2.2.2.2.2.1 s.2.2.2.2.2.2.2.2.2.2.2.1 s.2.2.2.2.2.2.2.2.2.2.2.2.1 s.2.2.2.2.2.2.2.2.2.2.2.2.2.1 s.2.2.2.2.2.2.2.2.2.2.2.2.2.2.1 s.2.2.2.2.2.2.2.2.2.2.2.2.2.2.2 hI (fun b1 b2 b3 b4 b5 b6 b7 b8 b9 b10 b11 b12 b13 b14 b15 b16 h9 hm => hk (b1, b2, b3, b4, b5, b6, b7, b8, b9, b10, b11, b12, b13, b14, b15, b16) h9 hm)) (a1, a2, a3, a4, a5, a6, a7, a8, a9, a10, a11, a12, a13, a14, a15, a16) h
theorem pk_least (P : Nat → Prop) (h : ∃ k, P k) : ∃ k, P k ∧ ∀ j, j < k → ¬ P j := by
  obtain ⟨k, hk⟩ := h
  induction k using Nat.strongRecOn with
  | ind k ih =>
    by_cases e : ∃ j, j < k ∧ P j
    · obtain ⟨j, hj, pj⟩ := e
      exact ih j hj pj
    · exact ⟨k, hk, fun j hj pj => e ⟨j, hj, pj⟩⟩
theorem rp1 {ρ A1 : Type} (W : Nat → (ρ → Prop) → A1 → Prop) (ok : A1 → Prop) (μ : A1 → Nat) (val : A1 → ρ)
    (hs : ∀ (d : Nat) (post : ρ → Prop) (a1 : A1), ok a1 → post (val a1) → (∀ (post' : ρ → Prop) (b1 : A1), ok b1 → μ b1 < μ a1 → post' (val b1) → W d post' b1) → W (d + 1) post a1) :
    ∀ (d : Nat) (post : ρ → Prop) (a1 : A1), ok a1 → μ a1 < d → post (val a1) → W d post a1 := by
  intro d
  induction d with
  | zero => intro post a1 _ h; omega
  | succ d ih =>
    intro post a1 ho hm hp
    exact hs d post a1 ho hp (fun post' b1 ho' hm' hp' => ih post' b1 ho' (by omega) hp')
theorem rp2 {ρ A1 A2 : Type} (W : Nat → (ρ → Prop) → A1 → A2 → Prop) (ok : A1 → A2 → Prop) (μ : A1 → A2 → Nat) (val : A1 → A2 → ρ)
    (hs : ∀ (d : Nat) (post : ρ → Prop) (a1 : A1) (a2 : A2), ok a1 a2 → post (val a1 a2) → (∀ (post' : ρ → Prop) (b1 : A1) (b2 : A2), ok b1 b2 → μ b1 b2 < μ a1 a2 → post' (val b1 b2) → W d post' b1 b2) → W (d + 1) post a1 a2) :
    ∀ (d : Nat) (post : ρ → Prop) (a1 : A1) (a2 : A2), ok a1 a2 → μ a1 a2 < d → post (val a1 a2) → W d post a1 a2 := by
  intro d
  induction d with
  | zero => intro post a1 a2 _ h; omega
  | succ d ih =>
    intro post a1 a2 ho hm hp
    exact hs d post a1 a2 ho hp (fun post' b1 b2 ho' hm' hp' => ih post' b1 b2 ho' (by omega) hp')
theorem rp3 {ρ A1 A2 A3 : Type} (W : Nat → (ρ → Prop) → A1 → A2 → A3 → Prop) (ok : A1 → A2 → A3 → Prop) (μ : A1 → A2 → A3 → Nat) (val : A1 → A2 → A3 → ρ)
    (hs : ∀ (d : Nat) (post : ρ → Prop) (a1 : A1) (a2 : A2) (a3 : A3), ok a1 a2 a3 → post (val a1 a2 a3) → (∀ (post' : ρ → Prop) (b1 : A1) (b2 : A2) (b3 : A3), ok b1 b2 b3 → μ b1 b2 b3 < μ a1 a2 a3 → post' (val b1 b2 b3) → W d post' b1 b2 b3) → W (d + 1) post a1 a2 a3) :
    ∀ (d : Nat) (post : ρ → Prop) (a1 : A1) (a2 : A2) (a3 : A3), ok a1 a2 a3 → μ a1 a2 a3 < d → post (val a1 a2 a3) → W d post a1 a2 a3 := by
  intro d
  induction d with
  | zero => intro post a1 a2 a3 _ h; omega
  | succ d ih =>
    intro post a1 a2 a3 ho hm hp
    exact hs d post a1 a2 a3 ho hp (fun post' b1 b2 b3 ho' hm' hp' => ih post' b1 b2 b3 ho' (by omega) hp')
theorem rp4 {ρ A1 A2 A3 A4 : Type} (W : Nat → (ρ → Prop) → A1 → A2 → A3 → A4 → Prop) (ok : A1 → A2 → A3 → A4 → Prop) (μ : A1 → A2 → A3 → A4 → Nat) (val : A1 → A2 → A3 → A4 → ρ)
    (hs : ∀ (d : Nat) (post : ρ → Prop) (a1 : A1) (a2 : A2) (a3 : A3) (a4 : A4), ok a1 a2 a3 a4 → post (val a1 a2 a3 a4) → (∀ (post' : ρ → Prop) (b1 : A1) (b2 : A2) (b3 : A3) (b4 : A4), ok b1 b2 b3 b4 → μ b1 b2 b3 b4 < μ a1 a2 a3 a4 → post' (val b1 b2 b3 b4) → W d post' b1 b2 b3 b4) → W (d + 1) post a1 a2 a3 a4) :
    ∀ (d : Nat) (post : ρ → Prop) (a1 : A1) (a2 : A2) (a3 : A3) (a4 : A4), ok a1 a2 a3 a4 → μ a1 a2 a3 a4 < d → post (val a1 a2 a3 a4) → W d post a1 a2 a3 a4 := by
  intro d
  induction d with
  | zero => intro post a1 a2 a3 a4 _ h; omega
  | succ d ih =>
    intro post a1 a2 a3 a4 ho hm hp
    exact hs d post a1 a2 a3 a4 ho hp (fun post' b1 b2 b3 b4 ho' hm' hp' => ih post' b1 b2 b3 b4 ho' (by omega) hp')
theorem rp5 {ρ A1 A2 A3 A4 A5 : Type} (W : Nat → (ρ → Prop) → A1 → A2 → A3 → A4 → A5 → Prop) (ok : A1 → A2 → A3 → A4 → A5 → Prop) (μ : A1 → A2 → A3 → A4 → A5 → Nat) (val : A1 → A2 → A3 → A4 → A5 → ρ)
    (hs : ∀ (d : Nat) (post : ρ → Prop) (a1 : A1) (a2 : A2) (a3 : A3) (a4 : A4) (a5 : A5), ok a1 a2 a3 a4 a5 → post (val a1 a2 a3 a4 a5) → (∀ (post' : ρ → Prop) (b1 : A1) (b2 : A2) (b3 : A3) (b4 : A4) (b5 : A5), ok b1 b2 b3 b4 b5 → μ b1 b2 b3 b4 b5 < μ a1 a2 a3 a4 a5 → post' (val b1 b2 b3 b4 b5) → W d post' b1 b2 b3 b4 b5) → W (d + 1) post a1 a2 a3 a4 a5) :
    ∀ (d : Nat) (post : ρ → Prop) (a1 : A1) (a2 : A2) (a3 : A3) (a4 : A4) (a5 : A5), ok a1 a2 a3 a4 a5 → μ a1 a2 a3 a4 a5 < d → post (val a1 a2 a3 a4 a5) → W d post a1 a2 a3 a4 a5 := by
  intro d
  induction d with
  | zero => intro post a1 a2 a3 a4 a5 _ h; omega
  | succ d ih =>
    intro post a1 a2 a3 a4 a5 ho hm hp
    exact hs d post a1 a2 a3 a4 a5 ho hp (fun post' b1 b2 b3 b4 b5 ho' hm' hp' => ih post' b1 b2 b3 b4 b5 ho' (by omega) hp')
theorem rp6 {ρ A1 A2 A3 A4 A5 A6 : Type} (W : Nat → (ρ → Prop) → A1 → A2 → A3 → A4 → A5 → A6 → Prop) (ok : A1 → A2 → A3 → A4 → A5 → A6 → Prop) (μ : A1 → A2 → A3 → A4 → A5 → A6 → Nat) (val : A1 → A2 → A3 → A4 → A5 → A6 → ρ)
    (hs : ∀ (d : Nat) (post : ρ → Prop) (a1 : A1) (a2 : A2) (a3 : A3) (a4 : A4) (a5 : A5) (a6 : A6), ok a1 a2 a3 a4 a5 a6 → post (val a1 a2 a3 a4 a5 a6) → (∀ (post' : ρ → Prop) (b1 : A1) (b2 : A2) (b3 : A3) (b4 : A4) (b5 : A5) (b6 : A6), ok b1 b2 b3 b4 b5 b6 → μ b1 b2 b3 b4 b5 b6 < μ a1 a2 a3 a4 a5 a6 → post' (val b1 b2 b3 b4 b5 b6) → W d post' b1 b2 b3 b4 b5 b6) → W (d + 1) post a1 a2 a3 a4 a5 a6) :
    ∀ (d : Nat) (post : ρ → Prop) (a1 : A1) (a2 : A2) (a3 : A3) (a4 : A4) (a5 : A5) (a6 : A6), ok a1 a2 a3 a4 a5 a6 → μ a1 a2 a3 a4 a5 a6 < d → post (val a1 a2 a3 a4 a5 a6) → W d post a1 a2 a3 a4 a5 a6 := by
  intro d
  induction d with
  | zero => intro post a1 a2 a3 a4 a5 a6 _ h; omega
  | succ d ih =>
    intro post a1 a2 a3 a4 a5 a6 ho hm hp
    exact hs d post a1 a2 a3 a4 a5 a6 ho hp (fun post' b1 b2 b3 b4 b5 b6 ho' hm' hp' => ih post' b1 b2 b3 b4 b5 b6 ho' (by omega) hp')
theorem rec_p {σ ρ : Type} (W : Nat → (ρ → Prop) → σ → Prop) (ok : σ → Prop) (μ : σ → Nat) (val : σ → ρ)
    (hs : ∀ d s post, ok s → post (val s) → (∀ s' post', ok s' → μ s' < μ s → post' (val s') → W d post' s') → W (d + 1) post s) :
    ∀ d s post, ok s → μ s < d → post (val s) → W d post s := by
  intro d
  induction d with
  | zero => intro s post _ h; omega
  | succ d ih =>
    intro s post ho hm hp
    exact hs d s post ho hp (fun s' post' ho' hm' hp' => ih s' post' ho' (by omega) hp')
theorem rec_q {σ ρ : Type} (W : Nat → (ρ → Prop) → σ → Prop) (ok : σ → Prop) (μ : σ → Nat) (Q : σ → ρ → Prop)
    (hs : ∀ d s post, ok s → (∀ r, Q s r → post r) → (∀ s' post', ok s' → μ s' < μ s → (∀ r, Q s' r → post' r) → W d post' s') → W (d + 1) post s) :
    ∀ d s post, ok s → μ s < d → (∀ r, Q s r → post r) → W d post s := by
  intro d
  induction d with
  | zero => intro s post _ h; omega
  | succ d ih =>
    intro s post ho hm hp
    exact hs d s post ho hp (fun s' post' ho' hm' hp' => ih s' post' ho' (by omega) hp')
def bx_sum (f : Nat → Int32) : Nat → Int32
  | 0 => 0
  | n + 1 => bx_sum f n + f n
theorem ek_u {A : Prop} {B : Nat → Prop} {k N : Nat} (hk : k < N) (h : B k) : (some k = none → A) ∧ (∀ y : Nat, some k = some y → (y < N ∧ B y)) :=
  ⟨fun z => absurd z (Option.some_ne_none k), fun _ e => (by cases e; exact ⟨hk, h⟩)⟩
theorem ek_nu {A : Prop} {B : Nat → Prop} (h : A) : ((none : Option Nat) = none → A) ∧ (∀ y : Nat, (none : Option Nat) = some y → B y) :=
  ⟨fun _ => h, fun _ e => (by cases e)⟩
theorem ek_if {c d A B : Prop} (e : c ↔ d) (f : d → A) (g : ¬ d → B) : (c → A) ∧ (¬ c → B) :=
  ⟨fun z => f (e.mp z), fun z => g (fun y => z (e.mpr y))⟩
theorem ek_v {α : Sort _} {P : α → Prop} {a b : α} (e : a = b) (h : P b) : P a := e ▸ h
theorem co_some {x : Option Nat} {A : Prop} {B : Nat → Prop} (i : Nat) (h : B i) (hx : x = some i := by rfl) : (x = none → A) ∧ (∀ y : Nat, x = some y → B y) := by
  subst hx
  exact ⟨fun e => (nomatch e), fun y e => Option.some.inj e ▸ h⟩
theorem co_none {x : Option Nat} {A : Prop} {B : Nat → Prop} (h : A) (hx : x = none := by rfl) : (x = none → A) ∧ (∀ y : Nat, x = some y → B y) := by
  subst hx
  exact ⟨fun _ => h, fun y e => (nomatch e)⟩
theorem co_any {x : Option Nat} {A : Prop} {B : Nat → Prop} (hn : x = none → A) (hs : ∀ i : Nat, x = some i → B i) : (x = none → A) ∧ (∀ y : Nat, x = some y → B y) := ⟨hn, hs⟩
theorem co_2 {P : Nat → Prop} (h0 : P 0) (h1 : P 1) {i : Nat} (hi : i < 2) : P i :=
  match i, hi with
  | 0, _ => h0
  | 1, _ => h1
theorem co_3 {P : Nat → Prop} (h0 : P 0) (h1 : P 1) (h2 : P 2) {i : Nat} (hi : i < 3) : P i :=
  match i, hi with
  | 0, _ => h0
  | 1, _ => h1
  | 2, _ => h2
theorem co_4 {P : Nat → Prop} (h0 : P 0) (h1 : P 1) (h2 : P 2) (h3 : P 3) {i : Nat} (hi : i < 4) : P i :=
  match i, hi with
  | 0, _ => h0
  | 1, _ => h1
  | 2, _ => h2
  | 3, _ => h3
theorem co_dec {N : Nat} {P : Nat → Prop} [DecidablePred P] (h : (List.range N).all (fun i => decide (P i)) = true) {i : Nat} (hi : i < N) : P i := by
  have := List.all_eq_true.mp h i (List.mem_range.mpr hi)
  exact of_decide_eq_true this
theorem co_tab {α : Type} {l : List α} {d : α} {P : α → Prop} (h : ∀ a, a ∈ l → P a) {i : Nat} (hi : i < l.length) : P (l.getD i d) := by
  rw [List.getD_eq_getElem?_getD, List.getElem?_eq_getElem hi]
  exact h _ (List.getElem_mem hi)
theorem pk_mu {x : Int32} {L : Nat} (h0 : ¬ x < 0) (h : ¬ nI L ≤ x) (hL : L < 2 ^ 31) : ∃ j : Nat, j < L ∧ x = nI j ∧ x + 1 = nI (j + 1) ∧ x.toNatClampNeg = j ∧ L - (x + 1).toNatClampNeg < L - x.toNatClampNeg := by
  obtain ⟨j, hj, rfl⟩ := nI_of h0
  have hl : j < L := Nat.not_le.mp fun q => h (nI_le q hj)
  refine ⟨j, hl, rfl, nI_1 j, nI_clamp hj, ?_⟩
  rw [nI_1, nI_clamp (by omega), nI_clamp hj]
  omega
theorem op_s {α : Type} {r : Option α} {A : Prop} {B : α → Prop} {y : α} (h : r = some y) (b : B y) : (r = none → A) ∧ ∀ z, r = some z → B z :=
  ⟨fun e => (by rw [h] at e; cases e), fun z e => (by rw [h] at e; cases e; exact b)⟩
def l_holds {α : Type} (a : Nat → Option Nat) (LP : List Nat) (p : Nat → α) (c : Nat) (b : Nat → α) : Prop :=
  ∀ j, j < c → ∃ y, a j = some y ∧ y ∈ LP ∧ p y = b j
theorem l_holds_0 {α : Type} {a : Nat → Option Nat} {LP : List Nat} {p b : Nat → α} : l_holds a LP p 0 b := fun j h => absurd h (Nat.not_lt_zero j)
theorem l_in_new (LP : List Nat) (q : Nat) : q ∈ LP ++ [q] := List.mem_append.mpr (Or.inr (List.mem_singleton.mpr rfl))
def l_sum (b : Nat → Int32) : Nat → Int32
  | 0 => 0
  | k + 1 => l_sum b k + b k
theorem sb_shr0 (x : Int32) : x >>> ((0 : Int32) &&& 31) = x := by
  rw [show ((0 : Int32) &&& 31) = 0 by decide]
  simp
theorem sb_shl0 (x : Int32) : x <<< ((0 : Int32) &&& 31) = x := by
  rw [show ((0 : Int32) &&& 31) = 0 by decide]
  simp
theorem sb_cl0 : (0 : Int32).toNatClampNeg = 0 := by decide
theorem sb_m1 {p : Nat} (h : 0 < p) : nI p + (-1) = nI (p - 1) := by
  obtain ⟨q, rfl⟩ : ∃ q, p = q + 1 := ⟨p - 1, by omega⟩
  exact pk_m1 q
def sb_b (c : Nat) : Int32 := (nI c).toInt8.toInt32
theorem sb_byte : ∀ c, c < 256 → sb_b c &&& 255 = nI c ∧ ((nI c).toUInt32 % 65536).toInt32 = nI c ∧ nI c ≤ 255 := by decide +kernel
def sb_Fit (a : Nat → Int32) : Prop := ∀ j, fits .byte (.int (a j)) = true
def sb_Lat (t : Nat → Nat) (n : Nat) (a : Nat → Int32) : Prop := ∀ j, j < n → t j < 256 ∧ a j = sb_b (t j)
theorem sb_fitB (c : Nat) : fits .byte (.int (sb_b c)) = true := pk_fb _
theorem sb_fit0 : sb_Fit (fun _ => 0) := fun _ => by
  show fits .byte (.int 0) = true
  decide
theorem sb_fitU {a : Nat → Int32} {k : Nat} {x : Int32} (h : sb_Fit a) (hx : fits .byte (.int x) = true) : sb_Fit (upd a k x) := by
  intro j
  by_cases e : j = k
  · subst e
    rw [pk_us]
    exact hx
  · rw [pk_un e]
    exact h j
def sb_cat (t : Nat → Nat) (n : Nat) (s : Nat → Nat) : Nat → Nat := fun j => if j < n then t j else s (j - n)
theorem sb_cat_lo {t s : Nat → Nat} {n j : Nat} (h : j < n) : sb_cat t n s j = t j := if_pos h
theorem sb_cat_hi {t s : Nat → Nat} {n j : Nat} : sb_cat t n s (n + j) = s j := by
  show (if n + j < n then t (n + j) else s (n + j - n)) = s j
  rw [if_neg (by omega), Nat.add_sub_cancel_left]
theorem sb_latPut {t s : Nat → Nat} {n w : Nat} {a a' : Nat → Int32} (h : sb_Lat t n a) (hk : ∀ j, j < n → a' j = a j) (hs : ∀ i, i < w → s i < 256 ∧ a' (n + i) = sb_b (s i)) : sb_Lat (sb_cat t n s) (n + w) a' := by
  intro j hj
  by_cases e : j < n
  · rw [sb_cat_lo e, hk j e]
    exact h j e
  · obtain ⟨i, rfl⟩ : ∃ i, j = n + i := ⟨j - n, by omega⟩
    rw [sb_cat_hi]
    exact hs i (by omega)
theorem sb_latKeep {t : Nat → Nat} {n : Nat} {a a' : Nat → Int32} (h : sb_Lat t n a) (hk : ∀ j, j < n → a' j = a j) : sb_Lat t n a' := fun j hj => by
  rw [hk j hj]
  exact h j hj
def sb_cap (q m : Nat) : Nat := if q ≤ m then m else if 2 * m + 2 < q then q else 2 * m + 2
def sb_Room (q m mc ms : Nat) : Prop := q ≤ m ∨ (1 ≤ mc ∧ sb_cap q m ≤ ms ∧ sb_cap q m ≤ 65536)
theorem sb_cap_ge (q m : Nat) : q ≤ sb_cap q m := by
  unfold sb_cap
  split
  · omega
  · split <;> omega
theorem sb_cap_gem (q m : Nat) : m ≤ sb_cap q m := by
  unfold sb_cap
  split
  · omega
  · split <;> omega
theorem sb_cap_le {q m mc ms : Nat} (hm : m ≤ 65536) (hr : sb_Room q m mc ms) : sb_cap q m ≤ 65536 := by
  rcases hr with h | h
  · rw [sb_cap, if_pos h]
    exact hm
  · exact h.2.2
theorem sb_at {P : Int32 → Prop} {x y : Int32} (e : x = y) (h : P y) : P x := e ▸ h
def sb_dg (w : Nat) : Nat := if w < 10 then 1 else if w < 100 then 2 else if w < 1000 then 3 else if w < 10000 then 4 else if w < 100000 then 5 else if w < 1000000 then 6 else if w < 10000000 then 7 else if w < 100000000 then 8 else if w < 1000000000 then 9 else 10
def sb_dec (v : Nat) : Nat → Nat := fun i => 48 + v / 10 ^ (sb_dg v - 1 - i) % 10
theorem sb_dg_in (w : Nat) : 1 ≤ sb_dg w ∧ sb_dg w ≤ 10 := by
  unfold sb_dg
  constructor <;> (repeat' split) <;> omega
theorem sb_dg100 {w : Nat} (h : 100 ≤ w) (hw : w < 2 ^ 31) : sb_dg w = sb_dg (w / 100) + 2 := by
  rw [sb_dg, sb_dg, if_neg (show ¬ w < 10 by omega), if_neg (show ¬ w < 100 by omega)]
  by_cases h3 : w < 1000
  · rw [if_pos h3, if_pos (show w / 100 < 10 by omega)]
  rw [if_neg h3, if_neg (show ¬ w / 100 < 10 by omega)]
  by_cases h4 : w < 10000
  · rw [if_pos h4, if_pos (show w / 100 < 100 by omega)]
  rw [if_neg h4, if_neg (show ¬ w / 100 < 100 by omega)]
  by_cases h5 : w < 100000
  · rw [if_pos h5, if_pos (show w / 100 < 1000 by omega)]
  rw [if_neg h5, if_neg (show ¬ w / 100 < 1000 by omega)]
  by_cases h6 : w < 1000000
  · rw [if_pos h6, if_pos (show w / 100 < 10000 by omega)]
  rw [if_neg h6, if_neg (show ¬ w / 100 < 10000 by omega)]
  by_cases h7 : w < 10000000
  · rw [if_pos h7, if_pos (show w / 100 < 100000 by omega)]
  rw [if_neg h7, if_neg (show ¬ w / 100 < 100000 by omega)]
  by_cases h8 : w < 100000000
  · rw [if_pos h8, if_pos (show w / 100 < 1000000 by omega)]
  rw [if_neg h8, if_neg (show ¬ w / 100 < 1000000 by omega)]
  by_cases h9 : w < 1000000000
  · rw [if_pos h9, if_pos (show w / 100 < 10000000 by omega)]
  rw [if_neg h9, if_neg (show ¬ w / 100 < 10000000 by omega)]
  rw [if_pos (show w / 100 < 100000000 by omega)]
theorem sb_negT {w : Nat} (h : w < 2 ^ 31) : (-nI w).toInt = -(w : Int) := by
  rw [Int32.toInt_neg, nI_toInt h]
  exact Int.bmod_eq_of_le (by omega) (by omega)
theorem sb_nle {a b : Nat} (ha : a < 2 ^ 31) (hb : b < 2 ^ 31) : -nI a ≤ -nI b ↔ b ≤ a := by
  rw [Int32.le_iff_toInt_le, sb_negT ha, sb_negT hb]
  omega
theorem sb_nlt {a b : Nat} (ha : a < 2 ^ 31) (hb : b < 2 ^ 31) : -nI a < -nI b ↔ b < a := by
  rw [Int32.lt_iff_toInt_lt, sb_negT ha, sb_negT hb]
  omega
theorem sb_cmp {A B : Prop} {x : Int32} (v c : Nat) (f : c ≤ v → A) (g : v < c → B) (hv : v < 2 ^ 31) (hx : x = -nI c := by rfl) (hc : c < 2 ^ 31 := by omega) : (-nI v ≤ x → A) ∧ (¬ -nI v ≤ x → B) := by
  subst hx
  rw [sb_nle hv hc]
  exact ⟨f, fun z => g (by omega)⟩
theorem sb_ndiv {w : Nat} (hw : w < 2 ^ 31) : (-nI w) / 100 = -nI (w / 100) := by
  apply Int32.toInt_inj.mp
  have h100 : (100 : Int32).toInt = 100 := by decide
  rw [Int32.toInt_div, sb_negT hw, h100, sb_negT (by omega), Int.neg_tdiv, Int.tdiv_eq_ediv_of_nonneg (by omega), Int.bmod_eq_of_le (by omega) (by omega)]
  omega
theorem sb_nrem {w : Nat} (hw : w < 2 ^ 31) : (-nI (w / 100)) * 100 - (-nI w) = nI (w % 100) := by
  have h := pk_rem (a := w) (d := 100) hw (by decide) (by decide)
  rw [pk_div hw (by decide) (by decide)] at h
  rw [← h]
  show (-nI (w / 100)) * nI 100 - (-nI w) = nI w - nI (w / 100) * nI 100
  rw [Int32.neg_mul, Int32.sub_neg, Int32.add_comm, ← Int32.sub_eq_add_neg]
end
section
/-! ===== nI under and, xor, >>>, one bit, 65535 ===== -/
theorem nx_and (a b : Nat) : nI a &&& nI b = nI (a &&& b) := by
  apply Int32.toBitVec_inj.1
  show BitVec.ofNat 32 a &&& BitVec.ofNat 32 b = BitVec.ofNat 32 (a &&& b)
  apply BitVec.eq_of_getLsbD_eq
  intro i hi
  simp [hi]
theorem nx_xor (a b : Nat) : nI a ^^^ nI b = nI (a ^^^ b) := by
  apply Int32.toBitVec_inj.1
  show BitVec.ofNat 32 a ^^^ BitVec.ofNat 32 b = BitVec.ofNat 32 (a ^^^ b)
  apply BitVec.eq_of_getLsbD_eq
  intro i hi
  simp [hi]
theorem nx_cnt : ∀ j : Fin 32, (UInt32.ofNat j.val &&& Int32.toUInt32 31).toNat % 32 = j.val := by decide +kernel
theorem nx_ush {k j : Nat} (hk : k < 65536) (hj : j < 32) : ((nI k).toUInt32 >>> ((nI j).toUInt32 &&& Int32.toUInt32 31)).toInt32 = nI (k >>> j) := by
  have hs : k >>> j ≤ k := by
    rw [Nat.shiftRight_eq_div_pow]
    exact Nat.div_le_self _ _
  have e2 : UInt32.ofNat k >>> (UInt32.ofNat j &&& Int32.toUInt32 31) = UInt32.ofNat (k >>> j) := by
    apply UInt32.toNat_inj.1
    have h1 : (UInt32.ofNat k).toNat = k := Nat.mod_eq_of_lt (by omega)
    have h2 : (UInt32.ofNat (k >>> j)).toNat = k >>> j := Nat.mod_eq_of_lt (by omega)
    rw [UInt32.toNat_shiftRight, nx_cnt ⟨j, hj⟩, h1, h2]
  show (UInt32.ofNat k >>> (UInt32.ofNat j &&& Int32.toUInt32 31)).toInt32 = _
  rw [e2]
  rfl
theorem nx_bit {k j : Nat} (hk : k < 65536) (hj : j < 16) : (((nI k).toUInt32 >>> ((nI j).toUInt32 &&& Int32.toUInt32 31)).toInt32 &&& 1) = 0 ↔ k.testBit j = false := by
  rw [nx_ush hk (by omega)]
  show nI (k >>> j) &&& nI 1 = 0 ↔ _
  rw [nx_and, Nat.and_one_is_mod, ← nI_0, nI_eq (by omega) (by omega), Nat.testBit_eq_decide_div_mod_eq, Nat.shiftRight_eq_div_pow, decide_eq_false_iff_not]
  generalize k / 2 ^ j = z
  omega
theorem nx_mod (k : Nat) : nI k &&& 65535 = nI (k % 65536) := by
  show nI k &&& nI 65535 = _
  rw [nx_and, show (65535 : Nat) = 2 ^ 16 - 1 from rfl, Nat.and_two_pow_sub_one_eq_mod]
theorem nx_m16 {k : Nat} (h : k < 65536) : nI k &&& 65535 = nI k := by rw [nx_mod, Nat.mod_eq_of_lt h]
theorem nx_mask (x : Int32) : ∃ k, k < 65536 ∧ x &&& 65535 = nI k := by
  have e : x = nI x.toBitVec.toNat := by
    apply Int32.toBitVec_inj.1
    show x.toBitVec = BitVec.ofNat 32 x.toBitVec.toNat
    simp
  refine ⟨x.toBitVec.toNat % 65536, Nat.mod_lt _ (by omega), ?_⟩
  rw [← nx_mod, ← e]
/-! own small rows -/
theorem zb_us {α : Type} {P : α → Prop} {a b : α} (e : a = b) (h : P b) : P a := e ▸ h
theorem zb_b8 : ∀ k, k < 128 → (nI k).toInt8.toInt32 = nI k := by decide +kernel
theorem zb_by {k : Nat} (h : k < 128) : vp_nar .byte (nI k).toInt8.toInt32 = nI k := by rw [pk_vb, zb_b8 k h]
theorem zb_nb {k : Nat} (h : k < 128) : vp_nar .byte (nI k) = nI k := by rw [vp_nar_byte, zb_b8 k h]
theorem zb_m1 : vp_nar .byte (-1) = -1 := by rw [vp_nar_byte]; decide
theorem zb_t0 : vp_nar .boolean 0 = 0 := rfl
theorem zb_t1 : vp_nar .boolean 1 = 1 := rfl
theorem zb_t {x : Int32} (h : x = 0 ∨ x = 1) : vp_nar .boolean x = x := by rcases h with rfl | rfl <;> rfl
theorem zb_add1 (x : Int32) : x + (-1) = x - 1 := by grind
theorem zb_plt {a : Nat} (h : a < 2 ^ 30) : nI a - 1 < nI a := by
  rw [Int32.lt_iff_toInt_lt, show (1 : Int32) = nI 1 from rfl, pk_sub_toInt h (by omega), nI_toInt (by omega)]
  omega
theorem zb_pneg : nI 0 - 1 < 0 := by decide
theorem zb_uself {f : Nat → Int32} {k : Nat} : upd f k (f k) = f := by
  funext j; unfold upd; by_cases h : j = k
  · subst h; simp
  · simp [h]
theorem zb_uselfL {f : Nat → Int64} {k : Nat} : vp_updL f k (f k) = f := by
  funext j; unfold vp_updL; by_cases h : j = k
  · subst h; simp
  · simp [h]
theorem zb_uu {f : Nat → Int32} {k : Nat} {x y : Int32} : upd (upd f k x) k y = upd f k y := by
  funext j; unfold upd; by_cases h : j = k <;> simp [h]
theorem zb_uuL {f : Nat → Int64} {k : Nat} {x y : Int64} : vp_updL (vp_updL f k x) k y = vp_updL f k y := by
  funext j; unfold vp_updL; by_cases h : j = k <;> simp [h]
theorem zb_ex {n : Nat} (h : 0 < n) : ∃ m, n = m + 1 := ⟨n - 1, by omega⟩
theorem zb_cl {a : Nat} (h : a < 2 ^ 31) : (nI a).toNatClampNeg = a := nI_clamp h
theorem zb_inj {a b : Nat} (h : nI a = nI b) (ha : a < 2 ^ 31) (hb : b < 2 ^ 31) : a = b := (nI_eq ha hb).mp h
theorem zb_ne {a b : Nat} (h : a ≠ b) (ha : a < 2 ^ 31) (hb : b < 2 ^ 31) : ¬ nI a = nI b := fun e => h (zb_inj e ha hb)
end
section
/-! ===== the pure meaning of expressions ===== -/
abbrev VV : Type := Int64 × Int32
def mq_ar (t : Int32) : Nat := if t < 10 ∨ t = 40 then 0 else if t = 15 ∨ t = 32 ∨ t = 33 then 1 else if t = 34 then 3 else 2
def mq_tr (t : Int32) : Bool := decide (20 ≤ t ∧ t ≤ 33)
def mq_wt (t : Int32) (k : Nat) : Bool := decide (t = 30 ∨ t = 31 ∨ t = 32 ∨ (t = 34 ∧ k = 0))
def mq_op (t : Int32) : Prop := t = 10 ∨ t = 11 ∨ t = 12 ∨ t = 13 ∨ t = 14 ∨ t = 15 ∨ t = 16 ∨ t = 20 ∨ t = 21 ∨ t = 22 ∨ t = 23 ∨ t = 30 ∨ t = 31 ∨ t = 32 ∨ t = 33 ∨ t = 34
def mq_ok (t : Int32) : Prop := (∃ c : Nat, c < 6 ∧ t = nI c) ∨ t = 40 ∨ mq_op t
def mq_ari (t : Int32) (x y : Int64) : Int64 := if t = 10 then x + y else if t = 11 then x - y else if t = 12 then x * y else if t = 13 then x / y else x - x / y * y
def mq_rel (t : Int32) (x y : Int64) : Prop := if t = 20 then x = y else if t = 21 then x < y else if t = 22 then x ≤ y else ¬ x = y
noncomputable def mq_b (P : Prop) : VV := @ite VV P (Classical.propDecidable P) (1, 0) (0, 0)
theorem mq_b_t {P : Prop} (h : P) : mq_b P = (1, 0) := if_pos h
theorem mq_b_f {P : Prop} (h : ¬ P) : mq_b P = (0, 0) := if_neg h
noncomputable def mq_sem (t : Int32) (a b c : VV) : VV :=
  if t = 15 then (if a.2 = 0 then (-a.1, 0) else (0, 1))
  else if t = 16 then (if a.2 = 0 then a else b)
  else if t = 33 then (if a.2 = 0 then (0, 0) else (1, 0))
  else if t = 32 then (if a.1 = 2 then (2, 0) else (1 - a.1, 0))
  else if t = 30 then (if a.1 = 0 ∨ b.1 = 0 then (0, 0) else if a.1 = 2 ∨ b.1 = 2 then (2, 0) else (1, 0))
  else if t = 31 then (if a.1 = 1 ∨ b.1 = 1 then (1, 0) else if a.1 = 2 ∨ b.1 = 2 then (2, 0) else (0, 0))
  else if t = 34 then (if a.1 = 1 then b else c)
  else if t < 16 then (if a.2 = 0 ∧ b.2 = 0 ∧ ¬ ((t = 13 ∨ t = 14) ∧ b.1 = 0) then (mq_ari t a.1 b.1, 0) else (0, 1))
  else (if a.2 = 0 ∧ b.2 = 0 then mq_b (mq_rel t a.1 b.1) else (2, 0))
/-- the values that a kind has: true a truth, false a number -/
def mq_ov : Bool → VV → Prop
  | true, v => v = (0, 0) ∨ v = (1, 0) ∨ v = (2, 0)
  | false, v => v.2 = 0 ∨ v = (0, 1)
theorem mq_b_ov (P : Prop) : mq_ov true (mq_b P) := by
  rcases Classical.em P with h | h
  · exact Or.inr (Or.inl (mq_b_t h))
  · exact Or.inl (mq_b_f h)
theorem mq_op_ar {t : Int32} (h : mq_op t) : 1 ≤ mq_ar t ∧ mq_ar t ≤ 3 := by
  rcases h with rfl | rfl | rfl | rfl | rfl | rfl | rfl | rfl | rfl | rfl | rfl | rfl | rfl | rfl | rfl | rfl <;> decide
theorem mq_op_lo {t : Int32} (h : mq_op t) : ¬ t < 10 ∧ ¬ t < 6 ∧ ¬ t = 40 ∧ ¬ t = 41 ∧ t < 40 ∧ 6 ≤ t ∧ 10 ≤ t := by
  rcases h with rfl | rfl | rfl | rfl | rfl | rfl | rfl | rfl | rfl | rfl | rfl | rfl | rfl | rfl | rfl | rfl <;> decide
/-! ===== the meaning, op by op ===== -/
theorem mq_s10 (a b c : VV) : mq_sem 10 a b c = if a.2 = 0 ∧ b.2 = 0 then (a.1 + b.1, 0) else (0, 1) := by simp [mq_sem, mq_ari]
theorem mq_s11 (a b c : VV) : mq_sem 11 a b c = if a.2 = 0 ∧ b.2 = 0 then (a.1 - b.1, 0) else (0, 1) := by simp [mq_sem, mq_ari]
theorem mq_s12 (a b c : VV) : mq_sem 12 a b c = if a.2 = 0 ∧ b.2 = 0 then (a.1 * b.1, 0) else (0, 1) := by simp [mq_sem, mq_ari]
theorem mq_s13 (a b c : VV) : mq_sem 13 a b c = if a.2 = 0 ∧ b.2 = 0 ∧ ¬ b.1 = 0 then (a.1 / b.1, 0) else (0, 1) := by simp [mq_sem, mq_ari]
theorem mq_s14 (a b c : VV) : mq_sem 14 a b c = if a.2 = 0 ∧ b.2 = 0 ∧ ¬ b.1 = 0 then (a.1 - a.1 / b.1 * b.1, 0) else (0, 1) := by simp [mq_sem, mq_ari]
theorem mq_s15 (a b c : VV) : mq_sem 15 a b c = if a.2 = 0 then (-a.1, 0) else (0, 1) := by simp [mq_sem]
theorem mq_s16 (a b c : VV) : mq_sem 16 a b c = if a.2 = 0 then a else b := by simp [mq_sem]
theorem mq_s20 (a b c : VV) : mq_sem 20 a b c = if a.2 = 0 ∧ b.2 = 0 then mq_b (a.1 = b.1) else (2, 0) := by simp [mq_sem, mq_rel]
theorem mq_s21 (a b c : VV) : mq_sem 21 a b c = if a.2 = 0 ∧ b.2 = 0 then mq_b (a.1 < b.1) else (2, 0) := by simp [mq_sem, mq_rel]
theorem mq_s22 (a b c : VV) : mq_sem 22 a b c = if a.2 = 0 ∧ b.2 = 0 then mq_b (a.1 ≤ b.1) else (2, 0) := by simp [mq_sem, mq_rel]
theorem mq_s23 (a b c : VV) : mq_sem 23 a b c = if a.2 = 0 ∧ b.2 = 0 then mq_b (¬ a.1 = b.1) else (2, 0) := by simp [mq_sem, mq_rel]
theorem mq_s30 (a b c : VV) : mq_sem 30 a b c = if a.1 = 0 ∨ b.1 = 0 then (0, 0) else if a.1 = 2 ∨ b.1 = 2 then (2, 0) else (1, 0) := by simp [mq_sem]
theorem mq_s31 (a b c : VV) : mq_sem 31 a b c = if a.1 = 1 ∨ b.1 = 1 then (1, 0) else if a.1 = 2 ∨ b.1 = 2 then (2, 0) else (0, 0) := by simp [mq_sem]
theorem mq_s32 (a b c : VV) : mq_sem 32 a b c = if a.1 = 2 then (2, 0) else (1 - a.1, 0) := by simp [mq_sem]
theorem mq_s33 (a b c : VV) : mq_sem 33 a b c = if a.2 = 0 then (0, 0) else (1, 0) := by simp [mq_sem]
theorem mq_s34 (a b c : VV) : mq_sem 34 a b c = if a.1 = 1 then b else c := by simp [mq_sem]
theorem mq_sem_ov {t : Int32} {a b c : VV} (h : mq_op t) (ha : mq_ov (mq_wt t 0) a) (hb : 2 ≤ mq_ar t → mq_ov (mq_wt t 1) b) (hc : mq_ar t = 3 → mq_ov (mq_wt t 2) c) : mq_ov (mq_tr t) (mq_sem t a b c) := by
  have num : ∀ (p : Prop) [Decidable p] (x : Int64), mq_ov false (if p then (x, 0) else (0, 1)) := by
    intro p _ x
    by_cases hp : p
    · rw [if_pos hp]; exact Or.inl rfl
    · rw [if_neg hp]; exact Or.inr rfl
  have cmp : ∀ (p q : Prop) [Decidable p], mq_ov true (if p then mq_b q else (2, 0)) := by
    intro p q _
    by_cases hp : p
    · rw [if_pos hp]; exact mq_b_ov q
    · rw [if_neg hp]; exact Or.inr (Or.inr rfl)
  have tri : ∀ (p q : Prop) [Decidable p] [Decidable q] (x y z : VV), mq_ov true x → mq_ov true y → mq_ov true z → mq_ov true (if p then x else if q then y else z) := by
    intro p q _ _ x y z hx hy hz
    by_cases hp : p
    · rw [if_pos hp]; exact hx
    · rw [if_neg hp]
      by_cases hq : q
      · rw [if_pos hq]; exact hy
      · rw [if_neg hq]; exact hz
  have two : ∀ (k : Bool) (p : Prop) [Decidable p] (x y : VV), mq_ov k x → mq_ov k y → mq_ov k (if p then x else y) := by
    intro k p _ x y hx hy
    by_cases hp : p
    · rw [if_pos hp]; exact hx
    · rw [if_neg hp]; exact hy
  rcases h with rfl | rfl | rfl | rfl | rfl | rfl | rfl | rfl | rfl | rfl | rfl | rfl | rfl | rfl | rfl | rfl
  · exact num _ _
  · exact num _ _
  · exact num _ _
  · exact num _ _
  · exact num _ _
  · exact num _ _
  · rw [mq_s16]; exact two false _ _ _ ha (hb (by decide))
  · exact cmp _ _
  · exact cmp _ _
  · exact cmp _ _
  · exact cmp _ _
  · rw [mq_s30]; exact tri _ _ _ _ _ (Or.inl rfl) (Or.inr (Or.inr rfl)) (Or.inr (Or.inl rfl))
  · rw [mq_s31]; exact tri _ _ _ _ _ (Or.inr (Or.inl rfl)) (Or.inr (Or.inr rfl)) (Or.inl rfl)
  · have ha : a = (0, 0) ∨ a = (1, 0) ∨ a = (2, 0) := ha
    rcases ha with rfl | rfl | rfl
    · exact Or.inr (Or.inl rfl)
    · exact Or.inl rfl
    · exact Or.inr (Or.inr rfl)
  · rw [mq_s33]; exact two true _ _ _ (Or.inl rfl) (Or.inr (Or.inl rfl))
  · rw [mq_s34]; exact two false _ _ _ (hb (by decide)) (hc (by decide))
/-! stacks, the head is the top -/
def mq_col (x : Int32) : VV := if x = -2147483648 then (0, 1) else (x.toInt64, 0)
theorem mq_col_ov (x : Int32) : mq_ov false (mq_col x) := by
  unfold mq_col
  by_cases h : x = -2147483648
  · rw [if_pos h]; exact Or.inr rfl
  · rw [if_neg h]; exact Or.inl rfl
noncomputable def mq_es (env : Nat → Int32) (t c : Int32) (s : List VV) : List VV :=
  if t < 6 then mq_col (env t.toNatClampNeg) :: s
  else if t = 40 then mq_col c :: s
  else mq_sem t (s.getD 0 (0, 0)) (s.getD 1 (0, 0)) (s.getD 2 (0, 0)) :: s.drop (mq_ar t)
noncomputable def mq_est (env : Nat → Int32) (tok con : Nat → Int32) (hi : Nat) : Nat → List VV
  | 0 => []
  | d + 1 => mq_es env (tok (hi - (d + 1))) (con (hi - (d + 1))) (mq_est env tok con hi d)
def mq_ks (t : Int32) (s : List Bool) : Option (List Bool) :=
  if mq_ar t ≤ s.length ∧ ∀ k, k < mq_ar t → s.getD k false = mq_wt t k then some (mq_tr t :: s.drop (mq_ar t)) else none
def mq_kst (tok : Nat → Int32) (hi : Nat) : Nat → Option (List Bool)
  | 0 => some []
  | d + 1 => (mq_kst tok hi d).bind (mq_ks (tok (hi - (d + 1))))
theorem mq_kst_s {tok : Nat → Int32} {hi d : Nat} {s' : List Bool} (h : mq_kst tok hi (d + 1) = some s') : ∃ s, mq_kst tok hi d = some s ∧ mq_ks (tok (hi - (d + 1))) s = some s' := by
  unfold mq_kst at h
  cases e : mq_kst tok hi d with
  | none => rw [e] at h; cases h
  | some s => rw [e] at h; exact ⟨s, rfl, h⟩
theorem mq_kst_n {tok : Nat → Int32} {hi : Nat} {d : Nat} (h : mq_kst tok hi d = none) : ∀ k, mq_kst tok hi (d + k) = none := by
  intro k
  induction k with
  | zero => exact h
  | succ k ih =>
    show (mq_kst tok hi (d + k)).bind _ = none
    rw [ih]; rfl
theorem mq_kst_le {tok : Nat → Int32} {hi d l : Nat} {s' : List Bool} (h : mq_kst tok hi l = some s') (hd : d ≤ l) : ∃ s, mq_kst tok hi d = some s := by
  cases e : mq_kst tok hi d with
  | some s => exact ⟨s, rfl⟩
  | none =>
    have := mq_kst_n e (l - d)
    rw [show d + (l - d) = l by omega, h] at this
    cases this
theorem mq_ks_s {t : Int32} {s s' : List Bool} (h : mq_ks t s = some s') : mq_ar t ≤ s.length ∧ (∀ k, k < mq_ar t → s.getD k false = mq_wt t k) ∧ s' = mq_tr t :: s.drop (mq_ar t) := by
  unfold mq_ks at h
  by_cases c : mq_ar t ≤ s.length ∧ ∀ k, k < mq_ar t → s.getD k false = mq_wt t k
  · rw [if_pos c] at h
    cases h
    exact ⟨c.1, c.2, rfl⟩
  · rw [if_neg c] at h; cases h
def mq_ty : List Bool → List VV → Prop
  | [], [] => True
  | k :: ks, v :: vs => mq_ov k v ∧ mq_ty ks vs
  | [], _ :: _ => False
  | _ :: _, [] => False
theorem mq_ty_len : ∀ {ks : List Bool} {vs : List VV}, mq_ty ks vs → vs.length = ks.length
  | [], [], _ => rfl
  | _ :: ks, _ :: vs, h => by
    have := mq_ty_len h.2
    simp [this]
theorem mq_ty_get : ∀ {ks : List Bool} {vs : List VV} (i : Nat), mq_ty ks vs → i < ks.length → mq_ov (ks.getD i false) (vs.getD i (0, 0))
  | [], [], _, _, h => absurd h (Nat.not_lt_zero _)
  | _ :: ks, _ :: vs, 0, h, _ => h.1
  | _ :: ks, _ :: vs, i + 1, h, hi => by
    have := mq_ty_get i h.2 (Nat.lt_of_succ_lt_succ hi)
    exact this
theorem mq_ty_drop : ∀ {ks : List Bool} {vs : List VV} (n : Nat), mq_ty ks vs → mq_ty (ks.drop n) (vs.drop n)
  | _, _, 0, h => h
  | [], [], _ + 1, _ => trivial
  | _ :: _, _ :: _, n + 1, h => mq_ty_drop n h.2
theorem mq_ty_step {env : Nat → Int32} {t c : Int32} {ks ks' : List Bool} {vs : List VV} (ht : mq_ok t) (h : mq_ty ks vs) (e : mq_ks t ks = some ks') : mq_ty ks' (mq_es env t c vs) := by
  obtain ⟨h1, h2, rfl⟩ := mq_ks_s e
  unfold mq_es
  rcases ht with ⟨k, hk, rfl⟩ | rfl | ht
  · have a : nI k < 6 := nI_lt (b := 6) hk (by decide)
    have b : mq_ar (nI k) = 0 ∧ mq_tr (nI k) = false := by
      have : ∀ k, k < 6 → mq_ar (nI k) = 0 ∧ mq_tr (nI k) = false := by decide
      exact this k hk
    rw [if_pos a, b.1, b.2]
    exact ⟨mq_col_ov _, h⟩
  · rw [if_neg (by decide), if_pos rfl]
    exact ⟨mq_col_ov _, h⟩
  · obtain ⟨_, l2, l3, _⟩ := mq_op_lo ht
    rw [if_neg l2, if_neg l3]
    have ar := mq_op_ar ht
    have g : ∀ k, k < mq_ar t → mq_ov (mq_wt t k) (vs.getD k (0, 0)) := fun k hk => h2 k hk ▸ mq_ty_get k h (Nat.lt_of_lt_of_le hk h1)
    exact ⟨mq_sem_ov ht (g 0 (by omega)) (fun z => g 1 (by omega)) (fun z => g 2 (by omega)), mq_ty_drop _ h⟩
theorem mq_est_ty {env tok con : Nat → Int32} {hi : Nat} : ∀ {d : Nat} {ks : List Bool}, (∀ j, j < d → mq_ok (tok (hi - (j + 1)))) → mq_kst tok hi d = some ks → mq_ty ks (mq_est env tok con hi d)
  | 0, _, _, h => by cases h; exact trivial
  | d + 1, ks, ho, h => by
    obtain ⟨s, h1, h2⟩ := mq_kst_s h
    exact mq_ty_step (ho d (Nat.lt_succ_self d)) (mq_est_ty (fun j hj => ho j (by omega)) h1) h2
theorem mq_est_cg {env tok con tok' con' : Nat → Int32} {hi : Nat} : ∀ {d : Nat}, (∀ j, j < d → tok' (hi - (j + 1)) = tok (hi - (j + 1)) ∧ con' (hi - (j + 1)) = con (hi - (j + 1))) → mq_est env tok' con' hi d = mq_est env tok con hi d
  | 0, _ => rfl
  | d + 1, h => by
    show mq_es env (tok' _) (con' _) (mq_est env tok' con' hi d) = mq_es env (tok _) (con _) (mq_est env tok con hi d)
    rw [(h d (Nat.lt_succ_self d)).1, (h d (Nat.lt_succ_self d)).2, mq_est_cg (fun j hj => h j (by omega))]
theorem mq_kst_cg {tok tok' : Nat → Int32} {hi hi' : Nat} : ∀ {d : Nat}, (∀ j, j < d → tok' (hi' - (j + 1)) = tok (hi - (j + 1))) → mq_kst tok' hi' d = mq_kst tok hi d
  | 0, _ => rfl
  | d + 1, h => by
    show (mq_kst tok' hi' d).bind (mq_ks (tok' _)) = (mq_kst tok hi d).bind (mq_ks (tok _))
    rw [h d (Nat.lt_succ_self d), mq_kst_cg (fun j hj => h j (by omega))]
theorem mq_est_cg2 {env tok con tok' con' : Nat → Int32} {hi hi' : Nat} : ∀ {d : Nat}, (∀ j, j < d → tok' (hi' - (j + 1)) = tok (hi - (j + 1)) ∧ con' (hi' - (j + 1)) = con (hi - (j + 1))) → mq_est env tok' con' hi' d = mq_est env tok con hi d
  | 0, _ => rfl
  | d + 1, h => by
    show mq_es env (tok' _) (con' _) (mq_est env tok' con' hi' d) = mq_es env (tok _) (con _) (mq_est env tok con hi d)
    rw [(h d (Nat.lt_succ_self d)).1, (h d (Nat.lt_succ_self d)).2, mq_est_cg2 (fun j hj => h j (by omega))]
theorem mq_ks_len {t : Int32} {s s' : List Bool} (h : mq_ks t s = some s') : s'.length ≤ s.length + 1 := by
  obtain ⟨_, _, rfl⟩ := mq_ks_s h
  simp
theorem mq_kst_len {tok : Nat → Int32} {hi : Nat} : ∀ {d : Nat} {s : List Bool}, mq_kst tok hi d = some s → s.length ≤ d
  | 0, _, h => by cases h; exact Nat.le_refl _
  | d + 1, s, h => by
    obtain ⟨q, h1, h2⟩ := mq_kst_s h
    have a := mq_kst_len h1
    have b := mq_ks_len h2
    omega
end
section
/-! ===== Y: the stack of values ===== -/
def mq_ys (num : Nat → Int64) (nul : Nat → Int32) : List VV → Prop
  | [] => True
  | v :: s => num s.length = v.1 ∧ nul s.length = v.2 ∧ mq_ys num nul s
theorem mq_ys_fr {num num' : Nat → Int64} {nul nul' : Nat → Int32} : ∀ {s : List VV}, (∀ i, i < s.length → num' i = num i ∧ nul' i = nul i) → mq_ys num nul s → mq_ys num' nul' s
  | [], _, _ => trivial
  | _ :: s, h, ⟨a, b, c⟩ => ⟨(h _ (Nat.lt_succ_self _)).1.trans a, (h _ (Nat.lt_succ_self _)).2.trans b, mq_ys_fr (fun i hi => h i (Nat.lt_succ_of_lt hi)) c⟩
theorem mq_ys_push {num : Nat → Int64} {nul : Nat → Int32} {s : List VV} (v : VV) (h : mq_ys num nul s) : mq_ys (vp_updL num s.length v.1) (upd nul s.length v.2) (v :: s) :=
  ⟨pk_uLs, pk_us, mq_ys_fr (fun i hi => ⟨pk_uLn (by omega), pk_un (by omega)⟩) h⟩
theorem mq_ys_drop {num : Nat → Int64} {nul : Nat → Int32} : ∀ {s : List VV} (n : Nat), mq_ys num nul s → mq_ys num nul (s.drop n)
  | _, 0, h => h
  | [], _ + 1, _ => trivial
  | _ :: _, n + 1, h => mq_ys_drop n h.2.2
section YEV
variable {y_top y_groups y_full y_passed : Int32}
variable {b_cells b_count b_tok b_con b_len b_isNull b_gNull : Nat → Int32}
variable {b_num b_gKey b_gStat : Nat → Int64}
variable {post : SY → Prop} {s : List VV}
theorem yw_pushS {p0 : Int64} {p1 : Int32} {v : VV} (hs : mq_ys b_num b_isNull s) (hl : s.length < 24) (hv : p1 = 0 ∧ v = (p0, 0) ∨ p1 = 1 ∧ v = (0, 1))
    (K : ∀ num' nul', mq_ys num' nul' (v :: s) → post (nI (s.length + 1), y_groups, y_full, y_passed, b_cells, b_count, b_tok, b_con, b_len, num', nul', b_gNull, b_gKey, b_gStat)) : wpY_push post (nI s.length, y_groups, y_full, y_passed, b_cells, b_count, b_tok, b_con, b_len, b_num, b_isNull, b_gNull, b_gKey, b_gStat) p0 p1 := by
  have e : (nI s.length).toNatClampNeg = s.length := nI_clamp (by omega)
  have w : vp_in (nI s.length) 24 := vp_in_nI hl (by omega)
  have k := K _ _ (mq_ys_push v hs)
  rcases hv with ⟨rfl, rfl⟩ | ⟨rfl, rfl⟩
  · exact br_t rfl ⟨w, nm_r (e' := vp_updL b_num s.length p0) (by rw [e]) ⟨w, nm_r (e' := upd b_isNull s.length 0) (by rw [e, zb_t0]) (nm_r (nI_1 s.length) k)⟩⟩
  · exact br_f (by decide) ⟨w, nm_r (e' := vp_updL b_num s.length 0) (by rw [e]) ⟨w, nm_r (e' := upd b_isNull s.length 1) (by rw [e, zb_t1]) (nm_r (nI_1 s.length) k)⟩⟩
theorem ya_537 {z : Int64} (hs : mq_ys b_num b_isNull s) (hl : s.length < 24) (K : ∀ num' nul', mq_ys num' nul' ((z, 0) :: s) → post (nI (s.length + 1), y_groups, y_full, y_passed, b_cells, b_count, b_tok, b_con, b_len, num', nul', b_gNull, b_gKey, b_gStat)) : wY_apply_537 post z (nI s.length) y_groups y_full y_passed b_cells b_count b_tok b_con b_len b_num b_isNull b_gNull b_gKey b_gStat :=
  yw_pushS (v := (z, 0)) hs hl (Or.inl ⟨rfl, rfl⟩) K
theorem ya_513 {z : Int64} (hs : mq_ys b_num b_isNull s) (hl : s.length < 24) (K : ∀ num' nul', mq_ys num' nul' ((z, 0) :: s) → post (nI (s.length + 1), y_groups, y_full, y_passed, b_cells, b_count, b_tok, b_con, b_len, num', nul', b_gNull, b_gKey, b_gStat)) : wY_apply_513 post z (nI s.length) y_groups y_full y_passed b_cells b_count b_tok b_con b_len b_num b_isNull b_gNull b_gKey b_gStat :=
  yw_pushS (v := (z, 0)) hs hl (Or.inl ⟨rfl, rfl⟩) K
theorem ya_482 {z : Int64} (hs : mq_ys b_num b_isNull s) (hl : s.length < 24) (K : ∀ num' nul', mq_ys num' nul' ((z, 0) :: s) → post (nI (s.length + 1), y_groups, y_full, y_passed, b_cells, b_count, b_tok, b_con, b_len, num', nul', b_gNull, b_gKey, b_gStat)) : wY_apply_482 post z (nI s.length) y_groups y_full y_passed b_cells b_count b_tok b_con b_len b_num b_isNull b_gNull b_gKey b_gStat :=
  yw_pushS (v := (z, 0)) hs hl (Or.inl ⟨rfl, rfl⟩) K
theorem ya_427 {z : Int64} (hs : mq_ys b_num b_isNull s) (hl : s.length < 24) (K : ∀ num' nul', mq_ys num' nul' ((z, 0) :: s) → post (nI (s.length + 1), y_groups, y_full, y_passed, b_cells, b_count, b_tok, b_con, b_len, num', nul', b_gNull, b_gKey, b_gStat)) : wY_apply_427 post z (nI s.length) y_groups y_full y_passed b_cells b_count b_tok b_con b_len b_num b_isNull b_gNull b_gKey b_gStat :=
  yw_pushS (v := (z, 0)) hs hl (Or.inl ⟨rfl, rfl⟩) K
theorem ya_372 {z : Int64} (hs : mq_ys b_num b_isNull s) (hl : s.length < 24) (K : ∀ num' nul', mq_ys num' nul' ((z, 0) :: s) → post (nI (s.length + 1), y_groups, y_full, y_passed, b_cells, b_count, b_tok, b_con, b_len, num', nul', b_gNull, b_gKey, b_gStat)) : wY_apply_372 post z (nI s.length) y_groups y_full y_passed b_cells b_count b_tok b_con b_len b_num b_isNull b_gNull b_gKey b_gStat :=
  yw_pushS (v := (z, 0)) hs hl (Or.inl ⟨rfl, rfl⟩) K
theorem ya_cmp {P : Prop} {x12 f : Int32} {v : VV} (hf : f = 1 ∧ P ∨ f = 0 ∧ ¬ P) (hv : v = if x12 = 0 then mq_b P else (2, 0)) (hs : mq_ys b_num b_isNull s) (hl : s.length < 24) (K : ∀ num' nul', mq_ys num' nul' (v :: s) → post (nI (s.length + 1), y_groups, y_full, y_passed, b_cells, b_count, b_tok, b_con, b_len, num', nul', b_gNull, b_gKey, b_gStat)) : wY_apply_348 post x12 f (nI s.length) y_groups y_full y_passed b_cells b_count b_tok b_con b_len b_num b_isNull b_gNull b_gKey b_gStat := by
  subst hv
  by_cases h : x12 = 0
  · rw [if_pos h] at K
    rcases hf with ⟨rfl, p⟩ | ⟨rfl, p⟩
    · rw [mq_b_t p] at K
      exact br_t h (br_f (by decide) (ya_372 hs hl K))
    · rw [mq_b_f p] at K
      exact br_t h (br_t rfl (ya_372 hs hl K))
  · rw [if_neg h] at K
    exact br_f h (ya_372 hs hl K)
theorem ya_207 {x12 x13 : Int32} {z : Int64} {v : VV} (hv : (x12 = 0 ∧ x13 = 0 ∧ v = (z, 0)) ∨ (¬ (x12 = 0 ∧ x13 = 0) ∧ v = (0, 1))) (hs : mq_ys b_num b_isNull s) (hl : s.length < 24) (K : ∀ num' nul', mq_ys num' nul' (v :: s) → post (nI (s.length + 1), y_groups, y_full, y_passed, b_cells, b_count, b_tok, b_con, b_len, num', nul', b_gNull, b_gKey, b_gStat)) : wY_apply_207 post x12 x13 z (nI s.length) y_groups y_full y_passed b_cells b_count b_tok b_con b_len b_num b_isNull b_gNull b_gKey b_gStat := by
  have nul : v = (0, 1) → wY_apply_217 post z (nI s.length) y_groups y_full y_passed b_cells b_count b_tok b_con b_len b_num b_isNull b_gNull b_gKey b_gStat := fun e => yw_pushS (v := v) hs hl (Or.inr ⟨rfl, e⟩) K
  rcases hv with ⟨h1, h2, h3⟩ | ⟨h1, h2⟩
  · exact br_t h1 (br_t h2 (yw_pushS (v := v) hs hl (Or.inl ⟨rfl, h3⟩) K))
  · exact br_c (fun a => br_c (fun b => absurd ⟨a, b⟩ h1) (fun _ => nul h2)) (fun _ => nul h2)
theorem ya_183 {t x12 x13 : Int32} {x y w : Int64} {v : VV} (hc : x12 = 0 → x13 = 0 → v = (w, 0) ∧ ∀ q : Int64 → Prop, q w → wpY_compute q t x y) (hn : ¬ (x12 = 0 ∧ x13 = 0) → v = (0, 1)) (hs : mq_ys b_num b_isNull s) (hl : s.length < 24) (K : ∀ num' nul', mq_ys num' nul' (v :: s) → post (nI (s.length + 1), y_groups, y_full, y_passed, b_cells, b_count, b_tok, b_con, b_len, num', nul', b_gNull, b_gKey, b_gStat)) : wY_apply_183 post t x y x12 x13 (nI s.length) y_groups y_full y_passed b_cells b_count b_tok b_con b_len b_num b_isNull b_gNull b_gKey b_gStat := by
  have nul : ¬ (x12 = 0 ∧ x13 = 0) → wY_apply_196 post x12 x13 (nI s.length) y_groups y_full y_passed b_cells b_count b_tok b_con b_len b_num b_isNull b_gNull b_gKey b_gStat := fun e => ya_207 (v := v) (Or.inr ⟨e, hn e⟩) hs hl K
  exact br_c (fun a => br_c (fun b => (hc a b).2 _ (ya_207 (v := v) (Or.inl ⟨a, b, (hc a b).1⟩) hs hl K)) (fun b => nul (fun z => b z.2))) (fun a => nul (fun z => a z.1))
theorem ya_null {a b : VV} {x12 : Int32} (hx : x12 = if a.2 = 0 ∧ b.2 = 0 then 0 else 1) : x12 = 0 ↔ a.2 = 0 ∧ b.2 = 0 := by
  subst hx
  by_cases h : a.2 = 0 ∧ b.2 = 0
  · rw [if_pos h]; exact ⟨fun _ => h, fun _ => rfl⟩
  · rw [if_neg h]; exact ⟨fun z => absurd z (by decide), fun z => absurd z h⟩
theorem ya_151 {t x12 : Int32} {a b c : VV} (ht : mq_op t) (ha : mq_ov (mq_wt t 0) a) (hb : mq_ov (mq_wt t 1) b ∨ mq_ar t = 1) (hb1 : mq_ar t = 1 → b = (0, 0)) (hc : mq_ov (mq_wt t 2) c ∨ ¬ mq_ar t = 3)
    (hx : x12 = if a.2 = 0 ∧ b.2 = 0 then 0 else 1) (hs : mq_ys b_num b_isNull s) (hl : s.length < 24) (K : ∀ num' nul', mq_ys num' nul' (mq_sem t a b c :: s) → post (nI (s.length + 1), y_groups, y_full, y_passed, b_cells, b_count, b_tok, b_con, b_len, num', nul', b_gNull, b_gKey, b_gStat)) :
    wY_apply_151 post t a.1 a.2 b.1 b.2 c.1 c.2 x12 (nI s.length) y_groups y_full y_passed b_cells b_count b_tok b_con b_len b_num b_isNull b_gNull b_gKey b_gStat := by
  have hn := ya_null hx
  have cm : ∀ (P : Prop), mq_sem t a b c = (if a.2 = 0 ∧ b.2 = 0 then mq_b P else (2, 0)) → mq_sem t a b c = if x12 = 0 then mq_b P else (2, 0) := by
    intro P e
    rw [e]
    by_cases h : a.2 = 0 ∧ b.2 = 0
    · rw [if_pos h, if_pos (hn.mpr h)]
    · rw [if_neg h, if_neg (fun z => h (hn.mp z))]
  have ar : ∀ w : Int64, mq_sem t a b c = (if a.2 = 0 ∧ b.2 = 0 then (w, 0) else (0, 1)) → (∀ q : Int64 → Prop, q w → wpY_compute q t a.1 b.1) → wY_apply_182 post t a.1 b.1 x12 (nI s.length) y_groups y_full y_passed b_cells b_count b_tok b_con b_len b_num b_isNull b_gNull b_gKey b_gStat := by
    intro w e hq
    refine ya_183 (v := mq_sem t a b c) (w := w) (fun h _ => ⟨?_, hq⟩) (fun h => ?_) hs hl K
    · rw [e, if_pos (hn.mp h)]
    · rw [e, if_neg (fun z => h ⟨hn.mpr z, rfl⟩)]
  have dv : ∀ w : Int64, mq_sem t a b c = (if a.2 = 0 ∧ b.2 = 0 ∧ ¬ b.1 = 0 then (w, 0) else (0, 1)) → (¬ b.1 = 0 → ∀ q : Int64 → Prop, q w → wpY_compute q t a.1 b.1) → wY_apply_171 post t a.1 b.1 x12 (nI s.length) y_groups y_full y_passed b_cells b_count b_tok b_con b_len b_num b_isNull b_gNull b_gKey b_gStat := by
    intro w e hq
    refine br_c (fun z => ?_) (fun z => ?_)
    · refine ya_183 (v := mq_sem t a b c) (w := w) (fun _ h => absurd h (by decide)) (fun h => ?_) hs hl K
      rw [e, if_neg (fun y => y.2.2 z)]
    · refine ya_183 (v := mq_sem t a b c) (w := w) (fun h _ => ⟨?_, hq z⟩) (fun h => ?_) hs hl K
      · rw [e, if_pos ⟨(hn.mp h).1, (hn.mp h).2, z⟩]
      · rw [e, if_neg (fun y => h ⟨hn.mpr ⟨y.1, y.2.1⟩, rfl⟩)]
  unfold wY_apply_151
  rcases ht with rfl | rfl | rfl | rfl | rfl | rfl | rfl | rfl | rfl | rfl | rfl | rfl | rfl | rfl | rfl | rfl
  · exact br_f (by decide) (br_f (by decide) (br_f (by decide) (ar _ (mq_s10 a b c) (fun q h => br_f (by decide) (br_f (by decide) (br_t rfl h))))))
  · exact br_f (by decide) (br_f (by decide) (br_f (by decide) (ar _ (mq_s11 a b c) (fun q h => br_f (by decide) (br_f (by decide) (br_f (by decide) (br_t rfl h)))))))
  · exact br_f (by decide) (br_f (by decide) (br_f (by decide) (ar _ (mq_s12 a b c) (fun q h => br_f (by decide) (br_f (by decide) (br_f (by decide) (br_f (by decide) (br_t rfl h))))))))
  · exact br_f (by decide) (br_t rfl (dv _ (mq_s13 a b c) (fun z q h => br_f (by decide) (br_f (by decide) (br_f (by decide) (br_f (by decide) (br_f (by decide) (br_t rfl (br_f z ⟨z, h⟩)))))))))
  · exact br_f (by decide) (br_f (by decide) (br_t rfl (dv _ (mq_s14 a b c) (fun z q h => br_f (by decide) (br_f (by decide) (br_f (by decide) (br_f (by decide) (br_f (by decide) (br_f (by decide) (br_t rfl (br_f z ⟨z, h⟩)))))))))))
  · refine br_f (by decide) (br_f (by decide) (br_f (by decide) (ar (-a.1) ?_ (fun q h => br_f (by decide) (br_t (by decide) h)))))
    rw [mq_s15, hb1 (by decide)]
    by_cases h : a.2 = 0
    · rw [if_pos h, if_pos ⟨h, rfl⟩]
    · rw [if_neg h, if_neg (fun z => h z.1)]
  · -- 16
    have ha : a.2 = 0 ∨ a = (0, 1) := ha
    have hb : b.2 = 0 ∨ b = (0, 1) := hb.elim id (fun z => absurd z (by decide))
    rw [mq_s16] at K
    by_cases h : a.2 = 0
    · rw [if_pos h] at K
      exact br_t (by decide) (br_t rfl (br_t h (br_t h (yw_pushS (v := a) hs hl (Or.inl ⟨rfl, Prod.ext rfl h⟩) K))))
    · rw [if_neg h] at K
      rcases hb with hb | hb
      · exact br_t (by decide) (br_t rfl (br_f h (br_f h (br_t hb (yw_pushS (v := b) hs hl (Or.inl ⟨rfl, Prod.ext rfl hb⟩) K)))))
      · exact br_t (by decide) (br_t rfl (br_f h (br_f h (br_f (by rw [hb]; decide) (yw_pushS (v := b) hs hl (Or.inr ⟨rfl, hb⟩) K)))))
  · exact br_t (by decide) (br_f (by decide) (br_f (by decide) (br_t rfl (br_c (fun h => ya_cmp (Or.inl ⟨rfl, h⟩) (cm _ (mq_s20 a b c)) hs hl K) (fun h => ya_cmp (Or.inr ⟨rfl, h⟩) (cm _ (mq_s20 a b c)) hs hl K)))))
  · exact br_t (by decide) (br_f (by decide) (br_f (by decide) (br_f (by decide) (br_t rfl (br_c (fun h => ya_cmp (Or.inr ⟨rfl, Int64.not_lt.mpr h⟩) (cm _ (mq_s21 a b c)) hs hl K) (fun h => ya_cmp (Or.inl ⟨rfl, Int64.not_le.mp h⟩) (cm _ (mq_s21 a b c)) hs hl K))))))
  · exact br_t (by decide) (br_f (by decide) (br_f (by decide) (br_f (by decide) (br_f (by decide) (br_t rfl (br_c (fun h => ya_cmp (Or.inr ⟨rfl, Int64.not_le.mpr h⟩) (cm _ (mq_s22 a b c)) hs hl K) (fun h => ya_cmp (Or.inl ⟨rfl, Int64.not_lt.mp h⟩) (cm _ (mq_s22 a b c)) hs hl K)))))))
  · exact br_t (by decide) (br_f (by decide) (br_f (by decide) (br_f (by decide) (br_f (by decide) (br_f (by decide) (br_c (fun h => ya_cmp (Or.inr ⟨rfl, fun z => z h⟩) (cm _ (mq_s23 a b c)) hs hl K) (fun h => ya_cmp (Or.inl ⟨rfl, h⟩) (cm _ (mq_s23 a b c)) hs hl K)))))))
  · -- 30
    rw [mq_s30] at K
    refine br_t (by decide) (br_f (by decide) (br_t (by decide) (br_t rfl ?_)))
    by_cases h1 : a.1 = 0
    · rw [if_pos (Or.inl h1)] at K
      exact br_t h1 (ya_427 hs hl K)
    · by_cases h2 : b.1 = 0
      · rw [if_pos (Or.inr h2)] at K
        exact br_f h1 (br_t h2 (ya_427 hs hl K))
      · rw [if_neg (fun z => z.elim h1 h2)] at K
        by_cases h3 : a.1 = 2
        · rw [if_pos (Or.inl h3)] at K
          exact br_f h1 (br_f h2 (br_t h3 (ya_427 hs hl K)))
        · by_cases h4 : b.1 = 2
          · rw [if_pos (Or.inr h4)] at K
            exact br_f h1 (br_f h2 (br_f h3 (br_t h4 (ya_427 hs hl K))))
          · rw [if_neg (fun z => z.elim h3 h4)] at K
            exact br_f h1 (br_f h2 (br_f h3 (br_f h4 (ya_427 hs hl K))))
  · -- 31
    rw [mq_s31] at K
    refine br_t (by decide) (br_f (by decide) (br_t (by decide) (br_f (by decide) (br_t rfl ?_))))
    by_cases h1 : a.1 = 1
    · rw [if_pos (Or.inl h1)] at K
      exact br_t h1 (ya_482 hs hl K)
    · by_cases h2 : b.1 = 1
      · rw [if_pos (Or.inr h2)] at K
        exact br_f h1 (br_t h2 (ya_482 hs hl K))
      · rw [if_neg (fun z => z.elim h1 h2)] at K
        by_cases h3 : a.1 = 2
        · rw [if_pos (Or.inl h3)] at K
          exact br_f h1 (br_f h2 (br_t h3 (ya_482 hs hl K)))
        · by_cases h4 : b.1 = 2
          · rw [if_pos (Or.inr h4)] at K
            exact br_f h1 (br_f h2 (br_f h3 (br_t h4 (ya_482 hs hl K))))
          · rw [if_neg (fun z => z.elim h3 h4)] at K
            exact br_f h1 (br_f h2 (br_f h3 (br_f h4 (ya_482 hs hl K))))
  · rw [mq_s32] at K
    refine br_t (by decide) (br_f (by decide) (br_t (by decide) (br_f (by decide) (br_f (by decide) (br_t rfl ?_)))))
    by_cases h : a.1 = 2
    · rw [if_pos h] at K
      exact br_t h (ya_513 hs hl K)
    · rw [if_neg h] at K
      exact br_f h (ya_513 hs hl K)
  · rw [mq_s33] at K
    refine br_t (by decide) (br_f (by decide) (br_t (by decide) (br_f (by decide) (br_f (by decide) (br_f (by decide) (br_t rfl ?_))))))
    by_cases h : a.2 = 0
    · rw [if_pos h] at K
      exact br_t h (ya_537 hs hl K)
    · rw [if_neg h] at K
      exact br_f h (ya_537 hs hl K)
  · have hb : b.2 = 0 ∨ b = (0, 1) := hb.elim id (fun z => absurd z (by decide))
    have hc : c.2 = 0 ∨ c = (0, 1) := hc.elim id (fun z => absurd (by decide) z)
    rw [mq_s34] at K
    refine br_t (by decide) (br_f (by decide) (br_t (by decide) (br_f (by decide) (br_f (by decide) (br_f (by decide) (br_f (by decide) ?_))))))
    have pu : ∀ v : VV, (v.2 = 0 ∨ v = (0, 1)) → (v.2 = 0 ∧ v = (v.1, 0) ∨ v.2 = 1 ∧ v = (0, 1)) := by
      intro v hv
      rcases hv with hv | hv
      · exact Or.inl ⟨hv, Prod.ext rfl hv⟩
      · exact Or.inr ⟨by rw [hv], hv⟩
    by_cases h : a.1 = 1
    · rw [if_pos h] at K
      exact br_t h (yw_pushS (v := b) hs hl (pu b hb) K)
    · rw [if_neg h] at K
      exact br_f h (yw_pushS (v := c) hs hl (pu c hc) K)
theorem yo_ar {q : Int32 → Prop} {t : Int32} (ht : mq_op t) (h : q (nI (mq_ar t))) : wpY_operands q t := by
  unfold wpY_operands
  rcases ht with rfl | rfl | rfl | rfl | rfl | rfl | rfl | rfl | rfl | rfl | rfl | rfl | rfl | rfl | rfl | rfl <;>
  first
    | exact br_f (by decide) (br_f (by decide) (br_f (by decide) (br_f (by decide) (br_f (by decide) (br_f (by decide) h)))))
    | exact br_f (by decide) (br_f (by decide) (br_f (by decide) (br_t (by decide) h)))
    | exact br_f (by decide) (br_f (by decide) (br_f (by decide) (br_f (by decide) (br_t (by decide) h))))
    | exact br_f (by decide) (br_f (by decide) (br_f (by decide) (br_f (by decide) (br_f (by decide) (br_t (by decide) h)))))
    | exact br_f (by decide) (br_f (by decide) (br_t (by decide) h))
theorem ya_124 {t x2 x5 x8 z0 : Int32} {x3 x6 x9 : Int64} {m : Nat} (he : y_top - x2 = nI m) (h : wY_apply_151 post t x3 x5 x6 x8 x9 z0 (if x5 = 0 ∧ x8 = 0 then 0 else 1) (nI m) y_groups y_full y_passed b_cells b_count b_tok b_con b_len b_num b_isNull b_gNull b_gKey b_gStat) : wY_apply_124 post t x2 x3 x5 x6 x8 x9 z0 y_top y_groups y_full y_passed b_cells b_count b_tok b_con b_len b_num b_isNull b_gNull b_gKey b_gStat := by
  refine nm_r he (br_c (fun a => br_c (fun b => ?_) (fun b => ?_)) (fun a => ?_))
  · rw [if_pos ⟨a, b⟩] at h; exact h
  · rw [if_neg (fun z => b z.2)] at h; exact h
  · rw [if_neg (fun z => a z.1)] at h; exact h
theorem yw_apply {t : Int32} {ks ks' : List Bool} (ht : mq_op t) (hty : mq_ty ks s) (hk : mq_ks t ks = some ks') (hs : mq_ys b_num b_isNull s) (hl : s.length < 24)
    (K : ∀ num' nul', mq_ys num' nul' (mq_sem t (s.getD 0 (0, 0)) (s.getD 1 (0, 0)) (s.getD 2 (0, 0)) :: s.drop (mq_ar t)) → post (nI ((s.drop (mq_ar t)).length + 1), y_groups, y_full, y_passed, b_cells, b_count, b_tok, b_con, b_len, num', nul', b_gNull, b_gKey, b_gStat)) :
    wpY_apply post (nI s.length, y_groups, y_full, y_passed, b_cells, b_count, b_tok, b_con, b_len, b_num, b_isNull, b_gNull, b_gKey, b_gStat) t := by
  obtain ⟨h1, h2, -⟩ := mq_ks_s hk
  have g : ∀ k, k < mq_ar t → mq_ov (mq_wt t k) (s.getD k (0, 0)) := fun k hk => h2 k hk ▸ mq_ty_get k hty (Nat.lt_of_lt_of_le hk h1)
  rw [← mq_ty_len hty] at h1
  have ar := mq_op_ar ht
  have wc : ∀ (k : Nat) (v : VV), mq_ov (mq_wt t (k + 1)) v → v.2 = 0 ∨ v.2 = 1 := by
    intro k v h
    cases e : mq_wt t (k + 1) with
    | true =>
      rw [e] at h
      have h : v = (0, 0) ∨ v = (1, 0) ∨ v = (2, 0) := h
      rcases h with rfl | rfl | rfl <;> exact Or.inl rfl
    | false =>
      rw [e] at h
      have h : v.2 = 0 ∨ v = (0, 1) := h
      rcases h with h | rfl
      · exact Or.inl h
      · exact Or.inr rfl
  unfold wpY_apply
  dsimp only
  refine yo_ar ht ?_
  cases s with
  | nil => simp at h1; omega
  | cons a s =>
  obtain ⟨ha1, ha2, hs⟩ := hs
  have l1 : (a :: s).length = s.length + 1 := rfl
  rw [l1] at hl ⊢
  have e1 : nI (s.length + 1) - 1 = nI s.length := nI_pred _
  have w1 : vp_in (nI (s.length + 1) - 1) 24 := by rw [e1]; exact vp_in_nI (by omega) (by omega)
  have c1 : (nI (s.length + 1) - 1).toNatClampNeg = s.length := by rw [e1]; exact nI_clamp (by omega)
  have r1 : b_num (nI (s.length + 1) - 1).toNatClampNeg = a.1 := by rw [c1, ha1]
  have r2 : b_isNull (nI (s.length + 1) - 1).toNatClampNeg = a.2 := by rw [c1, ha2]
  refine ⟨w1, nm_r r1 ⟨w1, nm_r r2 ?_⟩⟩
  rcases (show mq_ar t = 1 ∨ mq_ar t = 2 ∨ mq_ar t = 3 by omega) with n1 | n1 | n1
  · rw [n1] at K ⊢
    refine br_t (by decide) (br_t (by decide) (br_t (by decide) (br_t (by decide) (ya_124 (m := s.length) ?_ ?_))))
    · rw [show (nI 1 : Int32) = 1 from rfl]; exact e1
    · refine ya_151 (a := a) (b := (0, 0)) (c := (0, 0)) ht (g 0 (by omega)) (Or.inr n1) (fun _ => rfl) (Or.inr (by omega)) rfl hs (by omega) (fun num' nul' h => K num' nul' ?_)
      have : mq_sem t a (0, 0) (0, 0) = mq_sem t ((a :: s).getD 0 (0, 0)) ((a :: s).getD 1 (0, 0)) ((a :: s).getD 2 (0, 0)) := by
        have : t = 15 ∨ t = 32 ∨ t = 33 := by
          rcases ht with rfl | rfl | rfl | rfl | rfl | rfl | rfl | rfl | rfl | rfl | rfl | rfl | rfl | rfl | rfl | rfl <;> first | (exact absurd n1 (by decide)) | decide
        rcases this with rfl | rfl | rfl
        · rw [mq_s15, mq_s15]; rfl
        · rw [mq_s32, mq_s32]; rfl
        · rw [mq_s33, mq_s33]; rfl
      rw [← this]; exact h
  · cases s with
    | nil => simp at h1; omega
    | cons b s =>
    rw [n1] at K ⊢
    obtain ⟨hb1, hb2, hs⟩ := hs
    have l2 : (b :: s).length = s.length + 1 := rfl
    rw [l2] at hl ⊢
    have e2 : nI (s.length + 1 + 1) - 2 = nI s.length := by rw [show (2 : Int32) = nI 2 from rfl, pk_sub (by omega)]; rfl
    have w2 : vp_in (nI (s.length + 1 + 1) - 2) 24 := by rw [e2]; exact vp_in_nI (by omega) (by omega)
    have c2 : (nI (s.length + 1 + 1) - 2).toNatClampNeg = s.length := by rw [e2]; exact nI_clamp (by omega)
    have q2 := wc 0 b (g 1 (by omega))
    refine br_f (by decide) ⟨w2, br_f (by decide) ⟨w2, ?_⟩⟩
    rw [c2, hb1, hb2]
    have fin : wY_apply_151 post t a.1 a.2 b.1 b.2 0 0 (if a.2 = 0 ∧ b.2 = 0 then 0 else 1) (nI s.length) y_groups y_full y_passed b_cells b_count b_tok b_con b_len b_num b_isNull b_gNull b_gKey b_gStat := by
      refine ya_151 (a := a) (b := b) (c := (0, 0)) ht (g 0 (by omega)) (Or.inl (g 1 (by omega))) (fun z => by omega) (Or.inr (by omega)) rfl hs (by omega) (fun num' nul' h => K num' nul' ?_)
      have : mq_sem t a b (0, 0) = mq_sem t ((a :: b :: s).getD 0 (0, 0)) ((a :: b :: s).getD 1 (0, 0)) ((a :: b :: s).getD 2 (0, 0)) := by
        have n34 : ¬ t = 34 := fun z => by subst z; exact absurd n1 (by decide)
        show mq_sem t a b (0, 0) = mq_sem t a b _
        unfold mq_sem
        simp only [n34, if_false]
      rw [← this]; exact h
    rcases q2 with q | q
    · rw [q] at fin
      exact br_t q (br_t (by decide) (br_t (by decide) (ya_124 (m := s.length) e2 fin)))
    · rw [q] at fin
      exact br_f (by rw [q]; decide) (br_t (by decide) (br_t (by decide) (ya_124 (m := s.length) e2 fin)))
  · cases s with
    | nil => simp at h1; omega
    | cons b s =>
    cases s with
    | nil => simp at h1; omega
    | cons c s =>
    rw [n1] at K ⊢
    obtain ⟨hb1, hb2, hc1, hc2, hs⟩ := hs
    have l3 : (b :: c :: s).length = s.length + 1 + 1 := rfl
    have l2 : (c :: s).length = s.length + 1 := rfl
    rw [l3] at hl ⊢
    rw [l2] at hb1 hb2
    have e2 : nI (s.length + 1 + 1 + 1) - 2 = nI (s.length + 1) := by rw [show (2 : Int32) = nI 2 from rfl, pk_sub (by omega)]; rfl
    have w2 : vp_in (nI (s.length + 1 + 1 + 1) - 2) 24 := by rw [e2]; exact vp_in_nI (by omega) (by omega)
    have c2 : (nI (s.length + 1 + 1 + 1) - 2).toNatClampNeg = s.length + 1 := by rw [e2]; exact nI_clamp (by omega)
    have e3 : nI (s.length + 1 + 1 + 1) - 3 = nI s.length := by rw [show (3 : Int32) = nI 3 from rfl, pk_sub (by omega)]; rfl
    have w3 : vp_in (nI (s.length + 1 + 1 + 1) - 3) 24 := by rw [e3]; exact vp_in_nI (by omega) (by omega)
    have c3 : (nI (s.length + 1 + 1 + 1) - 3).toNatClampNeg = s.length := by rw [e3]; exact nI_clamp (by omega)
    have q2 := wc 0 b (g 1 (by omega))
    have q3 := wc 1 c (g 2 (by omega))
    have fin : wY_apply_151 post t a.1 a.2 b.1 b.2 c.1 c.2 (if a.2 = 0 ∧ b.2 = 0 then 0 else 1) (nI s.length) y_groups y_full y_passed b_cells b_count b_tok b_con b_len b_num b_isNull b_gNull b_gKey b_gStat :=
      ya_151 (a := a) (b := b) (c := c) ht (g 0 (by omega)) (Or.inl (g 1 (by omega))) (fun z => by omega) (Or.inl (g 2 (by omega))) rfl hs (by omega) (fun num' nul' h => K num' nul' h)
    have f124 : wY_apply_124 post t (nI 3) a.1 a.2 b.1 b.2 c.1 c.2 (nI (s.length + 1 + 1 + 1)) y_groups y_full y_passed b_cells b_count b_tok b_con b_len b_num b_isNull b_gNull b_gKey b_gStat := ya_124 (m := s.length) e3 fin
    have f98 : wY_apply_98 post t (nI 3) a.1 a.2 b.1 b.2 c.1 (nI (s.length + 1 + 1 + 1)) y_groups y_full y_passed b_cells b_count b_tok b_con b_len b_num b_isNull b_gNull b_gKey b_gStat := by
      refine br_f (by decide) ⟨w3, ?_⟩
      rw [c3, hc2]
      rcases q3 with q | q
      · rw [q] at f124; exact br_t q f124
      · rw [q] at f124; exact br_f (by rw [q]; decide) f124
    have f76 : wY_apply_76 post t (nI 3) a.1 a.2 b.1 b.2 (nI (s.length + 1 + 1 + 1)) y_groups y_full y_passed b_cells b_count b_tok b_con b_len b_num b_isNull b_gNull b_gKey b_gStat := by
      refine br_f (by decide) ⟨w3, ?_⟩
      rw [c3, hc1]
      exact f98
    refine br_f (by decide) ⟨w2, br_f (by decide) ⟨w2, ?_⟩⟩
    rw [c2, hb1, hb2]
    rcases q2 with q | q
    · rw [q] at f76; exact br_t q f76
    · rw [q] at f76; exact br_f (by rw [q]; decide) f76
end YEV
end
section
/-! ===== Y: evaluate an expression for a pair of rows ===== -/
/-- the cells of the pair (i, x3) are the environment's -/
def yv_env (cells : Nat → Int32) (env : Nat → Int32) (i : Nat) (x3 : Int32) : Prop :=
  i < 16 ∧ (∀ c, c < 3 → cells (3 * i + c) = env c) ∧
  ((x3 = -1 ∧ ∀ c, 3 ≤ c → c < 6 → env c = -2147483648) ∨ ∃ j, j < 16 ∧ x3 = nI j ∧ ∀ c, 3 ≤ c → c < 6 → cells (48 + 3 * j + c - 3) = env c)
section YLO
variable {y_top y_groups y_full y_passed : Int32}
variable {b_cells b_count b_tok b_con b_len b_isNull b_gNull : Nat → Int32}
variable {b_num b_gKey b_gStat : Nat → Int64}
variable {post : SY → Prop} {s : List VV}
variable {J : Int32 → Int32 → Int32 → Int32 → Int32 → (Nat → Int32) → (Nat → Int32) → (Nat → Int32) → (Nat → Int32) → (Nat → Int32) → (Nat → Int64) → (Nat → Int32) → (Nat → Int32) → (Nat → Int64) → (Nat → Int64) → Prop}
theorem yv_123 {x1 x2 x3 x4 x7 : Int32} {z0 : Int64} {v : VV} (hv : x7 = 0 ∧ v = (z0, 0) ∨ x7 = 1 ∧ v = (0, 1)) (hs : mq_ys b_num b_isNull s) (hl : s.length < 24)
    (K : ∀ num' nul', mq_ys num' nul' (v :: s) → J (x4 - 1) (nI (s.length + 1)) y_groups y_full y_passed b_cells b_count b_tok b_con b_len num' nul' b_gNull b_gKey b_gStat) : wY_evaluate_123 post J x1 x2 x3 x4 x7 z0 (nI s.length) y_groups y_full y_passed b_cells b_count b_tok b_con b_len b_num b_isNull b_gNull b_gKey b_gStat :=
  yw_pushS (v := v) hs hl hv (fun num' nul' h => nm_r (zb_add1 x4) (K num' nul' h))
theorem yv_164 {x1 x2 x3 x4 x7 : Int32} {z0 : Int64} {v : VV} (hv : x7 = 0 ∧ v = (z0, 0) ∨ x7 = 1 ∧ v = (0, 1)) (hs : mq_ys b_num b_isNull s) (hl : s.length < 24)
    (K : ∀ num' nul', mq_ys num' nul' (v :: s) → J (x4 - 1) (nI (s.length + 1)) y_groups y_full y_passed b_cells b_count b_tok b_con b_len num' nul' b_gNull b_gKey b_gStat) : wY_evaluate_164 post J x1 x2 x3 x4 x7 z0 (nI s.length) y_groups y_full y_passed b_cells b_count b_tok b_con b_len b_num b_isNull b_gNull b_gKey b_gStat :=
  yw_pushS (v := v) hs hl hv (fun num' nul' h => nm_r (zb_add1 x4) (K num' nul' h))
theorem yv_79 {x1 x2 x3 x4 x ev : Int32} (hx : x = -1 ∧ ev = -2147483648 ∨ ∃ k, k < 96 ∧ x = nI k ∧ b_cells k = ev) (hs : mq_ys b_num b_isNull s) (hl : s.length < 24)
    (K : ∀ num' nul', mq_ys num' nul' (mq_col ev :: s) → J (x4 - 1) (nI (s.length + 1)) y_groups y_full y_passed b_cells b_count b_tok b_con b_len num' nul' b_gNull b_gKey b_gStat) : wY_evaluate_79 post J x1 x2 x3 x4 x (nI s.length) y_groups y_full y_passed b_cells b_count b_tok b_con b_len b_num b_isNull b_gNull b_gKey b_gStat := by
  have nul : ev = -2147483648 → wY_evaluate_98 post J x1 x2 x3 x4 x (nI s.length) y_groups y_full y_passed b_cells b_count b_tok b_con b_len b_num b_isNull b_gNull b_gKey b_gStat := by
    intro h
    refine br_f (by decide) (yv_123 (v := mq_col ev) (Or.inr ⟨rfl, ?_⟩) hs hl K)
    unfold mq_col; rw [if_pos h]
  rcases hx with ⟨rfl, h⟩ | ⟨k, hk, rfl, h⟩
  · exact br_t (by decide) (nul h)
  · have w : vp_in (nI k) 96 := vp_in_nI hk (by omega)
    have c : b_cells (nI k).toNatClampNeg = ev := by rw [nI_clamp (by omega)]; exact h
    refine br_f (nI_pos (by omega)) ⟨w, ?_⟩
    rw [c]
    by_cases z : ev = -2147483648
    · exact br_t z (nul z)
    · refine br_f z (br_t rfl ⟨w, ?_⟩)
      rw [c]
      refine yv_123 (v := mq_col ev) (Or.inl ⟨rfl, ?_⟩) hs hl K
      unfold mq_col; rw [if_neg z]
variable {env : Nat → Int32} {e l i : Nat} {x3 : Int32} {ks : List Bool}
theorem yv_20 (he : e < 3) (hl : l ≤ 20) (hk : mq_kst b_tok (20 * e + l) l = some ks) (ho : ∀ j, j < l → mq_ok (b_tok (20 * e + j))) (hv : yv_env b_cells env i x3)
    (K : ∀ num' nul', mq_ys num' nul' (mq_est env b_tok b_con (20 * e + l) l) → post (nI (mq_est env b_tok b_con (20 * e + l) l).length, y_groups, y_full, y_passed, b_cells, b_count, b_tok, b_con, b_len, num', nul', b_gNull, b_gKey, b_gStat)) :
    ∀ (r n d : Nat) (num : Nat → Int64) (nul : Nat → Int32), d + r = l → r < n → mq_ys num nul (mq_est env b_tok b_con (20 * e + l) d) →
    wY_evaluate_20 post (nI e) (nI i) x3 n (nI (20 * e + r) - 1) (nI (mq_est env b_tok b_con (20 * e + l) d).length) y_groups y_full y_passed b_cells b_count b_tok b_con b_len num nul b_gNull b_gKey b_gStat := by
  have e20 : (20 : Int32) * nI e = nI (20 * e) := pk_mul 20 e
  intro r
  induction r with
  | zero =>
    intro n d num nul hd hn hs
    obtain ⟨n, rfl⟩ := zb_ex hn
    have : d = l := by omega
    subst this
    rw [wY_evaluate_20, e20]
    exact br_t (zb_plt (by omega)) (K _ _ hs)
  | succ r ih =>
    intro n d num nul hd hn hs
    obtain ⟨n, rfl⟩ := zb_ex (show 0 < n by omega)
    have x4 : nI (20 * e + (r + 1)) - 1 = nI (20 * e + r) := nI_pred (20 * e + r)
    have w : vp_in (nI (20 * e + r)) 80 := vp_in_nI (by omega) (by omega)
    have c : (nI (20 * e + r)).toNatClampNeg = 20 * e + r := nI_clamp (by omega)
    have ix : 20 * e + l - (d + 1) = 20 * e + r := by omega
    have lt : ¬ nI (20 * e + r) < nI (20 * e) := nI_nlt (by omega) (by omega)
    rw [wY_evaluate_20]
    dsimp only
    rw [e20, x4, c]
    obtain ⟨q, hq1⟩ := mq_kst_le hk (show d ≤ l by omega)
    obtain ⟨q', hq2⟩ := mq_kst_le hk (show d + 1 ≤ l by omega)
    obtain ⟨p, hp1, hp2⟩ := mq_kst_s hq2
    rw [hq1] at hp1
    cases hp1
    rw [ix] at hp2
    have hty : mq_ty q (mq_est env b_tok b_con (20 * e + l) d) := mq_est_ty (fun j hj => by rw [show 20 * e + l - (j + 1) = 20 * e + (l - (j + 1)) by omega]; exact ho _ (by omega)) hq1
    have hlen : (mq_est env b_tok b_con (20 * e + l) d).length < 24 := by
      have a := mq_ty_len hty
      have b := mq_kst_len hq1
      omega
    have nx : ∀ v s', mq_est env b_tok b_con (20 * e + l) (d + 1) = v :: s' → ∀ num' nul', mq_ys num' nul' (v :: s') →
        wY_evaluate_20 post (nI e) (nI i) x3 n (nI (20 * e + r) - 1) (nI (s'.length + 1)) y_groups y_full y_passed b_cells b_count b_tok b_con b_len num' nul' b_gNull b_gKey b_gStat := by
      intro v s' h num' nul' hs'
      have := ih n (d + 1) num' nul' (by omega) (by omega) (by rw [h]; exact hs')
      rw [h] at this
      exact this
    have st : mq_est env b_tok b_con (20 * e + l) (d + 1) = mq_es env (b_tok (20 * e + r)) (b_con (20 * e + r)) (mq_est env b_tok b_con (20 * e + l) d) := by
      rw [← ix]; rfl
    refine br_f lt ⟨w, nm_e ?_⟩
    rcases ho r (by omega) with ⟨k, hk6, hk7⟩ | h40 | hop
    · have t6 : b_tok (20 * e + r) < 6 := by rw [hk7]; exact nI_lt (b := 6) hk6 (by decide)
      have st2 : mq_est env b_tok b_con (20 * e + l) (d + 1) = mq_col (env k) :: mq_est env b_tok b_con (20 * e + l) d := by
        rw [st]; unfold mq_es; rw [if_pos t6, hk7, nI_clamp (by omega)]
      refine br_f (Int32.not_le.mpr t6) ?_
      rw [hk7]
      obtain ⟨hi, h0, h1⟩ := hv
      by_cases k3 : k < 3
      · refine br_f (nI_ge (b := 3) k3 (by decide)) (yv_79 (ev := env k) (Or.inr ⟨3 * i + k, by omega, ?_, h0 k k3⟩) hs hlen (nx _ _ st2))
        rw [show (3 : Int32) = nI 3 from rfl, pk_mul, nI_add]
      · refine br_t (nI_le (a := 3) (by omega) (by omega)) ?_
        rcases h1 with ⟨rfl, h1⟩ | ⟨j, hj, rfl, h1⟩
        · exact br_f (by decide) (yv_79 (ev := env k) (Or.inl ⟨rfl, h1 k (by omega) hk6⟩) hs hlen (nx _ _ st2))
        · refine br_t (nI_pos' (by omega)) (yv_79 (ev := env k) (Or.inr ⟨48 + 3 * j + k - 3, by omega, ?_, h1 k (by omega) hk6⟩) hs hlen (nx _ _ st2))
          rw [show (3 : Int32) = nI 3 from rfl, pk_mul, show (48 : Int32) = nI 48 from rfl, nI_add, nI_add, pk_sub (by omega)]
    · have st2 : mq_est env b_tok b_con (20 * e + l) (d + 1) = mq_col (b_con (20 * e + r)) :: mq_est env b_tok b_con (20 * e + l) d := by
        rw [st]; unfold mq_es; rw [h40, if_neg (by decide), if_pos rfl]
      refine br_t (by rw [h40]; decide) (br_t h40 ⟨w, w, ?_⟩)
      refine br_c (fun z => yv_164 (v := mq_col (b_con (20 * e + r))) (Or.inr ⟨rfl, ?_⟩) hs hlen (nx _ _ st2)) (fun z => yv_164 (v := mq_col (b_con (20 * e + r))) (Or.inl ⟨rfl, ?_⟩) hs hlen (nx _ _ st2))
      · unfold mq_col; rw [if_pos z]
      · unfold mq_col; rw [if_neg z]
    · obtain ⟨_, l2, l3, _, _, l6, _⟩ := mq_op_lo hop
      have st2 := st
      unfold mq_es at st2
      rw [if_neg l2, if_neg l3] at st2
      refine br_t l6 (br_f l3 (yw_apply hop hty hp2 hs hlen (fun num' nul' h => nm_r (zb_add1 _) (nx _ _ st2 num' nul' h))))
theorem yw_eval {v : VV} (he : e < 3) (hl : l ≤ 20) (hln : b_len e = nI l) (hk : mq_kst b_tok (20 * e + l) l = some ks) (ho : ∀ j, j < l → mq_ok (b_tok (20 * e + j))) (hv : yv_env b_cells env i x3)
    (h1 : mq_est env b_tok b_con (20 * e + l) l = [v]) (K : ∀ (top : Int32) (num' : Nat → Int64) (nul' : Nat → Int32), num' 0 = v.1 → nul' 0 = v.2 → post (top, y_groups, y_full, y_passed, b_cells, b_count, b_tok, b_con, b_len, num', nul', b_gNull, b_gKey, b_gStat)) : wpY_evaluate post (y_top, y_groups, y_full, y_passed, b_cells, b_count, b_tok, b_con, b_len, b_num, b_isNull, b_gNull, b_gKey, b_gStat) (nI e) (nI i) x3 := by
  have c : (nI e).toNatClampNeg = e := nI_clamp (by omega)
  refine And.intro (vp_in_nI (by omega) (by omega)) (nm_r (e' := nI (20 * e + l) - 1) ?_ ⟨l + 1, ?_⟩)
  · rw [c, hln, show (20 : Int32) = nI 20 from rfl, pk_mul, nI_add]
  · refine yv_20 he hl hk ho hv (fun num' nul' h => ?_) l (l + 1) 0 b_num b_isNull (by omega) (by omega) trivial
    rw [h1] at h ⊢
    exact K _ _ _ h.1 h.2.1
end YLO
end
section
/-! ===== X: a node's value from its operands' ===== -/
/-- how X holds a value of a kind: state s, value v -/
def xr_rp : Bool → Int32 → Int64 → VV → Prop
  | true, s, _, d => s = 0 ∧ d = (0, 0) ∨ s = 1 ∧ d = (1, 0) ∨ s = 2 ∧ d = (2, 0)
  | false, s, v, d => s = 1 ∧ d = (v, 0) ∨ s = 0 ∧ d = (0, 1)
theorem xr_tr {s : Int32} {v w : Int64} {d : VV} (h : xr_rp true s v d) : xr_rp true s w d := h
section XEV
variable {f_nodes f_filterRoot f_valueRoot f_keyRoot f_partCount f_groups f_passed f_overflow : Int32}
variable {a_cells a_live a_zoneLeast a_zoneMost a_tokens a_constants a_lengths a_nodeOp a_nodeA a_nodeB a_nodeC a_needs a_wanted a_state a_work a_parts a_heads a_chain a_places a_sorted a_groupNull a_groupPairs a_groupValues : Nat → Int32}
variable {a_value a_groupKey a_groupSum a_groupLeast a_groupMost : Nat → Int64}
variable {post : SX → Prop} {k a b c : Nat} {t : Int32} {da db dc : VV}
theorem xe_and {sa sb : Int32} {x y : Int64} (ra : xr_rp false sa x da) (rb : xr_rp false sb y db) :
    (sa &&& sb = 1 ∧ vp_nar .byte ((sa &&& sb).toInt8.toInt32) = 1 ∧ da = (x, 0) ∧ db = (y, 0)) ∨ (sa &&& sb = 0 ∧ vp_nar .byte ((sa &&& sb).toInt8.toInt32) = 0 ∧ ¬ (da.2 = 0 ∧ db.2 = 0)) := by
  rcases ra with ⟨rfl, rfl⟩ | ⟨rfl, rfl⟩
  · rcases rb with ⟨rfl, rfl⟩ | ⟨rfl, rfl⟩
    · exact Or.inl ⟨by decide, by rw [vp_nar_byte]; decide, rfl, rfl⟩
    · exact Or.inr ⟨by decide, by rw [vp_nar_byte]; decide, fun h => absurd h.2 (by decide)⟩
  · rcases rb with ⟨rfl, rfl⟩ | ⟨rfl, rfl⟩
    · exact Or.inr ⟨by decide, by rw [vp_nar_byte]; decide, fun h => absurd h.1 (by decide)⟩
    · exact Or.inr ⟨by decide, by rw [vp_nar_byte]; decide, fun h => absurd h.1 (by decide)⟩
theorem xe_arith (hk : k < 64) (ha : a < 64) (hb : b < 64) (ht : t = 10 ∨ t = 11 ∨ t = 12 ∨ t = 13 ∨ t = 14 ∨ t = 15) (h15 : t = 15 → b = a)
    (ra : xr_rp false (a_state a) (a_value a) da) (rb : t ≠ 15 → xr_rp false (a_state b) (a_value b) db)
    (K : ∀ s' v', xr_rp false s' v' (mq_sem t da db dc) → post (f_nodes, f_filterRoot, f_valueRoot, f_keyRoot, f_partCount, f_groups, f_passed, f_overflow, a_cells, a_live, a_zoneLeast, a_zoneMost, a_tokens, a_constants, a_lengths, a_nodeOp, a_nodeA, a_nodeB, a_nodeC, a_needs, a_wanted, vp_updL a_value k v', upd a_state k s', a_work, a_parts, a_heads, a_chain, a_places, a_sorted, a_groupNull, a_groupKey, a_groupPairs, a_groupValues, a_groupSum, a_groupLeast, a_groupMost)) : wpX_arithmetic post (f_nodes, f_filterRoot, f_valueRoot, f_keyRoot, f_partCount, f_groups, f_passed, f_overflow, a_cells, a_live, a_zoneLeast, a_zoneMost, a_tokens, a_constants, a_lengths, a_nodeOp, a_nodeA, a_nodeB, a_nodeC, a_needs, a_wanted, a_value, a_state, a_work, a_parts, a_heads, a_chain, a_places, a_sorted, a_groupNull, a_groupKey, a_groupPairs, a_groupValues, a_groupSum, a_groupLeast, a_groupMost) (nI k) t (nI a) (nI b) := by
  have wk : vp_in (nI k) 64 := vp_in_nI hk (by omega)
  have wa : vp_in (nI a) 64 := vp_in_nI ha (by omega)
  have wb : vp_in (nI b) 64 := vp_in_nI hb (by omega)
  have ck : (nI k).toNatClampNeg = k := nI_clamp (by omega)
  have ca : (nI a).toNatClampNeg = a := nI_clamp (by omega)
  have cb : (nI b).toNatClampNeg = b := nI_clamp (by omega)
  unfold wpX_arithmetic
  dsimp only
  rw [ck, ca, cb]
  refine ⟨wa, nm_e ⟨wb, nm_e ⟨wa, wb, wk, ?_⟩⟩⟩
  rcases ht with rfl | rfl | rfl | rfl | rfl | rfl
  · have rb := rb (by decide)
    refine nm_e (br_f (by decide) (br_f (by decide) (br_t rfl ⟨wk, nm_e (K _ _ ?_)⟩)))
    rcases xe_and ra rb with ⟨-, h2, rfl, rfl⟩ | ⟨-, h2, h3⟩
    · rw [h2]; exact Or.inl ⟨rfl, by rw [mq_s10, if_pos ⟨rfl, rfl⟩]⟩
    · rw [h2]; exact Or.inr ⟨rfl, by rw [mq_s10, if_neg h3]⟩
  · have rb := rb (by decide)
    refine nm_e (br_f (by decide) (br_f (by decide) (br_f (by decide) (br_t rfl ⟨wk, nm_e (K _ _ ?_)⟩))))
    rcases xe_and ra rb with ⟨-, h2, rfl, rfl⟩ | ⟨-, h2, h3⟩
    · rw [h2]; exact Or.inl ⟨rfl, by rw [mq_s11, if_pos ⟨rfl, rfl⟩]⟩
    · rw [h2]; exact Or.inr ⟨rfl, by rw [mq_s11, if_neg h3]⟩
  · have rb := rb (by decide)
    refine nm_e (br_f (by decide) (br_f (by decide) (br_f (by decide) (br_f (by decide) (br_t rfl ⟨wk, nm_e (K _ _ ?_)⟩)))))
    rcases xe_and ra rb with ⟨-, h2, rfl, rfl⟩ | ⟨-, h2, h3⟩
    · rw [h2]; exact Or.inl ⟨rfl, by rw [mq_s12, if_pos ⟨rfl, rfl⟩]⟩
    · rw [h2]; exact Or.inr ⟨rfl, by rw [mq_s12, if_neg h3]⟩
  · have rb := rb (by decide)
    refine nm_e (br_f (by decide) (br_f (by decide) (br_f (by decide) (br_f (by decide) (br_f (by decide) (br_t rfl ?_))))))
    unfold wX_arithmetic_114
    rw [ck]
    refine br_c (fun z => ⟨wk, nm_r (e' := upd a_state k 0) (by rw [zb_uu]; rfl) ?_⟩) (fun z => br_t rfl ⟨z, wk, nm_e (K _ _ ?_)⟩)
    · have := K 0 (a_value k) (Or.inr ⟨rfl, ?_⟩)
      · rw [zb_uselfL] at this; exact this
      · rw [mq_s13, if_neg]
        intro h
        rcases rb with ⟨_, rfl⟩ | ⟨_, rfl⟩
        · exact h.2.2 z
        · exact absurd h.2.1 (by decide)
    · rcases xe_and ra rb with ⟨-, h2, rfl, rfl⟩ | ⟨-, h2, h3⟩
      · rw [h2]; exact Or.inl ⟨rfl, by rw [mq_s13, if_pos ⟨rfl, rfl, z⟩]⟩
      · rw [h2]; exact Or.inr ⟨rfl, by rw [mq_s13, if_neg (fun y => h3 ⟨y.1, y.2.1⟩)]⟩
  · have rb := rb (by decide)
    refine nm_e (br_f (by decide) (br_f (by decide) (br_f (by decide) (br_f (by decide) (br_f (by decide) (br_f (by decide) (br_t rfl ?_)))))))
    unfold wX_arithmetic_114
    rw [ck]
    refine br_c (fun z => ⟨wk, nm_r (e' := upd a_state k 0) (by rw [zb_uu]; rfl) ?_⟩) (fun z => br_f (by decide) ⟨z, wk, nm_e (K _ _ ?_)⟩)
    · have := K 0 (a_value k) (Or.inr ⟨rfl, ?_⟩)
      · rw [zb_uselfL] at this; exact this
      · rw [mq_s14, if_neg]
        intro h
        rcases rb with ⟨_, rfl⟩ | ⟨_, rfl⟩
        · exact h.2.2 z
        · exact absurd h.2.1 (by decide)
    · rcases xe_and ra rb with ⟨-, h2, rfl, rfl⟩ | ⟨-, h2, h3⟩
      · rw [h2]; exact Or.inl ⟨rfl, by rw [mq_s14, if_pos ⟨rfl, rfl, z⟩]⟩
      · rw [h2]; exact Or.inr ⟨rfl, by rw [mq_s14, if_neg (fun y => h3 ⟨y.1, y.2.1⟩)]⟩
  · have := h15 rfl
    subst this
    refine nm_e (br_f (by decide) (br_t (by decide) ⟨wk, nm_e (K _ _ ?_)⟩))
    rcases xe_and ra ra with ⟨-, h2, rfl, -⟩ | ⟨-, h2, h3⟩
    · rw [h2]; exact Or.inl ⟨rfl, by rw [mq_s15, if_pos rfl]⟩
    · rw [h2]; exact Or.inr ⟨rfl, by rw [mq_s15, if_neg (fun y => h3 ⟨y, y⟩)]⟩
theorem xe_c96 {P : Int64 → Int64 → Prop} {f : Int32} {d : VV} (hk : k < 64) (ha : a < 64) (hb : b < 64) (hf : f = 1 ∧ P (a_value a) (a_value b) ∨ f = 0 ∧ ¬ P (a_value a) (a_value b))
    (hd : d = if da.2 = 0 ∧ db.2 = 0 then mq_b (P da.1 db.1) else (2, 0)) (ra : xr_rp false (a_state a) (a_value a) da) (rb : xr_rp false (a_state b) (a_value b) db)
    (K : ∀ s' v', xr_rp true s' v' d → post (f_nodes, f_filterRoot, f_valueRoot, f_keyRoot, f_partCount, f_groups, f_passed, f_overflow, a_cells, a_live, a_zoneLeast, a_zoneMost, a_tokens, a_constants, a_lengths, a_nodeOp, a_nodeA, a_nodeB, a_nodeC, a_needs, a_wanted, vp_updL a_value k v', upd a_state k s', a_work, a_parts, a_heads, a_chain, a_places, a_sorted, a_groupNull, a_groupKey, a_groupPairs, a_groupValues, a_groupSum, a_groupLeast, a_groupMost)) : wX_compare_96 post (nI k) (nI a) (nI b) f f_nodes f_filterRoot f_valueRoot f_keyRoot f_partCount f_groups f_passed f_overflow a_cells a_live a_zoneLeast a_zoneMost a_tokens a_constants a_lengths a_nodeOp a_nodeA a_nodeB a_nodeC a_needs a_wanted a_value a_state a_work a_parts a_heads a_chain a_places a_sorted a_groupNull a_groupKey a_groupPairs a_groupValues a_groupSum a_groupLeast a_groupMost := by
  have wk : vp_in (nI k) 64 := vp_in_nI hk (by omega)
  have wa : vp_in (nI a) 64 := vp_in_nI ha (by omega)
  have wb : vp_in (nI b) 64 := vp_in_nI hb (by omega)
  have ck : (nI k).toNatClampNeg = k := nI_clamp (by omega)
  have ca : (nI a).toNatClampNeg = a := nI_clamp (by omega)
  have cb : (nI b).toNatClampNeg = b := nI_clamp (by omega)
  have K2 : ∀ s', xr_rp true s' 0 d → post (f_nodes, f_filterRoot, f_valueRoot, f_keyRoot, f_partCount, f_groups, f_passed, f_overflow, a_cells, a_live, a_zoneLeast, a_zoneMost, a_tokens, a_constants, a_lengths, a_nodeOp, a_nodeA, a_nodeB, a_nodeC, a_needs, a_wanted, a_value, upd a_state k s', a_work, a_parts, a_heads, a_chain, a_places, a_sorted, a_groupNull, a_groupKey, a_groupPairs, a_groupValues, a_groupSum, a_groupLeast, a_groupMost) := by
    intro s' h
    have := K s' (a_value k) h
    rw [zb_uselfL] at this; exact this
  have n0 : vp_nar .byte ((0 : Int32).toInt8.toInt32) = 0 := by rw [vp_nar_byte]; decide
  have n1 : vp_nar .byte ((1 : Int32).toInt8.toInt32) = 1 := by rw [vp_nar_byte]; decide
  have n2 : vp_nar .byte ((2 : Int32).toInt8.toInt32) = 2 := by rw [vp_nar_byte]; decide
  unfold wX_compare_96
  rw [ck, ca, cb, n0, n1, n2]
  refine ⟨wa, wb, ?_⟩
  rcases xe_and ra rb with ⟨h1, -, rfl, rfl⟩ | ⟨h1, -, h3⟩
  · rw [if_pos ⟨rfl, rfl⟩] at hd
    rw [h1]
    rcases hf with ⟨rfl, p⟩ | ⟨rfl, p⟩
    · exact br_f (by decide) (br_f (by decide) ⟨wk, nm_e (K2 1 (Or.inr (Or.inl ⟨rfl, by rw [hd, mq_b_t p]⟩)))⟩)
    · exact br_f (by decide) (br_t rfl ⟨wk, nm_e (K2 0 (Or.inl ⟨rfl, by rw [hd, mq_b_f p]⟩))⟩)
  · rw [if_neg h3] at hd
    exact br_t h1 ⟨wk, nm_e (K2 2 (Or.inr (Or.inr ⟨rfl, hd⟩)))⟩
theorem xe_compare (hk : k < 64) (ha : a < 64) (hb : b < 64) (ht : t = 20 ∨ t = 21 ∨ t = 22 ∨ t = 23)
    (ra : xr_rp false (a_state a) (a_value a) da) (rb : xr_rp false (a_state b) (a_value b) db)
    (K : ∀ s' v', xr_rp true s' v' (mq_sem t da db dc) → post (f_nodes, f_filterRoot, f_valueRoot, f_keyRoot, f_partCount, f_groups, f_passed, f_overflow, a_cells, a_live, a_zoneLeast, a_zoneMost, a_tokens, a_constants, a_lengths, a_nodeOp, a_nodeA, a_nodeB, a_nodeC, a_needs, a_wanted, vp_updL a_value k v', upd a_state k s', a_work, a_parts, a_heads, a_chain, a_places, a_sorted, a_groupNull, a_groupKey, a_groupPairs, a_groupValues, a_groupSum, a_groupLeast, a_groupMost)) : wpX_compare post (f_nodes, f_filterRoot, f_valueRoot, f_keyRoot, f_partCount, f_groups, f_passed, f_overflow, a_cells, a_live, a_zoneLeast, a_zoneMost, a_tokens, a_constants, a_lengths, a_nodeOp, a_nodeA, a_nodeB, a_nodeC, a_needs, a_wanted, a_value, a_state, a_work, a_parts, a_heads, a_chain, a_places, a_sorted, a_groupNull, a_groupKey, a_groupPairs, a_groupValues, a_groupSum, a_groupLeast, a_groupMost) (nI k) t (nI a) (nI b) := by
  have wa : vp_in (nI a) 64 := vp_in_nI ha (by omega)
  have wb : vp_in (nI b) 64 := vp_in_nI hb (by omega)
  have ca : (nI a).toNatClampNeg = a := nI_clamp (by omega)
  have cb : (nI b).toNatClampNeg = b := nI_clamp (by omega)
  unfold wpX_compare
  dsimp only
  rw [ca, cb]
  refine ⟨wa, nm_e ⟨wb, nm_e ?_⟩⟩
  rcases ht with rfl | rfl | rfl | rfl
  · exact br_t rfl (br_c (fun h => xe_c96 (P := fun x y => x = y) hk ha hb (Or.inl ⟨rfl, h⟩) (mq_s20 da db dc) ra rb K) (fun h => xe_c96 (P := fun x y => x = y) hk ha hb (Or.inr ⟨rfl, h⟩) (mq_s20 da db dc) ra rb K))
  · exact br_f (by decide) (br_t rfl (br_c (fun h => xe_c96 (P := fun x y => x < y) hk ha hb (Or.inr ⟨rfl, Int64.not_lt.mpr h⟩) (mq_s21 da db dc) ra rb K) (fun h => xe_c96 (P := fun x y => x < y) hk ha hb (Or.inl ⟨rfl, Int64.not_le.mp h⟩) (mq_s21 da db dc) ra rb K)))
  · exact br_f (by decide) (br_f (by decide) (br_t rfl (br_c (fun h => xe_c96 (P := fun x y => x ≤ y) hk ha hb (Or.inr ⟨rfl, Int64.not_le.mpr h⟩) (mq_s22 da db dc) ra rb K) (fun h => xe_c96 (P := fun x y => x ≤ y) hk ha hb (Or.inl ⟨rfl, Int64.not_lt.mp h⟩) (mq_s22 da db dc) ra rb K))))
  · exact br_f (by decide) (br_f (by decide) (br_f (by decide) (br_c (fun h => xe_c96 (P := fun x y => ¬ x = y) hk ha hb (Or.inr ⟨rfl, fun z => z h⟩) (mq_s23 da db dc) ra rb K) (fun h => xe_c96 (P := fun x y => ¬ x = y) hk ha hb (Or.inl ⟨rfl, h⟩) (mq_s23 da db dc) ra rb K))))
theorem xe_l96 {x s' : Int32} (hk : k < 64) (h : x = 3 ∧ s' = 2 ∨ ¬ x = 3 ∧ x.toInt8.toInt32 = s') (K : post (f_nodes, f_filterRoot, f_valueRoot, f_keyRoot, f_partCount, f_groups, f_passed, f_overflow, a_cells, a_live, a_zoneLeast, a_zoneMost, a_tokens, a_constants, a_lengths, a_nodeOp, a_nodeA, a_nodeB, a_nodeC, a_needs, a_wanted, a_value, upd a_state k s', a_work, a_parts, a_heads, a_chain, a_places, a_sorted, a_groupNull, a_groupKey, a_groupPairs, a_groupValues, a_groupSum, a_groupLeast, a_groupMost)) : wX_logic_96 post (nI k) x f_nodes f_filterRoot f_valueRoot f_keyRoot f_partCount f_groups f_passed f_overflow a_cells a_live a_zoneLeast a_zoneMost a_tokens a_constants a_lengths a_nodeOp a_nodeA a_nodeB a_nodeC a_needs a_wanted a_value a_state a_work a_parts a_heads a_chain a_places a_sorted a_groupNull a_groupKey a_groupPairs a_groupValues a_groupSum a_groupLeast a_groupMost := by
  have wk : vp_in (nI k) 64 := vp_in_nI hk (by omega)
  have ck : (nI k).toNatClampNeg = k := nI_clamp (by omega)
  unfold wX_logic_96
  rw [ck]
  rcases h with ⟨rfl, rfl⟩ | ⟨h1, h2⟩
  · exact br_t rfl ⟨wk, nm_r (e' := upd a_state k 2) (by rw [vp_nar_byte]; rfl) K⟩
  · exact br_f h1 ⟨wk, nm_r (e' := upd a_state k s') (by rw [pk_vb, h2]) K⟩
theorem xe_30 {p q : Int32} {x y : Int64} (hk : k < 64) (rp : xr_rp true p x da) (rq : xr_rp true q y db) (K : ∀ s' v', xr_rp true s' v' (mq_sem 30 da db dc) → post (f_nodes, f_filterRoot, f_valueRoot, f_keyRoot, f_partCount, f_groups, f_passed, f_overflow, a_cells, a_live, a_zoneLeast, a_zoneMost, a_tokens, a_constants, a_lengths, a_nodeOp, a_nodeA, a_nodeB, a_nodeC, a_needs, a_wanted, a_value, upd a_state k s', a_work, a_parts, a_heads, a_chain, a_places, a_sorted, a_groupNull, a_groupKey, a_groupPairs, a_groupValues, a_groupSum, a_groupLeast, a_groupMost)) : wpX_logic post (f_nodes, f_filterRoot, f_valueRoot, f_keyRoot, f_partCount, f_groups, f_passed, f_overflow, a_cells, a_live, a_zoneLeast, a_zoneMost, a_tokens, a_constants, a_lengths, a_nodeOp, a_nodeA, a_nodeB, a_nodeC, a_needs, a_wanted, a_value, a_state, a_work, a_parts, a_heads, a_chain, a_places, a_sorted, a_groupNull, a_groupKey, a_groupPairs, a_groupValues, a_groupSum, a_groupLeast, a_groupMost) (nI k) 30 p q := by
  have fin : ∀ z s', (z = 3 ∧ s' = 2 ∨ ¬ z = 3 ∧ z.toInt8.toInt32 = s') → xr_rp true s' 0 (mq_sem 30 da db dc) → wX_logic_96 post (nI k) z f_nodes f_filterRoot f_valueRoot f_keyRoot f_partCount f_groups f_passed f_overflow a_cells a_live a_zoneLeast a_zoneMost a_tokens a_constants a_lengths a_nodeOp a_nodeA a_nodeB a_nodeC a_needs a_wanted a_value a_state a_work a_parts a_heads a_chain a_places a_sorted a_groupNull a_groupKey a_groupPairs a_groupValues a_groupSum a_groupLeast a_groupMost := fun z s' h h2 => xe_l96 hk h (K s' 0 h2)
  rw [mq_s30] at fin
  refine br_f (by decide) (br_f (by decide) (br_t rfl ?_))
  rcases rp with ⟨rfl, rfl⟩ | ⟨rfl, rfl⟩ | ⟨rfl, rfl⟩
  · exact br_t rfl (fin 0 0 (by decide) (Or.inl ⟨rfl, rfl⟩))
  · rcases rq with ⟨rfl, rfl⟩ | ⟨rfl, rfl⟩ | ⟨rfl, rfl⟩
    · exact br_f (by decide) (br_t rfl (fin 0 0 (by decide) (Or.inl ⟨rfl, rfl⟩)))
    · exact br_f (by decide) (br_f (by decide) (fin (1 ||| 1) 1 (by decide) (Or.inr (Or.inl ⟨rfl, rfl⟩))))
    · exact br_f (by decide) (br_f (by decide) (fin (1 ||| 2) 2 (by decide) (Or.inr (Or.inr ⟨rfl, rfl⟩))))
  · rcases rq with ⟨rfl, rfl⟩ | ⟨rfl, rfl⟩ | ⟨rfl, rfl⟩
    · exact br_f (by decide) (br_t rfl (fin 0 0 (by decide) (Or.inl ⟨rfl, rfl⟩)))
    · exact br_f (by decide) (br_f (by decide) (fin (2 ||| 1) 2 (by decide) (Or.inr (Or.inr ⟨rfl, rfl⟩))))
    · exact br_f (by decide) (br_f (by decide) (fin (2 ||| 2) 2 (by decide) (Or.inr (Or.inr ⟨rfl, rfl⟩))))
theorem xe_31 {p q : Int32} {x y : Int64} (hk : k < 64) (rp : xr_rp true p x da) (rq : xr_rp true q y db) (K : ∀ s' v', xr_rp true s' v' (mq_sem 31 da db dc) → post (f_nodes, f_filterRoot, f_valueRoot, f_keyRoot, f_partCount, f_groups, f_passed, f_overflow, a_cells, a_live, a_zoneLeast, a_zoneMost, a_tokens, a_constants, a_lengths, a_nodeOp, a_nodeA, a_nodeB, a_nodeC, a_needs, a_wanted, a_value, upd a_state k s', a_work, a_parts, a_heads, a_chain, a_places, a_sorted, a_groupNull, a_groupKey, a_groupPairs, a_groupValues, a_groupSum, a_groupLeast, a_groupMost)) : wpX_logic post (f_nodes, f_filterRoot, f_valueRoot, f_keyRoot, f_partCount, f_groups, f_passed, f_overflow, a_cells, a_live, a_zoneLeast, a_zoneMost, a_tokens, a_constants, a_lengths, a_nodeOp, a_nodeA, a_nodeB, a_nodeC, a_needs, a_wanted, a_value, a_state, a_work, a_parts, a_heads, a_chain, a_places, a_sorted, a_groupNull, a_groupKey, a_groupPairs, a_groupValues, a_groupSum, a_groupLeast, a_groupMost) (nI k) 31 p q := by
  have fin : ∀ z s', (z = 3 ∧ s' = 2 ∨ ¬ z = 3 ∧ z.toInt8.toInt32 = s') → xr_rp true s' 0 (mq_sem 31 da db dc) → wX_logic_96 post (nI k) z f_nodes f_filterRoot f_valueRoot f_keyRoot f_partCount f_groups f_passed f_overflow a_cells a_live a_zoneLeast a_zoneMost a_tokens a_constants a_lengths a_nodeOp a_nodeA a_nodeB a_nodeC a_needs a_wanted a_value a_state a_work a_parts a_heads a_chain a_places a_sorted a_groupNull a_groupKey a_groupPairs a_groupValues a_groupSum a_groupLeast a_groupMost := fun z s' h h2 => xe_l96 hk h (K s' 0 h2)
  rw [mq_s31] at fin
  refine br_f (by decide) (br_f (by decide) (br_f (by decide) (br_t rfl ?_)))
  rcases rp with ⟨rfl, rfl⟩ | ⟨rfl, rfl⟩ | ⟨rfl, rfl⟩
  · rcases rq with ⟨rfl, rfl⟩ | ⟨rfl, rfl⟩ | ⟨rfl, rfl⟩
    · exact br_f (by decide) (br_f (by decide) (fin (0 ||| 0) 0 (by decide) (Or.inl ⟨rfl, rfl⟩)))
    · exact br_f (by decide) (br_t rfl (fin 1 1 (by decide) (Or.inr (Or.inl ⟨rfl, rfl⟩))))
    · exact br_f (by decide) (br_f (by decide) (fin (0 ||| 2) 2 (by decide) (Or.inr (Or.inr ⟨rfl, rfl⟩))))
  · exact br_t rfl (fin 1 1 (by decide) (Or.inr (Or.inl ⟨rfl, rfl⟩)))
  · rcases rq with ⟨rfl, rfl⟩ | ⟨rfl, rfl⟩ | ⟨rfl, rfl⟩
    · exact br_f (by decide) (br_f (by decide) (fin (2 ||| 0) 2 (by decide) (Or.inr (Or.inr ⟨rfl, rfl⟩))))
    · exact br_f (by decide) (br_t rfl (fin 1 1 (by decide) (Or.inr (Or.inl ⟨rfl, rfl⟩))))
    · exact br_f (by decide) (br_f (by decide) (fin (2 ||| 2) 2 (by decide) (Or.inr (Or.inr ⟨rfl, rfl⟩))))
theorem xe_32 {p q : Int32} {x : Int64} (hk : k < 64) (rp : xr_rp true p x da) (K : ∀ s' v', xr_rp true s' v' (mq_sem 32 da db dc) → post (f_nodes, f_filterRoot, f_valueRoot, f_keyRoot, f_partCount, f_groups, f_passed, f_overflow, a_cells, a_live, a_zoneLeast, a_zoneMost, a_tokens, a_constants, a_lengths, a_nodeOp, a_nodeA, a_nodeB, a_nodeC, a_needs, a_wanted, a_value, upd a_state k s', a_work, a_parts, a_heads, a_chain, a_places, a_sorted, a_groupNull, a_groupKey, a_groupPairs, a_groupValues, a_groupSum, a_groupLeast, a_groupMost)) : wpX_logic post (f_nodes, f_filterRoot, f_valueRoot, f_keyRoot, f_partCount, f_groups, f_passed, f_overflow, a_cells, a_live, a_zoneLeast, a_zoneMost, a_tokens, a_constants, a_lengths, a_nodeOp, a_nodeA, a_nodeB, a_nodeC, a_needs, a_wanted, a_value, a_state, a_work, a_parts, a_heads, a_chain, a_places, a_sorted, a_groupNull, a_groupKey, a_groupPairs, a_groupValues, a_groupSum, a_groupLeast, a_groupMost) (nI k) 32 p q := by
  have fin : ∀ z s', (z = 3 ∧ s' = 2 ∨ ¬ z = 3 ∧ z.toInt8.toInt32 = s') → xr_rp true s' 0 (mq_sem 32 da db dc) → wX_logic_96 post (nI k) z f_nodes f_filterRoot f_valueRoot f_keyRoot f_partCount f_groups f_passed f_overflow a_cells a_live a_zoneLeast a_zoneMost a_tokens a_constants a_lengths a_nodeOp a_nodeA a_nodeB a_nodeC a_needs a_wanted a_value a_state a_work a_parts a_heads a_chain a_places a_sorted a_groupNull a_groupKey a_groupPairs a_groupValues a_groupSum a_groupLeast a_groupMost := fun z s' h h2 => xe_l96 hk h (K s' 0 h2)
  rw [mq_s32] at fin
  refine br_f (by decide) (br_f (by decide) (br_f (by decide) (br_f (by decide) (br_t rfl ?_))))
  rcases rp with ⟨rfl, rfl⟩ | ⟨rfl, rfl⟩ | ⟨rfl, rfl⟩
  · exact br_f (by decide) (fin (1 - 0) 1 (by decide) (Or.inr (Or.inl ⟨rfl, rfl⟩)))
  · exact br_f (by decide) (fin (1 - 1) 0 (by decide) (Or.inl ⟨rfl, rfl⟩))
  · exact br_t rfl (fin 2 2 (by decide) (Or.inr (Or.inr ⟨rfl, rfl⟩)))
theorem xe_33 {p q : Int32} {x : Int64} (hk : k < 64) (rp : xr_rp false p x da) (K : ∀ s' v', xr_rp true s' v' (mq_sem 33 da db dc) → post (f_nodes, f_filterRoot, f_valueRoot, f_keyRoot, f_partCount, f_groups, f_passed, f_overflow, a_cells, a_live, a_zoneLeast, a_zoneMost, a_tokens, a_constants, a_lengths, a_nodeOp, a_nodeA, a_nodeB, a_nodeC, a_needs, a_wanted, a_value, upd a_state k s', a_work, a_parts, a_heads, a_chain, a_places, a_sorted, a_groupNull, a_groupKey, a_groupPairs, a_groupValues, a_groupSum, a_groupLeast, a_groupMost)) : wpX_logic post (f_nodes, f_filterRoot, f_valueRoot, f_keyRoot, f_partCount, f_groups, f_passed, f_overflow, a_cells, a_live, a_zoneLeast, a_zoneMost, a_tokens, a_constants, a_lengths, a_nodeOp, a_nodeA, a_nodeB, a_nodeC, a_needs, a_wanted, a_value, a_state, a_work, a_parts, a_heads, a_chain, a_places, a_sorted, a_groupNull, a_groupKey, a_groupPairs, a_groupValues, a_groupSum, a_groupLeast, a_groupMost) (nI k) 33 p q := by
  have fin : ∀ z s', (z = 3 ∧ s' = 2 ∨ ¬ z = 3 ∧ z.toInt8.toInt32 = s') → xr_rp true s' 0 (mq_sem 33 da db dc) → wX_logic_96 post (nI k) z f_nodes f_filterRoot f_valueRoot f_keyRoot f_partCount f_groups f_passed f_overflow a_cells a_live a_zoneLeast a_zoneMost a_tokens a_constants a_lengths a_nodeOp a_nodeA a_nodeB a_nodeC a_needs a_wanted a_value a_state a_work a_parts a_heads a_chain a_places a_sorted a_groupNull a_groupKey a_groupPairs a_groupValues a_groupSum a_groupLeast a_groupMost := fun z s' h h2 => xe_l96 hk h (K s' 0 h2)
  rw [mq_s33] at fin
  refine br_f (by decide) (br_t (by decide) (nm_e ?_))
  rcases rp with ⟨rfl, rfl⟩ | ⟨rfl, rfl⟩
  · exact fin (1 - 1) 0 (by decide) (Or.inl ⟨rfl, by rw [if_pos rfl]⟩)
  · exact fin (1 - 0) 1 (by decide) (Or.inr (Or.inl ⟨rfl, by rw [if_neg (by decide)]⟩))
theorem xe_122 {d : VV} (hk : k < 64) (ha : a < 64) (ra : xr_rp false (a_state a) (a_value a) d) (K : ∀ s' v', xr_rp false s' v' d → post (f_nodes, f_filterRoot, f_valueRoot, f_keyRoot, f_partCount, f_groups, f_passed, f_overflow, a_cells, a_live, a_zoneLeast, a_zoneMost, a_tokens, a_constants, a_lengths, a_nodeOp, a_nodeA, a_nodeB, a_nodeC, a_needs, a_wanted, vp_updL a_value k v', upd a_state k s', a_work, a_parts, a_heads, a_chain, a_places, a_sorted, a_groupNull, a_groupKey, a_groupPairs, a_groupValues, a_groupSum, a_groupLeast, a_groupMost)) : wX_evaluate_122 post (nI k) (nI a) f_nodes f_filterRoot f_valueRoot f_keyRoot f_partCount f_groups f_passed f_overflow a_cells a_live a_zoneLeast a_zoneMost a_tokens a_constants a_lengths a_nodeOp a_nodeA a_nodeB a_nodeC a_needs a_wanted a_value a_state a_work a_parts a_heads a_chain a_places a_sorted a_groupNull a_groupKey a_groupPairs a_groupValues a_groupSum a_groupLeast a_groupMost := by
  have wk : vp_in (nI k) 64 := vp_in_nI hk (by omega)
  have wa : vp_in (nI a) 64 := vp_in_nI ha (by omega)
  have ck : (nI k).toNatClampNeg = k := nI_clamp (by omega)
  have ca : (nI a).toNatClampNeg = a := nI_clamp (by omega)
  have e : vp_nar .byte (a_state a) = a_state a := by
    rw [vp_nar_byte]
    rcases ra with ⟨h, _⟩ | ⟨h, _⟩ <;> rw [h] <;> decide
  unfold wX_evaluate_122
  rw [ck, ca, e]
  exact ⟨wa, wk, nm_e ⟨wa, wk, nm_e (K _ _ ra)⟩⟩
theorem xe_evaluate (hk : k < 64) (ho : a_nodeOp k = t) (hA : a_nodeA k = nI a) (hB : a_nodeB k = nI b) (hC : a_nodeC k = nI c) (ha : a < 64) (hb : b < 64) (hc : c < 64)
    (ht : mq_op t) (h15 : t = 15 → b = a)
    (ra : xr_rp (mq_wt t 0) (a_state a) (a_value a) da) (rb : 2 ≤ mq_ar t → xr_rp (mq_wt t 1) (a_state b) (a_value b) db) (rc : mq_ar t = 3 → xr_rp (mq_wt t 2) (a_state c) (a_value c) dc)
    (K : ∀ s' v', xr_rp (mq_tr t) s' v' (mq_sem t da db dc) → post (f_nodes, f_filterRoot, f_valueRoot, f_keyRoot, f_partCount, f_groups, f_passed, f_overflow, a_cells, a_live, a_zoneLeast, a_zoneMost, a_tokens, a_constants, a_lengths, a_nodeOp, a_nodeA, a_nodeB, a_nodeC, a_needs, a_wanted, vp_updL a_value k v', upd a_state k s', a_work, a_parts, a_heads, a_chain, a_places, a_sorted, a_groupNull, a_groupKey, a_groupPairs, a_groupValues, a_groupSum, a_groupLeast, a_groupMost)) : wpX_evaluate post (f_nodes, f_filterRoot, f_valueRoot, f_keyRoot, f_partCount, f_groups, f_passed, f_overflow, a_cells, a_live, a_zoneLeast, a_zoneMost, a_tokens, a_constants, a_lengths, a_nodeOp, a_nodeA, a_nodeB, a_nodeC, a_needs, a_wanted, a_value, a_state, a_work, a_parts, a_heads, a_chain, a_places, a_sorted, a_groupNull, a_groupKey, a_groupPairs, a_groupValues, a_groupSum, a_groupLeast, a_groupMost) (nI k) := by
  have wk : vp_in (nI k) 64 := vp_in_nI hk (by omega)
  have wa : vp_in (nI a) 64 := vp_in_nI ha (by omega)
  have wb : vp_in (nI b) 64 := vp_in_nI hb (by omega)
  have ck : (nI k).toNatClampNeg = k := nI_clamp (by omega)
  have ca : (nI a).toNatClampNeg = a := nI_clamp (by omega)
  have cb : (nI b).toNatClampNeg = b := nI_clamp (by omega)
  unfold wpX_evaluate
  dsimp only
  rw [ck, ho, hA, hB]
  refine ⟨wk, nm_e ⟨wk, nm_e ⟨wk, nm_e ?_⟩⟩⟩
  have ar : (t = 10 ∨ t = 11 ∨ t = 12 ∨ t = 13 ∨ t = 14 ∨ t = 15) → mq_wt t 0 = false → mq_wt t 1 = false → mq_tr t = false → (t ≠ 15 → mq_ar t = 2) → wpX_arithmetic post (f_nodes, f_filterRoot, f_valueRoot, f_keyRoot, f_partCount, f_groups, f_passed, f_overflow, a_cells, a_live, a_zoneLeast, a_zoneMost, a_tokens, a_constants, a_lengths, a_nodeOp, a_nodeA, a_nodeB, a_nodeC, a_needs, a_wanted, a_value, a_state, a_work, a_parts, a_heads, a_chain, a_places, a_sorted, a_groupNull, a_groupKey, a_groupPairs, a_groupValues, a_groupSum, a_groupLeast, a_groupMost) (nI k) t (nI a) (nI b) := by
    intro h w0 w1 tr n2
    rw [w0] at ra
    rw [w1] at rb
    rw [tr] at K
    exact xe_arith (dc := dc) hk ha hb h h15 ra (fun z => rb (by rw [n2 z]; omega)) K
  have cm : (t = 20 ∨ t = 21 ∨ t = 22 ∨ t = 23) → mq_wt t 0 = false → mq_wt t 1 = false → mq_tr t = true → mq_ar t = 2 → wpX_compare post (f_nodes, f_filterRoot, f_valueRoot, f_keyRoot, f_partCount, f_groups, f_passed, f_overflow, a_cells, a_live, a_zoneLeast, a_zoneMost, a_tokens, a_constants, a_lengths, a_nodeOp, a_nodeA, a_nodeB, a_nodeC, a_needs, a_wanted, a_value, a_state, a_work, a_parts, a_heads, a_chain, a_places, a_sorted, a_groupNull, a_groupKey, a_groupPairs, a_groupValues, a_groupSum, a_groupLeast, a_groupMost) (nI k) t (nI a) (nI b) := by
    intro h w0 w1 tr n2
    rw [w0] at ra
    rw [w1] at rb
    rw [tr] at K
    exact xe_compare (dc := dc) hk ha hb h ra (rb (by omega)) K
  have lo : ∀ d, (∀ s' v', xr_rp true s' v' d → post (f_nodes, f_filterRoot, f_valueRoot, f_keyRoot, f_partCount, f_groups, f_passed, f_overflow, a_cells, a_live, a_zoneLeast, a_zoneMost, a_tokens, a_constants, a_lengths, a_nodeOp, a_nodeA, a_nodeB, a_nodeC, a_needs, a_wanted, vp_updL a_value k v', upd a_state k s', a_work, a_parts, a_heads, a_chain, a_places, a_sorted, a_groupNull, a_groupKey, a_groupPairs, a_groupValues, a_groupSum, a_groupLeast, a_groupMost)) → ∀ s' v', xr_rp true s' v' d → post (f_nodes, f_filterRoot, f_valueRoot, f_keyRoot, f_partCount, f_groups, f_passed, f_overflow, a_cells, a_live, a_zoneLeast, a_zoneMost, a_tokens, a_constants, a_lengths, a_nodeOp, a_nodeA, a_nodeB, a_nodeC, a_needs, a_wanted, a_value, upd a_state k s', a_work, a_parts, a_heads, a_chain, a_places, a_sorted, a_groupNull, a_groupKey, a_groupPairs, a_groupValues, a_groupSum, a_groupLeast, a_groupMost) := by
    intro d K s' v' h
    have := K s' (a_value k) h
    rw [zb_uselfL] at this; exact this
  rcases ht with rfl | rfl | rfl | rfl | rfl | rfl | rfl | rfl | rfl | rfl | rfl | rfl | rfl | rfl | rfl | rfl
  · exact br_f (by decide) (ar (by decide) (by decide) (by decide) (by decide) (by decide))
  · exact br_f (by decide) (ar (by decide) (by decide) (by decide) (by decide) (by decide))
  · exact br_f (by decide) (ar (by decide) (by decide) (by decide) (by decide) (by decide))
  · exact br_f (by decide) (ar (by decide) (by decide) (by decide) (by decide) (by decide))
  · exact br_f (by decide) (ar (by decide) (by decide) (by decide) (by decide) (by decide))
  · exact br_f (by decide) (ar (by decide) (by decide) (by decide) (by decide) (by decide))
  · refine br_t (by decide) (br_f (by decide) (br_t (by decide) (br_t rfl (br_t rfl ⟨wa, ?_⟩))))
    rw [ca]
    have rb := rb (by decide)
    have K : ∀ s' v', xr_rp false s' v' (mq_sem 16 da db dc) → post (f_nodes, f_filterRoot, f_valueRoot, f_keyRoot, f_partCount, f_groups, f_passed, f_overflow, a_cells, a_live, a_zoneLeast, a_zoneMost, a_tokens, a_constants, a_lengths, a_nodeOp, a_nodeA, a_nodeB, a_nodeC, a_needs, a_wanted, vp_updL a_value k v', upd a_state k s', a_work, a_parts, a_heads, a_chain, a_places, a_sorted, a_groupNull, a_groupKey, a_groupPairs, a_groupValues, a_groupSum, a_groupLeast, a_groupMost) := K
    rw [mq_s16] at K
    rcases ra with ⟨h, e⟩ | ⟨h, e⟩
    · rw [if_pos (by rw [e])] at K
      exact br_t h (xe_122 hk ha (Or.inl ⟨h, e⟩) K)
    · rw [if_neg (by rw [e]; decide)] at K
      exact br_f (by rw [h]; decide) (xe_122 hk hb rb K)
  · exact br_t (by decide) (br_f (by decide) (br_f (by decide) (cm (by decide) (by decide) (by decide) (by decide) (by decide))))
  · exact br_t (by decide) (br_f (by decide) (br_f (by decide) (cm (by decide) (by decide) (by decide) (by decide) (by decide))))
  · exact br_t (by decide) (br_f (by decide) (br_f (by decide) (cm (by decide) (by decide) (by decide) (by decide) (by decide))))
  · exact br_t (by decide) (br_f (by decide) (br_f (by decide) (cm (by decide) (by decide) (by decide) (by decide) (by decide))))
  · refine br_t (by decide) (br_t (by decide) (br_f (by decide) (br_f (by decide) ⟨wa, wb, ?_⟩)))
    rw [ca, cb]
    exact xe_30 (dc := dc) hk ra (rb (by decide)) (lo _ K)
  · refine br_t (by decide) (br_t (by decide) (br_f (by decide) (br_f (by decide) ⟨wa, wb, ?_⟩)))
    rw [ca, cb]
    exact xe_31 (dc := dc) hk ra (rb (by decide)) (lo _ K)
  · refine br_t (by decide) (br_t (by decide) (br_f (by decide) (br_f (by decide) ⟨wa, wb, ?_⟩)))
    rw [ca, cb]
    exact xe_32 (db := db) (dc := dc) hk ra (lo _ K)
  · refine br_t (by decide) (br_t (by decide) (br_f (by decide) (br_f (by decide) ⟨wa, wb, ?_⟩)))
    rw [ca, cb]
    exact xe_33 (db := db) (dc := dc) hk ra (lo _ K)
  · refine br_t (by decide) (br_t (by decide) (br_f (by decide) (br_t rfl (br_f (by decide) ⟨wa, ?_⟩))))
    rw [ca, ck, hC]
    have rb := rb (by decide)
    have rc := rc (by decide)
    have K : ∀ s' v', xr_rp false s' v' (mq_sem 34 da db dc) → post (f_nodes, f_filterRoot, f_valueRoot, f_keyRoot, f_partCount, f_groups, f_passed, f_overflow, a_cells, a_live, a_zoneLeast, a_zoneMost, a_tokens, a_constants, a_lengths, a_nodeOp, a_nodeA, a_nodeB, a_nodeC, a_needs, a_wanted, vp_updL a_value k v', upd a_state k s', a_work, a_parts, a_heads, a_chain, a_places, a_sorted, a_groupNull, a_groupKey, a_groupPairs, a_groupValues, a_groupSum, a_groupLeast, a_groupMost) := K
    rw [mq_s34] at K
    rcases ra with ⟨h, e⟩ | ⟨h, e⟩ | ⟨h, e⟩
    · rw [if_neg (by rw [e]; decide)] at K
      exact br_f (by rw [h]; decide) ⟨wk, xe_122 hk hc rc K⟩
    · rw [if_pos (by rw [e])] at K
      exact br_t h (xe_122 hk hb rb K)
    · rw [if_neg (by rw [e]; decide)] at K
      exact br_f (by rw [h]; decide) ⟨wk, xe_122 hk hc rc K⟩
end XEV
end
section
/-! ===== X's program of nodes: a ghost meaning D, a ghost size T, one local condition a node ===== -/
def mq_kd (op : Int32) : Bool := mq_tr op || decide (op = 41)
def pg_t (op : Int32) (x y : Nat) : Nat := if op = 30 ∨ op = 31 then 1 + x + y else if op = 32 then 1 + x else 1
def pg_lc (op A B C nd st : Nat → Int32) (vl : Nat → Int64) (D : (Nat → Int32) → Nat → VV) (T : Nat → Nat) (k : Nat) : Prop :=
  (∃ c, c < 6 ∧ op k = nI c ∧ nd k = (if c < 3 then 1 else 2) ∧ (∀ env, D env k = mq_col (env c)) ∧ T k = 1)
  ∨ (op k = 40 ∧ nd k = 0 ∧ (∀ env, xr_rp false (st k) (vl k) (D env k)) ∧ T k = 1)
  ∨ (op k = 41 ∧ nd k = 0 ∧ (∀ env, xr_rp true (st k) (vl k) (D env k)) ∧ T k = 1)
  ∨ (∃ a b c, mq_op (op k) ∧ a < k ∧ b < k ∧ c < k ∧ A k = nI a ∧ B k = nI b ∧ C k = nI c ∧ (op k = 15 → b = a) ∧
      mq_kd (op a) = mq_wt (op k) 0 ∧ (2 ≤ mq_ar (op k) → mq_kd (op b) = mq_wt (op k) 1) ∧ (mq_ar (op k) = 3 → mq_kd (op c) = mq_wt (op k) 2) ∧
      nd k = nd a ||| nd b ||| nd c ∧ nd k ≠ 0 ∧ (∀ env, D env k = mq_sem (op k) (D env a) (D env b) (D env c)) ∧ T k = pg_t (op k) (T a) (T b))
def pg_ok (N : Nat) (op A B C nd st : Nat → Int32) (vl : Nat → Int64) (D : (Nat → Int32) → Nat → VV) (T : Nat → Nat) : Prop := ∀ k, k < N → pg_lc op A B C nd st vl D T k
def pg_ex (N : Nat) (op : Nat → Int32) (D : (Nat → Int32) → Nat → VV) (T : Nat → Nat) (N' : Nat) (op' : Nat → Int32) (D' : (Nat → Int32) → Nat → VV) (T' : Nat → Nat) : Prop :=
  N ≤ N' ∧ N' ≤ N + 1 ∧ ∀ j, j < N → op' j = op j ∧ (∀ env, D' env j = D env j) ∧ T' j = T j
theorem pg_ex_rf {N : Nat} {op : Nat → Int32} {D : (Nat → Int32) → Nat → VV} {T : Nat → Nat} : pg_ex N op D T N op D T := ⟨Nat.le_refl _, Nat.le_succ _, fun _ _ => ⟨rfl, fun _ => rfl, rfl⟩⟩
section PGP
variable {op A B C nd st op' A' B' C' nd' st' : Nat → Int32} {vl vl' : Nat → Int64} {D D' : (Nat → Int32) → Nat → VV} {T T' : Nat → Nat} {N k : Nat}
theorem pg_fr (h : ∀ j, j ≤ k → op' j = op j ∧ A' j = A j ∧ B' j = B j ∧ C' j = C j ∧ nd' j = nd j ∧ st' j = st j ∧ vl' j = vl j ∧ (∀ env, D' env j = D env j) ∧ T' j = T j) (H : pg_lc op A B C nd st vl D T k) : pg_lc op' A' B' C' nd' st' vl' D' T' k := by
  obtain ⟨e1, e2, e3, e4, e5, e6, e7, e8, e9⟩ := h k (Nat.le_refl k)
  unfold pg_lc
  rw [e1, e2, e3, e4, e5, e6, e7, e9]
  rcases H with ⟨c, h1, h2, h3, h4, h5⟩ | ⟨h1, h2, h3, h4⟩ | ⟨h1, h2, h3, h4⟩ | ⟨a, b, c, h1, ha, hb, hc, h2, h3, h4, h5, h6, h7, h8, h9, h10, h11, h12⟩
  · exact Or.inl ⟨c, h1, h2, h3, fun env => (e8 env).trans (h4 env), h5⟩
  · exact Or.inr (Or.inl ⟨h1, h2, fun env => by rw [e8 env]; exact h3 env, h4⟩)
  · exact Or.inr (Or.inr (Or.inl ⟨h1, h2, fun env => by rw [e8 env]; exact h3 env, h4⟩))
  · obtain ⟨a1, _, _, _, a5, _, _, a8, a9⟩ := h a (by omega)
    obtain ⟨b1, _, _, _, b5, _, _, b8, b9⟩ := h b (by omega)
    obtain ⟨c1, _, _, _, c5, _, _, c8, c9⟩ := h c (by omega)
    refine Or.inr (Or.inr (Or.inr ⟨a, b, c, h1, ha, hb, hc, h2, h3, h4, h5, ?_, ?_, ?_, ?_, h10, ?_, ?_⟩))
    · rw [a1]; exact h6
    · rw [b1]; exact h7
    · rw [c1]; exact h8
    · rw [a5, b5, c5]; exact h9
    · intro env; rw [e8, a8, b8, c8]; exact h11 env
    · rw [a9, b9]; exact h12
theorem pg_fr2 (P : pg_ok N op A B C nd st vl D T) (h : ∀ j, j < N → op' j = op j ∧ A' j = A j ∧ B' j = B j ∧ C' j = C j ∧ nd' j = nd j ∧ st' j = st j ∧ vl' j = vl j ∧ (∀ env, D' env j = D env j) ∧ T' j = T j) : pg_ok N op' A' B' C' nd' st' vl' D' T' :=
  fun k hk => pg_fr (fun j hj => h j (by omega)) (P k hk)
/-! one more node -/
def pg_D (D : (Nat → Int32) → Nat → VV) (N : Nat) (d : (Nat → Int32) → VV) : (Nat → Int32) → Nat → VV := fun env j => if j = N then d env else D env j
def pg_T (T : Nat → Nat) (N t : Nat) : Nat → Nat := fun j => if j = N then t else T j
theorem pg_Ds {d : (Nat → Int32) → VV} {env : Nat → Int32} : pg_D D N d env N = d env := if_pos rfl
theorem pg_Dn {d : (Nat → Int32) → VV} {env : Nat → Int32} {j : Nat} (h : j ≠ N) : pg_D D N d env j = D env j := if_neg h
theorem pg_Ts {t : Nat} : pg_T T N t N = t := if_pos rfl
theorem pg_Tn {t j : Nat} (h : j ≠ N) : pg_T T N t j = T j := if_neg h
theorem pg_add {d : (Nat → Int32) → VV} {t : Nat} (P : pg_ok N op A B C nd st vl D T) (h : ∀ j, j < N → op' j = op j ∧ A' j = A j ∧ B' j = B j ∧ C' j = C j ∧ nd' j = nd j ∧ st' j = st j ∧ vl' j = vl j)
    (hn : pg_lc op' A' B' C' nd' st' vl' (pg_D D N d) (pg_T T N t) N) : pg_ok (N + 1) op' A' B' C' nd' st' vl' (pg_D D N d) (pg_T T N t) ∧ pg_ex N op D T (N + 1) op' (pg_D D N d) (pg_T T N t) := by
  refine ⟨fun k hk => ?_, by omega, Nat.le_refl _, fun j hj => ⟨(h j hj).1, fun env => pg_Dn (by omega), pg_Tn (by omega)⟩⟩
  by_cases e : k = N
  · subst e; exact hn
  · refine pg_fr (fun j hj => ?_) (P k (by omega))
    obtain ⟨a1, a2, a3, a4, a5, a6, a7⟩ := h j (by omega)
    exact ⟨a1, a2, a3, a4, a5, a6, a7, fun env => pg_Dn (by omega), pg_Tn (by omega)⟩
/-! what the local conditions give -/
theorem pg_nd (P : pg_ok N op A B C nd st vl D T) : ∀ k, k < N → nd k = 0 ∨ nd k = 1 ∨ nd k = 2 ∨ nd k = 3 := by
  intro k
  induction k using Nat.strongRecOn with
  | ind k ih =>
    intro hk
    rcases P k hk with ⟨c, h1, h2, h3, h4, h5⟩ | ⟨h1, h2, h3, h4⟩ | ⟨h1, h2, h3, h4⟩ | ⟨a, b, c, h1, ha, hb, hc, h2, h3, h4, h5, h6, h7, h8, h9, h10, h11, h12⟩
    · rw [h3]; by_cases z : c < 3
      · rw [if_pos z]; exact Or.inr (Or.inl rfl)
      · rw [if_neg z]; exact Or.inr (Or.inr (Or.inl rfl))
    · exact Or.inl h2
    · exact Or.inl h2
    · rw [h9]
      rcases ih a ha (by omega) with e | e | e | e <;> rcases ih b hb (by omega) with f | f | f | f <;> rcases ih c hc (by omega) with g | g | g | g <;> rw [e, f, g] <;> decide
theorem mq_kd_op {t : Int32} (h : mq_op t) : mq_kd t = mq_tr t := by
  rcases h with rfl | rfl | rfl | rfl | rfl | rfl | rfl | rfl | rfl | rfl | rfl | rfl | rfl | rfl | rfl | rfl <;> decide
theorem mq_kd_c : ∀ c, c < 6 → mq_kd (nI c) = false := by decide
theorem pg_ov (P : pg_ok N op A B C nd st vl D T) (env : Nat → Int32) : ∀ k, k < N → mq_ov (mq_kd (op k)) (D env k) := by
  intro k
  induction k using Nat.strongRecOn with
  | ind k ih =>
    intro hk
    rcases P k hk with ⟨c, h1, h2, h3, h4, h5⟩ | ⟨h1, h2, h3, h4⟩ | ⟨h1, h2, h3, h4⟩ | ⟨a, b, c, h1, ha, hb, hc, h2, h3, h4, h5, h6, h7, h8, h9, h10, h11, h12⟩
    · rw [h2, mq_kd_c c h1, h4]; exact mq_col_ov _
    · rw [h1]
      rcases h3 env with ⟨_, e⟩ | ⟨_, e⟩
      · exact Or.inl (by rw [e])
      · exact Or.inr e
    · rw [h1]
      rcases h3 env with ⟨_, e⟩ | ⟨_, e⟩ | ⟨_, e⟩
      · exact Or.inl e
      · exact Or.inr (Or.inl e)
      · exact Or.inr (Or.inr e)
    · rw [mq_kd_op h1, h11]
      exact mq_sem_ov h1 (h6 ▸ ih a ha (by omega)) (fun z => h7 z ▸ ih b hb (by omega)) (fun z => h8 z ▸ ih c hc (by omega))
theorem pg_T1 (P : pg_ok N op A B C nd st vl D T) (hk : k < N) (h : mq_kd (op k) = false) : T k = 1 := by
  rcases P k hk with ⟨c, h1, h2, h3, h4, h5⟩ | ⟨h1, h2, h3, h4⟩ | ⟨h1, h2, h3, h4⟩ | ⟨a, b, c, h1, ha, hb, hc, h2, h3, h4, h5, h6, h7, h8, h9, h10, h11, h12⟩
  · exact h5
  · exact h4
  · exact h4
  · rw [h12]; unfold pg_t
    rw [if_neg, if_neg]
    · intro e; rw [e] at h; exact absurd h (by decide)
    · intro e; rcases e with e | e <;> rw [e] at h <;> exact absurd h (by decide)
theorem pg_Tpos (P : pg_ok N op A B C nd st vl D T) (hk : k < N) : 1 ≤ T k := by
  rcases P k hk with ⟨c, h1, h2, h3, h4, h5⟩ | ⟨h1, h2, h3, h4⟩ | ⟨h1, h2, h3, h4⟩ | ⟨a, b, c, h1, ha, hb, hc, h2, h3, h4, h5, h6, h7, h8, h9, h10, h11, h12⟩
  · omega
  · omega
  · omega
  · rw [h12]; unfold pg_t
    split
    · omega
    · split <;> omega
theorem pg_t1 (o : Int32) (x y : Nat) : 1 ≤ pg_t o x y := by
  unfold pg_t
  split
  · omega
  · split <;> omega
/-- a known node -/
theorem pg_kn (P : pg_ok N op A B C nd st vl D T) (hk : k < N) (h : ¬ op k < 40) : (op k = 40 ∨ op k = 41) ∧ nd k = 0 ∧ ∀ env, xr_rp (mq_kd (op k)) (st k) (vl k) (D env k) := by
  rcases P k hk with ⟨c, h1, h2, h3, h4, h5⟩ | ⟨h1, h2, h3, h4⟩ | ⟨h1, h2, h3, h4⟩ | ⟨a, b, c, h1, ha, hb, hc, h2, h3, h4, h5, h6, h7, h8, h9, h10, h11, h12⟩
  · rw [h2] at h; exact absurd (nI_lt (b := 40) (by omega) (by decide)) h
  · refine ⟨Or.inl h1, h2, fun env => ?_⟩
    rw [h1]; exact h3 env
  · refine ⟨Or.inr h1, h2, fun env => ?_⟩
    rw [h1]; exact h3 env
  · exact absurd (mq_op_lo h1).2.2.2.2.1 h
theorem pg_nk (P : pg_ok N op A B C nd st vl D T) (hk : k < N) (h : op k < 40) : nd k ≠ 0 := by
  rcases P k hk with ⟨c, h1, h2, h3, h4, h5⟩ | ⟨h1, h2, h3, h4⟩ | ⟨h1, h2, h3, h4⟩ | ⟨a, b, c, h1, ha, hb, hc, h2, h3, h4, h5, h6, h7, h8, h9, h10, h11, h12⟩
  · rw [h3]; by_cases z : c < 3
    · rw [if_pos z]; decide
    · rw [if_neg z]; decide
  · rw [h1] at h; exact absurd h (by decide)
  · rw [h1] at h; exact absurd h (by decide)
  · exact h10
/-- what xr_rp holds is one value -/
theorem xr_un {b : Bool} {s : Int32} {v : Int64} {d d' : VV} (h : xr_rp b s v d) (h' : xr_rp b s v d') : d = d' := by
  cases b with
  | true =>
    rcases h with ⟨h, e⟩ | ⟨h, e⟩ | ⟨h, e⟩ <;> rcases h' with ⟨g, f⟩ | ⟨g, f⟩ | ⟨g, f⟩ <;> first | (exact e.trans f.symm) | (rw [h] at g; exact absurd g (by decide))
  | false =>
    rcases h with ⟨h, e⟩ | ⟨h, e⟩ <;> rcases h' with ⟨g, f⟩ | ⟨g, f⟩ <;> first | (exact e.trans f.symm) | (rw [h] at g; exact absurd g (by decide))
end PGP
end
section
/-! ===== X: fresh, number, truth, node ===== -/
section XND
variable {f_nodes f_filterRoot f_valueRoot f_keyRoot f_partCount f_groups f_passed f_overflow : Int32}
variable {a_cells a_live a_zoneLeast a_zoneMost a_tokens a_constants a_lengths a_nodeOp a_nodeA a_nodeB a_nodeC a_needs a_wanted a_state a_work a_parts a_heads a_chain a_places a_sorted a_groupNull a_groupPairs a_groupValues : Nat → Int32}
variable {a_value a_groupKey a_groupSum a_groupLeast a_groupMost : Nat → Int64}
variable {post : Int32 → SX → Prop} {D : (Nat → Int32) → Nat → VV} {T : Nat → Nat} {N a b c : Nat} {t : Int32}
theorem xc_fresh {o x y z : Int32} (hN : N < 64) (ho : o.toInt8.toInt32 = o) (hx : x.toInt8.toInt32 = x) (hy : y.toInt8.toInt32 = y) (hz : z.toInt8.toInt32 = z)
    (K : post (nI N) (nI (N + 1), f_filterRoot, f_valueRoot, f_keyRoot, f_partCount, f_groups, f_passed, f_overflow, a_cells, a_live, a_zoneLeast, a_zoneMost, a_tokens, a_constants, a_lengths, upd a_nodeOp N o, upd a_nodeA N x, upd a_nodeB N y, upd a_nodeC N z, a_needs, a_wanted, a_value, a_state, a_work, a_parts, a_heads, a_chain, a_places, a_sorted, a_groupNull, a_groupKey, a_groupPairs, a_groupValues, a_groupSum, a_groupLeast, a_groupMost)) : wpX_fresh post (nI N, f_filterRoot, f_valueRoot, f_keyRoot, f_partCount, f_groups, f_passed, f_overflow, a_cells, a_live, a_zoneLeast, a_zoneMost, a_tokens, a_constants, a_lengths, a_nodeOp, a_nodeA, a_nodeB, a_nodeC, a_needs, a_wanted, a_value, a_state, a_work, a_parts, a_heads, a_chain, a_places, a_sorted, a_groupNull, a_groupKey, a_groupPairs, a_groupValues, a_groupSum, a_groupLeast, a_groupMost) o x y z := by
  have e : (nI N).toNatClampNeg = N := nI_clamp (by omega)
  have w : vp_in (nI N) 64 := vp_in_nI hN (by omega)
  unfold wpX_fresh
  dsimp only
  rw [e, pk_vb, pk_vb, pk_vb, pk_vb, ho, hx, hy, hz]
  exact ⟨w, nm_e ⟨w, nm_e ⟨w, nm_e ⟨w, nm_e (nm_r (nI_1 N) K)⟩⟩⟩⟩
theorem zb_z8 : (0 : Int32).toInt8.toInt32 = 0 := by decide
theorem zb_n0 : vp_nar .byte 0 = 0 := by rw [vp_nar_byte]; decide
theorem xc_number {th : Int32} {v : Int64} (hN : N < 64) (hth : th = 0 ∨ th = 1) (P : pg_ok N a_nodeOp a_nodeA a_nodeB a_nodeC a_needs a_state a_value D T) (K : ∀ (N' : Nat) (op' A' B' C' nd' st' : Nat → Int32) (vl' : Nat → Int64) (D' : (Nat → Int32) → Nat → VV) (T' : Nat → Nat) (r : Nat), pg_ok N' op' A' B' C' nd' st' vl' D' T' → pg_ex N a_nodeOp D T N' op' D' T' → r < N' → (∀ env, D' env r = if th = 0 then ((0, 1) : VV) else (v, 0)) → mq_kd (op' r) = false → T' r ≤ 1 → post (nI r) (nI N', f_filterRoot, f_valueRoot, f_keyRoot, f_partCount, f_groups, f_passed, f_overflow, a_cells, a_live, a_zoneLeast, a_zoneMost, a_tokens, a_constants, a_lengths, op', A', B', C', nd', a_wanted, vl', st', a_work, a_parts, a_heads, a_chain, a_places, a_sorted, a_groupNull, a_groupKey, a_groupPairs, a_groupValues, a_groupSum, a_groupLeast, a_groupMost)) : wpX_number post (nI N, f_filterRoot, f_valueRoot, f_keyRoot, f_partCount, f_groups, f_passed, f_overflow, a_cells, a_live, a_zoneLeast, a_zoneMost, a_tokens, a_constants, a_lengths, a_nodeOp, a_nodeA, a_nodeB, a_nodeC, a_needs, a_wanted, a_value, a_state, a_work, a_parts, a_heads, a_chain, a_places, a_sorted, a_groupNull, a_groupKey, a_groupPairs, a_groupValues, a_groupSum, a_groupLeast, a_groupMost) th v := by
  have found : ∀ i, i < N → a_nodeOp i = 40 → a_state i = th → (th = 0 ∨ a_value i = v) → post (nI i) (nI N, f_filterRoot, f_valueRoot, f_keyRoot, f_partCount, f_groups, f_passed, f_overflow, a_cells, a_live, a_zoneLeast, a_zoneMost, a_tokens, a_constants, a_lengths, a_nodeOp, a_nodeA, a_nodeB, a_nodeC, a_needs, a_wanted, a_value, a_state, a_work, a_parts, a_heads, a_chain, a_places, a_sorted, a_groupNull, a_groupKey, a_groupPairs, a_groupValues, a_groupSum, a_groupLeast, a_groupMost) := by
    intro i hi h1 h2 h3
    have hl := (pg_kn P hi (by rw [h1]; decide)).2.2
    rw [h1] at hl
    refine K N _ _ _ _ _ _ _ D T i P pg_ex_rf hi (fun env => ?_) (by rw [h1]; decide) (Nat.le_of_eq (pg_T1 P hi (by rw [h1]; decide)))
    rcases hth with rfl | rfl
    · rw [if_pos rfl]
      rcases hl env with ⟨g, _⟩ | ⟨_, e⟩
      · rw [h2] at g; exact absurd g (by decide)
      · exact e
    · rw [if_neg (by decide)]
      rcases hl env with ⟨_, e⟩ | ⟨g, _⟩
      · rw [e, h3.resolve_left (by decide)]
      · rw [h2] at g; exact absurd g (by decide)
  have new : ∀ s : Int32, s = th → wX_number_94 post v (nI N) s (nI N) (nI (N + 1)) f_filterRoot f_valueRoot f_keyRoot f_partCount f_groups f_passed f_overflow a_cells a_live a_zoneLeast a_zoneMost a_tokens a_constants a_lengths (upd a_nodeOp N 40) (upd a_nodeA N 0) (upd a_nodeB N 0) (upd a_nodeC N 0) a_needs a_wanted a_value a_state a_work a_parts a_heads a_chain a_places a_sorted a_groupNull a_groupKey a_groupPairs a_groupValues a_groupSum a_groupLeast a_groupMost := by
    intro s hs
    subst hs
    have e : (nI N).toNatClampNeg = N := nI_clamp (by omega)
    have w : vp_in (nI N) 64 := vp_in_nI hN (by omega)
    have es : vp_nar .byte s.toInt8.toInt32 = s := by rw [pk_vb]; rcases hth with rfl | rfl <;> decide
    unfold wX_number_94
    rw [e, es, zb_n0]
    refine ⟨w, nm_e ⟨w, nm_e ⟨w, nm_e ?_⟩⟩⟩
    have Q := pg_add (d := fun _ => if s = 0 then ((0, 1) : VV) else (v, 0)) (t := 1) (op' := upd a_nodeOp N 40) (A' := upd a_nodeA N 0) (B' := upd a_nodeB N 0) (C' := upd a_nodeC N 0) (nd' := upd a_needs N 0) (st' := upd a_state N s) (vl' := vp_updL a_value N v) P
      (fun j hj => ⟨pk_un (by omega), pk_un (by omega), pk_un (by omega), pk_un (by omega), pk_un (by omega), pk_un (by omega), pk_uLn (by omega)⟩)
      (Or.inr (Or.inl ⟨pk_us, pk_us, fun env => by
        rw [pk_us, pk_uLs, pg_Ds]
        rcases hth with rfl | rfl
        · rw [if_pos rfl]; exact Or.inr ⟨rfl, rfl⟩
        · rw [if_neg (by decide)]; exact Or.inl ⟨rfl, rfl⟩, pg_Ts⟩))
    exact K (N + 1) _ _ _ _ _ _ _ _ _ N Q.1 Q.2 (by omega) (fun env => pg_Ds) (by rw [pk_us]; decide) (Nat.le_of_eq pg_Ts)
  have main : ∀ r n i : Nat, i + r = N → r < n → wX_number_3 post th v (nI N) f_filterRoot f_valueRoot f_keyRoot f_partCount f_groups f_passed f_overflow a_cells a_live a_zoneLeast a_zoneMost a_tokens a_constants a_lengths a_nodeOp a_nodeA a_nodeB a_nodeC a_needs a_wanted a_value a_state a_work a_parts a_heads a_chain a_places a_sorted a_groupNull a_groupKey a_groupPairs a_groupValues a_groupSum a_groupLeast a_groupMost n (nI i) := by
    intro r
    induction r with
    | zero =>
      intro n i hi hn
      obtain ⟨n, rfl⟩ := zb_ex (show 0 < n by omega)
      have : i = N := by omega
      subst this
      rw [wX_number_3]
      refine br_t (nI_le (by omega) (by omega)) (xc_fresh hN (by decide) zb_z8 zb_z8 zb_z8 ?_)
      exact br_c (fun h => new 0 h.symm) (fun h => new 1 (hth.resolve_left h).symm)
    | succ r ih =>
      intro n i hi hn
      obtain ⟨n, rfl⟩ := zb_ex (show 0 < n by omega)
      have e : (nI i).toNatClampNeg = i := nI_clamp (by omega)
      have w : vp_in (nI i) 64 := vp_in_nI (by omega) (by omega)
      have nx : wX_number_3 post th v (nI N) f_filterRoot f_valueRoot f_keyRoot f_partCount f_groups f_passed f_overflow a_cells a_live a_zoneLeast a_zoneMost a_tokens a_constants a_lengths a_nodeOp a_nodeA a_nodeB a_nodeC a_needs a_wanted a_value a_state a_work a_parts a_heads a_chain a_places a_sorted a_groupNull a_groupKey a_groupPairs a_groupValues a_groupSum a_groupLeast a_groupMost n (nI i + 1) := by rw [nI_1]; exact ih n (i + 1) (by omega) (by omega)
      rw [wX_number_3]
      dsimp only
      rw [e]
      refine br_f (nI_ge (by omega) (by omega)) ⟨w, br_c (fun h1 => ⟨w, ?_⟩) (fun _ => nm_e nx)⟩
      have s40 : ∀ z : Int32, z = th → wX_number_40 post (wX_number_3 post th v (nI N) f_filterRoot f_valueRoot f_keyRoot f_partCount f_groups f_passed f_overflow a_cells a_live a_zoneLeast a_zoneMost a_tokens a_constants a_lengths a_nodeOp a_nodeA a_nodeB a_nodeC a_needs a_wanted a_value a_state a_work a_parts a_heads a_chain a_places a_sorted a_groupNull a_groupKey a_groupPairs a_groupValues a_groupSum a_groupLeast a_groupMost n) th v (nI i) z (a_state i) (nI N) f_filterRoot f_valueRoot f_keyRoot f_partCount f_groups f_passed f_overflow a_cells a_live a_zoneLeast a_zoneMost a_tokens a_constants a_lengths a_nodeOp a_nodeA a_nodeB a_nodeC a_needs a_wanted a_value a_state a_work a_parts a_heads a_chain a_places a_sorted a_groupNull a_groupKey a_groupPairs a_groupValues a_groupSum a_groupLeast a_groupMost := by
        intro z hz
        subst hz
        unfold wX_number_40
        rw [e]
        exact br_c (fun h2 => br_c (fun h3 => found i (by omega) h1 h2 (Or.inl h3)) (fun _ => ⟨w, br_c (fun h4 => found i (by omega) h1 h2 (Or.inr h4)) (fun _ => nm_e nx)⟩)) (fun _ => nm_e nx)
      exact br_c (fun h => s40 0 h.symm) (fun h => s40 1 (hth.resolve_left h).symm)
  exact ⟨N + 1, main N (N + 1) 0 (by omega) (by omega)⟩
theorem xc_truth {s : Int32} {d : VV} (hN : N < 64) (hs : xr_rp true s 0 d) (P : pg_ok N a_nodeOp a_nodeA a_nodeB a_nodeC a_needs a_state a_value D T) (K : ∀ (N' : Nat) (op' A' B' C' nd' st' : Nat → Int32) (vl' : Nat → Int64) (D' : (Nat → Int32) → Nat → VV) (T' : Nat → Nat) (r : Nat), pg_ok N' op' A' B' C' nd' st' vl' D' T' → pg_ex N a_nodeOp D T N' op' D' T' → r < N' → (∀ env, D' env r = d) → mq_kd (op' r) = true → T' r ≤ 1 → post (nI r) (nI N', f_filterRoot, f_valueRoot, f_keyRoot, f_partCount, f_groups, f_passed, f_overflow, a_cells, a_live, a_zoneLeast, a_zoneMost, a_tokens, a_constants, a_lengths, op', A', B', C', nd', a_wanted, vl', st', a_work, a_parts, a_heads, a_chain, a_places, a_sorted, a_groupNull, a_groupKey, a_groupPairs, a_groupValues, a_groupSum, a_groupLeast, a_groupMost)) : wpX_truth post (nI N, f_filterRoot, f_valueRoot, f_keyRoot, f_partCount, f_groups, f_passed, f_overflow, a_cells, a_live, a_zoneLeast, a_zoneMost, a_tokens, a_constants, a_lengths, a_nodeOp, a_nodeA, a_nodeB, a_nodeC, a_needs, a_wanted, a_value, a_state, a_work, a_parts, a_heads, a_chain, a_places, a_sorted, a_groupNull, a_groupKey, a_groupPairs, a_groupValues, a_groupSum, a_groupLeast, a_groupMost) s := by
  have es : vp_nar .byte s.toInt8.toInt32 = s := by rw [pk_vb]; rcases hs with ⟨rfl, _⟩ | ⟨rfl, _⟩ | ⟨rfl, _⟩ <;> decide
  have main : ∀ r n i : Nat, i + r = N → r < n → wX_truth_2 post s (nI N) f_filterRoot f_valueRoot f_keyRoot f_partCount f_groups f_passed f_overflow a_cells a_live a_zoneLeast a_zoneMost a_tokens a_constants a_lengths a_nodeOp a_nodeA a_nodeB a_nodeC a_needs a_wanted a_value a_state a_work a_parts a_heads a_chain a_places a_sorted a_groupNull a_groupKey a_groupPairs a_groupValues a_groupSum a_groupLeast a_groupMost n (nI i) := by
    intro r
    induction r with
    | zero =>
      intro n i hi hn
      obtain ⟨n, rfl⟩ := zb_ex (show 0 < n by omega)
      have : i = N := by omega
      subst this
      have e : (nI i).toNatClampNeg = i := nI_clamp (by omega)
      have w : vp_in (nI i) 64 := vp_in_nI hN (by omega)
      rw [wX_truth_2]
      refine br_t (nI_le (by omega) (by omega)) (xc_fresh hN (by decide) zb_z8 zb_z8 zb_z8 ?_)
      dsimp only
      rw [e, es, zb_n0]
      refine ⟨w, nm_e ⟨w, nm_e ?_⟩⟩
      have Q := pg_add (d := fun _ => d) (t := 1) (op' := upd a_nodeOp i 41) (A' := upd a_nodeA i 0) (B' := upd a_nodeB i 0) (C' := upd a_nodeC i 0) (nd' := upd a_needs i 0) (st' := upd a_state i s) (vl' := a_value) P
        (fun j hj => ⟨pk_un (by omega), pk_un (by omega), pk_un (by omega), pk_un (by omega), pk_un (by omega), pk_un (by omega), rfl⟩)
        (Or.inr (Or.inr (Or.inl ⟨pk_us, pk_us, fun env => by rw [pk_us, pg_Ds]; exact hs, pg_Ts⟩)))
      exact K (i + 1) _ _ _ _ _ _ _ _ _ i Q.1 Q.2 (by omega) (fun env => pg_Ds) (by rw [pk_us]; decide) (Nat.le_of_eq pg_Ts)
    | succ r ih =>
      intro n i hi hn
      obtain ⟨n, rfl⟩ := zb_ex (show 0 < n by omega)
      have e : (nI i).toNatClampNeg = i := nI_clamp (by omega)
      have w : vp_in (nI i) 64 := vp_in_nI (by omega) (by omega)
      have nx : wX_truth_2 post s (nI N) f_filterRoot f_valueRoot f_keyRoot f_partCount f_groups f_passed f_overflow a_cells a_live a_zoneLeast a_zoneMost a_tokens a_constants a_lengths a_nodeOp a_nodeA a_nodeB a_nodeC a_needs a_wanted a_value a_state a_work a_parts a_heads a_chain a_places a_sorted a_groupNull a_groupKey a_groupPairs a_groupValues a_groupSum a_groupLeast a_groupMost n (nI i + 1) := by rw [nI_1]; exact ih n (i + 1) (by omega) (by omega)
      rw [wX_truth_2]
      dsimp only
      rw [e]
      refine br_f (nI_ge (by omega) (by omega)) ⟨w, br_c (fun h1 => ⟨w, br_c (fun h2 => ?_) (fun _ => nm_e nx)⟩) (fun _ => nm_e nx)⟩
      have hl := (pg_kn P (show i < N by omega) (by rw [h1]; decide)).2.2
      rw [h1, h2] at hl
      refine K N _ _ _ _ _ _ _ D T i P pg_ex_rf (by omega) (fun env => xr_un (xr_tr (hl env)) hs) (by rw [h1]; decide) ?_
      rcases P i (by omega) with ⟨c, g1, g2, _⟩ | ⟨g1, _⟩ | ⟨_, _, _, g4⟩ | ⟨a, b, c, g1, _⟩
      · rw [h1] at g2; exact absurd g2.symm (zb_ne (a := c) (b := 41) (by omega) (by omega) (by omega))
      · rw [h1] at g1; exact absurd g1 (by decide)
      · exact Nat.le_of_eq g4
      · exact absurd h1 (mq_op_lo g1).2.2.2.1
  exact ⟨N + 1, main N (N + 1) 0 (by omega) (by omega)⟩
theorem xc_nlp {x2 x3 x4 : Int32} (hN : N < 64) (hf : ∀ i, i < N → a_nodeOp i = t → a_nodeA i = x2 → a_nodeB i = x3 → a_nodeC i = x4 → post (nI i) (nI N, f_filterRoot, f_valueRoot, f_keyRoot, f_partCount, f_groups, f_passed, f_overflow, a_cells, a_live, a_zoneLeast, a_zoneMost, a_tokens, a_constants, a_lengths, a_nodeOp, a_nodeA, a_nodeB, a_nodeC, a_needs, a_wanted, a_value, a_state, a_work, a_parts, a_heads, a_chain, a_places, a_sorted, a_groupNull, a_groupKey, a_groupPairs, a_groupValues, a_groupSum, a_groupLeast, a_groupMost))
    (h0 : ∀ n, wX_node_3 post t x2 x3 x4 (nI N) f_filterRoot f_valueRoot f_keyRoot f_partCount f_groups f_passed f_overflow a_cells a_live a_zoneLeast a_zoneMost a_tokens a_constants a_lengths a_nodeOp a_nodeA a_nodeB a_nodeC a_needs a_wanted a_value a_state a_work a_parts a_heads a_chain a_places a_sorted a_groupNull a_groupKey a_groupPairs a_groupValues a_groupSum a_groupLeast a_groupMost (n + 1) (nI N)) : wpX_node post (nI N, f_filterRoot, f_valueRoot, f_keyRoot, f_partCount, f_groups, f_passed, f_overflow, a_cells, a_live, a_zoneLeast, a_zoneMost, a_tokens, a_constants, a_lengths, a_nodeOp, a_nodeA, a_nodeB, a_nodeC, a_needs, a_wanted, a_value, a_state, a_work, a_parts, a_heads, a_chain, a_places, a_sorted, a_groupNull, a_groupKey, a_groupPairs, a_groupValues, a_groupSum, a_groupLeast, a_groupMost) t x2 x3 x4 := by
  have main : ∀ r n i : Nat, i + r = N → r < n → wX_node_3 post t x2 x3 x4 (nI N) f_filterRoot f_valueRoot f_keyRoot f_partCount f_groups f_passed f_overflow a_cells a_live a_zoneLeast a_zoneMost a_tokens a_constants a_lengths a_nodeOp a_nodeA a_nodeB a_nodeC a_needs a_wanted a_value a_state a_work a_parts a_heads a_chain a_places a_sorted a_groupNull a_groupKey a_groupPairs a_groupValues a_groupSum a_groupLeast a_groupMost n (nI i) := by
    intro r
    induction r with
    | zero =>
      intro n i hi hn
      obtain ⟨n, rfl⟩ := zb_ex (show 0 < n by omega)
      have : i = N := by omega
      subst this
      exact h0 n
    | succ r ih =>
      intro n i hi hn
      obtain ⟨n, rfl⟩ := zb_ex (show 0 < n by omega)
      have e : (nI i).toNatClampNeg = i := nI_clamp (by omega)
      have w : vp_in (nI i) 64 := vp_in_nI (by omega) (by omega)
      have nx : wX_node_3 post t x2 x3 x4 (nI N) f_filterRoot f_valueRoot f_keyRoot f_partCount f_groups f_passed f_overflow a_cells a_live a_zoneLeast a_zoneMost a_tokens a_constants a_lengths a_nodeOp a_nodeA a_nodeB a_nodeC a_needs a_wanted a_value a_state a_work a_parts a_heads a_chain a_places a_sorted a_groupNull a_groupKey a_groupPairs a_groupValues a_groupSum a_groupLeast a_groupMost n (nI i + 1) := by rw [nI_1]; exact ih n (i + 1) (by omega) (by omega)
      rw [wX_node_3]
      dsimp only
      rw [e]
      exact br_f (nI_ge (by omega) (by omega)) ⟨w, br_c (fun h1 => ⟨w, br_c (fun h2 => ⟨w, br_c (fun h3 => ⟨w, br_c (fun h4 => hf i (by omega) h1 h2 h3 h4) (fun _ => nm_e nx)⟩) (fun _ => nm_e nx)⟩) (fun _ => nm_e nx)⟩) (fun _ => nm_e nx)⟩
  exact ⟨N + 1, main N (N + 1) 0 (by omega) (by omega)⟩
theorem xc_col (hN : N < 64) (hc : c < 6) (P : pg_ok N a_nodeOp a_nodeA a_nodeB a_nodeC a_needs a_state a_value D T) (K : ∀ (N' : Nat) (op' A' B' C' nd' st' : Nat → Int32) (vl' : Nat → Int64) (D' : (Nat → Int32) → Nat → VV) (T' : Nat → Nat) (r : Nat), pg_ok N' op' A' B' C' nd' st' vl' D' T' → pg_ex N a_nodeOp D T N' op' D' T' → r < N' → (∀ env, D' env r = mq_col (env c)) → mq_kd (op' r) = false → T' r ≤ 1 → post (nI r) (nI N', f_filterRoot, f_valueRoot, f_keyRoot, f_partCount, f_groups, f_passed, f_overflow, a_cells, a_live, a_zoneLeast, a_zoneMost, a_tokens, a_constants, a_lengths, op', A', B', C', nd', a_wanted, vl', st', a_work, a_parts, a_heads, a_chain, a_places, a_sorted, a_groupNull, a_groupKey, a_groupPairs, a_groupValues, a_groupSum, a_groupLeast, a_groupMost)) : wpX_node post (nI N, f_filterRoot, f_valueRoot, f_keyRoot, f_partCount, f_groups, f_passed, f_overflow, a_cells, a_live, a_zoneLeast, a_zoneMost, a_tokens, a_constants, a_lengths, a_nodeOp, a_nodeA, a_nodeB, a_nodeC, a_needs, a_wanted, a_value, a_state, a_work, a_parts, a_heads, a_chain, a_places, a_sorted, a_groupNull, a_groupKey, a_groupPairs, a_groupValues, a_groupSum, a_groupLeast, a_groupMost) (nI c) 0 0 0 := by
  refine xc_nlp hN (fun i hi h1 _ _ _ => ?_) (fun n => ?_)
  · rcases P i hi with ⟨c', g1, g2, _, g4, g5⟩ | ⟨g1, _⟩ | ⟨g1, _⟩ | ⟨_, _, _, g1, _⟩
    · have : c' = c := zb_inj (g2.symm.trans h1) (by omega) (by omega)
      subst this
      exact K N _ _ _ _ _ _ _ D T i P pg_ex_rf hi g4 (by rw [h1]; exact mq_kd_c _ hc) (Nat.le_of_eq g5)
    · rw [h1] at g1; exact absurd g1 (zb_ne (b := 40) (by omega) (by omega) (by omega))
    · rw [h1] at g1; exact absurd g1 (zb_ne (b := 41) (by omega) (by omega) (by omega))
    · rw [h1] at g1; exact absurd (nI_lt (b := 6) hc (by decide)) (mq_op_lo g1).2.1
  · have e : (nI N).toNatClampNeg = N := nI_clamp (by omega)
    have w : vp_in (nI N) 64 := vp_in_nI hN (by omega)
    have Q : ∀ m : Int32, m = (if c < 3 then 1 else 2) → _ := fun m hm => pg_add (d := fun env => mq_col (env c)) (t := 1) (op' := upd a_nodeOp N (nI c)) (A' := upd a_nodeA N 0) (B' := upd a_nodeB N 0) (C' := upd a_nodeC N 0) (nd' := upd a_needs N m) (st' := a_state) (vl' := a_value) P
        (fun j hj => ⟨pk_un (by omega), pk_un (by omega), pk_un (by omega), pk_un (by omega), pk_un (by omega), rfl, rfl⟩)
        (Or.inl ⟨c, hc, pk_us, pk_us.trans hm, fun env => pg_Ds, pg_Ts⟩)
    rw [wX_node_3]
    refine br_t (nI_le (by omega) (by omega)) (xc_fresh hN (zb_b8 c (by omega)) zb_z8 zb_z8 zb_z8 ?_)
    dsimp only
    rw [e]
    refine br_f (nI_ge (b := 10) (by omega) (by decide)) ?_
    by_cases z : c < 3
    · refine br_f (nI_ge (b := 3) z (by decide)) ⟨w, nm_r (e' := upd a_needs N 1) (by rw [pk_vb]; rfl) ?_⟩
      have Q := Q 1 (by rw [if_pos z])
      exact K (N + 1) _ _ _ _ _ _ _ _ _ N Q.1 Q.2 (by omega) (fun env => pg_Ds) (by rw [pk_us]; exact mq_kd_c _ hc) (Nat.le_of_eq pg_Ts)
    · refine br_t (nI_le (a := 3) (by omega) (by omega)) ⟨w, nm_r (e' := upd a_needs N 2) (by rw [pk_vb]; rfl) ?_⟩
      have Q := Q 2 (by rw [if_neg z])
      exact K (N + 1) _ _ _ _ _ _ _ _ _ N Q.1 Q.2 (by omega) (fun env => pg_Ds) (by rw [pk_us]; exact mq_kd_c _ hc) (Nat.le_of_eq pg_Ts)
theorem zb_or3 {x y z : Int32} (hx : x = 0 ∨ x = 1 ∨ x = 2 ∨ x = 3) (hy : y = 0 ∨ y = 1 ∨ y = 2 ∨ y = 3) (hz : z = 0 ∨ z = 1 ∨ z = 2 ∨ z = 3) :
    vp_nar .byte ((x ||| y ||| z).toInt8.toInt32) = x ||| y ||| z ∧ ((x ≠ 0 ∨ y ≠ 0 ∨ z ≠ 0) → x ||| y ||| z ≠ 0) := by
  rw [pk_vb]
  rcases hx with rfl | rfl | rfl | rfl <;> rcases hy with rfl | rfl | rfl | rfl <;> rcases hz with rfl | rfl | rfl | rfl <;> decide
theorem mq_op_8 {t : Int32} (h : mq_op t) : t.toInt8.toInt32 = t := by
  rcases h with rfl | rfl | rfl | rfl | rfl | rfl | rfl | rfl | rfl | rfl | rfl | rfl | rfl | rfl | rfl | rfl <;> decide
theorem xc_op (hN : N < 64) (ht : mq_op t) (ha : a < N) (hb : b < N) (hc : c < N) (h15 : t = 15 → b = a) (ka : mq_kd (a_nodeOp a) = mq_wt t 0) (kb : 2 ≤ mq_ar t → mq_kd (a_nodeOp b) = mq_wt t 1) (kc : mq_ar t = 3 → mq_kd (a_nodeOp c) = mq_wt t 2)
    (hn : a_nodeOp a < 40 ∨ a_nodeOp b < 40 ∨ a_nodeOp c < 40) (P : pg_ok N a_nodeOp a_nodeA a_nodeB a_nodeC a_needs a_state a_value D T) (K : ∀ (N' : Nat) (op' A' B' C' nd' st' : Nat → Int32) (vl' : Nat → Int64) (D' : (Nat → Int32) → Nat → VV) (T' : Nat → Nat) (r : Nat), pg_ok N' op' A' B' C' nd' st' vl' D' T' → pg_ex N a_nodeOp D T N' op' D' T' → r < N' → (∀ env, D' env r = mq_sem t (D env a) (D env b) (D env c)) → mq_kd (op' r) = mq_tr t → T' r ≤ pg_t t (T a) (T b) → post (nI r) (nI N', f_filterRoot, f_valueRoot, f_keyRoot, f_partCount, f_groups, f_passed, f_overflow, a_cells, a_live, a_zoneLeast, a_zoneMost, a_tokens, a_constants, a_lengths, op', A', B', C', nd', a_wanted, vl', st', a_work, a_parts, a_heads, a_chain, a_places, a_sorted, a_groupNull, a_groupKey, a_groupPairs, a_groupValues, a_groupSum, a_groupLeast, a_groupMost)) : wpX_node post (nI N, f_filterRoot, f_valueRoot, f_keyRoot, f_partCount, f_groups, f_passed, f_overflow, a_cells, a_live, a_zoneLeast, a_zoneMost, a_tokens, a_constants, a_lengths, a_nodeOp, a_nodeA, a_nodeB, a_nodeC, a_needs, a_wanted, a_value, a_state, a_work, a_parts, a_heads, a_chain, a_places, a_sorted, a_groupNull, a_groupKey, a_groupPairs, a_groupValues, a_groupSum, a_groupLeast, a_groupMost) t (nI a) (nI b) (nI c) := by
  refine xc_nlp hN (fun i hi h1 h2 h3 h4 => ?_) (fun n => ?_)
  · rcases P i hi with ⟨c', g1, g2, _, g4, g5⟩ | ⟨g1, _⟩ | ⟨g1, _⟩ | ⟨a', b', c', g1, la, lb, lc, ea, eb, ec, _, _, _, _, _, _, gd, gt⟩
    · rw [h1] at g2; rw [g2] at ht; exact absurd (nI_lt (b := 6) g1 (by decide)) (mq_op_lo ht).2.1
    · rw [h1] at g1; exact absurd g1 (mq_op_lo ht).2.2.1
    · rw [h1] at g1; exact absurd g1 (mq_op_lo ht).2.2.2.1
    · have e1 : a' = a := zb_inj (ea.symm.trans h2) (by omega) (by omega)
      have e2 : b' = b := zb_inj (eb.symm.trans h3) (by omega) (by omega)
      have e3 : c' = c := zb_inj (ec.symm.trans h4) (by omega) (by omega)
      subst e1; subst e2; subst e3
      rw [h1] at gd gt
      exact K N _ _ _ _ _ _ _ D T i P pg_ex_rf hi gd (by rw [h1]; exact mq_kd_op ht) (Nat.le_of_eq gt)
  · have e : (nI N).toNatClampNeg = N := nI_clamp (by omega)
    have w : vp_in (nI N) 64 := vp_in_nI hN (by omega)
    have q3 := zb_or3 (pg_nd P a ha) (pg_nd P b hb) (pg_nd P c hc)
    have Q := pg_add (d := fun env => mq_sem t (D env a) (D env b) (D env c)) (t := pg_t t (T a) (T b)) (op' := upd a_nodeOp N t) (A' := upd a_nodeA N (nI a)) (B' := upd a_nodeB N (nI b)) (C' := upd a_nodeC N (nI c)) (nd' := upd a_needs N (a_needs a ||| a_needs b ||| a_needs c)) (st' := a_state) (vl' := a_value) P
        (fun j hj => ⟨pk_un (by omega), pk_un (by omega), pk_un (by omega), pk_un (by omega), pk_un (by omega), rfl, rfl⟩)
        (Or.inr (Or.inr (Or.inr ⟨a, b, c, by
          rw [pk_us, pk_us, pk_us, pk_us, pk_us, pk_un (show a ≠ N by omega), pk_un (show b ≠ N by omega), pk_un (show c ≠ N by omega), pk_un (show a ≠ N by omega), pk_un (show b ≠ N by omega), pk_un (show c ≠ N by omega), pg_Ts, pg_Tn (show a ≠ N by omega), pg_Tn (show b ≠ N by omega)]
          refine ⟨ht, ha, hb, hc, rfl, rfl, rfl, h15, ka, kb, kc, rfl, q3.2 ?_, fun env => ?_, rfl⟩
          · rcases hn with h | h | h
            · exact Or.inl (pg_nk P ha h)
            · exact Or.inr (Or.inl (pg_nk P hb h))
            · exact Or.inr (Or.inr (pg_nk P hc h))
          · rw [pg_Ds, pg_Dn (show a ≠ N by omega), pg_Dn (show b ≠ N by omega), pg_Dn (show c ≠ N by omega)]⟩)))
    rw [wX_node_3]
    refine br_t (nI_le (by omega) (by omega)) (xc_fresh hN (mq_op_8 ht) (zb_b8 a (by omega)) (zb_b8 b (by omega)) (zb_b8 c (by omega)) ?_)
    dsimp only
    rw [e, nI_clamp (show a < 2 ^ 31 by omega), nI_clamp (show b < 2 ^ 31 by omega), nI_clamp (show c < 2 ^ 31 by omega), q3.1]
    refine br_t (mq_op_lo ht).2.2.2.2.2.2 ⟨vp_in_nI (by omega) (by omega), vp_in_nI (by omega) (by omega), vp_in_nI (by omega) (by omega), w, nm_e ?_⟩
    exact K (N + 1) _ _ _ _ _ _ _ _ _ N Q.1 Q.2 (by omega) (fun env => pg_Ds) (by rw [pk_us]; exact mq_kd_op ht) (Nat.le_of_eq pg_Ts)
end XND
end
section
/-! ===== the algebra behind X's simplifications ===== -/
theorem al_ad0 {a : VV} (c : VV) (h : mq_ov false a) : mq_sem 10 a (0, 0) c = a ∧ mq_sem 10 (0, 0) a c = a ∧ mq_sem 11 a (0, 0) c = a := by
  rw [mq_s10, mq_s10, mq_s11]
  rcases h with h | rfl
  · obtain ⟨x, y⟩ := a
    have : y = 0 := h
    subst this
    simp
  · simp
theorem al_mu1 {a : VV} (c : VV) (h : mq_ov false a) : mq_sem 12 a (1, 0) c = a ∧ mq_sem 12 (1, 0) a c = a ∧ mq_sem 13 a (1, 0) c = a := by
  rw [mq_s12, mq_s12, mq_s13]
  rcases h with h | rfl
  · obtain ⟨x, y⟩ := a
    have : y = 0 := h
    subst this
    simp
  · simp
theorem al_neg {a : VV} (b c b' c' : VV) (h : mq_ov false a) : mq_sem 15 (mq_sem 15 a b c) b' c' = a := by
  rw [mq_s15, mq_s15]
  rcases h with h | rfl
  · obtain ⟨x, y⟩ := a
    have : y = 0 := h
    subst this
    simp
  · decide
theorem al_not {a : VV} (b c b' c' : VV) (h : mq_ov true a) : mq_sem 32 (mq_sem 32 a b c) b' c' = a := by
  rw [mq_s32, mq_s32]
  rcases h with rfl | rfl | rfl <;> decide
theorem al_com {t : Int32} (a b c c' : VV) (h : t = 10 ∨ t = 12 ∨ t = 20 ∨ t = 23 ∨ t = 30 ∨ t = 31) : mq_sem t b a c' = mq_sem t a b c := by
  have an : (b.2 = 0 ∧ a.2 = 0) = (a.2 = 0 ∧ b.2 = 0) := propext ⟨fun h => ⟨h.2, h.1⟩, fun h => ⟨h.2, h.1⟩⟩
  rcases h with rfl | rfl | rfl | rfl | rfl | rfl
  · rw [mq_s10, mq_s10]; simp only [an, Int64.add_comm]
  · rw [mq_s12, mq_s12]; simp only [an, Int64.mul_comm]
  · rw [mq_s20, mq_s20]; simp only [an]; rw [show (b.1 = a.1) = (a.1 = b.1) from propext ⟨Eq.symm, Eq.symm⟩]
  · rw [mq_s23, mq_s23]; simp only [an]; rw [show (b.1 = a.1) = (a.1 = b.1) from propext ⟨Eq.symm, Eq.symm⟩]
  · rw [mq_s30, mq_s30]; simp only [or_comm]
  · rw [mq_s31, mq_s31]; simp only [or_comm]
theorem al_strN {t : Int32} (a b c : VV) (h : t = 10 ∨ t = 11 ∨ t = 12 ∨ t = 13 ∨ t = 14) (hn : a = (0, 1) ∨ b = (0, 1)) : mq_sem t a b c = (0, 1) := by
  have n1 : ¬ ((1 : Int32) = 0) := by decide
  rcases h with rfl | rfl | rfl | rfl | rfl <;> rcases hn with rfl | rfl <;> simp [mq_s10, mq_s11, mq_s12, mq_s13, mq_s14]
theorem al_strT {t : Int32} (a b c : VV) (h : t = 20 ∨ t = 21 ∨ t = 22 ∨ t = 23) (hn : a = (0, 1) ∨ b = (0, 1)) : mq_sem t a b c = (2, 0) := by
  rcases h with rfl | rfl | rfl | rfl <;> rcases hn with rfl | rfl <;> simp [mq_s20, mq_s21, mq_s22, mq_s23]
theorem al_30 {a b : VV} (c : VV) (ha : mq_ov true a) (hb : mq_ov true b) : mq_sem 30 a a c = a ∧ mq_sem 30 (0, 0) b c = (0, 0) ∧ mq_sem 30 a (1, 0) c = a ∧ mq_sem 30 a (0, 0) c = (0, 0) ∧ mq_sem 30 (1, 0) b c = b := by
  simp only [mq_s30]
  rcases ha with rfl | rfl | rfl <;> rcases hb with rfl | rfl | rfl <;> decide
theorem al_31 {a b : VV} (c : VV) (ha : mq_ov true a) (hb : mq_ov true b) : mq_sem 31 a a c = a ∧ mq_sem 31 (1, 0) b c = (1, 0) ∧ mq_sem 31 a (0, 0) c = a ∧ mq_sem 31 a (1, 0) c = (1, 0) ∧ mq_sem 31 (0, 0) b c = b := by
  simp only [mq_s31]
  rcases ha with rfl | rfl | rfl <;> rcases hb with rfl | rfl | rfl <;> decide
theorem al_16 {a : VV} (b c : VV) (ha : mq_ov false a) : mq_sem 16 a a c = a ∧ mq_sem 16 (0, 1) b c = b ∧ mq_sem 16 a (0, 1) c = a ∧ (a.2 = 0 → mq_sem 16 a b c = a) := by
  simp only [mq_s16]
  rcases ha with h | rfl
  · rw [if_pos h, if_pos h, if_pos h]; exact ⟨rfl, if_neg (by decide), rfl, fun _ => rfl⟩
  · exact ⟨by decide, if_neg (by decide), by decide, fun h => absurd h (by decide)⟩
/-! ===== X: is, isTruth, known, simpler ===== -/
section XMK
variable {f_nodes f_filterRoot f_valueRoot f_keyRoot f_partCount f_groups f_passed f_overflow : Int32}
variable {a_cells a_live a_zoneLeast a_zoneMost a_tokens a_constants a_lengths a_nodeOp a_nodeA a_nodeB a_nodeC a_needs a_wanted a_state a_work a_parts a_heads a_chain a_places a_sorted a_groupNull a_groupPairs a_groupValues : Nat → Int32}
variable {a_value a_groupKey a_groupSum a_groupLeast a_groupMost : Nat → Int64}
variable {D : (Nat → Int32) → Nat → VV} {T : Nat → Nat} {N a b c k : Nat} {t : Int32}
theorem xs_known {post : Int32 → Prop} (hN : N ≤ 64) (hk : k < N) (K0 : a_nodeOp k < 40 → post 0) (K1 : ¬ a_nodeOp k < 40 → post 1) : wpX_known post (f_nodes, f_filterRoot, f_valueRoot, f_keyRoot, f_partCount, f_groups, f_passed, f_overflow, a_cells, a_live, a_zoneLeast, a_zoneMost, a_tokens, a_constants, a_lengths, a_nodeOp, a_nodeA, a_nodeB, a_nodeC, a_needs, a_wanted, a_value, a_state, a_work, a_parts, a_heads, a_chain, a_places, a_sorted, a_groupNull, a_groupKey, a_groupPairs, a_groupValues, a_groupSum, a_groupLeast, a_groupMost) (nI k) := by
  unfold wpX_known
  dsimp only
  rw [nI_clamp (by omega)]
  exact ⟨vp_in_nI (by omega) (by omega), br_c K0 K1⟩
theorem xs_is {post : Int32 → Prop} {v : Int64} (hN : N ≤ 64) (hk : k < N) (P : pg_ok N a_nodeOp a_nodeA a_nodeB a_nodeC a_needs a_state a_value D T) (K0 : post 0) (K1 : (∀ env, D env k = (v, 0)) → post 1) : wpX_is post (f_nodes, f_filterRoot, f_valueRoot, f_keyRoot, f_partCount, f_groups, f_passed, f_overflow, a_cells, a_live, a_zoneLeast, a_zoneMost, a_tokens, a_constants, a_lengths, a_nodeOp, a_nodeA, a_nodeB, a_nodeC, a_needs, a_wanted, a_value, a_state, a_work, a_parts, a_heads, a_chain, a_places, a_sorted, a_groupNull, a_groupKey, a_groupPairs, a_groupValues, a_groupSum, a_groupLeast, a_groupMost) (nI k) v := by
  have w : vp_in (nI k) 64 := vp_in_nI (by omega) (by omega)
  unfold wpX_is
  dsimp only
  rw [nI_clamp (by omega)]
  refine ⟨w, br_c (fun h1 => ⟨w, br_c (fun h2 => ⟨w, br_c (fun h3 => K1 (fun env => ?_)) (fun _ => K0)⟩) (fun _ => K0)⟩) (fun _ => K0)⟩
  have hl := (pg_kn P hk (by rw [h1]; decide)).2.2 env
  rw [h1, h2, h3] at hl
  rcases hl with ⟨_, e⟩ | ⟨e, _⟩
  · exact e
  · exact absurd e (by decide)
theorem xs_isT {post : Int32 → Prop} {s : Int32} {d : VV} (hs : xr_rp true s 0 d) (hN : N ≤ 64) (hk : k < N) (P : pg_ok N a_nodeOp a_nodeA a_nodeB a_nodeC a_needs a_state a_value D T) (K0 : post 0) (K1 : (∀ env, D env k = d) → post 1) : wpX_isTruth post (f_nodes, f_filterRoot, f_valueRoot, f_keyRoot, f_partCount, f_groups, f_passed, f_overflow, a_cells, a_live, a_zoneLeast, a_zoneMost, a_tokens, a_constants, a_lengths, a_nodeOp, a_nodeA, a_nodeB, a_nodeC, a_needs, a_wanted, a_value, a_state, a_work, a_parts, a_heads, a_chain, a_places, a_sorted, a_groupNull, a_groupKey, a_groupPairs, a_groupValues, a_groupSum, a_groupLeast, a_groupMost) (nI k) s := by
  have w : vp_in (nI k) 64 := vp_in_nI (by omega) (by omega)
  unfold wpX_isTruth
  dsimp only
  rw [nI_clamp (by omega)]
  refine ⟨w, br_c (fun h1 => ⟨w, br_c (fun h2 => K1 (fun env => ?_)) (fun _ => K0)⟩) (fun _ => K0)⟩
  have hl := (pg_kn P hk (by rw [h1]; decide)).2.2 env
  rw [h1, h2] at hl
  exact xr_un (xr_tr hl) hs
/-- X's simplification: an operand, or none -/
theorem xs_simpler {post : Int32 → Prop} (hN : N ≤ 64) (ht : mq_op t) (ha : a < N) (hb : b < N) (hc : c < N) (ka : mq_kd (a_nodeOp a) = mq_wt t 0) (kb : 2 ≤ mq_ar t → mq_kd (a_nodeOp b) = mq_wt t 1) (kc : mq_ar t = 3 → mq_kd (a_nodeOp c) = mq_wt t 2)
    (P : pg_ok N a_nodeOp a_nodeA a_nodeB a_nodeC a_needs a_state a_value D T) (K0 : post (-1)) (K : ∀ r, r < N → (∀ env, D env r = mq_sem t (D env a) (D env b) (D env c)) → mq_kd (a_nodeOp r) = mq_tr t → T r ≤ pg_t t (T a) (T b) → post (nI r)) : wpX_simpler post (f_nodes, f_filterRoot, f_valueRoot, f_keyRoot, f_partCount, f_groups, f_passed, f_overflow, a_cells, a_live, a_zoneLeast, a_zoneMost, a_tokens, a_constants, a_lengths, a_nodeOp, a_nodeA, a_nodeB, a_nodeC, a_needs, a_wanted, a_value, a_state, a_work, a_parts, a_heads, a_chain, a_places, a_sorted, a_groupNull, a_groupKey, a_groupPairs, a_groupValues, a_groupSum, a_groupLeast, a_groupMost) t (nI a) (nI b) (nI c) := by
  have oa : ∀ env, mq_ov (mq_wt t 0) (D env a) := fun env => ka ▸ pg_ov P env a ha
  have ob : 2 ≤ mq_ar t → ∀ env, mq_ov (mq_wt t 1) (D env b) := fun z env => kb z ▸ pg_ov P env b hb
  have Ta := fun h => pg_T1 P ha h
  have Tb := fun h => pg_T1 P hb h
  have Tc := fun h => pg_T1 P hc h
  have d0 : ∀ post : Int32 → Prop, (∀ z : Int32, z = -1 → post z) → post (-1) := fun _ h => h _ rfl
  unfold wpX_simpler
  dsimp only
  rcases ht with rfl | rfl | rfl | rfl | rfl | rfl | rfl | rfl | rfl | rfl | rfl | rfl | rfl | rfl | rfl | rfl
  · -- 10
    refine br_f (by decide) (br_f (by decide) (br_t rfl (xs_is hN ha P (br_t rfl (xs_is hN hb P (br_t rfl K0) (fun h => br_f (by decide) (K a ha (fun env => ?_) ka ?_)))) (fun h => br_f (by decide) (K b hb (fun env => ?_) (kb (by decide)) ?_)))))
    · rw [h env]; exact (al_ad0 _ (oa env)).1.symm
    · rw [Ta ka]; exact pg_t1 _ _ _
    · rw [h env]; exact (al_ad0 _ (ob (by decide) env)).2.1.symm
    · rw [Tb (kb (by decide))]; exact pg_t1 _ _ _
  · -- 11
    refine br_f (by decide) (br_f (by decide) (br_f (by decide) (br_t rfl (xs_is hN hb P (br_t rfl K0) (fun h => br_f (by decide) (K a ha (fun env => ?_) ka ?_))))))
    · rw [h env]; exact (al_ad0 _ (oa env)).2.2.symm
    · rw [Ta ka]; exact pg_t1 _ _ _
  · -- 12
    refine br_f (by decide) (br_f (by decide) (br_f (by decide) (br_f (by decide) (br_t rfl (xs_is hN ha P (br_t rfl (xs_is hN hb P (br_t rfl K0) (fun h => br_f (by decide) (K a ha (fun env => ?_) ka ?_)))) (fun h => br_f (by decide) (K b hb (fun env => ?_) (kb (by decide)) ?_)))))))
    · rw [h env]; exact (al_mu1 _ (oa env)).1.symm
    · rw [Ta ka]; exact pg_t1 _ _ _
    · rw [h env]; exact (al_mu1 _ (ob (by decide) env)).2.1.symm
    · rw [Tb (kb (by decide))]; exact pg_t1 _ _ _
  · -- 13
    refine br_f (by decide) (br_f (by decide) (br_f (by decide) (br_f (by decide) (br_f (by decide) (br_t rfl (xs_is hN hb P (br_t rfl K0) (fun h => br_f (by decide) (K a ha (fun env => ?_) ka ?_))))))))
    · rw [h env]; exact (al_mu1 _ (oa env)).2.2.symm
    · rw [Ta ka]; exact pg_t1 _ _ _
  · -- 14
    exact br_f (by decide) (br_f (by decide) (br_f (by decide) (br_f (by decide) (br_f (by decide) (br_f (by decide) (br_t rfl K0))))))
  · -- 15
    refine br_f (by decide) (br_f (by decide) (br_f (by decide) (br_f (by decide) (br_f (by decide) (br_f (by decide) (br_f (by decide) (br_t rfl ?_)))))))
    rw [nI_clamp (show a < 2 ^ 31 by omega)]
    refine ⟨vp_in_nI (by omega) (by omega), br_c (fun h => ⟨vp_in_nI (by omega) (by omega), ?_⟩) (fun _ => K0)⟩
    rcases P a ha with ⟨c', g1, g2, _⟩ | ⟨g1, _⟩ | ⟨g1, _⟩ | ⟨x, y, z, g1, lx, ly, lz, ex, ey, ez, _, kx, _, _, _, _, gd, gt⟩
    · rw [h] at g2; exact absurd g2.symm (zb_ne (a := c') (b := 15) (by omega) (by omega) (by omega))
    · rw [h] at g1; exact absurd g1 (by decide)
    · rw [h] at g1; exact absurd g1 (by decide)
    · rw [ex]
      rw [h] at gd kx
      refine K x (by omega) (fun env => ?_) kx ?_
      · rw [gd env]
        refine (al_neg _ _ _ _ ?_).symm
        have := pg_ov P env x (by omega)
        rw [kx] at this
        exact this
      · rw [pg_T1 P (show x < N by omega) kx]; exact pg_t1 _ _ _
  · -- 16
    have oa : ∀ env, mq_ov false (D env a) := oa
    have ra : T a ≤ pg_t 16 (T a) (T b) := by rw [Ta ka]; exact pg_t1 _ _ _
    have rb : T b ≤ pg_t 16 (T a) (T b) := by rw [Tb (kb (by decide))]; exact pg_t1 _ _ _
    have s251 : (¬ a_nodeOp a < 40 → ¬ a_state a = 1) → wX_simpler_251 post (nI a) (nI b) f_nodes f_filterRoot f_valueRoot f_keyRoot f_partCount f_groups f_passed f_overflow a_cells a_live a_zoneLeast a_zoneMost a_tokens a_constants a_lengths a_nodeOp a_nodeA a_nodeB a_nodeC a_needs a_wanted a_value a_state a_work a_parts a_heads a_chain a_places a_sorted a_groupNull a_groupKey a_groupPairs a_groupValues a_groupSum a_groupLeast a_groupMost := by
      intro hn
      refine xs_known hN ha (fun _ => br_t rfl (xs_known hN hb (fun _ => br_t rfl K0) (fun h => br_f (by decide) ?_))) (fun h => br_f (by decide) (K b hb (fun env => ?_) (kb (by decide)) rb))
      · rw [nI_clamp (show b < 2 ^ 31 by omega)]
        refine ⟨vp_in_nI (by omega) (by omega), br_c (fun s0 => K a ha (fun env => ?_) ka ra) (fun _ => K0)⟩
        have hl := (pg_kn P hb h).2.2 env
        rw [kb (by decide), s0] at hl
        rcases hl with ⟨e, _⟩ | ⟨_, e⟩
        · exact absurd e (by decide)
        · rw [e]; exact (al_16 (D env b) _ (oa env)).2.2.1.symm
      · have hl := (pg_kn P ha h).2.2 env
        rw [ka] at hl
        rcases hl with ⟨e, _⟩ | ⟨_, e⟩
        · exact absurd e (hn h)
        · rw [e]; exact (al_16 (D env b) _ (oa env)).2.1.symm
    refine br_f (by decide) (br_f (by decide) (br_f (by decide) (br_f (by decide) (br_f (by decide) (br_f (by decide) (br_f (by decide) (br_f (by decide) (br_t rfl ?_))))))))
    refine br_c (fun h => K a ha (fun env => ?_) ka ra) (fun _ => xs_known hN ha (fun h => br_t rfl (s251 (fun z => absurd h z))) (fun h => br_f (by decide) ?_))
    · have : a = b := zb_inj h (by omega) (by omega)
      subst this
      exact (al_16 (D env a) _ (oa env)).1.symm
    · rw [nI_clamp (show a < 2 ^ 31 by omega)]
      refine ⟨vp_in_nI (by omega) (by omega), br_c (fun s1 => K a ha (fun env => ?_) ka ra) (fun s1 => s251 (fun _ => s1))⟩
      have hl := (pg_kn P ha h).2.2 env
      rw [ka] at hl
      rcases hl with ⟨_, e⟩ | ⟨e, _⟩
      · exact ((al_16 (D env b) _ (oa env)).2.2.2 (by rw [e])).symm
      · rw [s1] at e; exact absurd e (by decide)
  all_goals try exact br_f (by decide) (br_f (by decide) (br_f (by decide) (br_f (by decide) (br_f (by decide) (br_f (by decide) (br_f (by decide) (br_f (by decide) (br_f (by decide) (br_f (by decide) (br_f (by decide) (br_f (by decide) (br_t rfl K0))))))))))))
  all_goals try exact br_f (by decide) (br_f (by decide) (br_f (by decide) (br_f (by decide) (br_f (by decide) (br_f (by decide) (br_f (by decide) (br_f (by decide) (br_f (by decide) (br_f (by decide) (br_f (by decide) (br_f (by decide) (br_f (by decide) (br_t rfl K0)))))))))))))
  all_goals try exact br_f (by decide) (br_f (by decide) (br_f (by decide) (br_f (by decide) (br_f (by decide) (br_f (by decide) (br_f (by decide) (br_f (by decide) (br_f (by decide) (br_f (by decide) (br_f (by decide) (br_f (by decide) (br_f (by decide) (br_f (by decide) (br_t rfl K0))))))))))))))
  all_goals try exact br_f (by decide) (br_f (by decide) (br_f (by decide) (br_f (by decide) (br_f (by decide) (br_f (by decide) (br_f (by decide) (br_f (by decide) (br_f (by decide) (br_f (by decide) (br_f (by decide) (br_f (by decide) (br_f (by decide) (br_f (by decide) (br_f (by decide) (br_t rfl K0)))))))))))))))
  · -- 30
    have oa : ∀ env, mq_ov true (D env a) := oa
    have ob : ∀ env, mq_ov true (D env b) := ob (by decide)
    have tb : T b ≤ pg_t 30 (T a) (T b) := by unfold pg_t; rw [if_pos (Or.inl rfl)]; omega
    have ta : T a ≤ pg_t 30 (T a) (T b) := by unfold pg_t; rw [if_pos (Or.inl rfl)]; omega
    have t0 : xr_rp true 0 0 (0, 0) := Or.inl ⟨rfl, rfl⟩
    have t1 : xr_rp true 1 0 (1, 0) := Or.inr (Or.inl ⟨rfl, rfl⟩)
    iterate 22 refine br_f (by decide) ?_
    refine br_t rfl (br_c (fun h => K a ha (fun env => ?_) ka ta) (fun _ => xs_isT t0 hN ha P (br_t rfl (xs_isT t1 hN hb P (br_t rfl (xs_isT t0 hN hb P (br_t rfl (xs_isT t1 hN ha P (br_t rfl K0) (fun h => br_f (by decide) (K b hb (fun env => ?_) (kb (by decide)) tb)))) (fun h => br_f (by decide) (K b hb (fun env => ?_) (kb (by decide)) tb)))) (fun h => br_f (by decide) (K a ha (fun env => ?_) ka ta)))) (fun h => br_f (by decide) (K a ha (fun env => ?_) ka ta))))
    · have : a = b := zb_inj h (by omega) (by omega)
      subst this
      exact (al_30 _ (oa env) (oa env)).1.symm
    · rw [h env]; exact (al_30 _ (oa env) (ob env)).2.2.2.2.symm
    · rw [h env]; exact (al_30 _ (oa env) (ob env)).2.2.2.1.symm
    · rw [h env]; exact (al_30 _ (oa env) (ob env)).2.2.1.symm
    · rw [h env]; exact (al_30 _ (oa env) (ob env)).2.1.symm
  · -- 31
    have oa : ∀ env, mq_ov true (D env a) := oa
    have ob : ∀ env, mq_ov true (D env b) := ob (by decide)
    have tb : T b ≤ pg_t 31 (T a) (T b) := by unfold pg_t; rw [if_pos (Or.inr rfl)]; omega
    have ta : T a ≤ pg_t 31 (T a) (T b) := by unfold pg_t; rw [if_pos (Or.inr rfl)]; omega
    have t0 : xr_rp true 0 0 (0, 0) := Or.inl ⟨rfl, rfl⟩
    have t1 : xr_rp true 1 0 (1, 0) := Or.inr (Or.inl ⟨rfl, rfl⟩)
    iterate 23 refine br_f (by decide) ?_
    refine br_t rfl (br_c (fun h => K a ha (fun env => ?_) ka ta) (fun _ => xs_isT t1 hN ha P (br_t rfl (xs_isT t0 hN hb P (br_t rfl (xs_isT t1 hN hb P (br_t rfl (xs_isT t0 hN ha P (br_t rfl K0) (fun h => br_f (by decide) (K b hb (fun env => ?_) (kb (by decide)) tb)))) (fun h => br_f (by decide) (K b hb (fun env => ?_) (kb (by decide)) tb)))) (fun h => br_f (by decide) (K a ha (fun env => ?_) ka ta)))) (fun h => br_f (by decide) (K a ha (fun env => ?_) ka ta))))
    · have : a = b := zb_inj h (by omega) (by omega)
      subst this
      exact (al_31 _ (oa env) (oa env)).1.symm
    · rw [h env]; exact (al_31 _ (oa env) (ob env)).2.2.2.2.symm
    · rw [h env]; exact (al_31 _ (oa env) (ob env)).2.2.2.1.symm
    · rw [h env]; exact (al_31 _ (oa env) (ob env)).2.2.1.symm
    · rw [h env]; exact (al_31 _ (oa env) (ob env)).2.1.symm
  · -- 32
    iterate 24 refine br_f (by decide) ?_
    refine br_t rfl ?_
    rw [nI_clamp (show a < 2 ^ 31 by omega)]
    refine ⟨vp_in_nI (by omega) (by omega), br_c (fun h => ⟨vp_in_nI (by omega) (by omega), ?_⟩) (fun _ => K0)⟩
    rcases P a ha with ⟨c', g1, g2, _⟩ | ⟨g1, _⟩ | ⟨g1, _⟩ | ⟨x, y, z, g1, lx, ly, lz, ex, ey, ez, _, kx, _, _, _, _, gd, gt⟩
    · rw [h] at g2; exact absurd g2.symm (zb_ne (a := c') (b := 32) (by omega) (by omega) (by omega))
    · rw [h] at g1; exact absurd g1 (by decide)
    · rw [h] at g1; exact absurd g1 (by decide)
    · rw [ex]
      rw [h] at gd kx gt
      refine K x (by omega) (fun env => ?_) kx ?_
      · rw [gd env]
        refine (al_not _ _ _ _ ?_).symm
        have := pg_ov P env x (by omega)
        rw [kx] at this
        exact this
      · rw [gt]; unfold pg_t
        rw [if_neg (by decide), if_pos rfl, if_neg (by decide), if_pos rfl]; omega
  · -- 33
    iterate 25 refine br_f (by decide) ?_
    exact br_t rfl K0
  · -- 34
    have kb := kb (by decide)
    have kc := kc (by decide)
    have t1 : xr_rp true 1 0 (1, 0) := Or.inr (Or.inl ⟨rfl, rfl⟩)
    have rb : T b ≤ pg_t 34 (T a) (T b) := by rw [Tb kb]; exact pg_t1 _ _ _
    have rc : T c ≤ pg_t 34 (T a) (T b) := by rw [Tc kc]; exact pg_t1 _ _ _
    iterate 26 refine br_f (by decide) ?_
    refine br_t rfl (br_c (fun h => K b hb (fun env => ?_) kb rb) (fun _ => ?_))
    · have : b = c := zb_inj h (by omega) (by omega)
      subst this
      rw [mq_s34]; split <;> rfl
    · unfold wpX_isTruth
      dsimp only
      have w : vp_in (nI a) 64 := vp_in_nI (by omega) (by omega)
      rw [nI_clamp (show a < 2 ^ 31 by omega)]
      have kn : (a_nodeOp a = 41 → ¬ a_state a = 1) → wpX_known (fun r_726 => (((r_726 = 0 → (post (-1))) ∧ (¬ r_726 = 0 → (post (nI c)))))) (f_nodes, f_filterRoot, f_valueRoot, f_keyRoot, f_partCount, f_groups, f_passed, f_overflow, a_cells, a_live, a_zoneLeast, a_zoneMost, a_tokens, a_constants, a_lengths, a_nodeOp, a_nodeA, a_nodeB, a_nodeC, a_needs, a_wanted, a_value, a_state, a_work, a_parts, a_heads, a_chain, a_places, a_sorted, a_groupNull, a_groupKey, a_groupPairs, a_groupValues, a_groupSum, a_groupLeast, a_groupMost) (nI a) := by
        intro hn
        refine xs_known hN ha (fun _ => br_t rfl K0) (fun h => br_f (by decide) (K c hc (fun env => ?_) kc rc))
        have h41 : a_nodeOp a = 41 := by
          rcases (pg_kn P ha h).1 with e | e
          · rw [e] at ka; exact absurd ka (by decide)
          · exact e
        have hl := (pg_kn P ha h).2.2 env
        rw [ka] at hl
        rw [mq_s34]
        rcases hl with ⟨_, e⟩ | ⟨e, _⟩ | ⟨_, e⟩
        · rw [e, if_neg (by decide)]
        · exact absurd e (hn h41)
        · rw [e, if_neg (by decide)]
      refine ⟨w, br_c (fun h1 => ⟨w, br_c (fun h2 => br_f (by decide) (K b hb (fun env => ?_) kb rb)) (fun h2 => br_t rfl (kn (fun _ => h2)))⟩) (fun h1 => br_t rfl (kn (fun z => absurd z h1)))⟩
      have hl := (pg_kn P ha (by rw [h1]; decide)).2.2 env
      rw [h1, h2] at hl
      rcases hl with ⟨e, _⟩ | ⟨_, e⟩ | ⟨e, _⟩
      · exact absurd e (by decide)
      · rw [mq_s34, e, if_pos rfl]
      · exact absurd e (by decide)
end XMK
end
section
/-! ===== X: fold, make ===== -/
section XFO
variable {f_nodes f_filterRoot f_valueRoot f_keyRoot f_partCount f_groups f_passed f_overflow : Int32}
variable {a_cells a_live a_zoneLeast a_zoneMost a_tokens a_constants a_lengths a_nodeOp a_nodeA a_nodeB a_nodeC a_needs a_wanted a_state a_work a_parts a_heads a_chain a_places a_sorted a_groupNull a_groupPairs a_groupValues : Nat → Int32}
variable {a_value a_groupKey a_groupSum a_groupLeast a_groupMost : Nat → Int64}
variable {post : Int32 → SX → Prop} {D : (Nat → Int32) → Nat → VV} {T : Nat → Nat} {N a b c : Nat} {t : Int32}
theorem xc_fold (hN : N < 64) (ht : mq_op t) (ha : a < N) (hb : b < N) (hc : c < N) (h15 : t = 15 → b = a) (ka : mq_kd (a_nodeOp a) = mq_wt t 0) (kb : 2 ≤ mq_ar t → mq_kd (a_nodeOp b) = mq_wt t 1) (kc : mq_ar t = 3 → mq_kd (a_nodeOp c) = mq_wt t 2)
    (na : ¬ a_nodeOp a < 40) (nb : ¬ a_nodeOp b < 40) (nc : ¬ a_nodeOp c < 40) (P : pg_ok N a_nodeOp a_nodeA a_nodeB a_nodeC a_needs a_state a_value D T) (K : ∀ (N' : Nat) (op' A' B' C' nd' st' : Nat → Int32) (vl' : Nat → Int64) (D' : (Nat → Int32) → Nat → VV) (T' : Nat → Nat) (r : Nat), pg_ok N' op' A' B' C' nd' st' vl' D' T' → pg_ex N a_nodeOp D T N' op' D' T' → r < N' → (∀ env, D' env r = mq_sem t (D env a) (D env b) (D env c)) → mq_kd (op' r) = mq_tr t → T' r ≤ 1 → post (nI r) (nI N', f_filterRoot, f_valueRoot, f_keyRoot, f_partCount, f_groups, f_passed, f_overflow, a_cells, a_live, a_zoneLeast, a_zoneMost, a_tokens, a_constants, a_lengths, op', A', B', C', nd', a_wanted, vl', st', a_work, a_parts, a_heads, a_chain, a_places, a_sorted, a_groupNull, a_groupKey, a_groupPairs, a_groupValues, a_groupSum, a_groupLeast, a_groupMost)) : wpX_fold post (nI N, f_filterRoot, f_valueRoot, f_keyRoot, f_partCount, f_groups, f_passed, f_overflow, a_cells, a_live, a_zoneLeast, a_zoneMost, a_tokens, a_constants, a_lengths, a_nodeOp, a_nodeA, a_nodeB, a_nodeC, a_needs, a_wanted, a_value, a_state, a_work, a_parts, a_heads, a_chain, a_places, a_sorted, a_groupNull, a_groupKey, a_groupPairs, a_groupValues, a_groupSum, a_groupLeast, a_groupMost) t (nI a) (nI b) (nI c) := by
  have Ra := (pg_kn P ha na).2.2
  have Rb := (pg_kn P hb nb).2.2
  have Rc := (pg_kn P hc nc).2.2
  have cst : ∀ env, mq_sem t (D env a) (D env b) (D env c) = mq_sem t (D (fun _ => 0) a) (D (fun _ => 0) b) (D (fun _ => 0) c) := by
    intro env
    rw [xr_un (Ra env) (Ra (fun _ => 0)), xr_un (Rb env) (Rb (fun _ => 0)), xr_un (Rc env) (Rc (fun _ => 0))]
  have e : (nI N).toNatClampNeg = N := nI_clamp (by omega)
  have w : vp_in (nI N) 64 := vp_in_nI hN (by omega)
  unfold wpX_fold
  dsimp only
  refine xc_fresh hN (mq_op_8 ht) (zb_b8 a (by omega)) (zb_b8 b (by omega)) (zb_b8 c (by omega)) ?_
  dsimp only
  refine xe_evaluate (t := t) (a := a) (b := b) (c := c) (da := D (fun _ => 0) a) (db := D (fun _ => 0) b) (dc := D (fun _ => 0) c) hN pk_us pk_us pk_us pk_us (by omega) (by omega) (by omega) ht h15 (ka ▸ Ra _) (fun z => kb z ▸ Rb _) (fun z => kc z ▸ Rc _) (fun s' v' h => ?_)
  dsimp only
  rw [e, pk_us, pk_uLs]
  refine nm_r (nI_pred N) ⟨w, nm_e ⟨w, nm_e ?_⟩⟩
  have P2 : pg_ok N (upd a_nodeOp N t) (upd a_nodeA N (nI a)) (upd a_nodeB N (nI b)) (upd a_nodeC N (nI c)) a_needs (upd a_state N s') (vp_updL a_value N v') D T :=
    pg_fr2 P (fun j hj => ⟨pk_un (by omega), pk_un (by omega), pk_un (by omega), pk_un (by omega), rfl, pk_un (by omega), pk_uLn (by omega), fun _ => rfl, rfl⟩)
  have ex : ∀ {N' : Nat} {op' : Nat → Int32} {D' : (Nat → Int32) → Nat → VV} {T' : Nat → Nat}, pg_ex N (upd a_nodeOp N t) D T N' op' D' T' → pg_ex N a_nodeOp D T N' op' D' T' := by
    intro N' op' D' T' h
    exact ⟨h.1, h.2.1, fun j hj => ⟨(h.2.2 j hj).1.trans (pk_un (by omega)), (h.2.2 j hj).2⟩⟩
  have tn : mq_tr t = false → wX_fold_64 post s' v' (nI N) f_filterRoot f_valueRoot f_keyRoot f_partCount f_groups f_passed f_overflow a_cells a_live a_zoneLeast a_zoneMost a_tokens a_constants a_lengths (upd a_nodeOp N t) (upd a_nodeA N (nI a)) (upd a_nodeB N (nI b)) (upd a_nodeC N (nI c)) a_needs a_wanted (vp_updL a_value N v') (upd a_state N s') a_work a_parts a_heads a_chain a_places a_sorted a_groupNull a_groupKey a_groupPairs a_groupValues a_groupSum a_groupLeast a_groupMost := by
    intro hf
    rw [hf] at h K
    have nn : ∀ z : Int32, (z = 0 ∨ z = 1) → (if z = 0 then ((0, 1) : VV) else (v', 0)) = mq_sem t (D (fun _ => 0) a) (D (fun _ => 0) b) (D (fun _ => 0) c) → wX_fold_76 post v' z (nI N) f_filterRoot f_valueRoot f_keyRoot f_partCount f_groups f_passed f_overflow a_cells a_live a_zoneLeast a_zoneMost a_tokens a_constants a_lengths (upd a_nodeOp N t) (upd a_nodeA N (nI a)) (upd a_nodeB N (nI b)) (upd a_nodeC N (nI c)) a_needs a_wanted (vp_updL a_value N v') (upd a_state N s') a_work a_parts a_heads a_chain a_places a_sorted a_groupNull a_groupKey a_groupPairs a_groupValues a_groupSum a_groupLeast a_groupMost := by
      intro z hz hv
      unfold wX_fold_76
      refine xc_number hN hz P2 (fun N' op' A' B' C' nd' st' vl' D' T' r hp hx hr hd hk hT => ?_)
      exact K N' op' A' B' C' nd' st' vl' D' T' r hp (ex hx) hr (fun env => (hd env).trans (hv.trans (cst env).symm)) hk hT
    rcases h with ⟨h1, h2⟩ | ⟨h1, h2⟩
    · exact br_t h1 (nn 1 (Or.inr rfl) (by rw [if_neg (by decide), h2]))
    · exact br_f (by rw [h1]; decide) (nn 0 (Or.inl rfl) (by rw [if_pos rfl, h2]))
  have tt : mq_tr t = true → wpX_truth post (nI N, f_filterRoot, f_valueRoot, f_keyRoot, f_partCount, f_groups, f_passed, f_overflow, a_cells, a_live, a_zoneLeast, a_zoneMost, a_tokens, a_constants, a_lengths, upd a_nodeOp N t, upd a_nodeA N (nI a), upd a_nodeB N (nI b), upd a_nodeC N (nI c), a_needs, a_wanted, vp_updL a_value N v', upd a_state N s', a_work, a_parts, a_heads, a_chain, a_places, a_sorted, a_groupNull, a_groupKey, a_groupPairs, a_groupValues, a_groupSum, a_groupLeast, a_groupMost) s' := by
    intro hf
    rw [hf] at h K
    refine xc_truth hN (xr_tr h) P2 (fun N' op' A' B' C' nd' st' vl' D' T' r hp hx hr hd hk hT => ?_)
    exact K N' op' A' B' C' nd' st' vl' D' T' r hp (ex hx) hr (fun env => (hd env).trans (cst env).symm) hk hT
  have sp : (t < 20 ∧ mq_tr t = false) ∨ (¬ t < 20 ∧ 33 < t ∧ mq_tr t = false) ∨ (¬ t < 20 ∧ ¬ 33 < t ∧ mq_tr t = true) := by
    rcases ht with rfl | rfl | rfl | rfl | rfl | rfl | rfl | rfl | rfl | rfl | rfl | rfl | rfl | rfl | rfl | rfl <;> decide
  rcases sp with ⟨h1, h2⟩ | ⟨h1, h2, h3⟩ | ⟨h1, h2, h3⟩
  · exact br_t h1 (tn h2)
  · exact br_f h1 (br_t h2 (tn h3))
  · exact br_f h1 (br_f h2 (tt h3))
theorem xm_187 (hN : N < 64) (ht : mq_op t) (ha : a < N) (hb : b < N) (hc : c < N) (u1 : mq_ar t = 1 → b = a) (u2 : ¬ mq_ar t = 3 → c = b) (ka : mq_kd (a_nodeOp a) = mq_wt t 0) (kb : 2 ≤ mq_ar t → mq_kd (a_nodeOp b) = mq_wt t 1) (kc : mq_ar t = 3 → mq_kd (a_nodeOp c) = mq_wt t 2)
    (hn : a_nodeOp a < 40 ∨ a_nodeOp b < 40 ∨ a_nodeOp c < 40) (P : pg_ok N a_nodeOp a_nodeA a_nodeB a_nodeC a_needs a_state a_value D T) (K : ∀ (N' : Nat) (op' A' B' C' nd' st' : Nat → Int32) (vl' : Nat → Int64) (D' : (Nat → Int32) → Nat → VV) (T' : Nat → Nat) (r : Nat), pg_ok N' op' A' B' C' nd' st' vl' D' T' → pg_ex N a_nodeOp D T N' op' D' T' → r < N' → (∀ env, D' env r = mq_sem t (D env a) (D env b) (D env c)) → mq_kd (op' r) = mq_tr t → T' r ≤ pg_t t (T a) (T b) → post (nI r) (nI N', f_filterRoot, f_valueRoot, f_keyRoot, f_partCount, f_groups, f_passed, f_overflow, a_cells, a_live, a_zoneLeast, a_zoneMost, a_tokens, a_constants, a_lengths, op', A', B', C', nd', a_wanted, vl', st', a_work, a_parts, a_heads, a_chain, a_places, a_sorted, a_groupNull, a_groupKey, a_groupPairs, a_groupValues, a_groupSum, a_groupLeast, a_groupMost)) :
    wX_make_187 post t (nI a) (nI b) (nI c) 0 (nI N) f_filterRoot f_valueRoot f_keyRoot f_partCount f_groups f_passed f_overflow a_cells a_live a_zoneLeast a_zoneMost a_tokens a_constants a_lengths a_nodeOp a_nodeA a_nodeB a_nodeC a_needs a_wanted a_value a_state a_work a_parts a_heads a_chain a_places a_sorted a_groupNull a_groupKey a_groupPairs a_groupValues a_groupSum a_groupLeast a_groupMost := by
  have h15 : t = 15 → b = a := fun z => u1 (by rw [z]; decide)
  refine br_t rfl (br_c (fun h => ?_) (fun h => ?_))
  · exact xc_op hN ht ha hb hc h15 ka kb kc hn P K
  · have n3 : ¬ mq_ar t = 3 := by
      intro z
      rcases ht with rfl | rfl | rfl | rfl | rfl | rfl | rfl | rfl | rfl | rfl | rfl | rfl | rfl | rfl | rfl | rfl <;> first | (exact absurd z (by decide)) | (exact h rfl)
    have := u2 n3
    subst this
    exact xc_op hN ht ha hb hb h15 ka kb (fun z => absurd z n3) hn P K
theorem xm_turn (hN : N < 64) (ht : t = 10 ∨ t = 12 ∨ t = 20 ∨ t = 23 ∨ t = 30 ∨ t = 31) (ha : a < N) (hb : b < N) (ka : mq_kd (a_nodeOp a) = mq_wt t 0) (kb : mq_kd (a_nodeOp b) = mq_wt t 1)
    (hn : a_nodeOp a < 40 ∨ a_nodeOp b < 40) (P : pg_ok N a_nodeOp a_nodeA a_nodeB a_nodeC a_needs a_state a_value D T) (K : ∀ (N' : Nat) (op' A' B' C' nd' st' : Nat → Int32) (vl' : Nat → Int64) (D' : (Nat → Int32) → Nat → VV) (T' : Nat → Nat) (r : Nat), pg_ok N' op' A' B' C' nd' st' vl' D' T' → pg_ex N a_nodeOp D T N' op' D' T' → r < N' → (∀ env, D' env r = mq_sem t (D env a) (D env b) (D env c)) → mq_kd (op' r) = mq_tr t → T' r ≤ pg_t t (T a) (T b) → post (nI r) (nI N', f_filterRoot, f_valueRoot, f_keyRoot, f_partCount, f_groups, f_passed, f_overflow, a_cells, a_live, a_zoneLeast, a_zoneMost, a_tokens, a_constants, a_lengths, op', A', B', C', nd', a_wanted, vl', st', a_work, a_parts, a_heads, a_chain, a_places, a_sorted, a_groupNull, a_groupKey, a_groupPairs, a_groupValues, a_groupSum, a_groupLeast, a_groupMost)) :
    wX_make_182 post t (nI a) (nI b) (nI c) (nI N) f_filterRoot f_valueRoot f_keyRoot f_partCount f_groups f_passed f_overflow a_cells a_live a_zoneLeast a_zoneMost a_tokens a_constants a_lengths a_nodeOp a_nodeA a_nodeB a_nodeC a_needs a_wanted a_value a_state a_work a_parts a_heads a_chain a_places a_sorted a_groupNull a_groupKey a_groupPairs a_groupValues a_groupSum a_groupLeast a_groupMost := by
  have wt : mq_wt t 0 = mq_wt t 1 ∧ mq_op t ∧ mq_ar t = 2 ∧ t ≠ 15 := by
    rcases ht with rfl | rfl | rfl | rfl | rfl | rfl <;> exact ⟨by decide, by unfold mq_op; decide, by decide, by decide⟩
  refine br_f (by decide) ?_
  refine xc_op hN wt.2.1 hb ha ha (fun z => absurd z wt.2.2.2) (wt.1 ▸ kb) (fun _ => wt.1 ▸ ka) (fun z => by rw [wt.2.2.1] at z; exact absurd z (by decide)) (by rcases hn with h | h; exact Or.inr (Or.inl h); exact Or.inl h) P (fun N' op' A' B' C' nd' st' vl' D' T' r hp hx hr hd hk hT => ?_)
  refine K N' op' A' B' C' nd' st' vl' D' T' r hp hx hr (fun env => (hd env).trans (al_com _ _ _ _ ht)) hk (Nat.le_trans hT ?_)
  unfold pg_t
  split
  · omega
  · have n32 : ¬ t = 32 := by rcases ht with rfl | rfl | rfl | rfl | rfl | rfl <;> decide
    rw [if_neg n32, if_neg n32]; exact Nat.le_refl _
theorem xm_122 (hN : N < 64) (ht : mq_op t) (ha : a < N) (hb : b < N) (hc : c < N) (u1 : mq_ar t = 1 → b = a) (u2 : ¬ mq_ar t = 3 → c = b) (ka : mq_kd (a_nodeOp a) = mq_wt t 0) (kb : 2 ≤ mq_ar t → mq_kd (a_nodeOp b) = mq_wt t 1) (kc : mq_ar t = 3 → mq_kd (a_nodeOp c) = mq_wt t 2)
    (hn : a_nodeOp a < 40 ∨ a_nodeOp b < 40 ∨ a_nodeOp c < 40) (P : pg_ok N a_nodeOp a_nodeA a_nodeB a_nodeC a_needs a_state a_value D T) (K : ∀ (N' : Nat) (op' A' B' C' nd' st' : Nat → Int32) (vl' : Nat → Int64) (D' : (Nat → Int32) → Nat → VV) (T' : Nat → Nat) (r : Nat), pg_ok N' op' A' B' C' nd' st' vl' D' T' → pg_ex N a_nodeOp D T N' op' D' T' → r < N' → (∀ env, D' env r = mq_sem t (D env a) (D env b) (D env c)) → mq_kd (op' r) = mq_tr t → T' r ≤ pg_t t (T a) (T b) → post (nI r) (nI N', f_filterRoot, f_valueRoot, f_keyRoot, f_partCount, f_groups, f_passed, f_overflow, a_cells, a_live, a_zoneLeast, a_zoneMost, a_tokens, a_constants, a_lengths, op', A', B', C', nd', a_wanted, vl', st', a_work, a_parts, a_heads, a_chain, a_places, a_sorted, a_groupNull, a_groupKey, a_groupPairs, a_groupValues, a_groupSum, a_groupLeast, a_groupMost)) :
    wX_make_122 post t (nI a) (nI b) (nI c) (nI N) f_filterRoot f_valueRoot f_keyRoot f_partCount f_groups f_passed f_overflow a_cells a_live a_zoneLeast a_zoneMost a_tokens a_constants a_lengths a_nodeOp a_nodeA a_nodeB a_nodeC a_needs a_wanted a_value a_state a_work a_parts a_heads a_chain a_places a_sorted a_groupNull a_groupKey a_groupPairs a_groupValues a_groupSum a_groupLeast a_groupMost := by
  have st : wX_make_186 post t (nI a) (nI b) (nI c) (nI N) f_filterRoot f_valueRoot f_keyRoot f_partCount f_groups f_passed f_overflow a_cells a_live a_zoneLeast a_zoneMost a_tokens a_constants a_lengths a_nodeOp a_nodeA a_nodeB a_nodeC a_needs a_wanted a_value a_state a_work a_parts a_heads a_chain a_places a_sorted a_groupNull a_groupKey a_groupPairs a_groupValues a_groupSum a_groupLeast a_groupMost := xm_187 hN ht ha hb hc u1 u2 ka kb kc hn P K
  have tu : (t = 10 ∨ t = 12 ∨ t = 20 ∨ t = 23 ∨ t = 30 ∨ t = 31) → wX_make_182 post t (nI a) (nI b) (nI c) (nI N) f_filterRoot f_valueRoot f_keyRoot f_partCount f_groups f_passed f_overflow a_cells a_live a_zoneLeast a_zoneMost a_tokens a_constants a_lengths a_nodeOp a_nodeA a_nodeB a_nodeC a_needs a_wanted a_value a_state a_work a_parts a_heads a_chain a_places a_sorted a_groupNull a_groupKey a_groupPairs a_groupValues a_groupSum a_groupLeast a_groupMost := by
    intro h
    have a2 : mq_ar t = 2 := by rcases h with rfl | rfl | rfl | rfl | rfl | rfl <;> decide
    have := u2 (by omega)
    subst this
    exact xm_turn hN h ha hb ka (kb (by omega)) (by rcases hn with h | h | h; exact Or.inl h; exact Or.inr h; exact Or.inr h) P K
  unfold wX_make_122
  refine xs_simpler (t := t) (N := N) (by omega) ht ha hb hc ka kb kc P (br_t (by decide) ?_) (fun r hr hd hk hT => br_f (nI_pos (by omega)) (K N _ _ _ _ _ _ _ D T r P pg_ex_rf hr hd hk hT))
  exact br_c (fun _ => st) (fun _ => br_c (fun h => tu (Or.inl h)) (fun _ => br_c (fun h => tu (Or.inr (Or.inl h))) (fun _ => br_c (fun h => tu (Or.inr (Or.inr (Or.inl h)))) (fun _ => br_c (fun h => tu (Or.inr (Or.inr (Or.inr (Or.inl h))))) (fun _ => br_c (fun h => tu (Or.inr (Or.inr (Or.inr (Or.inr (Or.inl h)))))) (fun _ => br_c (fun h => tu (Or.inr (Or.inr (Or.inr (Or.inr (Or.inr h)))))) (fun _ => st)))))))
theorem xm_101 (hN : N < 64) (ht : t = 10 ∨ t = 11 ∨ t = 12 ∨ t = 13 ∨ t = 14 ∨ t = 20 ∨ t = 21 ∨ t = 22 ∨ t = 23) (hv : ∀ env, D env a = (0, 1) ∨ D env b = (0, 1)) (P : pg_ok N a_nodeOp a_nodeA a_nodeB a_nodeC a_needs a_state a_value D T) (K : ∀ (N' : Nat) (op' A' B' C' nd' st' : Nat → Int32) (vl' : Nat → Int64) (D' : (Nat → Int32) → Nat → VV) (T' : Nat → Nat) (r : Nat), pg_ok N' op' A' B' C' nd' st' vl' D' T' → pg_ex N a_nodeOp D T N' op' D' T' → r < N' → (∀ env, D' env r = mq_sem t (D env a) (D env b) (D env c)) → mq_kd (op' r) = mq_tr t → T' r ≤ pg_t t (T a) (T b) → post (nI r) (nI N', f_filterRoot, f_valueRoot, f_keyRoot, f_partCount, f_groups, f_passed, f_overflow, a_cells, a_live, a_zoneLeast, a_zoneMost, a_tokens, a_constants, a_lengths, op', A', B', C', nd', a_wanted, vl', st', a_work, a_parts, a_heads, a_chain, a_places, a_sorted, a_groupNull, a_groupKey, a_groupPairs, a_groupValues, a_groupSum, a_groupLeast, a_groupMost)) :
    wX_make_101 post t (nI N) f_filterRoot f_valueRoot f_keyRoot f_partCount f_groups f_passed f_overflow a_cells a_live a_zoneLeast a_zoneMost a_tokens a_constants a_lengths a_nodeOp a_nodeA a_nodeB a_nodeC a_needs a_wanted a_value a_state a_work a_parts a_heads a_chain a_places a_sorted a_groupNull a_groupKey a_groupPairs a_groupValues a_groupSum a_groupLeast a_groupMost := by
  have sp : (¬ 20 ≤ t ∧ mq_tr t = false ∧ (t = 10 ∨ t = 11 ∨ t = 12 ∨ t = 13 ∨ t = 14)) ∨ (20 ≤ t ∧ mq_tr t = true ∧ (t = 20 ∨ t = 21 ∨ t = 22 ∨ t = 23)) := by
    rcases ht with rfl | rfl | rfl | rfl | rfl | rfl | rfl | rfl | rfl <;> decide
  rcases sp with ⟨h1, h2, h3⟩ | ⟨h1, h2, h3⟩
  · refine br_f h1 (xc_number hN (Or.inl rfl) P (fun N' op' A' B' C' nd' st' vl' D' T' r hp hx hr hd hk hT => ?_))
    exact K N' op' A' B' C' nd' st' vl' D' T' r hp hx hr (fun env => by rw [hd env, if_pos rfl, al_strN _ _ _ h3 (hv env)]) (hk.trans h2.symm) (Nat.le_trans hT (pg_t1 _ _ _))
  · refine br_t h1 (xc_truth (d := (2, 0)) hN (Or.inr (Or.inr ⟨rfl, rfl⟩)) P (fun N' op' A' B' C' nd' st' vl' D' T' r hp hx hr hd hk hT => ?_))
    exact K N' op' A' B' C' nd' st' vl' D' T' r hp hx hr (fun env => by rw [hd env, al_strT _ _ _ h3 (hv env)]) (hk.trans h2.symm) (Nat.le_trans hT (pg_t1 _ _ _))
theorem xc_make (hN : N < 64) (ht : mq_op t) (ha : a < N) (hb : b < N) (hc : c < N) (u1 : mq_ar t = 1 → b = a) (u2 : ¬ mq_ar t = 3 → c = b) (ka : mq_kd (a_nodeOp a) = mq_wt t 0) (kb : 2 ≤ mq_ar t → mq_kd (a_nodeOp b) = mq_wt t 1) (kc : mq_ar t = 3 → mq_kd (a_nodeOp c) = mq_wt t 2)
    (P : pg_ok N a_nodeOp a_nodeA a_nodeB a_nodeC a_needs a_state a_value D T) (K : ∀ (N' : Nat) (op' A' B' C' nd' st' : Nat → Int32) (vl' : Nat → Int64) (D' : (Nat → Int32) → Nat → VV) (T' : Nat → Nat) (r : Nat), pg_ok N' op' A' B' C' nd' st' vl' D' T' → pg_ex N a_nodeOp D T N' op' D' T' → r < N' → (∀ env, D' env r = mq_sem t (D env a) (D env b) (D env c)) → mq_kd (op' r) = mq_tr t → T' r ≤ pg_t t (T a) (T b) → post (nI r) (nI N', f_filterRoot, f_valueRoot, f_keyRoot, f_partCount, f_groups, f_passed, f_overflow, a_cells, a_live, a_zoneLeast, a_zoneMost, a_tokens, a_constants, a_lengths, op', A', B', C', nd', a_wanted, vl', st', a_work, a_parts, a_heads, a_chain, a_places, a_sorted, a_groupNull, a_groupKey, a_groupPairs, a_groupValues, a_groupSum, a_groupLeast, a_groupMost)) :
    wpX_make post (nI N, f_filterRoot, f_valueRoot, f_keyRoot, f_partCount, f_groups, f_passed, f_overflow, a_cells, a_live, a_zoneLeast, a_zoneMost, a_tokens, a_constants, a_lengths, a_nodeOp, a_nodeA, a_nodeB, a_nodeC, a_needs, a_wanted, a_value, a_state, a_work, a_parts, a_heads, a_chain, a_places, a_sorted, a_groupNull, a_groupKey, a_groupPairs, a_groupValues, a_groupSum, a_groupLeast, a_groupMost) t (nI a) (nI b) (nI c) := by
  have wa : vp_in (nI a) 64 := vp_in_nI (by omega) (by omega)
  have wb : vp_in (nI b) 64 := vp_in_nI (by omega) (by omega)
  have ca : (nI a).toNatClampNeg = a := nI_clamp (by omega)
  have cb : (nI b).toNatClampNeg = b := nI_clamp (by omega)
  -- not all known
  have rest : (a_nodeOp a < 40 ∨ a_nodeOp b < 40 ∨ a_nodeOp c < 40) → ((t ≤ 15 → wX_make_49 post t (nI a) (nI b) (nI c) (nI N) f_filterRoot f_valueRoot f_keyRoot f_partCount f_groups f_passed f_overflow a_cells a_live a_zoneLeast a_zoneMost a_tokens a_constants a_lengths a_nodeOp a_nodeA a_nodeB a_nodeC a_needs a_wanted a_value a_state a_work a_parts a_heads a_chain a_places a_sorted a_groupNull a_groupKey a_groupPairs a_groupValues a_groupSum a_groupLeast a_groupMost) ∧ (¬ t ≤ 15 → ((t < 20 → wX_make_53 post t (nI a) (nI b) (nI c) (nI N) f_filterRoot f_valueRoot f_keyRoot f_partCount f_groups f_passed f_overflow a_cells a_live a_zoneLeast a_zoneMost a_tokens a_constants a_lengths a_nodeOp a_nodeA a_nodeB a_nodeC a_needs a_wanted a_value a_state a_work a_parts a_heads a_chain a_places a_sorted a_groupNull a_groupKey a_groupPairs a_groupValues a_groupSum a_groupLeast a_groupMost) ∧ (¬ t < 20 → ((23 < t → wX_make_53 post t (nI a) (nI b) (nI c) (nI N) f_filterRoot f_valueRoot f_keyRoot f_partCount f_groups f_passed f_overflow a_cells a_live a_zoneLeast a_zoneMost a_tokens a_constants a_lengths a_nodeOp a_nodeA a_nodeB a_nodeC a_needs a_wanted a_value a_state a_work a_parts a_heads a_chain a_places a_sorted a_groupNull a_groupKey a_groupPairs a_groupValues a_groupSum a_groupLeast a_groupMost) ∧ (¬ 23 < t → wX_make_49 post t (nI a) (nI b) (nI c) (nI N) f_filterRoot f_valueRoot f_keyRoot f_partCount f_groups f_passed f_overflow a_cells a_live a_zoneLeast a_zoneMost a_tokens a_constants a_lengths a_nodeOp a_nodeA a_nodeB a_nodeC a_needs a_wanted a_value a_state a_work a_parts a_heads a_chain a_places a_sorted a_groupNull a_groupKey a_groupPairs a_groupValues a_groupSum a_groupLeast a_groupMost)))))) := by
    intro hn
    have go := xm_122 hN ht ha hb hc u1 u2 ka kb kc hn P K
    have lax : wX_make_53 post t (nI a) (nI b) (nI c) (nI N) f_filterRoot f_valueRoot f_keyRoot f_partCount f_groups f_passed f_overflow a_cells a_live a_zoneLeast a_zoneMost a_tokens a_constants a_lengths a_nodeOp a_nodeA a_nodeB a_nodeC a_needs a_wanted a_value a_state a_work a_parts a_heads a_chain a_places a_sorted a_groupNull a_groupKey a_groupPairs a_groupValues a_groupSum a_groupLeast a_groupMost := br_t rfl go
    have str : (t = 10 ∨ t = 11 ∨ t = 12 ∨ t = 13 ∨ t = 14 ∨ t = 20 ∨ t = 21 ∨ t = 22 ∨ t = 23) → wX_make_49 post t (nI a) (nI b) (nI c) (nI N) f_filterRoot f_valueRoot f_keyRoot f_partCount f_groups f_passed f_overflow a_cells a_live a_zoneLeast a_zoneMost a_tokens a_constants a_lengths a_nodeOp a_nodeA a_nodeB a_nodeC a_needs a_wanted a_value a_state a_work a_parts a_heads a_chain a_places a_sorted a_groupNull a_groupKey a_groupPairs a_groupValues a_groupSum a_groupLeast a_groupMost := by
      intro h
      have nu := fun hv => xm_101 hN h hv P K
      have s81 : wX_make_81 post t (nI a) (nI b) (nI c) (nI N) f_filterRoot f_valueRoot f_keyRoot f_partCount f_groups f_passed f_overflow a_cells a_live a_zoneLeast a_zoneMost a_tokens a_constants a_lengths a_nodeOp a_nodeA a_nodeB a_nodeC a_needs a_wanted a_value a_state a_work a_parts a_heads a_chain a_places a_sorted a_groupNull a_groupKey a_groupPairs a_groupValues a_groupSum a_groupLeast a_groupMost := by
        unfold wX_make_81
        rw [cb]
        refine ⟨wb, br_c (fun o => ⟨wb, br_c (fun s => nu (fun env => Or.inr ?_)) (fun _ => go)⟩) (fun _ => go)⟩
        have hl := (pg_kn P hb (by rw [o]; decide)).2.2 env
        rw [o, s] at hl
        rcases hl with ⟨e, _⟩ | ⟨_, e⟩
        · exact absurd e (by decide)
        · exact e
      refine br_f (by decide) ?_
      rw [ca]
      refine ⟨wa, br_c (fun o => ⟨wa, br_c (fun s => nu (fun env => Or.inl ?_)) (fun _ => s81)⟩) (fun _ => s81)⟩
      have hl := (pg_kn P ha (by rw [o]; decide)).2.2 env
      rw [o, s] at hl
      rcases hl with ⟨e, _⟩ | ⟨_, e⟩
      · exact absurd e (by decide)
      · exact e
    have s15 : t = 15 → wX_make_49 post t (nI a) (nI b) (nI c) (nI N) f_filterRoot f_valueRoot f_keyRoot f_partCount f_groups f_passed f_overflow a_cells a_live a_zoneLeast a_zoneMost a_tokens a_constants a_lengths a_nodeOp a_nodeA a_nodeB a_nodeC a_needs a_wanted a_value a_state a_work a_parts a_heads a_chain a_places a_sorted a_groupNull a_groupKey a_groupPairs a_groupValues a_groupSum a_groupLeast a_groupMost := by
      intro h
      -- unary minus: operand is not known
      subst h
      have e1 := u1 (by decide)
      have e2 := u2 (by decide)
      subst e1; subst e2
      have lt : a_nodeOp c < 40 := by rcases hn with h | h | h <;> exact h
      have n40 : ¬ a_nodeOp c = 40 := fun z => by rw [z] at lt; exact absurd lt (by decide)
      refine br_f (by decide) ?_
      rw [ca]
      refine ⟨wa, br_f n40 ?_⟩
      unfold wX_make_81
      rw [ca]
      exact ⟨wa, br_f n40 go⟩
    rcases ht with rfl | rfl | rfl | rfl | rfl | rfl | rfl | rfl | rfl | rfl | rfl | rfl | rfl | rfl | rfl | rfl
    all_goals first
      | exact br_t (by decide) (str (by decide))
      | exact br_t (by decide) (s15 rfl)
      | exact br_f (by decide) (br_t (by decide) lax)
      | exact br_f (by decide) (br_f (by decide) (br_t (by decide) lax))
      | exact br_f (by decide) (br_f (by decide) (br_f (by decide) (str (by decide))))
  have h15 : t = 15 → b = a := fun z => u1 (by rw [z]; decide)
  unfold wpX_make
  dsimp only
  refine xs_known (N := N) (by omega) ha (fun na => xs_known (N := N) (by omega) hb (fun _ => xs_known (N := N) (by omega) hc (fun _ => br_t (by decide) (rest (Or.inl na))) (fun _ => br_t (by decide) (rest (Or.inl na)))) (fun _ => xs_known (N := N) (by omega) hc (fun _ => br_t (by decide) (rest (Or.inl na))) (fun _ => br_t (by decide) (rest (Or.inl na)))))
    (fun na => xs_known (N := N) (by omega) hb (fun nb => xs_known (N := N) (by omega) hc (fun _ => br_t (by decide) (rest (Or.inr (Or.inl nb)))) (fun _ => br_t (by decide) (rest (Or.inr (Or.inl nb))))) (fun nb => xs_known (N := N) (by omega) hc (fun nc => br_t (by decide) (rest (Or.inr (Or.inr nc)))) (fun nc => br_f (by decide) ?_)))
  exact xc_fold hN ht ha hb hc h15 ka kb kc na nb nc P (fun N' op' A' B' C' nd' st' vl' D' T' r hp hx hr hd hk hT => K N' op' A' B' C' nd' st' vl' D' T' r hp hx hr hd hk (Nat.le_trans hT (pg_t1 _ _ _)))
end XFO
end
section
/-! ===== X: build an expression's nodes ===== -/
def xb_ws (wk : Nat → Int32) : List Nat → Prop
  | [] => True
  | k :: s => wk s.length = nI k ∧ xb_ws wk s
theorem xb_ws_fr {wk wk' : Nat → Int32} : ∀ {s : List Nat}, (∀ i, i < s.length → wk' i = wk i) → xb_ws wk s → xb_ws wk' s
  | [], _, _ => trivial
  | _ :: s, h, ⟨a, b⟩ => ⟨(h _ (Nat.lt_succ_self _)).trans a, xb_ws_fr (fun i hi => h i (Nat.lt_succ_of_lt hi)) b⟩
theorem xb_ws_drop {wk : Nat → Int32} : ∀ {s : List Nat} (n : Nat), xb_ws wk s → xb_ws wk (s.drop n)
  | _, 0, h => h
  | [], _ + 1, _ => trivial
  | _ :: _, n + 1, h => xb_ws_drop n h.2
theorem xb_ws_push {wk : Nat → Int32} {s : List Nat} {k : Nat} (h : xb_ws wk s) : xb_ws (upd wk s.length (nI k)) (k :: s) := ⟨pk_us, xb_ws_fr (fun i hi => pk_un (by omega)) h⟩
def xb_inv (N0 : Nat) (op0 : Nat → Int32) (D0 : (Nat → Int32) → Nat → VV) (T0 : Nat → Nat) (tok con : Nat → Int32) (hi d N : Nat) (op A B C nd st : Nat → Int32) (vl : Nat → Int64) (D : (Nat → Int32) → Nat → VV) (T : Nat → Nat) (wk : Nat → Int32) (ns : List Nat) (ks : List Bool) : Prop :=
  pg_ok N op A B C nd st vl D T ∧ xb_ws wk ns ∧ (∀ x, x ∈ ns → x < N) ∧ ns.map (fun x => mq_kd (op x)) = ks ∧ (∀ env, ns.map (D env) = mq_est env tok con hi d) ∧ (ns.map T).sum ≤ d ∧ N0 ≤ N ∧ N ≤ N0 + d ∧ (∀ j, j < N0 → op j = op0 j ∧ (∀ env, D env j = D0 env j) ∧ T j = T0 j)
theorem xb_inv_s {N0 : Nat} {op0 : Nat → Int32} {D0 : (Nat → Int32) → Nat → VV} {T0 : Nat → Nat} {tok con : Nat → Int32} {hi d N N' : Nat} {op A B C nd st op' A' B' C' nd' st' : Nat → Int32} {vl vl' : Nat → Int64} {D D' : (Nat → Int32) → Nat → VV} {T T' : Nat → Nat} {wk : Nat → Int32} {ns : List Nat} {ks : List Bool} {r q : Nat} {κ : Bool}
    (I : xb_inv N0 op0 D0 T0 tok con hi d N op A B C nd st vl D T wk ns ks) (P : pg_ok N' op' A' B' C' nd' st' vl' D' T') (E : pg_ex N op D T N' op' D' T') (hr : r < N') (hk : mq_kd (op' r) = κ)
    (he : ∀ env, mq_est env tok con hi (d + 1) = D' env r :: (mq_est env tok con hi d).drop q) (hT : T' r + ((ns.drop q).map T).sum ≤ 1 + (ns.map T).sum) :
    xb_inv N0 op0 D0 T0 tok con hi (d + 1) N' op' A' B' C' nd' st' vl' D' T' (upd wk (ns.drop q).length (nI r)) (r :: ns.drop q) (κ :: ks.drop q) := by
  obtain ⟨h1, h2, h3, h4, h5, h6, h7, h8, h9⟩ := I
  obtain ⟨e1, e2, e3⟩ := E
  have lt : ∀ x, x ∈ ns.drop q → x < N := fun x hx => h3 x (List.mem_of_mem_drop hx)
  refine ⟨P, xb_ws_push (xb_ws_drop q h2), fun x hx => ?_, ?_, fun env => ?_, ?_, by omega, by omega, fun j hj => ?_⟩
  · rcases List.mem_cons.mp hx with rfl | hx
    · exact hr
    · have := lt x hx; omega
  · rw [List.map_cons, hk, ← h4, List.map_drop]
    congr 1
    rw [← List.map_drop, ← List.map_drop]
    exact List.map_congr_left (fun x hx => by rw [(e3 x (lt x hx)).1])
  · rw [he env, List.map_cons, ← h5 env, ← List.map_drop]
    congr 1
    exact List.map_congr_left (fun x hx => (e3 x (lt x hx)).2.1 env)
  · rw [List.map_cons, List.sum_cons]
    have : (ns.drop q).map T' = (ns.drop q).map T := List.map_congr_left (fun x hx => (e3 x (lt x hx)).2.2)
    rw [this]; omega
  · obtain ⟨a, b, c⟩ := h9 j hj
    obtain ⟨a', b', c'⟩ := e3 j (by omega)
    exact ⟨a'.trans a, fun env => (b' env).trans (b env), c'.trans c⟩
theorem xo_ar {q : Int32 → Prop} {t : Int32} (ht : mq_ok t) (h : q (nI (mq_ar t))) : wpX_operandCount q t := by
  unfold wpX_operandCount
  rcases ht with ⟨c, hc, rfl⟩ | rfl | ht
  · have : ∀ c, c < 6 → mq_ar (nI c) = 0 := by decide
    rw [this c hc] at h
    exact br_t (nI_lt (b := 10) (by omega) (by decide)) h
  · exact br_f (by decide) (br_t rfl h)
  · rcases ht with rfl | rfl | rfl | rfl | rfl | rfl | rfl | rfl | rfl | rfl | rfl | rfl | rfl | rfl | rfl | rfl <;>
    first
      | exact br_f (by decide) (br_f (by decide) (br_f (by decide) (br_f (by decide) (br_f (by decide) (br_f (by decide) h)))))
      | exact br_f (by decide) (br_f (by decide) (br_t (by decide) h))
      | exact br_f (by decide) (br_f (by decide) (br_f (by decide) (br_t (by decide) h)))
      | exact br_f (by decide) (br_f (by decide) (br_f (by decide) (br_f (by decide) (br_t (by decide) h))))
      | exact br_f (by decide) (br_f (by decide) (br_f (by decide) (br_f (by decide) (br_f (by decide) (br_t (by decide) h)))))
section XBU
variable {f_nodes f_filterRoot f_valueRoot f_keyRoot f_partCount f_groups f_passed f_overflow : Int32}
variable {a_cells a_live a_zoneLeast a_zoneMost a_tokens a_constants a_lengths a_nodeOp a_nodeA a_nodeB a_nodeC a_needs a_wanted a_state a_work a_parts a_heads a_chain a_places a_sorted a_groupNull a_groupPairs a_groupValues : Nat → Int32}
variable {a_value a_groupKey a_groupSum a_groupLeast a_groupMost : Nat → Int64}
variable {post : Int32 → SX → Prop}
theorem xb_168 {J : Int32 → Int32 → Int32 → Int32 → Int32 → Int32 → Int32 → Int32 → Int32 → Int32 → (Nat → Int32) → (Nat → Int32) → (Nat → Int32) → (Nat → Int32) → (Nat → Int32) → (Nat → Int32) → (Nat → Int32) → (Nat → Int32) → (Nat → Int32) → (Nat → Int32) → (Nat → Int32) → (Nat → Int32) → (Nat → Int32) → (Nat → Int64) → (Nat → Int32) → (Nat → Int32) → (Nat → Int32) → (Nat → Int32) → (Nat → Int32) → (Nat → Int32) → (Nat → Int32) → (Nat → Int32) → (Nat → Int64) → (Nat → Int32) → (Nat → Int32) → (Nat → Int64) → (Nat → Int64) → (Nat → Int64) → Prop} {x1 x3 : Int32} {m r : Nat} (hm : m < 24) (hr : r < 128) (h : J (nI (m + 1)) (x3 - 1) f_nodes f_filterRoot f_valueRoot f_keyRoot f_partCount f_groups f_passed f_overflow a_cells a_live a_zoneLeast a_zoneMost a_tokens a_constants a_lengths a_nodeOp a_nodeA a_nodeB a_nodeC a_needs a_wanted a_value a_state (upd a_work m (nI r)) a_parts a_heads a_chain a_places a_sorted a_groupNull a_groupKey a_groupPairs a_groupValues a_groupSum a_groupLeast a_groupMost) : wX_build_168 post J x1 (nI m) x3 (nI r) f_nodes f_filterRoot f_valueRoot f_keyRoot f_partCount f_groups f_passed f_overflow a_cells a_live a_zoneLeast a_zoneMost a_tokens a_constants a_lengths a_nodeOp a_nodeA a_nodeB a_nodeC a_needs a_wanted a_value a_state a_work a_parts a_heads a_chain a_places a_sorted a_groupNull a_groupKey a_groupPairs a_groupValues a_groupSum a_groupLeast a_groupMost := by
  have e : (nI m).toNatClampNeg = m := nI_clamp (by omega)
  unfold wX_build_168
  rw [e, zb_by hr]
  exact nm_r (nI_1 m) ⟨vp_in_nI hm (by omega), nm_e (nm_r (zb_add1 x3) h)⟩
variable {N0 : Nat} {op0 : Nat → Int32} {D0 : (Nat → Int32) → Nat → VV} {T0 : Nat → Nat} {e l : Nat} {κ : Bool}
theorem xb_16 (he : e < 3) (hl : l ≤ 20) (hk : mq_kst a_tokens (20 * e + l) l = some [κ]) (ho : ∀ j, j < l → mq_ok (a_tokens (20 * e + j))) (hN : N0 + l ≤ 63)
    (K : ∀ (N : Nat) (op A B C nd st : Nat → Int32) (vl : Nat → Int64) (D : (Nat → Int32) → Nat → VV) (T : Nat → Nat) (wk : Nat → Int32) (ns : List Nat), xb_inv N0 op0 D0 T0 a_tokens a_constants (20 * e + l) l N op A B C nd st vl D T wk ns [κ] → post (wk 0) (nI N, f_filterRoot, f_valueRoot, f_keyRoot, f_partCount, f_groups, f_passed, f_overflow, a_cells, a_live, a_zoneLeast, a_zoneMost, a_tokens, a_constants, a_lengths, op, A, B, C, nd, a_wanted, vl, st, wk, a_parts, a_heads, a_chain, a_places, a_sorted, a_groupNull, a_groupKey, a_groupPairs, a_groupValues, a_groupSum, a_groupLeast, a_groupMost)) :
    ∀ (r n d N : Nat) (op A B C nd st : Nat → Int32) (vl : Nat → Int64) (D : (Nat → Int32) → Nat → VV) (T : Nat → Nat) (wk : Nat → Int32) (ns : List Nat) (ks : List Bool), d + r = l → r < n → mq_kst a_tokens (20 * e + l) d = some ks →
    xb_inv N0 op0 D0 T0 a_tokens a_constants (20 * e + l) d N op A B C nd st vl D T wk ns ks → wX_build_16 post (nI e) n (nI ns.length) (nI (20 * e + r) - 1) (nI N) f_filterRoot f_valueRoot f_keyRoot f_partCount f_groups f_passed f_overflow a_cells a_live a_zoneLeast a_zoneMost a_tokens a_constants a_lengths op A B C nd a_wanted vl st wk a_parts a_heads a_chain a_places a_sorted a_groupNull a_groupKey a_groupPairs a_groupValues a_groupSum a_groupLeast a_groupMost := by
  have e20 : nI e * 20 = nI (20 * e) := by rw [show (20 : Int32) = nI 20 from rfl, pk_mul, Nat.mul_comm]
  intro r
  induction r with
  | zero =>
    intro n d N op A B C nd st vl D T wk ns ks hd hn hks I
    obtain ⟨n, rfl⟩ := zb_ex hn
    have : d = l := by omega
    subst this
    rw [hk] at hks
    cases hks
    rw [wX_build_16, e20]
    exact br_t (zb_plt (by omega)) (K _ _ _ _ _ _ _ _ _ _ _ _ I)
  | succ r ih =>
    intro n d N op A B C nd st vl D T wk ns ks hd hn hks I
    obtain ⟨n, rfl⟩ := zb_ex (show 0 < n by omega)
    have x4 : nI (20 * e + (r + 1)) - 1 = nI (20 * e + r) := nI_pred (20 * e + r)
    have w : vp_in (nI (20 * e + r)) 80 := vp_in_nI (by omega) (by omega)
    have c : (nI (20 * e + r)).toNatClampNeg = 20 * e + r := nI_clamp (by omega)
    have ix : 20 * e + l - (d + 1) = 20 * e + r := by omega
    have lt : ¬ nI (20 * e + r) < nI (20 * e) := nI_nlt (by omega) (by omega)
    obtain ⟨ks', hks'⟩ := mq_kst_le hk (show d + 1 ≤ l by omega)
    obtain ⟨q, hq1, hq2⟩ := mq_kst_s hks'
    rw [hks] at hq1
    cases hq1
    rw [ix] at hq2
    obtain ⟨ar1, ar2, ar3⟩ := mq_ks_s hq2
    obtain ⟨P, hws, hlt, hkd, hval, hT, hN1, hN2, hold⟩ := id I
    have len : ns.length = ks.length := by rw [← hkd, List.length_map]
    have lks := mq_kst_len hks
    have tok := ho r (by omega)
    have st1 : ∀ env, mq_est env a_tokens a_constants (20 * e + l) (d + 1) = mq_es env (a_tokens (20 * e + r)) (a_constants (20 * e + r)) (mq_est env a_tokens a_constants (20 * e + l) d) := by
      intro env; rw [← ix]; rfl
    -- what follows a made node
    have nx : ∀ (N' : Nat) (op' A' B' C' nd' st' : Nat → Int32) (vl' : Nat → Int64) (D' : (Nat → Int32) → Nat → VV) (T' : Nat → Nat) (r' : Nat), pg_ok N' op' A' B' C' nd' st' vl' D' T' → pg_ex N op D T N' op' D' T' → r' < N' → mq_kd (op' r') = mq_tr (a_tokens (20 * e + r)) →
        (∀ env, mq_est env a_tokens a_constants (20 * e + l) (d + 1) = D' env r' :: (mq_est env a_tokens a_constants (20 * e + l) d).drop (mq_ar (a_tokens (20 * e + r)))) → T' r' + ((ns.drop (mq_ar (a_tokens (20 * e + r)))).map T).sum ≤ 1 + (ns.map T).sum →
        wX_build_168 post (wX_build_16 post (nI e) n) (nI e) (nI (ns.drop (mq_ar (a_tokens (20 * e + r)))).length) (nI (20 * e + r)) (nI r') (nI N') f_filterRoot f_valueRoot f_keyRoot f_partCount f_groups f_passed f_overflow a_cells a_live a_zoneLeast a_zoneMost a_tokens a_constants a_lengths op' A' B' C' nd' a_wanted vl' st' wk a_parts a_heads a_chain a_places a_sorted a_groupNull a_groupKey a_groupPairs a_groupValues a_groupSum a_groupLeast a_groupMost := by
      intro N' op' A' B' C' nd' st' vl' D' T' r' hp hx hr hkk hv ht
      have I' := xb_inv_s I hp hx hr hkk hv ht
      refine xb_168 (by rw [List.length_drop]; omega) (by have := hx.2.1; omega) ?_
      have := ih n (d + 1) N' op' A' B' C' nd' st' vl' D' T' _ _ _ (by omega) (by omega) (hks'.trans (congrArg some ar3)) I'
      exact this
    rw [wX_build_16]
    dsimp only
    rw [e20, x4, c]
    refine br_f lt ⟨w, nm_e (xo_ar tok ?_)⟩
    rcases tok with ⟨k, hk6, hk7⟩ | h40 | hop
    · -- a column
      have a0 : mq_ar (a_tokens (20 * e + r)) = 0 ∧ mq_tr (a_tokens (20 * e + r)) = false := by
        have : ∀ c, c < 6 → mq_ar (nI c) = 0 ∧ mq_tr (nI c) = false := by decide
        rw [hk7]; exact this k hk6
      have t6 : a_tokens (20 * e + r) < 6 := by rw [hk7]; exact nI_lt (b := 6) hk6 (by decide)
      rw [a0.1] at nx ⊢
      refine br_f (by rw [hk7]; exact zb_ne (b := 40) (by omega) (by omega) (by omega)) (br_t rfl ?_)
      rw [hk7]
      refine xc_col (N := N) (by omega) hk6 P (fun N' op' A' B' C' nd' st' vl' D' T' r' hp hx hr hd hkk hTr => ?_)
      refine nx N' op' A' B' C' nd' st' vl' D' T' r' hp hx hr (hkk.trans a0.2.symm) (fun env => ?_) (by rw [List.drop_zero]; omega)
      rw [st1 env, hd env]; unfold mq_es
      rw [if_pos t6, hk7, nI_clamp (by omega), List.drop_zero]
    · -- a constant
      have a0 : mq_ar (a_tokens (20 * e + r)) = 0 ∧ mq_tr (a_tokens (20 * e + r)) = false := by rw [h40]; decide
      rw [a0.1] at nx ⊢
      have s63 : ∀ z : Int32, (z = 0 ∨ z = 1) → (if z = 0 then ((0, 1) : VV) else ((a_constants (20 * e + r)).toInt64, 0)) = mq_col (a_constants (20 * e + r)) → wX_build_63 post (wX_build_16 post (nI e) n) (nI e) (nI ns.length) (nI (20 * e + r)) z (nI N) f_filterRoot f_valueRoot f_keyRoot f_partCount f_groups f_passed f_overflow a_cells a_live a_zoneLeast a_zoneMost a_tokens a_constants a_lengths op A B C nd a_wanted vl st wk a_parts a_heads a_chain a_places a_sorted a_groupNull a_groupKey a_groupPairs a_groupValues a_groupSum a_groupLeast a_groupMost := by
        intro z hz hv
        unfold wX_build_63
        rw [c]
        refine ⟨w, xc_number (N := N) (by omega) hz P (fun N' op' A' B' C' nd' st' vl' D' T' r' hp hx hr hd hkk hTr => ?_)⟩
        refine nx N' op' A' B' C' nd' st' vl' D' T' r' hp hx hr (hkk.trans a0.2.symm) (fun env => ?_) (by rw [List.drop_zero]; omega)
        rw [st1 env, hd env, hv]; unfold mq_es
        rw [h40, if_neg (by decide), if_pos rfl, List.drop_zero]
      refine br_t h40 ⟨w, br_c (fun z => s63 0 (Or.inl rfl) ?_) (fun z => s63 1 (Or.inr rfl) ?_)⟩
      · unfold mq_col; rw [if_pos rfl, if_pos z]
      · unfold mq_col; rw [if_neg (by decide), if_neg z]
    · -- an operator
      obtain ⟨_, l2, l3, _⟩ := mq_op_lo hop
      have arr := mq_op_ar hop
      refine br_f l3 (br_f (nI_ne0 (by omega) (by omega)) ?_)
      generalize ht : a_tokens (20 * e + r) = t at *
      cases ns with
      | nil => rw [List.length_nil] at len; omega
      | cons a s =>
      have la : a < N := hlt a (List.mem_cons_self ..)
      have ka : mq_kd (op a) = mq_wt t 0 := by rw [← ar2 0 (by omega), ← hkd]; rfl
      have e1 : nI (s.length + 1) - 1 = nI s.length := nI_pred _
      have w1 : vp_in (nI (s.length + 1) - 1) 24 := by rw [e1]; exact vp_in_nI (by simp at len; omega) (by omega)
      have r1 : wk (nI (s.length + 1) - 1).toNatClampNeg = nI a := by rw [e1, nI_clamp (by simp at len; omega)]; exact hws.1
      refine ⟨w1, nm_r r1 ?_⟩
      rcases (show mq_ar t = 1 ∨ mq_ar t = 2 ∨ mq_ar t = 3 by omega) with n1 | n1 | n1
      · rw [n1] at nx ⊢
        refine br_t (by decide) (br_t (by decide) (nm_r (e' := nI s.length) e1 ?_))
        refine xc_make (N := N) (by omega) hop la la la (fun _ => rfl) (fun _ => rfl) ka (fun z => by omega) (fun z => by omega) P (fun N' op' A' B' C' nd' st' vl' D' T' r' hp hx hr hd hkk hTr => ?_)
        refine nx N' op' A' B' C' nd' st' vl' D' T' r' hp hx hr hkk (fun env => ?_) ?_
        · rw [st1 env, hd env, ← hval env]; unfold mq_es
          rw [if_neg l2, if_neg l3, n1]
          have : t = 15 ∨ t = 32 ∨ t = 33 := by
            rcases hop with rfl | rfl | rfl | rfl | rfl | rfl | rfl | rfl | rfl | rfl | rfl | rfl | rfl | rfl | rfl | rfl <;> first | (exact absurd n1 (by decide)) | decide
          congr 1
          rcases this with rfl | rfl | rfl
          · rw [mq_s15, mq_s15]; rfl
          · rw [mq_s32, mq_s32]; rfl
          · rw [mq_s33, mq_s33]; rfl
        · have : pg_t t (T a) (T a) ≤ 1 + T a := by
            have : ¬ (t = 30 ∨ t = 31) := by
              intro z; rcases z with rfl | rfl <;> exact absurd n1 (by decide)
            unfold pg_t; rw [if_neg this]; split <;> omega
          show T' r' + (s.map T).sum ≤ 1 + (T a + (s.map T).sum)
          omega
      · cases s with
        | nil => rw [List.length_cons, List.length_nil] at len; omega
        | cons b s =>
        have lb : b < N := hlt b (List.mem_cons_of_mem _ (List.mem_cons_self ..))
        have kb : mq_kd (op b) = mq_wt t 1 := by rw [← ar2 1 (by omega), ← hkd]; rfl
        have e2 : nI (s.length + 1 + 1) - 2 = nI s.length := by rw [show (2 : Int32) = nI 2 from rfl, pk_sub (by omega)]; rfl
        have w2 : vp_in (nI (s.length + 1 + 1) - 2) 24 := by rw [e2]; exact vp_in_nI (by simp at len; omega) (by omega)
        have r2 : wk (nI (s.length + 1 + 1) - 2).toNatClampNeg = nI b := by rw [e2, nI_clamp (by simp at len; omega)]; exact hws.2.1
        rw [n1] at nx ⊢
        refine br_f (by decide) ⟨w2, br_t (by decide) (nm_r (e' := nI s.length) e2 ?_)⟩
        rw [List.length_cons, List.length_cons, r2]
        refine xc_make (N := N) (by omega) hop la lb lb (fun z => by omega) (fun _ => rfl) ka (fun _ => kb) (fun z => by omega) P (fun N' op' A' B' C' nd' st' vl' D' T' r' hp hx hr hd hkk hTr => ?_)
        refine nx N' op' A' B' C' nd' st' vl' D' T' r' hp hx hr hkk (fun env => ?_) ?_
        · rw [st1 env, hd env, ← hval env]; unfold mq_es
          rw [if_neg l2, if_neg l3, n1]
          have n34 : ¬ t = 34 := fun z => by subst z; exact absurd n1 (by decide)
          congr 1
          show mq_sem t (D env a) (D env b) _ = mq_sem t (D env a) (D env b) (D env b)
          unfold mq_sem
          simp only [n34, if_false]
        · have : pg_t t (T a) (T b) ≤ 1 + T a + T b := by unfold pg_t; split; omega; split <;> omega
          show T' r' + (s.map T).sum ≤ 1 + (T a + (T b + (s.map T).sum))
          omega
      · cases s with
        | nil => rw [List.length_cons, List.length_nil] at len; omega
        | cons b s =>
        cases s with
        | nil => rw [List.length_cons, List.length_cons, List.length_nil] at len; omega
        | cons c' s =>
        have lb : b < N := hlt b (List.mem_cons_of_mem _ (List.mem_cons_self ..))
        have lc : c' < N := hlt c' (List.mem_cons_of_mem _ (List.mem_cons_of_mem _ (List.mem_cons_self ..)))
        have kb : mq_kd (op b) = mq_wt t 1 := by rw [← ar2 1 (by omega), ← hkd]; rfl
        have kc : mq_kd (op c') = mq_wt t 2 := by rw [← ar2 2 (by omega), ← hkd]; rfl
        have e2 : nI (s.length + 1 + 1 + 1) - 2 = nI (s.length + 1) := by rw [show (2 : Int32) = nI 2 from rfl, pk_sub (by omega)]; rfl
        have w2 : vp_in (nI (s.length + 1 + 1 + 1) - 2) 24 := by rw [e2]; exact vp_in_nI (by simp at len; omega) (by omega)
        have r2 : wk (nI (s.length + 1 + 1 + 1) - 2).toNatClampNeg = nI b := by rw [e2, nI_clamp (by simp at len; omega)]; exact hws.2.1
        have e3 : nI (s.length + 1 + 1 + 1) - 3 = nI s.length := by rw [show (3 : Int32) = nI 3 from rfl, pk_sub (by omega)]; rfl
        have w3 : vp_in (nI (s.length + 1 + 1 + 1) - 3) 24 := by rw [e3]; exact vp_in_nI (by simp at len; omega) (by omega)
        have r3 : wk (nI (s.length + 1 + 1 + 1) - 3).toNatClampNeg = nI c' := by rw [e3, nI_clamp (by simp at len; omega)]; exact hws.2.2.1
        rw [n1] at nx ⊢
        refine br_f (by decide) ⟨w2, br_f (by decide) ⟨w3, nm_r (e' := nI s.length) e3 ?_⟩⟩
        rw [List.length_cons, List.length_cons, List.length_cons, r2, r3]
        refine xc_make (N := N) (by omega) hop la lb lc (fun z => by omega) (fun z => absurd n1 z) ka (fun _ => kb) (fun _ => kc) P (fun N' op' A' B' C' nd' st' vl' D' T' r' hp hx hr hd hkk hTr => ?_)
        refine nx N' op' A' B' C' nd' st' vl' D' T' r' hp hx hr hkk (fun env => ?_) ?_
        · rw [st1 env, hd env, ← hval env]; unfold mq_es
          rw [if_neg l2, if_neg l3, n1]
          rfl
        · have : pg_t t (T a) (T b) ≤ 1 + T a + T b := by unfold pg_t; split; omega; split <;> omega
          show T' r' + (s.map T).sum ≤ 1 + (T a + (T b + (T c' + (s.map T).sum)))
          omega
end XBU
end
section
/-! ===== X: build (whole), split, compile ===== -/
theorem pg_fr3 {op A B C nd st st' : Nat → Int32} {vl vl' : Nat → Int64} {D : (Nat → Int32) → Nat → VV} {T : Nat → Nat} {N : Nat} (P : pg_ok N op A B C nd st vl D T) (h : ∀ j, j < N → ¬ op j < 40 → st' j = st j ∧ vl' j = vl j) : pg_ok N op A B C nd st' vl' D T := by
  intro k hk
  rcases P k hk with H | ⟨h1, h2, h3, h4⟩ | ⟨h1, h2, h3, h4⟩ | H
  · exact Or.inl H
  · obtain ⟨a, b⟩ := h k hk (by rw [h1]; decide)
    exact Or.inr (Or.inl ⟨h1, h2, fun env => by rw [a, b]; exact h3 env, h4⟩)
  · obtain ⟨a, b⟩ := h k hk (by rw [h1]; decide)
    exact Or.inr (Or.inr (Or.inl ⟨h1, h2, fun env => by rw [a, b]; exact h3 env, h4⟩))
  · exact Or.inr (Or.inr (Or.inr H))
/-- the wanted nodes' operands are wanted -/
def xk_cl (N i : Nat) (op A B C W : Nat → Int32) : Prop := ∀ j, i ≤ j → j < N → W j ≠ 0 → mq_op (op j) → W (A j).toNatClampNeg ≠ 0 ∧ W (B j).toNatClampNeg ≠ 0 ∧ W (C j).toNatClampNeg ≠ 0
def xk_pt (parts : Nat → Int32) (ps : List Nat) : Prop := ∀ i, i < ps.length → parts i = nI (ps.getD i 0)
theorem xk_30 {x y c : VV} (hx : mq_ov true x) (hy : mq_ov true y) : mq_sem 30 x y c = (1, 0) ↔ x = (1, 0) ∧ y = (1, 0) := by
  rw [mq_s30]
  rcases hx with rfl | rfl | rfl <;> rcases hy with rfl | rfl | rfl <;> decide
theorem xk_sum {T : Nat → Nat} : ∀ {ps : List Nat}, (∀ x, x ∈ ps → 1 ≤ T x) → ps.length ≤ (ps.map T).sum
  | [], _ => Nat.le_refl _
  | x :: s, h => by
    have a := xk_sum (ps := s) (fun y hy => h y (List.mem_cons_of_mem _ hy))
    have b := h x (List.mem_cons_self ..)
    rw [List.map_cons, List.sum_cons, List.length_cons]
    omega
theorem xk_pt_set {parts : Nat → Int32} {pre rest : List Nat} {x a b : Nat} (h : xk_pt parts (pre ++ x :: rest)) : xk_pt (upd (upd parts pre.length (nI a)) (pre ++ x :: rest).length (nI b)) (pre ++ a :: (rest ++ [b])) := by
  intro i hi
  have hl : (pre ++ a :: (rest ++ [b])).length = (pre ++ x :: rest).length + 1 := by simp [List.length_append, List.length_cons]; omega
  have hl2 : (pre ++ x :: rest).length = pre.length + (rest.length + 1) := by simp
  rw [hl] at hi
  by_cases e : i = (pre ++ x :: rest).length
  · subst e
    rw [pk_us]
    congr 1
    rw [List.getD_eq_getElem?_getD, List.getElem?_append_right (by omega), hl2, show pre.length + (rest.length + 1) - pre.length = rest.length + 1 by omega, List.getElem?_cons_succ, List.getElem?_append_right (Nat.le_refl _), Nat.sub_self]
    rfl
  · rw [pk_un e]
    by_cases e2 : i = pre.length
    · subst e2
      rw [pk_us]
      congr 1
      rw [List.getD_eq_getElem?_getD, List.getElem?_append_right (Nat.le_refl _), Nat.sub_self]
      rfl
    · rw [pk_un e2, h i (by omega)]
      congr 1
      rw [List.getD_eq_getElem?_getD, List.getD_eq_getElem?_getD]
      by_cases e3 : i < pre.length
      · rw [List.getElem?_append_left e3, List.getElem?_append_left e3]
      · obtain ⟨j, rfl⟩ : ∃ j, i = pre.length + (j + 1) := ⟨i - pre.length - 1, by omega⟩
        rw [List.getElem?_append_right (by omega), List.getElem?_append_right (by omega), show pre.length + (j + 1) - pre.length = j + 1 by omega, List.getElem?_cons_succ, List.getElem?_cons_succ, List.getElem?_append_left (by omega)]
section XCO
variable {f_nodes f_filterRoot f_valueRoot f_keyRoot f_partCount f_groups f_passed f_overflow : Int32}
variable {a_cells a_live a_zoneLeast a_zoneMost a_tokens a_constants a_lengths a_nodeOp a_nodeA a_nodeB a_nodeC a_needs a_wanted a_state a_work a_parts a_heads a_chain a_places a_sorted a_groupNull a_groupPairs a_groupValues : Nat → Int32}
variable {a_value a_groupKey a_groupSum a_groupLeast a_groupMost : Nat → Int64}
variable {post : SX → Prop} {D : (Nat → Int32) → Nat → VV} {T : Nat → Nat} {N : Nat}
theorem xw_build {post : Int32 → SX → Prop} {e l : Nat} {κ : Bool} (he : e < 3) (hl : l ≤ 20) (hln : a_lengths e = nI l) (hk : mq_kst a_tokens (20 * e + l) l = some [κ]) (ho : ∀ j, j < l → mq_ok (a_tokens (20 * e + j))) (hN : N + l ≤ 63) (P : pg_ok N a_nodeOp a_nodeA a_nodeB a_nodeC a_needs a_state a_value D T)
    (K : ∀ (N' : Nat) (op' A' B' C' nd' st' : Nat → Int32) (vl' : Nat → Int64) (D' : (Nat → Int32) → Nat → VV) (T' : Nat → Nat) (wk' : Nat → Int32) (r : Nat), pg_ok N' op' A' B' C' nd' st' vl' D' T' → N ≤ N' → N' ≤ N + l → (∀ j, j < N → op' j = a_nodeOp j ∧ (∀ env, D' env j = D env j) ∧ T' j = T j) → r < N' → mq_kd (op' r) = κ → (∀ env, mq_est env a_tokens a_constants (20 * e + l) l = [D' env r]) → T' r ≤ l → post (nI r) (nI N', f_filterRoot, f_valueRoot, f_keyRoot, f_partCount, f_groups, f_passed, f_overflow, a_cells, a_live, a_zoneLeast, a_zoneMost, a_tokens, a_constants, a_lengths, op', A', B', C', nd', a_wanted, vl', st', wk', a_parts, a_heads, a_chain, a_places, a_sorted, a_groupNull, a_groupKey, a_groupPairs, a_groupValues, a_groupSum, a_groupLeast, a_groupMost)) : wpX_build post (nI N, f_filterRoot, f_valueRoot, f_keyRoot, f_partCount, f_groups, f_passed, f_overflow, a_cells, a_live, a_zoneLeast, a_zoneMost, a_tokens, a_constants, a_lengths, a_nodeOp, a_nodeA, a_nodeB, a_nodeC, a_needs, a_wanted, a_value, a_state, a_work, a_parts, a_heads, a_chain, a_places, a_sorted, a_groupNull, a_groupKey, a_groupPairs, a_groupValues, a_groupSum, a_groupLeast, a_groupMost) (nI e) := by
  have c : (nI e).toNatClampNeg = e := nI_clamp (by omega)
  refine And.intro (vp_in_nI (by omega) (by omega)) (nm_r (e' := nI (20 * e + l) - 1) ?_ ⟨l + 1, ?_⟩)
  · rw [c, hln, show (20 : Int32) = nI 20 from rfl, pk_mul, nI_add, Nat.mul_comm]
  · refine xb_16 (N0 := N) (op0 := a_nodeOp) (D0 := D) (T0 := T) he hl hk ho hN (fun N' op' A' B' C' nd' st' vl' D' T' wk' ns I => ?_) l (l + 1) 0 N a_nodeOp a_nodeA a_nodeB a_nodeC a_needs a_state a_value D T a_work [] [] (by omega) (by omega) rfl ⟨P, trivial, fun x hx => absurd hx List.not_mem_nil, rfl, fun _ => rfl, Nat.le_refl _, Nat.le_refl _, by omega, fun _ _ => ⟨rfl, fun _ => rfl, rfl⟩⟩
    obtain ⟨h1, h2, h3, h4, h5, h6, h7, h8, h9⟩ := I
    cases ns with
    | nil => cases h4
    | cons r s =>
    cases s with
    | cons _ _ => cases h4
    | nil =>
    have e0 : wk' 0 = nI r := h2.1
    rw [e0]
    exact K N' op' A' B' C' nd' st' vl' D' T' wk' r h1 h7 h8 h9 (h3 r (List.mem_cons_self ..)) (List.cons.inj h4).1 (fun env => (h5 env).symm) (by have : (T' r + 0) ≤ l := h6; omega)
theorem xk_split {F : Nat} (hN : N ≤ 63) (hF : F < N) (kF : mq_kd (a_nodeOp F) = true) (P : pg_ok N a_nodeOp a_nodeA a_nodeB a_nodeC a_needs a_state a_value D T) (hT : T F ≤ 20) (hW : a_wanted F ≠ 0) (hcl : xk_cl N 0 a_nodeOp a_nodeA a_nodeB a_nodeC a_wanted)
    (K : ∀ (parts : Nat → Int32) (ps : List Nat), ps.length ≤ 20 → xk_pt parts ps → (∀ x, x ∈ ps → x < N ∧ mq_kd (a_nodeOp x) = true ∧ a_wanted x ≠ 0) → (∀ env, D env F = (1, 0) ↔ ∀ x, x ∈ ps → D env x = (1, 0)) → post (nI N, nI F, f_valueRoot, f_keyRoot, nI ps.length, f_groups, f_passed, f_overflow, a_cells, a_live, a_zoneLeast, a_zoneMost, a_tokens, a_constants, a_lengths, a_nodeOp, a_nodeA, a_nodeB, a_nodeC, a_needs, a_wanted, a_value, a_state, a_work, parts, a_heads, a_chain, a_places, a_sorted, a_groupNull, a_groupKey, a_groupPairs, a_groupValues, a_groupSum, a_groupLeast, a_groupMost)) :
    wpX_split post (nI N, nI F, f_valueRoot, f_keyRoot, f_partCount, f_groups, f_passed, f_overflow, a_cells, a_live, a_zoneLeast, a_zoneMost, a_tokens, a_constants, a_lengths, a_nodeOp, a_nodeA, a_nodeB, a_nodeC, a_needs, a_wanted, a_value, a_state, a_work, a_parts, a_heads, a_chain, a_places, a_sorted, a_groupNull, a_groupKey, a_groupPairs, a_groupValues, a_groupSum, a_groupLeast, a_groupMost) := by
  have main : ∀ (m n : Nat) (pre todo : List Nat) (parts : Nat → Int32), (todo.map T).sum ≤ m → m < n → xk_pt parts (pre ++ todo) → ((pre ++ todo).map T).sum ≤ T F → (∀ x, x ∈ pre ++ todo → x < N ∧ mq_kd (a_nodeOp x) = true ∧ a_wanted x ≠ 0) → (∀ env, D env F = (1, 0) ↔ ∀ x, x ∈ pre ++ todo → D env x = (1, 0)) →
      wX_split_18 post (nI N) (nI F) f_valueRoot f_keyRoot f_groups f_passed f_overflow n (nI pre.length) (nI (pre ++ todo).length) a_cells a_live a_zoneLeast a_zoneMost a_tokens a_constants a_lengths a_nodeOp a_nodeA a_nodeB a_nodeC a_needs a_wanted a_value a_state a_work parts a_heads a_chain a_places a_sorted a_groupNull a_groupKey a_groupPairs a_groupValues a_groupSum a_groupLeast a_groupMost := by
    intro m
    induction m with
    | zero =>
      intro n pre todo parts h1 h2 h3 h4 h5 h6
      obtain ⟨n, rfl⟩ := zb_ex (show 0 < n by omega)
      have le := xk_sum (T := T) (ps := todo) (fun x hx => pg_Tpos P (h5 x (List.mem_append_right _ hx)).1)
      have : todo = [] := List.length_eq_zero_iff.mp (by omega)
      subst this
      have le2 := xk_sum (T := T) (ps := pre ++ []) (fun x hx => pg_Tpos P (h5 x hx).1)
      rw [wX_split_18]
      rw [List.append_nil] at *
      exact br_t (nI_le (Nat.le_refl _) (by omega)) (K parts pre (by omega) h3 h5 h6)
    | succ m ih =>
      intro n pre todo parts h1 h2 h3 h4 h5 h6
      obtain ⟨n, rfl⟩ := zb_ex (show 0 < n by omega)
      have le2 := xk_sum (T := T) (ps := pre ++ todo) (fun x hx => pg_Tpos P (h5 x hx).1)
      cases todo with
      | nil =>
        rw [wX_split_18]
        rw [List.append_nil] at *
        exact br_t (nI_le (Nat.le_refl _) (by omega)) (K parts pre (by omega) h3 h5 h6)
      | cons x rest =>
      have hl2 : (pre ++ x :: rest).length = pre.length + (rest.length + 1) := by simp
      have hp : parts pre.length = nI x := by
        rw [h3 pre.length (by omega)]
        congr 1
        rw [List.getD_eq_getElem?_getD, List.getElem?_append_right (Nat.le_refl _), Nat.sub_self]
        rfl
      obtain ⟨x1, x2, x3⟩ := h5 x (List.mem_append_right _ (List.mem_cons_self ..))
      have Tx := pg_Tpos P x1
      have c1 : (nI pre.length).toNatClampNeg = pre.length := nI_clamp (by omega)
      have c2 : (nI x).toNatClampNeg = x := nI_clamp (by omega)
      have c3 : (nI (pre ++ x :: rest).length).toNatClampNeg = (pre ++ x :: rest).length := nI_clamp (by omega)
      have w1 : vp_in (nI pre.length) 24 := vp_in_nI (by omega) (by omega)
      have w2 : vp_in (nI x) 64 := vp_in_nI (by omega) (by omega)
      rw [List.map_cons, List.sum_cons] at h1
      rw [wX_split_18]
      dsimp only
      rw [c1, hp]
      refine br_f (nI_ge (by omega) (by omega)) ⟨w1, nm_e ⟨w2, ?_⟩⟩
      rw [c2, c3]
      refine br_c (fun h30 => ?_) (fun _ => nm_r (nI_1 _) ?_)
      · rcases P x x1 with ⟨c', g1, g2, _⟩ | ⟨g1, _⟩ | ⟨g1, _⟩ | ⟨a, b, c, g1, la, lb, lc, ea, eb, ec, _, ka, kb, _, _, _, gd, gt⟩
        · rw [h30] at g2; exact absurd g2.symm (zb_ne (a := c') (b := 30) (by omega) (by omega) (by omega))
        · rw [h30] at g1; exact absurd g1 (by decide)
        · rw [h30] at g1; exact absurd g1 (by decide)
        · have wc := hcl x (by omega) x1 x3 g1
          rw [ea, eb, ec, nI_clamp (by omega), nI_clamp (by omega), nI_clamp (by omega)] at wc
          rw [h30] at gd gt ka kb
          have ka : mq_kd (a_nodeOp a) = true := ka
          have kb : mq_kd (a_nodeOp b) = true := kb (by decide)
          have gt : T x = 1 + T a + T b := gt
          have s0 : ((pre ++ x :: rest).map T).sum = (pre.map T).sum + (T x + (rest.map T).sum) := by simp [List.sum_append]
          have s1 : ((pre ++ a :: (rest ++ [b])).map T).sum = (pre.map T).sum + (T a + ((rest.map T).sum + T b)) := by simp [List.sum_append]
          have s2 : ((a :: (rest ++ [b])).map T).sum = T a + ((rest.map T).sum + T b) := by simp [List.sum_append]
          have l1 : (pre ++ a :: (rest ++ [b])).length = (pre ++ x :: rest).length + 1 := by simp; omega
          have mem : ∀ y, y ∈ pre ++ a :: (rest ++ [b]) ↔ y ∈ pre ∨ y = a ∨ y ∈ rest ∨ y = b := by intro y; simp
          have mem0 : ∀ y, y ∈ pre ++ x :: rest ↔ y ∈ pre ∨ y = x ∨ y ∈ rest := by intro y; simp
          have := ih n pre (a :: (rest ++ [b])) (upd (upd parts pre.length (nI a)) (pre ++ x :: rest).length (nI b)) (by omega) (by omega) (xk_pt_set h3) (by omega)
            (fun y hy => by
              rcases (mem y).mp hy with h | h | h | h
              · exact h5 y ((mem0 y).mpr (Or.inl h))
              · subst h; exact ⟨by omega, ka, wc.1⟩
              · exact h5 y ((mem0 y).mpr (Or.inr (Or.inr h)))
              · subst h; exact ⟨by omega, kb, wc.2.1⟩)
            (fun env => (h6 env).trans (by
              have q := xk_30 (c := D env c) (ka ▸ pg_ov P env a (by omega)) (kb ▸ pg_ov P env b (by omega))
              rw [← gd env] at q
              constructor
              · intro H y hy
                rcases (mem y).mp hy with h | h | h | h
                · exact H y ((mem0 y).mpr (Or.inl h))
                · subst h; exact (q.mp (H x ((mem0 x).mpr (Or.inr (Or.inl rfl))))).1
                · exact H y ((mem0 y).mpr (Or.inr (Or.inr h)))
                · subst h; exact (q.mp (H x ((mem0 x).mpr (Or.inr (Or.inl rfl))))).2
              · intro H y hy
                rcases (mem0 y).mp hy with h | h | h
                · exact H y ((mem y).mpr (Or.inl h))
                · subst h; exact q.mpr ⟨H a ((mem a).mpr (Or.inr (Or.inl rfl))), H b ((mem b).mpr (Or.inr (Or.inr (Or.inr rfl))))⟩
                · exact H y ((mem y).mpr (Or.inr (Or.inr (Or.inl h))))))
          rw [l1] at this
          rw [ea, eb, zb_nb (by omega), zb_nb (by omega)]
          have le3 := xk_sum (T := T) (ps := pre ++ a :: (rest ++ [b])) (fun y hy => by
              rcases (mem y).mp hy with h | h | h | h
              · exact pg_Tpos P (h5 y ((mem0 y).mpr (Or.inl h))).1
              · subst h; exact pg_Tpos P (by omega)
              · exact pg_Tpos P (h5 y ((mem0 y).mpr (Or.inr (Or.inr h)))).1
              · subst h; exact pg_Tpos P (by omega))
          exact ⟨w2, w1, nm_e (nm_r (nI_1 _) ⟨w2, vp_in_nI (by omega) (by omega), nm_e this⟩)⟩
      · have ap : (pre ++ [x]) ++ rest = pre ++ x :: rest := by simp
        have := ih n (pre ++ [x]) rest parts (by omega) (by omega) (by rw [ap]; exact h3) (by rw [ap]; exact h4) (by rw [ap]; exact h5) (by rw [ap]; exact h6)
        rw [ap, List.length_append] at this
        exact this
  refine nm_r (e' := upd a_parts 0 (nI F)) (by rw [zb_by (by omega)]) ⟨T F + 1, ?_⟩
  refine main (T F) (T F + 1) [] [F] (upd a_parts 0 (nI F)) ?_ (by omega) ?_ ?_ ?_ ?_
  · show T F + 0 ≤ T F; omega
  · intro i hi
    have : i = 0 := by simp at hi; exact hi
    subst this
    exact pk_us
  · show T F + 0 ≤ T F; omega
  · intro x hx
    have : x = F := by simpa using hx
    subst this
    exact ⟨hF, kF, hW⟩
  · intro env
    constructor
    · intro h x hx
      have : x = F := by simpa using hx
      subst this; exact h
    · intro h; exact h F (by simp)
end XCO
end
section
/-! ===== X: compile ===== -/
/-- the tokens of a row are an expression of kind κ that means E -/
def xk_tk (tok con len : Nat → Int32) (e : Nat) (κ : Bool) (E : (Nat → Int32) → VV) : Prop :=
  ∃ l, l ≤ 20 ∧ len e = nI l ∧ mq_kst tok (20 * e + l) l = some [κ] ∧ (∀ j, j < l → mq_ok (tok (20 * e + j))) ∧ ∀ env, mq_est env tok con (20 * e + l) l = [E env]
/-- the compiled program -/
def xk_pg (N : Nat) (D : (Nat → Int32) → Nat → VV) (T : Nat → Nat) (f v k : Nat) (ps : List Nat) (op A B C nd W st parts : Nat → Int32) (vl : Nat → Int64) (E0 E1 E2 : (Nat → Int32) → VV) : Prop :=
  N ≤ 63 ∧ pg_ok N op A B C nd st vl D T ∧ f < N ∧ v < N ∧ k < N ∧ mq_kd (op f) = true ∧ mq_kd (op v) = false ∧ mq_kd (op k) = false ∧ (∀ env, D env f = E0 env) ∧ (∀ env, D env v = E1 env) ∧ (∀ env, D env k = E2 env) ∧
  W f ≠ 0 ∧ W v ≠ 0 ∧ W k ≠ 0 ∧ xk_cl N 0 op A B C W ∧ ps.length ≤ 20 ∧ xk_pt parts ps ∧ (∀ x, x ∈ ps → x < N ∧ mq_kd (op x) = true ∧ W x ≠ 0) ∧ (∀ env, D env f = (1, 0) ↔ ∀ x, x ∈ ps → D env x = (1, 0))
def xk_ok (nodes F V K pc : Int32) (op A B C nd W st parts : Nat → Int32) (vl : Nat → Int64) (E0 E1 E2 : (Nat → Int32) → VV) : Prop :=
  ∃ (N : Nat) (D : (Nat → Int32) → Nat → VV) (T : Nat → Nat) (f v k : Nat) (ps : List Nat), nodes = nI N ∧ F = nI f ∧ V = nI v ∧ K = nI k ∧ pc = nI ps.length ∧ xk_pg N D T f v k ps op A B C nd W st parts vl E0 E1 E2
theorem xk_w1 {W : Nat → Int32} {a j : Nat} (h : W j ≠ 0) : upd W a 1 j ≠ 0 := by
  by_cases e : j = a
  · subst e; rw [pk_us]; decide
  · rw [pk_un e]; exact h
theorem xk_ws {W : Nat → Int32} {a : Nat} : upd W a 1 a ≠ 0 := by rw [pk_us]; decide
section XCL
variable {f_nodes f_filterRoot f_valueRoot f_keyRoot f_partCount f_groups f_passed f_overflow : Int32}
variable {a_cells a_live a_zoneLeast a_zoneMost a_tokens a_constants a_lengths a_nodeOp a_nodeA a_nodeB a_nodeC a_needs a_wanted a_state a_work a_parts a_heads a_chain a_places a_sorted a_groupNull a_groupPairs a_groupValues : Nat → Int32}
variable {a_value a_groupKey a_groupSum a_groupLeast a_groupMost : Nat → Int64}
variable {post : SX → Prop} {D : (Nat → Int32) → Nat → VV} {T : Nat → Nat} {N f v k : Nat}
theorem xk_92 (hN : N ≤ 63) (hf : f < N) (kf : mq_kd (a_nodeOp f) = true) (P : pg_ok N a_nodeOp a_nodeA a_nodeB a_nodeC a_needs a_state a_value D T) (hT : T f ≤ 20)
    (K : ∀ (W parts : Nat → Int32) (ps : List Nat), W f ≠ 0 → W v ≠ 0 → W k ≠ 0 → xk_cl N 0 a_nodeOp a_nodeA a_nodeB a_nodeC W → ps.length ≤ 20 → xk_pt parts ps → (∀ x, x ∈ ps → x < N ∧ mq_kd (a_nodeOp x) = true ∧ W x ≠ 0) → (∀ env, D env f = (1, 0) ↔ ∀ x, x ∈ ps → D env x = (1, 0)) → post (nI N, nI f, f_valueRoot, f_keyRoot, nI ps.length, f_groups, f_passed, f_overflow, a_cells, a_live, a_zoneLeast, a_zoneMost, a_tokens, a_constants, a_lengths, a_nodeOp, a_nodeA, a_nodeB, a_nodeC, a_needs, W, a_value, a_state, a_work, parts, a_heads, a_chain, a_places, a_sorted, a_groupNull, a_groupKey, a_groupPairs, a_groupValues, a_groupSum, a_groupLeast, a_groupMost)) :
    ∀ (r n : Nat) (W : Nat → Int32), r < n → r ≤ N → W f ≠ 0 → W v ≠ 0 → W k ≠ 0 → xk_cl N r a_nodeOp a_nodeA a_nodeB a_nodeC W → wX_compile_92 post (nI N) (nI f) f_valueRoot f_keyRoot f_partCount f_groups f_passed f_overflow n (nI r - 1) a_cells a_live a_zoneLeast a_zoneMost a_tokens a_constants a_lengths a_nodeOp a_nodeA a_nodeB a_nodeC a_needs W a_value a_state a_work a_parts a_heads a_chain a_places a_sorted a_groupNull a_groupKey a_groupPairs a_groupValues a_groupSum a_groupLeast a_groupMost := by
  intro r
  induction r with
  | zero =>
    intro n W hn hr h1 h2 h3 h4
    obtain ⟨n, rfl⟩ := zb_ex hn
    rw [wX_compile_92]
    dsimp only
    refine br_t zb_pneg (xk_split hN hf kf P hT h1 h4 (fun parts ps q1 q2 q3 q4 => ?_))
    exact K W parts ps h1 h2 h3 h4 q1 q2 q3 q4
  | succ r ih =>
    intro n W hn hr h1 h2 h3 h4
    obtain ⟨n, rfl⟩ := zb_ex (show 0 < n by omega)
    have c : (nI r).toNatClampNeg = r := nI_clamp (by omega)
    have w : vp_in (nI r) 64 := vp_in_nI (by omega) (by omega)
    have nx : ∀ W : Nat → Int32, W f ≠ 0 → W v ≠ 0 → W k ≠ 0 → xk_cl N r a_nodeOp a_nodeA a_nodeB a_nodeC W → wX_compile_92 post (nI N) (nI f) f_valueRoot f_keyRoot f_partCount f_groups f_passed f_overflow n (nI r + (-1)) a_cells a_live a_zoneLeast a_zoneMost a_tokens a_constants a_lengths a_nodeOp a_nodeA a_nodeB a_nodeC a_needs W a_value a_state a_work a_parts a_heads a_chain a_places a_sorted a_groupNull a_groupKey a_groupPairs a_groupValues a_groupSum a_groupLeast a_groupMost := by
      intro W q1 q2 q3 q4
      rw [zb_add1]; exact ih n W (by omega) (by omega) q1 q2 q3 q4
    rw [wX_compile_92]
    dsimp only
    rw [nI_pred, c]
    have skip : (W r ≠ 0 → mq_op (a_nodeOp r) → False) → wX_compile_92 post (nI N) (nI f) f_valueRoot f_keyRoot f_partCount f_groups f_passed f_overflow n (nI r + (-1)) a_cells a_live a_zoneLeast a_zoneMost a_tokens a_constants a_lengths a_nodeOp a_nodeA a_nodeB a_nodeC a_needs W a_value a_state a_work a_parts a_heads a_chain a_places a_sorted a_groupNull a_groupKey a_groupPairs a_groupValues a_groupSum a_groupLeast a_groupMost := by
      intro h
      refine nx W h1 h2 h3 (fun j hj1 hj2 hj3 hj4 => ?_)
      by_cases e : j = r
      · subst e; exact (h hj3 hj4).elim
      · exact h4 j (by omega) hj2 hj3 hj4
    refine br_f (nI_pos (by omega)) ⟨w, br_c (fun z => nm_e (skip (fun q _ => q z))) (fun wr => ⟨w, br_c (fun z => nm_e (skip (fun _ q => (mq_op_lo q).1 z))) (fun o1 => ⟨w, br_c (fun z => nm_e (skip (fun _ q => Int32.not_lt.mpr z (mq_op_lo q).2.2.2.2.1))) (fun o2 => ?_)⟩)⟩)⟩
    rcases P r (by omega) with ⟨c', g1, g2, _⟩ | ⟨g1, _⟩ | ⟨g1, _⟩ | ⟨x, y, z, g1, lx, ly, lz, ex, ey, ez, _⟩
    · rw [g2] at o1; exact absurd (nI_lt (b := 10) (by omega) (by decide)) o1
    · rw [g1] at o2; exact absurd (by decide) o2
    · rw [g1] at o2; exact absurd (by decide) o2
    · rw [ex, ey, ez, nI_clamp (show x < 2 ^ 31 by omega), nI_clamp (show y < 2 ^ 31 by omega), nI_clamp (show z < 2 ^ 31 by omega), zb_t1]
      have wx : vp_in (nI x) 64 := vp_in_nI (by omega) (by omega)
      have wy : vp_in (nI y) 64 := vp_in_nI (by omega) (by omega)
      have wz : vp_in (nI z) 64 := vp_in_nI (by omega) (by omega)
      refine ⟨w, wx, nm_e ⟨w, wy, nm_e ⟨w, wz, nm_e (nm_e ?_)⟩⟩⟩
      refine nx _ (xk_w1 (xk_w1 (xk_w1 h1))) (xk_w1 (xk_w1 (xk_w1 h2))) (xk_w1 (xk_w1 (xk_w1 h3))) (fun j hj1 hj2 hj3 hj4 => ?_)
      by_cases e : j = r
      · subst e
        rw [ex, ey, ez, nI_clamp (show x < 2 ^ 31 by omega), nI_clamp (show y < 2 ^ 31 by omega), nI_clamp (show z < 2 ^ 31 by omega)]
        exact ⟨xk_w1 (xk_w1 xk_ws), xk_w1 xk_ws, xk_ws⟩
      · rw [pk_un (by omega), pk_un (by omega), pk_un (by omega)] at hj3
        obtain ⟨q1, q2, q3⟩ := h4 j (by omega) hj2 hj3 hj4
        exact ⟨xk_w1 (xk_w1 (xk_w1 q1)), xk_w1 (xk_w1 (xk_w1 q2)), xk_w1 (xk_w1 (xk_w1 q3))⟩
theorem xk_34 (hN : N ≤ 63) (hf : f < N) (hv : v < N) (hk : k < N) (kf : mq_kd (a_nodeOp f) = true) (P : pg_ok N a_nodeOp a_nodeA a_nodeB a_nodeC a_needs a_state a_value D T) (hT : T f ≤ 20)
    (K : ∀ (W parts : Nat → Int32) (ps : List Nat), W f ≠ 0 → W v ≠ 0 → W k ≠ 0 → xk_cl N 0 a_nodeOp a_nodeA a_nodeB a_nodeC W → ps.length ≤ 20 → xk_pt parts ps → (∀ x, x ∈ ps → x < N ∧ mq_kd (a_nodeOp x) = true ∧ W x ≠ 0) → (∀ env, D env f = (1, 0) ↔ ∀ x, x ∈ ps → D env x = (1, 0)) → post (nI N, nI f, nI v, nI k, nI ps.length, f_groups, f_passed, f_overflow, a_cells, a_live, a_zoneLeast, a_zoneMost, a_tokens, a_constants, a_lengths, a_nodeOp, a_nodeA, a_nodeB, a_nodeC, a_needs, W, a_value, a_state, a_work, parts, a_heads, a_chain, a_places, a_sorted, a_groupNull, a_groupKey, a_groupPairs, a_groupValues, a_groupSum, a_groupLeast, a_groupMost)) :
    ∀ (r n i : Nat) (W : Nat → Int32), i + r = N → r < n → wX_compile_34 post (nI N) (nI f) (nI v) (nI k) f_partCount f_groups f_passed f_overflow n (nI i) a_cells a_live a_zoneLeast a_zoneMost a_tokens a_constants a_lengths a_nodeOp a_nodeA a_nodeB a_nodeC a_needs W a_value a_state a_work a_parts a_heads a_chain a_places a_sorted a_groupNull a_groupKey a_groupPairs a_groupValues a_groupSum a_groupLeast a_groupMost := by
  intro r
  induction r with
  | zero =>
    intro n i W hi hn
    obtain ⟨n, rfl⟩ := zb_ex hn
    have : i = N := by omega
    subst this
    rw [wX_compile_34]
    dsimp only
    rw [nI_clamp (show f < 2 ^ 31 by omega), nI_clamp (show v < 2 ^ 31 by omega), nI_clamp (show k < 2 ^ 31 by omega), zb_t1]
    refine br_t (nI_le (Nat.le_refl _) (by omega)) ⟨vp_in_nI (by omega) (by omega), nm_e ⟨vp_in_nI (by omega) (by omega), nm_e ⟨vp_in_nI (by omega) (by omega), nm_e (nm_e ⟨i + 1, ?_⟩)⟩⟩⟩
    exact xk_92 (v := v) (k := k) hN hf kf P hT K i (i + 1) _ (by omega) (Nat.le_refl _) xk_ws (xk_w1 xk_ws) (xk_w1 (xk_w1 xk_ws)) (fun j h1 h2 => by omega)
  | succ r ih =>
    intro n i W hi hn
    obtain ⟨n, rfl⟩ := zb_ex (show 0 < n by omega)
    rw [wX_compile_34]
    dsimp only
    refine br_f (nI_ge (by omega) (by omega)) ⟨vp_in_nI (by omega) (by omega), nm_e (nm_r (nI_1 i) (ih n (i + 1) _ (by omega) (by omega)))⟩
theorem xw_compile {E0 E1 E2 : (Nat → Int32) → VV} (h0 : xk_tk a_tokens a_constants a_lengths 0 true E0) (h1 : xk_tk a_tokens a_constants a_lengths 1 false E1) (h2 : xk_tk a_tokens a_constants a_lengths 2 false E2)
    (K : ∀ (nodes F V Q pc : Int32) (op A B C nd W st wk parts : Nat → Int32) (vl : Nat → Int64), xk_ok nodes F V Q pc op A B C nd W st parts vl E0 E1 E2 → post (nodes, F, V, Q, pc, f_groups, f_passed, f_overflow, a_cells, a_live, a_zoneLeast, a_zoneMost, a_tokens, a_constants, a_lengths, op, A, B, C, nd, W, vl, st, wk, parts, a_heads, a_chain, a_places, a_sorted, a_groupNull, a_groupKey, a_groupPairs, a_groupValues, a_groupSum, a_groupLeast, a_groupMost)) : wpX_compile post (f_nodes, f_filterRoot, f_valueRoot, f_keyRoot, f_partCount, f_groups, f_passed, f_overflow, a_cells, a_live, a_zoneLeast, a_zoneMost, a_tokens, a_constants, a_lengths, a_nodeOp, a_nodeA, a_nodeB, a_nodeC, a_needs, a_wanted, a_value, a_state, a_work, a_parts, a_heads, a_chain, a_places, a_sorted, a_groupNull, a_groupKey, a_groupPairs, a_groupValues, a_groupSum, a_groupLeast, a_groupMost) := by
  obtain ⟨l0, a0, b0, c0', d0, e0⟩ := h0
  obtain ⟨l1, a1, b1, c1', d1, e1⟩ := h1
  obtain ⟨l2, a2, b2, c2', d2, e2⟩ := h2
  unfold wpX_compile
  dsimp only
  refine xw_build (e := 0) (N := 0) (D := fun _ _ => (0, 0)) (T := fun _ => 0) (by omega) a0 b0 c0' d0 (by omega) (fun j hj => absurd hj (by omega)) (fun N op A B C nd st vl D T wk f P n1 n2 old hf kf ef tf => ?_)
  dsimp only
  refine xw_build (e := 1) (N := N) (by omega) a1 b1 c1' d1 (by omega) P (fun N' op' A' B' C' nd' st' vl' D' T' wk' v P' n1' n2' old' hv kv ev tv => ?_)
  dsimp only
  refine xw_build (e := 2) (N := N') (by omega) a2 b2 c2' d2 (by omega) P' (fun N2 op2 A2 B2 C2 nd2 st2 vl2 D2 T2 wk2 k P2 n12 n22 old2 hk kk ek tk => ?_)
  dsimp only
  refine ⟨N2 + 1, xk_34 (f := f) (v := v) (k := k) (by omega) (by omega) (by omega) hk ?_ P2 ?_ (fun W parts ps q1 q2 q3 q4 q5 q6 q7 q8 => ?_) N2 (N2 + 1) 0 _ (by omega) (by omega)⟩
  · rw [(old2 f (by omega)).1, (old' f hf).1]; exact kf
  · rw [(old2 f (by omega)).2.2, (old' f hf).2.2]; omega
  · refine K _ _ _ _ _ _ _ _ _ _ _ _ _ _ _ ⟨N2, D2, T2, f, v, k, ps, rfl, rfl, rfl, rfl, rfl, by omega, P2, by omega, by omega, hk, ?_, ?_, kk, fun env => ?_, fun env => ?_, fun env => ?_, q1, q2, q3, q4, q5, q6, q7, q8⟩
    · rw [(old2 f (by omega)).1, (old' f hf).1]; exact kf
    · rw [(old2 v (by omega)).1]; exact kv
    · rw [(old2 f (by omega)).2.1, (old' f hf).2.1]
      exact (List.cons.inj ((ef env).symm.trans (e0 env))).1
    · rw [(old2 v (by omega)).2.1]
      exact (List.cons.inj ((ev env).symm.trans (e1 env))).1
    · exact (List.cons.inj ((ek env).symm.trans (e2 env))).1
end XCL
end
section
/-! ===== the kind check on both sides ===== -/
theorem ck_none {tok : Nat → Int32} {hi d l : Nat} {ks : List Bool} (h : mq_kst tok hi d = some ks) (hn : mq_ks (tok (hi - (d + 1))) ks = none) (hd : d + 1 ≤ l) : mq_kst tok hi l = none := by
  have : mq_kst tok hi (d + 1) = none := by
    show (mq_kst tok hi d).bind _ = none
    rw [h]; exact hn
  have := mq_kst_n this (l - (d + 1))
  rw [show d + 1 + (l - (d + 1)) = l by omega] at this
  exact this
theorem ck_sn {t : Int32} {ks : List Bool} (h : ¬ mq_ar t ≤ ks.length) : mq_ks t ks = none := by
  unfold mq_ks; rw [if_neg (fun z => h z.1)]
theorem ck_sk {t : Int32} {ks : List Bool} {k : Nat} (hk : k < mq_ar t) (h : ¬ ks.getD k false = mq_wt t k) : mq_ks t ks = none := by
  unfold mq_ks; rw [if_neg (fun z => h (z.2 k hk))]
theorem ck_ss {t : Int32} {ks : List Bool} (h1 : mq_ar t ≤ ks.length) (h2 : ∀ k, k < mq_ar t → ks.getD k false = mq_wt t k) : mq_ks t ks = some (mq_tr t :: ks.drop (mq_ar t)) := by
  unfold mq_ks; rw [if_pos ⟨h1, h2⟩]
theorem ck_st {tok : Nat → Int32} {hi d : Nat} {ks ks' : List Bool} (h : mq_kst tok hi d = some ks) (h2 : mq_ks (tok (hi - (d + 1))) ks = some ks') : mq_kst tok hi (d + 1) = some ks' := by
  show (mq_kst tok hi d).bind _ = some ks'
  rw [h]; exact h2
theorem mq_ar3 (t : Int32) : mq_ar t ≤ 3 := by
  unfold mq_ar; split; omega; split; omega; split <;> omega
def ck_b (b : Bool) : Int32 := if b = true then 2 else 1
def ck_ws (wk : Nat → Int32) : List Bool → Prop
  | [] => True
  | b :: s => wk s.length = ck_b b ∧ ck_ws wk s
theorem ck_ws_fr {wk wk' : Nat → Int32} : ∀ {s : List Bool}, (∀ i, i < s.length → wk' i = wk i) → ck_ws wk s → ck_ws wk' s
  | [], _, _ => trivial
  | _ :: s, h, ⟨a, b⟩ => ⟨(h _ (Nat.lt_succ_self _)).trans a, ck_ws_fr (fun i hi => h i (Nat.lt_succ_of_lt hi)) b⟩
theorem ck_ws_drop {wk : Nat → Int32} : ∀ {s : List Bool} (n : Nat), ck_ws wk s → ck_ws wk (s.drop n)
  | _, 0, h => h
  | [], _ + 1, _ => trivial
  | _ :: _, n + 1, h => ck_ws_drop n h.2
theorem ck_ws_get {wk : Nat → Int32} : ∀ {s : List Bool} (i m : Nat), m + i + 1 = s.length → ck_ws wk s → wk m = ck_b (s.getD i false)
  | [], _, _, h, _ => by simp at h
  | b :: s, 0, m, h, hw => by
    have : m = s.length := by simp at h; exact h
    subst this; exact hw.1
  | b :: s, i + 1, m, h, hw => ck_ws_get (s := s) i m (by simp at h; omega) hw.2
theorem ck_inj {a b : Bool} (h : ck_b a = ck_b b) : a = b := by
  cases a <;> cases b <;> first | rfl | (exact absurd h (by decide))
theorem ck_kind {q : Int32 → Prop} {t : Int32} (h : q (ck_b (mq_tr t))) : wpX_kindOf q t := by
  unfold ck_b mq_tr at h
  refine br_c (fun a => ?_) (fun a => br_c (fun b => ?_) (fun b => ?_))
  · rw [if_neg (by rw [decide_eq_true_iff]; exact fun z => Int32.not_lt.mpr z.1 a)] at h; exact h
  · rw [if_neg (by rw [decide_eq_true_iff]; exact fun z => Int32.not_lt.mpr z.2 b)] at h; exact h
  · rw [if_pos (by rw [decide_eq_true_iff]; exact ⟨Int32.not_lt.mp a, Int32.not_lt.mp b⟩)] at h; exact h
theorem ck_okind {q : Int32 → Prop} {t : Int32} {j : Nat} (hj : j < 2 ^ 31) (h : q (ck_b (mq_wt t j))) : wpX_operandKind q t (nI j) := by
  unfold ck_b mq_wt at h
  refine br_c (fun a => ?_) (fun a => br_c (fun b => ?_) (fun b => br_c (fun c => ?_) (fun c => br_c (fun d => br_c (fun e => ?_) (fun e => ?_)) (fun d => ?_))))
  · rw [if_pos (by rw [decide_eq_true_iff]; exact Or.inl a)] at h; exact h
  · rw [if_pos (by rw [decide_eq_true_iff]; exact Or.inr (Or.inl b))] at h; exact h
  · rw [if_pos (by rw [decide_eq_true_iff]; exact Or.inr (Or.inr (Or.inl c)))] at h; exact h
  · rw [if_pos (by rw [decide_eq_true_iff]; exact Or.inr (Or.inr (Or.inr ⟨d, zb_inj (b := 0) e hj (by omega)⟩)))] at h; exact h
  · rw [if_neg (by rw [decide_eq_true_iff]; rintro (z | z | z | z); exact a z; exact b z; exact c z; exact e (by rw [z.2]; rfl))] at h; exact h
  · rw [if_neg (by rw [decide_eq_true_iff]; rintro (z | z | z | z); exact a z; exact b z; exact c z; exact d z.1)] at h; exact h
/-- what check answers -/
def ck_k (o : Option (List Bool)) : Int32 := if o = some [true] then 2 else if o = some [false] then 1 else 0
section XCK
variable {f_nodes f_filterRoot f_valueRoot f_keyRoot f_partCount f_groups f_passed f_overflow : Int32}
variable {a_cells a_live a_zoneLeast a_zoneMost a_tokens a_constants a_lengths a_nodeOp a_nodeA a_nodeB a_nodeC a_needs a_wanted a_state a_work a_parts a_heads a_chain a_places a_sorted a_groupNull a_groupPairs a_groupValues : Nat → Int32}
variable {a_value a_groupKey a_groupSum a_groupLeast a_groupMost : Nat → Int64}
variable {post : Int32 → SX → Prop} {l : Nat}
theorem ck_44 {J : Int32 → Int32 → (Nat → Int32) → (Nat → Int32) → (Nat → Int32) → (Nat → Int32) → (Nat → Int32) → (Nat → Int32) → (Nat → Int32) → (Nat → Int32) → (Nat → Int32) → (Nat → Int32) → (Nat → Int32) → (Nat → Int32) → (Nat → Int32) → (Nat → Int64) → (Nat → Int32) → (Nat → Int32) → (Nat → Int32) → (Nat → Int32) → (Nat → Int32) → (Nat → Int32) → (Nat → Int32) → (Nat → Int32) → (Nat → Int64) → (Nat → Int32) → (Nat → Int32) → (Nat → Int64) → (Nat → Int64) → (Nat → Int64) → Prop} {t x2 : Int32} {ks : List Bool} (hlen : ks.length ≤ 20) (har : mq_ar t ≤ ks.length) (hw : ck_ws a_work ks)
    (K0 : mq_ks t ks = none → post 0 (f_nodes, f_filterRoot, f_valueRoot, f_keyRoot, f_partCount, f_groups, f_passed, f_overflow, a_cells, a_live, a_zoneLeast, a_zoneMost, a_tokens, a_constants, a_lengths, a_nodeOp, a_nodeA, a_nodeB, a_nodeC, a_needs, a_wanted, a_value, a_state, a_work, a_parts, a_heads, a_chain, a_places, a_sorted, a_groupNull, a_groupKey, a_groupPairs, a_groupValues, a_groupSum, a_groupLeast, a_groupMost)) (K : mq_ks t ks = some (mq_tr t :: ks.drop (mq_ar t)) → J (nI (ks.length - mq_ar t + 1)) (x2 - 1) a_cells a_live a_zoneLeast a_zoneMost a_tokens a_constants a_lengths a_nodeOp a_nodeA a_nodeB a_nodeC a_needs a_wanted a_value a_state (upd a_work (ks.length - mq_ar t) (ck_b (mq_tr t))) a_parts a_heads a_chain a_places a_sorted a_groupNull a_groupKey a_groupPairs a_groupValues a_groupSum a_groupLeast a_groupMost) :
    ∀ (r n j : Nat), j + r = mq_ar t → r < n → (∀ k, k < j → ks.getD k false = mq_wt t k) → wX_check_44 post J x2 t (nI (mq_ar t)) f_nodes f_filterRoot f_valueRoot f_keyRoot f_partCount f_groups f_passed f_overflow a_cells a_live a_zoneLeast a_zoneMost a_tokens a_constants a_lengths a_nodeOp a_nodeA a_nodeB a_nodeC a_needs a_wanted a_value a_state a_work a_parts a_heads a_chain a_places a_sorted a_groupNull a_groupKey a_groupPairs a_groupValues a_groupSum a_groupLeast a_groupMost n (nI (ks.length - j)) (nI j) := by
  have a3 := mq_ar3 t
  intro r
  induction r with
  | zero =>
    intro n j hj hn hg
    obtain ⟨n, rfl⟩ := zb_ex hn
    have : j = mq_ar t := by omega
    subst this
    have c : (nI (ks.length - mq_ar t)).toNatClampNeg = ks.length - mq_ar t := nI_clamp (by omega)
    rw [wX_check_44]
    dsimp only
    refine br_t (nI_le (Nat.le_refl _) (by omega)) (nm_r (nI_1 _) (ck_kind ⟨vp_in_nI (by omega) (by omega), nm_r (e' := upd a_work (ks.length - mq_ar t) (ck_b (mq_tr t))) ?_ (nm_r (zb_add1 x2) (K (ck_ss har hg)))⟩))
    rw [c, pk_vb]
    congr 1
    cases mq_tr t <;> decide
  | succ r ih =>
    intro n j hj hn hg
    obtain ⟨n, rfl⟩ := zb_ex (show 0 < n by omega)
    have e1 : nI (ks.length - j) + (-1) = nI (ks.length - (j + 1)) := by
      rw [show ks.length - j = (ks.length - (j + 1)) + 1 by omega, pk_m1]
    have c : (nI (ks.length - (j + 1))).toNatClampNeg = ks.length - (j + 1) := nI_clamp (by omega)
    have g := ck_ws_get (wk := a_work) (s := ks) j (ks.length - (j + 1)) (by omega) hw
    rw [wX_check_44]
    dsimp only
    refine br_f (nI_ge (by omega) (by omega)) (nm_r e1 (ck_okind (by omega) ⟨vp_in_nI (by omega) (by omega), ?_⟩))
    rw [c, g]
    refine br_c (fun h => nm_r (nI_1 _) (ih n (j + 1) (by omega) (by omega) (fun k hk => ?_))) (fun h => K0 (ck_sk (k := j) (by omega) (fun z => h (by rw [z]))))
    by_cases e : k = j
    · subst e; exact ck_inj h
    · exact hg k (by omega)
theorem ck_14 (hl : l ≤ 20) (ho : ∀ j, j < l → mq_ok (a_tokens (60 + j))) (K : ∀ wk', post (ck_k (mq_kst a_tokens (60 + l) l)) (f_nodes, f_filterRoot, f_valueRoot, f_keyRoot, f_partCount, f_groups, f_passed, f_overflow, a_cells, a_live, a_zoneLeast, a_zoneMost, a_tokens, a_constants, a_lengths, a_nodeOp, a_nodeA, a_nodeB, a_nodeC, a_needs, a_wanted, a_value, a_state, wk', a_parts, a_heads, a_chain, a_places, a_sorted, a_groupNull, a_groupKey, a_groupPairs, a_groupValues, a_groupSum, a_groupLeast, a_groupMost)) :
    ∀ (r n d : Nat) (wk : Nat → Int32) (ks : List Bool), d + r = l → r < n → mq_kst a_tokens (60 + l) d = some ks → ck_ws wk ks → wX_check_14 post f_nodes f_filterRoot f_valueRoot f_keyRoot f_partCount f_groups f_passed f_overflow n (nI ks.length) (nI (60 + r) - 1) a_cells a_live a_zoneLeast a_zoneMost a_tokens a_constants a_lengths a_nodeOp a_nodeA a_nodeB a_nodeC a_needs a_wanted a_value a_state wk a_parts a_heads a_chain a_places a_sorted a_groupNull a_groupKey a_groupPairs a_groupValues a_groupSum a_groupLeast a_groupMost := by
  intro r
  induction r with
  | zero =>
    intro n d wk ks hd hn hk hw
    obtain ⟨n, rfl⟩ := zb_ex hn
    have : d = l := by omega
    subst this
    rw [hk] at K
    have lk := mq_kst_len hk
    rw [wX_check_14]
    dsimp only
    refine br_t (zb_plt (a := 60) (by omega)) (br_c (fun h => ?_) (fun h => ?_))
    · have h1 : ks.length = 1 := zb_inj (b := 1) h (by omega) (by omega)
      cases ks with
      | nil => cases h1
      | cons b s =>
      cases s with
      | cons _ _ => cases h1
      | nil =>
      have e0 : wk 0 = ck_b b := hw.1
      rw [e0]
      cases b with
      | true => exact K wk
      | false => exact K wk
    · have : ck_k (some ks) = 0 := by
        unfold ck_k
        rw [if_neg, if_neg]
        · intro z; cases z; exact h rfl
        · intro z; cases z; exact h rfl
      rw [this] at K; exact K wk
  | succ r ih =>
    intro n d wk ks hd hn hk hw
    obtain ⟨n, rfl⟩ := zb_ex (show 0 < n by omega)
    have lk := mq_kst_len hk
    have x4 : nI (60 + (r + 1)) - 1 = nI (60 + r) := nI_pred (60 + r)
    have c : (nI (60 + r)).toNatClampNeg = 60 + r := nI_clamp (by omega)
    have ix : 60 + l - (d + 1) = 60 + r := by omega
    have fail : mq_ks (a_tokens (60 + r)) ks = none → post 0 (f_nodes, f_filterRoot, f_valueRoot, f_keyRoot, f_partCount, f_groups, f_passed, f_overflow, a_cells, a_live, a_zoneLeast, a_zoneMost, a_tokens, a_constants, a_lengths, a_nodeOp, a_nodeA, a_nodeB, a_nodeC, a_needs, a_wanted, a_value, a_state, wk, a_parts, a_heads, a_chain, a_places, a_sorted, a_groupNull, a_groupKey, a_groupPairs, a_groupValues, a_groupSum, a_groupLeast, a_groupMost) := by
      intro h
      have := ck_none hk (by rw [ix]; exact h) (show d + 1 ≤ l by omega)
      rw [this] at K
      exact K wk
    have a3 := mq_ar3 (a_tokens (60 + r))
    rw [wX_check_14]
    dsimp only
    rw [x4, c]
    refine br_f (nI_nlt (b := 60) (by omega) (by omega)) ⟨vp_in_nI (by omega) (by omega), nm_e (xo_ar (ho r (by omega)) (br_c (fun h => ?_) (fun h => fail (ck_sn (fun z => h (nI_le z (by omega)))))))⟩
    have har : mq_ar (a_tokens (60 + r)) ≤ ks.length := (nI_leI (by omega) (by omega)).mp h
    refine ⟨mq_ar (a_tokens (60 + r)) + 1, ck_44 (by omega) har hw fail (fun hs => ?_) (mq_ar (a_tokens (60 + r))) _ 0 (by omega) (by omega) (fun k hk => by omega)⟩
    have := ih n (d + 1) (upd wk (ks.length - mq_ar (a_tokens (60 + r))) (ck_b (mq_tr (a_tokens (60 + r))))) (mq_tr (a_tokens (60 + r)) :: ks.drop (mq_ar (a_tokens (60 + r)))) (by omega) (by omega) (ck_st hk (by rw [ix]; exact hs))
      ⟨by rw [List.length_drop]; exact pk_us, ck_ws_fr (fun i hi => pk_un (by rw [List.length_drop] at hi; omega)) (ck_ws_drop _ hw)⟩
    rw [List.length_cons, List.length_drop] at this
    exact this
theorem xw_check (hl : l ≤ 20) (hln : a_lengths 3 = nI l) (ho : ∀ j, j < l → mq_ok (a_tokens (60 + j))) (K : ∀ wk', post (ck_k (mq_kst a_tokens (60 + l) l)) (f_nodes, f_filterRoot, f_valueRoot, f_keyRoot, f_partCount, f_groups, f_passed, f_overflow, a_cells, a_live, a_zoneLeast, a_zoneMost, a_tokens, a_constants, a_lengths, a_nodeOp, a_nodeA, a_nodeB, a_nodeC, a_needs, a_wanted, a_value, a_state, wk', a_parts, a_heads, a_chain, a_places, a_sorted, a_groupNull, a_groupKey, a_groupPairs, a_groupValues, a_groupSum, a_groupLeast, a_groupMost)) : wpX_check post (f_nodes, f_filterRoot, f_valueRoot, f_keyRoot, f_partCount, f_groups, f_passed, f_overflow, a_cells, a_live, a_zoneLeast, a_zoneMost, a_tokens, a_constants, a_lengths, a_nodeOp, a_nodeA, a_nodeB, a_nodeC, a_needs, a_wanted, a_value, a_state, a_work, a_parts, a_heads, a_chain, a_places, a_sorted, a_groupNull, a_groupKey, a_groupPairs, a_groupValues, a_groupSum, a_groupLeast, a_groupMost) := by
  refine nm_r (e' := nI (60 + l) - 1) ?_ ⟨l + 1, ck_14 hl ho K l (l + 1) 0 a_work [] (by omega) (by omega) rfl trivial⟩
  rw [hln, show (60 : Int32) = nI 60 from rfl, nI_add]
end XCK
end
section
/-! ===== Y: right ===== -/
def rr_b (b : Bool) : Int64 := if b = true then 1 else 0
def rr_i (b : Bool) : Int32 := if b = true then 1 else 0
def rr_ws (wk : Nat → Int64) : List Bool → Prop
  | [] => True
  | b :: s => wk s.length = rr_b b ∧ rr_ws wk s
theorem rr_ws_fr {wk wk' : Nat → Int64} : ∀ {s : List Bool}, (∀ i, i < s.length → wk' i = wk i) → rr_ws wk s → rr_ws wk' s
  | [], _, _ => trivial
  | _ :: s, h, ⟨a, b⟩ => ⟨(h _ (Nat.lt_succ_self _)).trans a, rr_ws_fr (fun i hi => h i (Nat.lt_succ_of_lt hi)) b⟩
theorem rr_ws_drop {wk : Nat → Int64} : ∀ {s : List Bool} (n : Nat), rr_ws wk s → rr_ws wk (s.drop n)
  | _, 0, h => h
  | [], _ + 1, _ => trivial
  | _ :: _, n + 1, h => rr_ws_drop n h.2
theorem rr_ws_get {wk : Nat → Int64} : ∀ {s : List Bool} (i m : Nat), m + i + 1 = s.length → rr_ws wk s → wk m = rr_b (s.getD i false)
  | [], _, _, h, _ => by simp at h
  | b :: s, 0, m, h, hw => by
    have : m = s.length := by simp at h; exact h
    subst this; exact hw.1
  | b :: s, i + 1, m, h, hw => rr_ws_get (s := s) i m (by simp at h; omega) hw.2
theorem rr_inj {a b : Bool} (h : rr_i a = rr_i b) : a = b := by
  cases a <;> cases b <;> first | rfl | (exact absurd h (by decide))
theorem rr_gives {q : Int32 → Prop} {t : Int32} (h : q (rr_i (mq_tr t))) : wpY_givesTruth q t := by
  unfold rr_i mq_tr at h
  refine br_c (fun a => ?_) (fun a => br_c (fun b => ?_) (fun b => ?_))
  · rw [if_neg (by rw [decide_eq_true_iff]; exact fun z => Int32.not_lt.mpr z.1 a)] at h; exact h
  · rw [if_neg (by rw [decide_eq_true_iff]; exact fun z => Int32.not_lt.mpr z.2 b)] at h; exact h
  · rw [if_pos (by rw [decide_eq_true_iff]; exact ⟨Int32.not_lt.mp a, Int32.not_lt.mp b⟩)] at h; exact h
theorem rr_3032 {t : Int32} (h1 : ¬ t < 30) (h2 : t ≤ 32) : t = 30 ∨ t = 31 ∨ t = 32 := by
  rw [Int32.lt_iff_toInt_lt, show (30 : Int32).toInt = 30 by decide] at h1
  rw [Int32.le_iff_toInt_le, show (32 : Int32).toInt = 32 by decide] at h2
  have : t.toInt = 30 ∨ t.toInt = 31 ∨ t.toInt = 32 := by omega
  rcases this with e | e | e
  · exact Or.inl (Int32.toInt_inj.mp e)
  · exact Or.inr (Or.inl (Int32.toInt_inj.mp e))
  · exact Or.inr (Or.inr (Int32.toInt_inj.mp e))
theorem rr_wants {q : Int32 → Prop} {t : Int32} {j : Nat} (hj : j < 2 ^ 31) (h : q (rr_i (mq_wt t j))) : wpY_wantsTruth q t (nI j) := by
  have s12 : (¬ (t = 30 ∨ t = 31 ∨ t = 32)) → wY_wantsTruth_12 q t (nI j) := by
    intro hn
    unfold rr_i mq_wt at h
    refine br_c (fun d => br_c (fun e => ?_) (fun e => ?_)) (fun d => ?_)
    · rw [if_pos (by rw [decide_eq_true_iff]; exact Or.inr (Or.inr (Or.inr ⟨d, zb_inj (b := 0) e hj (by omega)⟩)))] at h; exact h
    · rw [if_neg (by rw [decide_eq_true_iff]; rintro (z | z | z | z); exact hn (Or.inl z); exact hn (Or.inr (Or.inl z)); exact hn (Or.inr (Or.inr z)); exact e (by rw [z.2]; rfl))] at h; exact h
    · rw [if_neg (by rw [decide_eq_true_iff]; rintro (z | z | z | z); exact hn (Or.inl z); exact hn (Or.inr (Or.inl z)); exact hn (Or.inr (Or.inr z)); exact d z.1)] at h; exact h
  refine br_c (fun a => s12 ?_) (fun a => br_c (fun b => ?_) (fun b => s12 ?_))
  · rintro (z | z | z) <;> rw [z] at a <;> exact absurd a (by decide)
  · have := rr_3032 a b
    unfold rr_i mq_wt at h
    rw [if_pos (by rw [decide_eq_true_iff]; rcases this with z | z | z; exact Or.inl z; exact Or.inr (Or.inl z); exact Or.inr (Or.inr (Or.inl z)))] at h; exact h
  · rintro (z | z | z) <;> rw [z] at b <;> exact absurd (by decide) b
theorem yo_ar' {q : Int32 → Prop} {t : Int32} (ht : mq_ok t) (h : q (nI (mq_ar t))) : wpY_operands q t := by
  rcases ht with ⟨c, hc, rfl⟩ | rfl | ht
  · have : ∀ c, c < 6 → mq_ar (nI c) = 0 := by decide
    rw [this c hc] at h
    exact br_t (nI_lt (b := 10) (by omega) (by decide)) h
  · exact br_f (by decide) (br_t rfl h)
  · exact yo_ar ht h
section YRI
variable {y_top y_groups y_full y_passed : Int32}
variable {b_cells b_count b_tok b_con b_len b_isNull b_gNull : Nat → Int32}
variable {b_num b_gKey b_gStat : Nat → Int64}
variable {post : Int32 → SY → Prop} {l : Nat} {κ : Bool}
theorem rr_133 {J : Int32 → Int32 → (Nat → Int32) → (Nat → Int32) → (Nat → Int32) → (Nat → Int32) → (Nat → Int32) → (Nat → Int64) → (Nat → Int32) → (Nat → Int32) → (Nat → Int64) → (Nat → Int64) → Prop} {x1 x2 : Int32} {z : Int64} {m : Nat} (hm : m < 24) (h : J (x2 - 1) (nI (m + 1)) b_cells b_count b_tok b_con b_len (vp_updL b_num m z) b_isNull b_gNull b_gKey b_gStat) : wY_right_133 post J x1 x2 z (nI m) (nI m) y_groups y_full y_passed b_cells b_count b_tok b_con b_len b_num b_isNull b_gNull b_gKey b_gStat := by
  unfold wY_right_133
  rw [nI_clamp (show m < 2 ^ 31 by omega)]
  exact ⟨vp_in_nI hm (by omega), nm_e (nm_r (nI_1 m) (nm_r (zb_add1 x2) h))⟩
theorem rr_50 {J : Int32 → Int32 → (Nat → Int32) → (Nat → Int32) → (Nat → Int32) → (Nat → Int32) → (Nat → Int32) → (Nat → Int64) → (Nat → Int32) → (Nat → Int32) → (Nat → Int64) → (Nat → Int64) → Prop} {t x1 x2 : Int32} {ks : List Bool} (hlen : ks.length ≤ 20) (har : mq_ar t ≤ ks.length) (hw : rr_ws b_num ks)
    (K0 : mq_ks t ks = none → post 0 (nI ks.length, y_groups, y_full, y_passed, b_cells, b_count, b_tok, b_con, b_len, b_num, b_isNull, b_gNull, b_gKey, b_gStat)) (K : mq_ks t ks = some (mq_tr t :: ks.drop (mq_ar t)) → J (x2 - 1) (nI (ks.length - mq_ar t + 1)) b_cells b_count b_tok b_con b_len (vp_updL b_num (ks.length - mq_ar t) (rr_b (mq_tr t))) b_isNull b_gNull b_gKey b_gStat) :
    ∀ (r n j : Nat), j + r = mq_ar t → r < n → (∀ k, k < j → ks.getD k false = mq_wt t k) → wY_right_50 post J x1 x2 t (nI (mq_ar t)) (nI ks.length) y_groups y_full y_passed b_cells b_count b_tok b_con b_len b_num b_isNull b_gNull b_gKey b_gStat n (nI j) := by
  have a3 := mq_ar3 t
  intro r
  induction r with
  | zero =>
    intro n j hj hn hg
    obtain ⟨n, rfl⟩ := zb_ex hn
    have : j = mq_ar t := by omega
    subst this
    have K := K (ck_ss har hg)
    rw [wY_right_50]
    dsimp only
    refine br_t (nI_le (Nat.le_refl _) (by omega)) (nm_r (pk_sub har) (rr_gives ?_))
    cases e : mq_tr t with
    | true => rw [e] at K; exact br_f (by decide) (rr_133 (by omega) K)
    | false => rw [e] at K; exact br_t (by decide) (rr_133 (by omega) K)
  | succ r ih =>
    intro n j hj hn hg
    obtain ⟨n, rfl⟩ := zb_ex (show 0 < n by omega)
    have e1 : nI ks.length - 1 - nI j = nI (ks.length - (j + 1)) := by
      rw [show (1 : Int32) = nI 1 from rfl, pk_sub (by omega), pk_sub (by omega)]
      congr 1; omega
    have c : (nI (ks.length - (j + 1))).toNatClampNeg = ks.length - (j + 1) := nI_clamp (by omega)
    have g := rr_ws_get (wk := b_num) (s := ks) j (ks.length - (j + 1)) (by omega) hw
    have s81 : ∀ z : Int32, z = rr_i (ks.getD j false) → wY_right_81 post J (wY_right_50 post J x1 x2 t (nI (mq_ar t)) (nI ks.length) y_groups y_full y_passed b_cells b_count b_tok b_con b_len b_num b_isNull b_gNull b_gKey b_gStat n) x1 x2 t (nI (mq_ar t)) (nI j) z (nI ks.length) y_groups y_full y_passed b_cells b_count b_tok b_con b_len b_num b_isNull b_gNull b_gKey b_gStat := by
      intro z hz
      subst hz
      refine rr_wants (by omega) (br_c (fun h => nm_r (nI_1 _) (ih n (j + 1) (by omega) (by omega) (fun k hk => ?_))) (fun h => K0 (ck_sk (k := j) (by omega) (fun z => h (by rw [z])))))
      by_cases e : k = j
      · subst e; exact rr_inj h
      · exact hg k (by omega)
    rw [wY_right_50]
    dsimp only
    refine br_f (nI_ge (by omega) (by omega)) ?_
    rw [e1, c, g]
    refine ⟨vp_in_nI (by omega) (by omega), ?_⟩
    cases e : ks.getD j false with
    | true => exact br_t rfl (s81 1 (by rw [e]; rfl))
    | false => exact br_f (by decide) (s81 0 (by rw [e]; rfl))
theorem rr_17 (hl : l ≤ 20) (ho : ∀ j, j < l → mq_ok (b_tok (60 + j))) (K : ∀ top num', post (if mq_kst b_tok (60 + l) l = some [κ] then 1 else 0) (top, y_groups, y_full, y_passed, b_cells, b_count, b_tok, b_con, b_len, num', b_isNull, b_gNull, b_gKey, b_gStat)) :
    ∀ (r n d : Nat) (wk : Nat → Int64) (ks : List Bool), d + r = l → r < n → mq_kst b_tok (60 + l) d = some ks → rr_ws wk ks → wY_right_17 post (rr_i κ) y_groups y_full y_passed n (nI (60 + r) - 1) (nI ks.length) b_cells b_count b_tok b_con b_len wk b_isNull b_gNull b_gKey b_gStat := by
  intro r
  induction r with
  | zero =>
    intro n d wk ks hd hn hk hw
    obtain ⟨n, rfl⟩ := zb_ex hn
    have : d = l := by omega
    subst this
    rw [hk] at K
    have lk := mq_kst_len hk
    rw [wY_right_17]
    dsimp only
    refine br_t (zb_plt (a := 60) (by omega)) (br_c (fun h => ?_) (fun h => ?_))
    · have h1 : ks.length = 1 := zb_inj (b := 1) h (by omega) (by omega)
      cases ks with
      | nil => cases h1
      | cons b s =>
      cases s with
      | cons _ _ => cases h1
      | nil =>
      have e0 : wk 0 = rr_b b := hw.1
      rw [e0]
      have fin : ∀ z, z = rr_i b → wY_right_174 post (rr_i κ) z (nI [b].length) y_groups y_full y_passed b_cells b_count b_tok b_con b_len wk b_isNull b_gNull b_gKey b_gStat := by
        intro z hz
        subst hz
        refine br_c (fun h => ?_) (fun h => ?_)
        · have := rr_inj h
          subst this
          have := K (nI [b].length) wk
          rw [if_pos rfl] at this; exact this
        · have := K (nI [b].length) wk
          rw [if_neg (fun z => h (by cases z; rfl))] at this; exact this
      cases b with
      | true => exact br_t rfl (fin 1 rfl)
      | false => exact br_f (by decide) (fin 0 rfl)
    · have := K (nI ks.length) wk
      rw [if_neg (fun z => h (by cases z; rfl))] at this
      exact this
  | succ r ih =>
    intro n d wk ks hd hn hk hw
    obtain ⟨n, rfl⟩ := zb_ex (show 0 < n by omega)
    have lk := mq_kst_len hk
    have x4 : nI (60 + (r + 1)) - 1 = nI (60 + r) := nI_pred (60 + r)
    have c : (nI (60 + r)).toNatClampNeg = 60 + r := nI_clamp (by omega)
    have ix : 60 + l - (d + 1) = 60 + r := by omega
    have fail : mq_ks (b_tok (60 + r)) ks = none → post 0 (nI ks.length, y_groups, y_full, y_passed, b_cells, b_count, b_tok, b_con, b_len, wk, b_isNull, b_gNull, b_gKey, b_gStat) := by
      intro h
      have := ck_none hk (by rw [ix]; exact h) (show d + 1 ≤ l by omega)
      rw [this] at K
      have := K (nI ks.length) wk
      rw [if_neg (fun z => by cases z)] at this
      exact this
    have a3 := mq_ar3 (b_tok (60 + r))
    rw [wY_right_17]
    dsimp only
    rw [x4, c]
    refine br_f (nI_nlt (b := 60) (by omega) (by omega)) ⟨vp_in_nI (by omega) (by omega), nm_e (yo_ar' (ho r (by omega)) (br_c (fun h => ?_) (fun h => fail (ck_sn (fun z => h (nI_le z (by omega)))))))⟩
    have har : mq_ar (b_tok (60 + r)) ≤ ks.length := (nI_leI (by omega) (by omega)).mp h
    refine ⟨mq_ar (b_tok (60 + r)) + 1, rr_50 (by omega) har hw fail (fun hs => ?_) (mq_ar (b_tok (60 + r))) _ 0 (by omega) (by omega) (fun k hk => by omega)⟩
    have := ih n (d + 1) (vp_updL wk (ks.length - mq_ar (b_tok (60 + r))) (rr_b (mq_tr (b_tok (60 + r))))) (mq_tr (b_tok (60 + r)) :: ks.drop (mq_ar (b_tok (60 + r)))) (by omega) (by omega) (ck_st hk (by rw [ix]; exact hs))
      ⟨by rw [List.length_drop]; exact pk_uLs, rr_ws_fr (fun i hi => pk_uLn (by rw [List.length_drop] at hi; omega)) (rr_ws_drop _ hw)⟩
    rw [List.length_cons, List.length_drop] at this
    exact this
theorem yw_right (hl : l ≤ 20) (hln : b_len 3 = nI l) (ho : ∀ j, j < l → mq_ok (b_tok (60 + j))) (K : ∀ top num', post (if mq_kst b_tok (60 + l) l = some [κ] then 1 else 0) (top, y_groups, y_full, y_passed, b_cells, b_count, b_tok, b_con, b_len, num', b_isNull, b_gNull, b_gKey, b_gStat)) : wpY_right post (y_top, y_groups, y_full, y_passed, b_cells, b_count, b_tok, b_con, b_len, b_num, b_isNull, b_gNull, b_gKey, b_gStat) (rr_i κ) := by
  refine nm_r (e' := nI (60 + l) - 1) ?_ ⟨l + 1, rr_17 hl ho K l (l + 1) 0 b_num [] (by omega) (by omega) rfl trivial⟩
  rw [hln, show (60 : Int32) = nI 60 from rfl, nI_add]
end YRI
end
section
/-! ===== tokens on both sides: add, put, constant ===== -/
def tk_k (e : Nat) : Bool := decide (e = 0)
def tk_rl (l : Nat) (E : Nat → (Nat → Int32) → VV) (at' ac al bt bc bl : Nat → Int32) : Prop :=
  l ≤ 20 ∧ al 3 = nI l ∧ bl 3 = nI l ∧ (∀ j, j < l → at' (60 + j) = bt (60 + j) ∧ ac (60 + j) = bc (60 + j) ∧ mq_ok (bt (60 + j))) ∧
  (∀ e, e < 3 → xk_tk at' ac al e (tk_k e) (E e)) ∧ (∀ e, e < 3 → xk_tk bt bc bl e (tk_k e) (E e))
def tk_rel (E : Nat → (Nat → Int32) → VV) (at' ac al bt bc bl : Nat → Int32) : Prop := ∃ l, tk_rl l E at' ac al bt bc bl
theorem xk_tk_fr {tok con len tok' con' len' : Nat → Int32} {e : Nat} {κ : Bool} {E : (Nat → Int32) → VV} (h : ∀ j, j < 20 → tok' (20 * e + j) = tok (20 * e + j) ∧ con' (20 * e + j) = con (20 * e + j)) (hl : len' e = len e) (H : xk_tk tok con len e κ E) : xk_tk tok' con' len' e κ E := by
  obtain ⟨l, h1, h2, h3, h4, h5⟩ := H
  have ix : ∀ j, j < l → 20 * e + l - (j + 1) = 20 * e + (l - (j + 1)) := fun j hj => by omega
  refine ⟨l, h1, hl.trans h2, ?_, fun j hj => by rw [(h j (by omega)).1]; exact h4 j hj, fun env => ?_⟩
  · rw [mq_kst_cg (tok := tok) (hi := 20 * e + l) (fun j hj => by rw [ix j hj]; exact (h _ (by omega)).1)]; exact h3
  · rw [mq_est_cg (tok := tok) (con := con) (fun j hj => by rw [ix j hj]; exact h _ (by omega))]; exact h5 env
theorem mq_ok_8 {t : Int32} (h : mq_ok t) : t.toInt8.toInt32 = t := by
  rcases h with ⟨c, hc, rfl⟩ | rfl | h
  · exact zb_b8 c (by omega)
  · decide
  · exact mq_op_8 h
theorem mq_ok_0 {t : Int32} (h : mq_ok t) : 0 ≤ t ∧ ¬ t = -1 := by
  rcases h with ⟨c, hc, rfl⟩ | rfl | h
  · exact ⟨nI_pos' (by omega), fun z => by have : ¬ nI c < 0 := nI_pos (by omega); rw [z] at this; exact this (by decide)⟩
  · decide
  · rcases h with rfl | rfl | rfl | rfl | rfl | rfl | rfl | rfl | rfl | rfl | rfl | rfl | rfl | rfl | rfl | rfl <;> decide
theorem tk_add {l : Nat} {E : Nat → (Nat → Int32) → VV} {at' ac al bt bc bl : Nat → Int32} {t v : Int32} (hl : l < 20) (ht : mq_ok t) (R : tk_rl l E at' ac al bt bc bl) :
    tk_rl (l + 1) E (upd at' (60 + l) t) (upd ac (60 + l) v) (upd al 3 (nI (l + 1))) (upd bt (60 + l) t) (upd bc (60 + l) v) (upd bl 3 (nI (l + 1))) := by
  obtain ⟨h1, h2, h3, h4, h5, h6⟩ := R
  refine ⟨by omega, pk_us, pk_us, fun j hj => ?_, fun e he => xk_tk_fr (fun j hj => ⟨pk_un (by omega), pk_un (by omega)⟩) (pk_un (by omega)) (h5 e he), fun e he => xk_tk_fr (fun j hj => ⟨pk_un (by omega), pk_un (by omega)⟩) (pk_un (by omega)) (h6 e he)⟩
  by_cases e : j = l
  · subst e; rw [pk_us, pk_us, pk_us, pk_us]; exact ⟨rfl, rfl, ht⟩
  · rw [pk_un (by omega), pk_un (by omega), pk_un (by omega), pk_un (by omega)]; exact h4 j (by omega)
/-! which ints are tokens -/
def pt_t (a : Int32) : Prop := (0 ≤ a ∧ a ≤ 5) ∨ (10 ≤ a ∧ a ≤ 16) ∨ (20 ≤ a ∧ a ≤ 23) ∨ (30 ≤ a ∧ a ≤ 34)
theorem pt_ok {a : Int32} (h : pt_t a) : mq_ok a := by
  have f : ∀ x y : Int32, x ≤ y ↔ x.toInt ≤ y.toInt := fun x y => Int32.le_iff_toInt_le
  unfold pt_t at h
  simp only [f, show (0 : Int32).toInt = 0 by decide, show (5 : Int32).toInt = 5 by decide, show (10 : Int32).toInt = 10 by decide, show (16 : Int32).toInt = 16 by decide, show (20 : Int32).toInt = 20 by decide, show (23 : Int32).toInt = 23 by decide, show (30 : Int32).toInt = 30 by decide, show (34 : Int32).toInt = 34 by decide] at h
  rcases h with h | h
  · refine Or.inl ⟨a.toInt.toNat, by omega, Int32.toInt_inj.mp ?_⟩
    rw [nI_toInt (by omega)]; omega
  · refine Or.inr (Or.inr ?_)
    have g : ∀ n : Int32, a.toInt = n.toInt → a = n := fun n h => Int32.toInt_inj.mp h
    have : a.toInt = 10 ∨ a.toInt = 11 ∨ a.toInt = 12 ∨ a.toInt = 13 ∨ a.toInt = 14 ∨ a.toInt = 15 ∨ a.toInt = 16 ∨ a.toInt = 20 ∨ a.toInt = 21 ∨ a.toInt = 22 ∨ a.toInt = 23 ∨ a.toInt = 30 ∨ a.toInt = 31 ∨ a.toInt = 32 ∨ a.toInt = 33 ∨ a.toInt = 34 := by omega
    unfold mq_op
    rcases this with e | e | e | e | e | e | e | e | e | e | e | e | e | e | e | e
    · have := g 10 e; simp [this]
    · have := g 11 e; simp [this]
    · have := g 12 e; simp [this]
    · have := g 13 e; simp [this]
    · have := g 14 e; simp [this]
    · have := g 15 e; simp [this]
    · have := g 16 e; simp [this]
    · have := g 20 e; simp [this]
    · have := g 21 e; simp [this]
    · have := g 22 e; simp [this]
    · have := g 23 e; simp [this]
    · have := g 30 e; simp [this]
    · have := g 31 e; simp [this]
    · have := g 32 e; simp [this]
    · have := g 33 e; simp [this]
    · have := g 34 e; simp [this]
noncomputable def pt_g (a : Int32) : Int32 := @ite Int32 (a = -1 ∨ pt_t a) (Classical.propDecidable _) 1 0
theorem pt_g1 {a : Int32} (h : a = -1 ∨ pt_t a) : pt_g a = 1 := if_pos h
theorem pt_g0 {a : Int32} (h : ¬ (a = -1 ∨ pt_t a)) : pt_g a = 0 := if_neg h
theorem pt_g01 (a : Int32) : pt_g a = 0 ∨ pt_g a = 1 := by
  rcases Classical.em (a = -1 ∨ pt_t a) with h | h
  · exact Or.inr (pt_g1 h)
  · exact Or.inl (pt_g0 h)
theorem pt_lt {a b : Int32} (h : ¬ a < b) : b ≤ a := Int32.not_lt.mp h
theorem pt_isT {q : Int32 → Prop} {a : Int32} (h1 : pt_t a → q 1) (h0 : ¬ pt_t a → q 0) : wpX_isToken q a := by
  have s33 : ¬ (0 ≤ a ∧ a ≤ 5) → ¬ (10 ≤ a ∧ a ≤ 16) → ¬ (20 ≤ a ∧ a ≤ 23) → wX_isToken_33 q a := by
    intro n1 n2 n3
    refine br_c (fun h => h0 ?_) (fun h => br_c (fun h' => h0 ?_) (fun h' => h1 (Or.inr (Or.inr (Or.inr ⟨pt_lt h, pt_lt h'⟩)))))
    · rintro (z | z | z | z); exact n1 z; exact n2 z; exact n3 z; exact Int32.not_lt.mpr z.1 h
    · rintro (z | z | z | z); exact n1 z; exact n2 z; exact n3 z; exact Int32.not_lt.mpr z.2 h'
  have s21 : ¬ (0 ≤ a ∧ a ≤ 5) → ¬ (10 ≤ a ∧ a ≤ 16) → wX_isToken_21 q a := by
    intro n1 n2
    exact br_c (fun h => s33 n1 n2 (fun z => Int32.not_lt.mpr z.1 h)) (fun h => br_c (fun h' => h1 (Or.inr (Or.inr (Or.inl ⟨pt_lt h, h'⟩)))) (fun h' => s33 n1 n2 (fun z => h' z.2)))
  have s9 : ¬ (0 ≤ a ∧ a ≤ 5) → wX_isToken_9 q a := by
    intro n1
    exact br_c (fun h => s21 n1 (fun z => Int32.not_lt.mpr z.1 h)) (fun h => br_c (fun h' => h1 (Or.inr (Or.inl ⟨pt_lt h, h'⟩))) (fun h' => s21 n1 (fun z => h' z.2)))
  exact br_c (fun h => s9 (fun z => Int32.not_lt.mpr z.1 h)) (fun h => br_c (fun h' => h1 (Or.inl ⟨pt_lt h, h'⟩)) (fun h' => s9 (fun z => h' z.2)))
theorem pt_m1 {a : Int32} (h1 : ¬ a < -1) (h2 : a ≤ 5) : a = -1 ∨ (0 ≤ a ∧ a ≤ 5) := by
  rw [Int32.lt_iff_toInt_lt, show (-1 : Int32).toInt = -1 by decide] at h1
  by_cases e : a.toInt = -1
  · exact Or.inl (Int32.toInt_inj.mp (e.trans (by decide)))
  · refine Or.inr ⟨?_, h2⟩
    rw [Int32.le_iff_toInt_le, show (0 : Int32).toInt = 0 by decide]; omega
theorem pt_val {q : Int32 → Prop} {a : Int32} (h : q (pt_g a)) : wpY_valid q a := by
  have h1 : (a = -1 ∨ pt_t a) → q 1 := fun z => by rw [pt_g1 z] at h; exact h
  have h0 : ¬ (a = -1 ∨ pt_t a) → q 0 := fun z => by rw [pt_g0 z] at h; exact h
  have s33 : ¬ a = -1 → ¬ (0 ≤ a ∧ a ≤ 5) → ¬ (10 ≤ a ∧ a ≤ 16) → ¬ (20 ≤ a ∧ a ≤ 23) → wY_valid_34 q a := by
    intro n0 n1 n2 n3
    refine br_c (fun h => h0 ?_) (fun h => br_c (fun h' => h0 ?_) (fun h' => h1 (Or.inr (Or.inr (Or.inr (Or.inr ⟨pt_lt h, pt_lt h'⟩))))))
    · rintro (z | z | z | z | z); exact n0 z; exact n1 z; exact n2 z; exact n3 z; exact Int32.not_lt.mpr z.1 h
    · rintro (z | z | z | z | z); exact n0 z; exact n1 z; exact n2 z; exact n3 z; exact Int32.not_lt.mpr z.2 h'
  have s21 : ¬ a = -1 → ¬ (0 ≤ a ∧ a ≤ 5) → ¬ (10 ≤ a ∧ a ≤ 16) → wY_valid_22 q a := by
    intro n0 n1 n2
    exact br_c (fun h => s33 n0 n1 n2 (fun z => Int32.not_lt.mpr z.1 h)) (fun h => br_c (fun h' => h1 (Or.inr (Or.inr (Or.inr (Or.inl ⟨pt_lt h, h'⟩))))) (fun h' => s33 n0 n1 n2 (fun z => h' z.2)))
  have s9 : ¬ a = -1 → ¬ (0 ≤ a ∧ a ≤ 5) → wY_valid_10 q a := by
    intro n0 n1
    exact br_c (fun h => s21 n0 n1 (fun z => Int32.not_lt.mpr z.1 h)) (fun h => br_c (fun h' => h1 (Or.inr (Or.inr (Or.inl ⟨pt_lt h, h'⟩)))) (fun h' => s21 n0 n1 (fun z => h' z.2)))
  refine br_c (fun h => s9 (fun z => by rw [z] at h; exact absurd h (by decide)) (fun z => ?_)) (fun h => br_c (fun h' => h1 ?_) (fun h' => s9 (fun z => h' (by rw [z]; decide)) (fun z => h' z.2)))
  · exact Int32.not_lt.mpr z.1 (Int32.lt_trans h (by decide))
  · rcases pt_m1 h h' with z | z
    · exact Or.inl z
    · exact Or.inr (Or.inl z)
def pt_c (a : Int32) : Nat := if a = -1 then 0 else 1
section PUT
variable {f_nodes f_filterRoot f_valueRoot f_keyRoot f_partCount f_groups f_passed f_overflow : Int32}
variable {a_cells a_live a_zoneLeast a_zoneMost a_tokens a_constants a_lengths a_nodeOp a_nodeA a_nodeB a_nodeC a_needs a_wanted a_state a_work a_parts a_heads a_chain a_places a_sorted a_groupNull a_groupPairs a_groupValues : Nat → Int32}
variable {a_value a_groupKey a_groupSum a_groupLeast a_groupMost : Nat → Int64}
variable {y_top y_groups y_full y_passed : Int32}
variable {b_cells b_count b_tok b_con b_len b_isNull b_gNull : Nat → Int32}
variable {b_num b_gKey b_gStat : Nat → Int64}
variable {l : Nat} {E : Nat → (Nat → Int32) → VV}
theorem xw_add {post : SX → Prop} {t v : Int32} (hl : l < 20) (hln : a_lengths 3 = nI l) (ht : t.toInt8.toInt32 = t) (K : post (f_nodes, f_filterRoot, f_valueRoot, f_keyRoot, f_partCount, f_groups, f_passed, f_overflow, a_cells, a_live, a_zoneLeast, a_zoneMost, upd a_tokens (60 + l) t, upd a_constants (60 + l) v, upd a_lengths 3 (nI (l + 1)), a_nodeOp, a_nodeA, a_nodeB, a_nodeC, a_needs, a_wanted, a_value, a_state, a_work, a_parts, a_heads, a_chain, a_places, a_sorted, a_groupNull, a_groupKey, a_groupPairs, a_groupValues, a_groupSum, a_groupLeast, a_groupMost)) : wpX_add post (f_nodes, f_filterRoot, f_valueRoot, f_keyRoot, f_partCount, f_groups, f_passed, f_overflow, a_cells, a_live, a_zoneLeast, a_zoneMost, a_tokens, a_constants, a_lengths, a_nodeOp, a_nodeA, a_nodeB, a_nodeC, a_needs, a_wanted, a_value, a_state, a_work, a_parts, a_heads, a_chain, a_places, a_sorted, a_groupNull, a_groupKey, a_groupPairs, a_groupValues, a_groupSum, a_groupLeast, a_groupMost) t v := by
  have e : (60 : Int32) + nI l = nI (60 + l) := nI_add 60 l
  unfold wpX_add
  dsimp only
  rw [hln, nI_1, pk_vb, ht, e]
  refine nm_e (nm_e ⟨vp_in_nI (by omega) (by omega), ?_⟩)
  rw [nI_clamp (by omega)]
  exact nm_e ⟨vp_in_nI (by omega) (by omega), nm_e K⟩
theorem yw_add {post : SY → Prop} {t v : Int32} (hl : l < 20) (hln : b_len 3 = nI l) (ht : 0 ≤ t) (K : post (y_top, y_groups, y_full, y_passed, b_cells, b_count, upd b_tok (60 + l) t, upd b_con (60 + l) v, upd b_len 3 (nI (l + 1)), b_num, b_isNull, b_gNull, b_gKey, b_gStat)) : wpY_add post (y_top, y_groups, y_full, y_passed, b_cells, b_count, b_tok, b_con, b_len, b_num, b_isNull, b_gNull, b_gKey, b_gStat) t v := by
  have e : (60 : Int32) + nI l = nI (60 + l) := nI_add 60 l
  unfold wpY_add
  dsimp only
  rw [hln, nI_1, e, nI_clamp (by omega)]
  exact br_t ht ⟨vp_in_nI (by omega) (by omega), nm_e ⟨vp_in_nI (by omega) (by omega), nm_e (nm_e K)⟩⟩
/-- one of put's tokens, on both sides -/
theorem pt_step {t : Int32} (R : tk_rl l E a_tokens a_constants a_lengths b_tok b_con b_len) (ht : t = -1 ∨ pt_t t) (hr : l + pt_c t ≤ 20) :
    ∃ at' ac al bt bc bl, tk_rl (l + pt_c t) E at' ac al bt bc bl ∧ ((t = -1 ∧ at' = a_tokens ∧ ac = a_constants ∧ al = a_lengths) ∨ (¬ t = -1 ∧ ∀ post : SX → Prop, post (f_nodes, f_filterRoot, f_valueRoot, f_keyRoot, f_partCount, f_groups, f_passed, f_overflow, a_cells, a_live, a_zoneLeast, a_zoneMost, at', ac, al, a_nodeOp, a_nodeA, a_nodeB, a_nodeC, a_needs, a_wanted, a_value, a_state, a_work, a_parts, a_heads, a_chain, a_places, a_sorted, a_groupNull, a_groupKey, a_groupPairs, a_groupValues, a_groupSum, a_groupLeast, a_groupMost) → wpX_add post (f_nodes, f_filterRoot, f_valueRoot, f_keyRoot, f_partCount, f_groups, f_passed, f_overflow, a_cells, a_live, a_zoneLeast, a_zoneMost, a_tokens, a_constants, a_lengths, a_nodeOp, a_nodeA, a_nodeB, a_nodeC, a_needs, a_wanted, a_value, a_state, a_work, a_parts, a_heads, a_chain, a_places, a_sorted, a_groupNull, a_groupKey, a_groupPairs, a_groupValues, a_groupSum, a_groupLeast, a_groupMost) t 0)) ∧
      (∀ post : SY → Prop, post (y_top, y_groups, y_full, y_passed, b_cells, b_count, bt, bc, bl, b_num, b_isNull, b_gNull, b_gKey, b_gStat) → wpY_add post (y_top, y_groups, y_full, y_passed, b_cells, b_count, b_tok, b_con, b_len, b_num, b_isNull, b_gNull, b_gKey, b_gStat) t 0) := by
  by_cases h : t = -1
  · have : pt_c t = 0 := if_pos h
    rw [this]
    exact ⟨_, _, _, _, _, _, R, Or.inl ⟨h, rfl, rfl, rfl⟩, fun post K => br_f (by rw [h]; decide) K⟩
  · have e1 : pt_c t = 1 := if_neg h
    rw [e1] at hr ⊢
    have ok := pt_ok (ht.resolve_left h)
    exact ⟨_, _, _, _, _, _, tk_add (v := 0) (by omega) ok R, Or.inr ⟨h, fun post K => xw_add (by omega) R.2.1 (mq_ok_8 ok) K⟩, fun post K => yw_add (by omega) R.2.2.1 (mq_ok_0 ok).1 K⟩
theorem pt_cI (a : Int32) : (if a = -1 then (0 : Int32) else 1) = nI (pt_c a) := by
  unfold pt_c; split <;> rfl
theorem px_86 {post : Int32 → SX → Prop} {a b c z0 z1 : Int32} (h : wX_put_86 post a b c (z1 &&& z0) (nI (pt_c c)) (nI (pt_c a) + nI (pt_c b)) f_nodes f_filterRoot f_valueRoot f_keyRoot f_partCount f_groups f_passed f_overflow a_cells a_live a_zoneLeast a_zoneMost a_tokens a_constants a_lengths a_nodeOp a_nodeA a_nodeB a_nodeC a_needs a_wanted a_value a_state a_work a_parts a_heads a_chain a_places a_sorted a_groupNull a_groupKey a_groupPairs a_groupValues a_groupSum a_groupLeast a_groupMost) : wX_put_52 post a b c z0 z1 f_nodes f_filterRoot f_valueRoot f_keyRoot f_partCount f_groups f_passed f_overflow a_cells a_live a_zoneLeast a_zoneMost a_tokens a_constants a_lengths a_nodeOp a_nodeA a_nodeB a_nodeC a_needs a_wanted a_value a_state a_work a_parts a_heads a_chain a_places a_sorted a_groupNull a_groupKey a_groupPairs a_groupValues a_groupSum a_groupLeast a_groupMost := by
  have ca := pt_cI a
  have cb := pt_cI b
  have cc := pt_cI c
  have s75 : ∀ y, y = nI (pt_c a) → wX_put_65 post a b c (z1 &&& z0) y f_nodes f_filterRoot f_valueRoot f_keyRoot f_partCount f_groups f_passed f_overflow a_cells a_live a_zoneLeast a_zoneMost a_tokens a_constants a_lengths a_nodeOp a_nodeA a_nodeB a_nodeC a_needs a_wanted a_value a_state a_work a_parts a_heads a_chain a_places a_sorted a_groupNull a_groupKey a_groupPairs a_groupValues a_groupSum a_groupLeast a_groupMost := by
    intro y hy
    subst hy
    refine br_c (fun hb => br_c (fun hc => ?_) (fun hc => ?_)) (fun hb => br_c (fun hc => ?_) (fun hc => ?_))
    · rw [if_pos hb] at cb; rw [if_pos hc] at cc; rw [← cb, ← cc] at h; exact h
    · rw [if_pos hb] at cb; rw [if_neg hc] at cc; rw [← cb, ← cc] at h; exact h
    · rw [if_neg hb] at cb; rw [if_pos hc] at cc; rw [← cb, ← cc] at h; exact h
    · rw [if_neg hb] at cb; rw [if_neg hc] at cc; rw [← cb, ← cc] at h; exact h
  refine nm_e (br_c (fun ha => s75 0 ?_) (fun ha => s75 1 ?_))
  · rw [if_pos ha] at ca; exact ca
  · rw [if_neg ha] at ca; exact ca
theorem px_34 {post : Int32 → SX → Prop} {a b c z0 z1 : Int32} (h : wX_put_52 post a b c (pt_g c) (z1 &&& z0) f_nodes f_filterRoot f_valueRoot f_keyRoot f_partCount f_groups f_passed f_overflow a_cells a_live a_zoneLeast a_zoneMost a_tokens a_constants a_lengths a_nodeOp a_nodeA a_nodeB a_nodeC a_needs a_wanted a_value a_state a_work a_parts a_heads a_chain a_places a_sorted a_groupNull a_groupKey a_groupPairs a_groupValues a_groupSum a_groupLeast a_groupMost) : wX_put_34 post a b c z0 z1 f_nodes f_filterRoot f_valueRoot f_keyRoot f_partCount f_groups f_passed f_overflow a_cells a_live a_zoneLeast a_zoneMost a_tokens a_constants a_lengths a_nodeOp a_nodeA a_nodeB a_nodeC a_needs a_wanted a_value a_state a_work a_parts a_heads a_chain a_places a_sorted a_groupNull a_groupKey a_groupPairs a_groupValues a_groupSum a_groupLeast a_groupMost := by
  refine br_c (fun hc => ?_) (fun hc => pt_isT (fun ht => br_f (by decide) ?_) (fun ht => br_t rfl ?_))
  · rw [pt_g1 (Or.inl hc)] at h; exact h
  · rw [pt_g1 (Or.inr ht)] at h; exact h
  · rw [pt_g0 (fun z => z.elim hc ht)] at h; exact h
theorem px_17 {post : Int32 → SX → Prop} {a b c z0 : Int32} (h : wX_put_34 post a b c (pt_g b) z0 f_nodes f_filterRoot f_valueRoot f_keyRoot f_partCount f_groups f_passed f_overflow a_cells a_live a_zoneLeast a_zoneMost a_tokens a_constants a_lengths a_nodeOp a_nodeA a_nodeB a_nodeC a_needs a_wanted a_value a_state a_work a_parts a_heads a_chain a_places a_sorted a_groupNull a_groupKey a_groupPairs a_groupValues a_groupSum a_groupLeast a_groupMost) : wX_put_17 post a b c z0 f_nodes f_filterRoot f_valueRoot f_keyRoot f_partCount f_groups f_passed f_overflow a_cells a_live a_zoneLeast a_zoneMost a_tokens a_constants a_lengths a_nodeOp a_nodeA a_nodeB a_nodeC a_needs a_wanted a_value a_state a_work a_parts a_heads a_chain a_places a_sorted a_groupNull a_groupKey a_groupPairs a_groupValues a_groupSum a_groupLeast a_groupMost := by
  refine br_c (fun hc => ?_) (fun hc => pt_isT (fun ht => br_f (by decide) ?_) (fun ht => br_t rfl ?_))
  · rw [pt_g1 (Or.inl hc)] at h; exact h
  · rw [pt_g1 (Or.inr ht)] at h; exact h
  · rw [pt_g0 (fun z => z.elim hc ht)] at h; exact h
theorem px_put {post : Int32 → SX → Prop} {a b c : Int32} (h : wX_put_17 post a b c (pt_g a) f_nodes f_filterRoot f_valueRoot f_keyRoot f_partCount f_groups f_passed f_overflow a_cells a_live a_zoneLeast a_zoneMost a_tokens a_constants a_lengths a_nodeOp a_nodeA a_nodeB a_nodeC a_needs a_wanted a_value a_state a_work a_parts a_heads a_chain a_places a_sorted a_groupNull a_groupKey a_groupPairs a_groupValues a_groupSum a_groupLeast a_groupMost) : wpX_put post (f_nodes, f_filterRoot, f_valueRoot, f_keyRoot, f_partCount, f_groups, f_passed, f_overflow, a_cells, a_live, a_zoneLeast, a_zoneMost, a_tokens, a_constants, a_lengths, a_nodeOp, a_nodeA, a_nodeB, a_nodeC, a_needs, a_wanted, a_value, a_state, a_work, a_parts, a_heads, a_chain, a_places, a_sorted, a_groupNull, a_groupKey, a_groupPairs, a_groupValues, a_groupSum, a_groupLeast, a_groupMost) a b c := by
  refine br_c (fun hc => ?_) (fun hc => pt_isT (fun ht => br_f (by decide) ?_) (fun ht => br_t rfl ?_))
  · rw [pt_g1 (Or.inl hc)] at h; exact h
  · rw [pt_g1 (Or.inr ht)] at h; exact h
  · rw [pt_g0 (fun z => z.elim hc ht)] at h; exact h
theorem py_put {post : Int32 → SY → Prop} {a b c : Int32} (h : wY_put_31 post a b c (nI (pt_c c)) (nI (pt_c a) + nI (pt_c b)) y_top y_groups y_full y_passed b_cells b_count b_tok b_con b_len b_num b_isNull b_gNull b_gKey b_gStat) : wpY_put post (y_top, y_groups, y_full, y_passed, b_cells, b_count, b_tok, b_con, b_len, b_num, b_isNull, b_gNull, b_gKey, b_gStat) a b c := by
  have ca := pt_cI a
  have cb := pt_cI b
  have cc := pt_cI c
  have s20 : ∀ y, y = nI (pt_c a) → wY_put_10 post a b c y y_top y_groups y_full y_passed b_cells b_count b_tok b_con b_len b_num b_isNull b_gNull b_gKey b_gStat := by
    intro y hy
    subst hy
    refine br_c (fun hb => br_c (fun hc => ?_) (fun hc => ?_)) (fun hb => br_c (fun hc => ?_) (fun hc => ?_))
    · rw [if_pos hb] at cb; rw [if_pos hc] at cc; rw [← cb, ← cc] at h; exact h
    · rw [if_pos hb] at cb; rw [if_neg hc] at cc; rw [← cb, ← cc] at h; exact h
    · rw [if_neg hb] at cb; rw [if_pos hc] at cc; rw [← cb, ← cc] at h; exact h
    · rw [if_neg hb] at cb; rw [if_neg hc] at cc; rw [← cb, ← cc] at h; exact h
  refine br_c (fun ha => s20 0 ?_) (fun ha => s20 1 ?_)
  · rw [if_pos ha] at ca; exact ca
  · rw [if_neg ha] at ca; exact ca
theorem tk_put {a b c : Int32} (R : tk_rel E a_tokens a_constants a_lengths b_tok b_con b_len) :
    ∃ r at' ac al bt bc bl, tk_rel E at' ac al bt bc bl ∧ (∀ post : Int32 → SX → Prop, post r (f_nodes, f_filterRoot, f_valueRoot, f_keyRoot, f_partCount, f_groups, f_passed, f_overflow, a_cells, a_live, a_zoneLeast, a_zoneMost, at', ac, al, a_nodeOp, a_nodeA, a_nodeB, a_nodeC, a_needs, a_wanted, a_value, a_state, a_work, a_parts, a_heads, a_chain, a_places, a_sorted, a_groupNull, a_groupKey, a_groupPairs, a_groupValues, a_groupSum, a_groupLeast, a_groupMost) → wpX_put post (f_nodes, f_filterRoot, f_valueRoot, f_keyRoot, f_partCount, f_groups, f_passed, f_overflow, a_cells, a_live, a_zoneLeast, a_zoneMost, a_tokens, a_constants, a_lengths, a_nodeOp, a_nodeA, a_nodeB, a_nodeC, a_needs, a_wanted, a_value, a_state, a_work, a_parts, a_heads, a_chain, a_places, a_sorted, a_groupNull, a_groupKey, a_groupPairs, a_groupValues, a_groupSum, a_groupLeast, a_groupMost) a b c) ∧
      (∀ post : Int32 → SY → Prop, post r (y_top, y_groups, y_full, y_passed, b_cells, b_count, bt, bc, bl, b_num, b_isNull, b_gNull, b_gKey, b_gStat) → wpY_put post (y_top, y_groups, y_full, y_passed, b_cells, b_count, b_tok, b_con, b_len, b_num, b_isNull, b_gNull, b_gKey, b_gStat) a b c) := by
  obtain ⟨l, R⟩ := R
  have len : nI l + (nI (pt_c a) + nI (pt_c b) + nI (pt_c c)) = nI (l + (pt_c a + pt_c b + pt_c c)) := by rw [nI_add, nI_add, nI_add]
  have c1 : ∀ a, pt_c a ≤ 1 := fun a => by unfold pt_c; split <;> omega
  have ca := c1 a
  have cb := c1 b
  have cc := c1 c
  have hl := R.1
  by_cases good : (a = -1 ∨ pt_t a) ∧ (b = -1 ∨ pt_t b) ∧ (c = -1 ∨ pt_t c)
  · obtain ⟨ga, gb, gc⟩ := good
    by_cases room : l + (pt_c a + pt_c b + pt_c c) ≤ 20
    · obtain ⟨t1, t2, t3, s1, s2, s3, R1, x1, y1⟩ := pt_step (f_nodes := f_nodes) (f_filterRoot := f_filterRoot) (f_valueRoot := f_valueRoot) (f_keyRoot := f_keyRoot) (f_partCount := f_partCount) (f_groups := f_groups) (f_passed := f_passed) (f_overflow := f_overflow) (a_cells := a_cells) (a_live := a_live) (a_zoneLeast := a_zoneLeast) (a_zoneMost := a_zoneMost) (a_tokens := a_tokens) (a_constants := a_constants) (a_lengths := a_lengths) (a_nodeOp := a_nodeOp) (a_nodeA := a_nodeA) (a_nodeB := a_nodeB) (a_nodeC := a_nodeC) (a_needs := a_needs) (a_wanted := a_wanted) (a_value := a_value) (a_state := a_state) (a_work := a_work) (a_parts := a_parts) (a_heads := a_heads) (a_chain := a_chain) (a_places := a_places) (a_sorted := a_sorted) (a_groupNull := a_groupNull) (a_groupKey := a_groupKey) (a_groupPairs := a_groupPairs) (a_groupValues := a_groupValues) (a_groupSum := a_groupSum) (a_groupLeast := a_groupLeast) (a_groupMost := a_groupMost) (y_top := y_top) (y_groups := y_groups) (y_full := y_full) (y_passed := y_passed) (b_cells := b_cells) (b_count := b_count) (b_tok := b_tok) (b_con := b_con) (b_len := b_len) (b_num := b_num) (b_isNull := b_isNull) (b_gNull := b_gNull) (b_gKey := b_gKey) (b_gStat := b_gStat) R ga (by omega)
      obtain ⟨t4, t5, t6, s4, s5, s6, R2, x2, y2⟩ := pt_step (f_nodes := f_nodes) (f_filterRoot := f_filterRoot) (f_valueRoot := f_valueRoot) (f_keyRoot := f_keyRoot) (f_partCount := f_partCount) (f_groups := f_groups) (f_passed := f_passed) (f_overflow := f_overflow) (a_cells := a_cells) (a_live := a_live) (a_zoneLeast := a_zoneLeast) (a_zoneMost := a_zoneMost) (a_tokens := t1) (a_constants := t2) (a_lengths := t3) (a_nodeOp := a_nodeOp) (a_nodeA := a_nodeA) (a_nodeB := a_nodeB) (a_nodeC := a_nodeC) (a_needs := a_needs) (a_wanted := a_wanted) (a_value := a_value) (a_state := a_state) (a_work := a_work) (a_parts := a_parts) (a_heads := a_heads) (a_chain := a_chain) (a_places := a_places) (a_sorted := a_sorted) (a_groupNull := a_groupNull) (a_groupKey := a_groupKey) (a_groupPairs := a_groupPairs) (a_groupValues := a_groupValues) (a_groupSum := a_groupSum) (a_groupLeast := a_groupLeast) (a_groupMost := a_groupMost) (y_top := y_top) (y_groups := y_groups) (y_full := y_full) (y_passed := y_passed) (b_cells := b_cells) (b_count := b_count) (b_tok := s1) (b_con := s2) (b_len := s3) (b_num := b_num) (b_isNull := b_isNull) (b_gNull := b_gNull) (b_gKey := b_gKey) (b_gStat := b_gStat) R1 gb (by omega)
      obtain ⟨t7, t8, t9, s7, s8, s9, R3, x3, y3⟩ := pt_step (f_nodes := f_nodes) (f_filterRoot := f_filterRoot) (f_valueRoot := f_valueRoot) (f_keyRoot := f_keyRoot) (f_partCount := f_partCount) (f_groups := f_groups) (f_passed := f_passed) (f_overflow := f_overflow) (a_cells := a_cells) (a_live := a_live) (a_zoneLeast := a_zoneLeast) (a_zoneMost := a_zoneMost) (a_tokens := t4) (a_constants := t5) (a_lengths := t6) (a_nodeOp := a_nodeOp) (a_nodeA := a_nodeA) (a_nodeB := a_nodeB) (a_nodeC := a_nodeC) (a_needs := a_needs) (a_wanted := a_wanted) (a_value := a_value) (a_state := a_state) (a_work := a_work) (a_parts := a_parts) (a_heads := a_heads) (a_chain := a_chain) (a_places := a_places) (a_sorted := a_sorted) (a_groupNull := a_groupNull) (a_groupKey := a_groupKey) (a_groupPairs := a_groupPairs) (a_groupValues := a_groupValues) (a_groupSum := a_groupSum) (a_groupLeast := a_groupLeast) (a_groupMost := a_groupMost) (y_top := y_top) (y_groups := y_groups) (y_full := y_full) (y_passed := y_passed) (b_cells := b_cells) (b_count := b_count) (b_tok := s4) (b_con := s5) (b_len := s6) (b_num := b_num) (b_isNull := b_isNull) (b_gNull := b_gNull) (b_gKey := b_gKey) (b_gStat := b_gStat) R2 gc (by omega)
      refine ⟨1, t7, t8, t9, s7, s8, s9, ⟨_, R3⟩, fun post K => px_put (px_17 (px_34 (px_86 (nm_e ?_)))), fun post K => py_put (nm_e (pt_val ?_))⟩
      · rw [pt_g1 ga, pt_g1 gb, pt_g1 gc, R.2.1, len]
        have f3 : wX_put_132 post c f_nodes f_filterRoot f_valueRoot f_keyRoot f_partCount f_groups f_passed f_overflow a_cells a_live a_zoneLeast a_zoneMost t4 t5 t6 a_nodeOp a_nodeA a_nodeB a_nodeC a_needs a_wanted a_value a_state a_work a_parts a_heads a_chain a_places a_sorted a_groupNull a_groupKey a_groupPairs a_groupValues a_groupSum a_groupLeast a_groupMost := by
          rcases x3 with ⟨e, e1, e2, e3⟩ | ⟨e, x3⟩
          · subst e1; subst e2; subst e3; exact br_t e K
          · exact br_f e (x3 _ K)
        have f2 : wX_put_121 post b c f_nodes f_filterRoot f_valueRoot f_keyRoot f_partCount f_groups f_passed f_overflow a_cells a_live a_zoneLeast a_zoneMost t1 t2 t3 a_nodeOp a_nodeA a_nodeB a_nodeC a_needs a_wanted a_value a_state a_work a_parts a_heads a_chain a_places a_sorted a_groupNull a_groupKey a_groupPairs a_groupValues a_groupSum a_groupLeast a_groupMost := by
          rcases x2 with ⟨e, e1, e2, e3⟩ | ⟨e, x2⟩
          · subst e1; subst e2; subst e3; exact br_t e f3
          · exact br_f e (x2 _ f3)
        refine br_f (by decide) (br_t (nI_le (b := 20) room (by decide)) ?_)
        rcases x1 with ⟨e, e1, e2, e3⟩ | ⟨e, x1⟩
        · subst e1; subst e2; subst e3; exact br_t e f2
        · exact br_f e (x1 _ f2)
      · rw [pt_g1 ga]
        refine br_f (by decide) (pt_val ?_)
        rw [pt_g1 gb]
        refine br_f (by decide) (pt_val ?_)
        rw [pt_g1 gc, R.2.2.1, len]
        exact br_f (by decide) (br_t (nI_le (b := 20) room (by decide)) (y1 _ (y2 _ (y3 _ K))))
    · refine ⟨0, _, _, _, _, _, _, ⟨l, R⟩, fun post K => px_put (px_17 (px_34 (px_86 (nm_e ?_)))), fun post K => py_put (nm_e (pt_val ?_))⟩
      · rw [pt_g1 ga, pt_g1 gb, pt_g1 gc, R.2.1, len]
        exact br_f (by decide) (br_f (nI_ge (a := 20) (by omega) (by omega)) K)
      · rw [pt_g1 ga]
        refine br_f (by decide) (pt_val ?_)
        rw [pt_g1 gb]
        refine br_f (by decide) (pt_val ?_)
        rw [pt_g1 gc, R.2.2.1, len]
        exact br_f (by decide) (br_f (nI_ge (a := 20) (by omega) (by omega)) K)
  · refine ⟨0, _, _, _, _, _, _, ⟨l, R⟩, fun post K => px_put (px_17 (px_34 (px_86 (nm_e (br_t ?_ K))))), fun post K => py_put (nm_e (pt_val ?_))⟩
    · by_cases ga : a = -1 ∨ pt_t a
      · by_cases gb : b = -1 ∨ pt_t b
        · rw [pt_g0 (a := c) (fun z => good ⟨ga, gb, z⟩)]
          rcases pt_g01 a with e | e <;> rcases pt_g01 b with e' | e' <;> rw [e, e'] <;> decide
        · rw [pt_g0 gb]
          rcases pt_g01 a with e | e <;> rcases pt_g01 c with e' | e' <;> rw [e, e'] <;> decide
      · rw [pt_g0 ga]
        rcases pt_g01 b with e | e <;> rcases pt_g01 c with e' | e' <;> rw [e, e'] <;> decide
    · by_cases ga : a = -1 ∨ pt_t a
      · rw [pt_g1 ga]
        refine br_f (by decide) (pt_val ?_)
        by_cases gb : b = -1 ∨ pt_t b
        · rw [pt_g1 gb]
          refine br_f (by decide) (pt_val ?_)
          rw [pt_g0 (fun z => good ⟨ga, gb, z⟩)]
          exact br_t rfl K
        · rw [pt_g0 gb]; exact br_t rfl K
      · rw [pt_g0 ga]; exact br_t rfl K
theorem tk_const {a : Int32} (R : tk_rel E a_tokens a_constants a_lengths b_tok b_con b_len) :
    ∃ r at' ac al bt bc bl, tk_rel E at' ac al bt bc bl ∧ (∀ post : Int32 → SX → Prop, post r (f_nodes, f_filterRoot, f_valueRoot, f_keyRoot, f_partCount, f_groups, f_passed, f_overflow, a_cells, a_live, a_zoneLeast, a_zoneMost, at', ac, al, a_nodeOp, a_nodeA, a_nodeB, a_nodeC, a_needs, a_wanted, a_value, a_state, a_work, a_parts, a_heads, a_chain, a_places, a_sorted, a_groupNull, a_groupKey, a_groupPairs, a_groupValues, a_groupSum, a_groupLeast, a_groupMost) → wpX_constant post (f_nodes, f_filterRoot, f_valueRoot, f_keyRoot, f_partCount, f_groups, f_passed, f_overflow, a_cells, a_live, a_zoneLeast, a_zoneMost, a_tokens, a_constants, a_lengths, a_nodeOp, a_nodeA, a_nodeB, a_nodeC, a_needs, a_wanted, a_value, a_state, a_work, a_parts, a_heads, a_chain, a_places, a_sorted, a_groupNull, a_groupKey, a_groupPairs, a_groupValues, a_groupSum, a_groupLeast, a_groupMost) a) ∧
      (∀ post : Int32 → SY → Prop, post r (y_top, y_groups, y_full, y_passed, b_cells, b_count, bt, bc, bl, b_num, b_isNull, b_gNull, b_gKey, b_gStat) → wpY_constant post (y_top, y_groups, y_full, y_passed, b_cells, b_count, b_tok, b_con, b_len, b_num, b_isNull, b_gNull, b_gKey, b_gStat) a) := by
  obtain ⟨l, R⟩ := R
  by_cases h : l = 20
  · subst h
    exact ⟨0, _, _, _, _, _, _, ⟨_, R⟩, fun post K => br_t R.2.1 K, fun post K => br_t R.2.2.1 K⟩
  · have hl := R.1
    have n : ¬ nI l = 20 := zb_ne (b := 20) h (by omega) (by omega)
    exact ⟨1, _, _, _, _, _, _, ⟨_, tk_add (t := 40) (v := a) (by omega) (Or.inr (Or.inl rfl)) R⟩, fun post K => br_f (by rw [R.2.1]; exact n) (xw_add (by omega) R.2.1 (by decide) K), fun post K => br_f (by rw [R.2.2.1]; exact n) (yw_add (by omega) R.2.2.1 (by decide) K)⟩
end PUT
end
section
/-! ===== use, on both sides ===== -/
def us_cp (f : Nat → Int32) (e k : Nat) : Nat → Int32 := fun j => if 20 * e ≤ j ∧ j < 20 * e + k then f (60 + (j - 20 * e)) else f j
theorem us_0 {f : Nat → Int32} {e : Nat} : us_cp f e 0 = f := by
  funext j; unfold us_cp; rw [if_neg (by omega)]
theorem us_src {f : Nat → Int32} {e k j : Nat} (he : e < 3) (hk : k ≤ 20) (hj : 60 ≤ j) : us_cp f e k j = f j := by
  unfold us_cp; rw [if_neg (by omega)]
theorem us_s {f : Nat → Int32} {e k : Nat} (he : e < 3) (hk : k < 20) : upd (us_cp f e k) (20 * e + k) (f (60 + k)) = us_cp f e (k + 1) := by
  funext j
  by_cases h : j = 20 * e + k
  · subst h
    rw [pk_us]; unfold us_cp
    rw [if_pos (by omega), show 20 * e + k - 20 * e = k by omega]
  · rw [pk_un h]; unfold us_cp
    by_cases z : 20 * e ≤ j ∧ j < 20 * e + k
    · rw [if_pos z, if_pos (by omega)]
    · rw [if_neg z, if_neg (by omega)]
theorem us_in {f : Nat → Int32} {e k j : Nat} (hj : j < k) : us_cp f e k (20 * e + j) = f (60 + j) := by
  unfold us_cp; rw [if_pos (by omega), show 20 * e + j - 20 * e = j by omega]
theorem us_out {f : Nat → Int32} {e k e' j : Nat} (hk : k ≤ 20) (hn : e' ≠ e) (hj : j < 20) : us_cp f e k (20 * e' + j) = f (20 * e' + j) := by
  unfold us_cp; rw [if_neg (by omega)]
/-- the new row's meaning -/
theorem us_row {tok con tok' con' len' : Nat → Int32} {l e : Nat} {κ : Bool} (hl : l ≤ 20) (hk : mq_kst tok (60 + l) l = some [κ]) (ho : ∀ j, j < l → mq_ok (tok (60 + j))) (h : ∀ j, j < l → tok' (20 * e + j) = tok (60 + j) ∧ con' (20 * e + j) = con (60 + j)) (hle : len' e = nI l) :
    xk_tk tok' con' len' e κ (fun env => (mq_est env tok con (60 + l) l).headD (0, 0)) := by
  have ix : ∀ j, j < l → 20 * e + l - (j + 1) = 20 * e + (l - (j + 1)) := fun j hj => by omega
  have ix2 : ∀ j, j < l → 60 + l - (j + 1) = 60 + (l - (j + 1)) := fun j hj => by omega
  refine ⟨l, hl, hle, ?_, fun j hj => by rw [(h j hj).1]; exact ho j hj, fun env => ?_⟩
  · rw [mq_kst_cg (tok := tok) (hi := 60 + l) (fun j hj => by rw [ix j hj, ix2 j hj]; exact (h _ (by omega)).1)]; exact hk
  · rw [mq_est_cg2 (tok := tok) (con := con) (hi := 60 + l) (fun j hj => by rw [ix j hj, ix2 j hj]; exact h _ (by omega))]
    have ty := mq_est_ty (env := env) (con := con) (fun j hj => by rw [ix2 j hj]; exact ho _ (by omega)) hk
    cases e1 : mq_est env tok con (60 + l) l with
    | nil => rw [e1] at ty; exact ty.elim
    | cons a s =>
      cases s with
      | nil => show [a] = [(mq_est env tok con (60 + l) l).headD (0, 0)]; rw [e1]; rfl
      | cons _ _ => rw [e1] at ty; exact ty.2.elim
theorem us_3 {x : Int32} (h1 : ¬ x < 0) (h2 : ¬ 2 < x) : ∃ e, e < 3 ∧ x = nI e := by
  obtain ⟨j, hj, rfl⟩ := nI_of h1
  refine ⟨j, ?_, rfl⟩
  have : ¬ 2 < j := fun z => h2 (nI_lt (a := 2) z hj)
  omega
section USE
variable {f_nodes f_filterRoot f_valueRoot f_keyRoot f_partCount f_groups f_passed f_overflow : Int32}
variable {a_cells a_live a_zoneLeast a_zoneMost a_tokens a_constants a_lengths a_nodeOp a_nodeA a_nodeB a_nodeC a_needs a_wanted a_state a_work a_parts a_heads a_chain a_places a_sorted a_groupNull a_groupPairs a_groupValues : Nat → Int32}
variable {a_value a_groupKey a_groupSum a_groupLeast a_groupMost : Nat → Int64}
variable {y_top y_groups y_full y_passed : Int32}
variable {b_cells b_count b_tok b_con b_len b_isNull b_gNull : Nat → Int32}
variable {b_num b_gKey b_gStat : Nat → Int64}
variable {l : Nat} {E : Nat → (Nat → Int32) → VV}
theorem us_46 {post : Int32 → SX → Prop} {e : Nat} {E' : Nat → (Nat → Int32) → VV} (he : e < 3) (hl : l ≤ 20) (ho : ∀ j, j < l → mq_ok (a_tokens (60 + j)))
    (ht : ∀ i, i < 3 → xk_tk (us_cp a_tokens e l) (us_cp a_constants e l) (upd a_lengths e (nI l)) i (tk_k i) (E' i))
    (K : ∀ (nodes F V Q pc : Int32) (op A B C nd W st wk parts : Nat → Int32) (vl : Nat → Int64), xk_ok nodes F V Q pc op A B C nd W st parts vl (E' 0) (E' 1) (E' 2) → post 1 (nodes, F, V, Q, pc, f_groups, f_passed, f_overflow, a_cells, a_live, a_zoneLeast, a_zoneMost, us_cp a_tokens e l, us_cp a_constants e l, upd a_lengths e (nI l), op, A, B, C, nd, W, vl, st, wk, parts, a_heads, a_chain, a_places, a_sorted, a_groupNull, a_groupKey, a_groupPairs, a_groupValues, a_groupSum, a_groupLeast, a_groupMost)) :
    ∀ (r n k : Nat), k + r = l → r < n → wX_use_46 post (nI e) (nI l) f_nodes f_filterRoot f_valueRoot f_keyRoot f_partCount f_groups f_passed f_overflow n (nI k) a_cells a_live a_zoneLeast a_zoneMost (us_cp a_tokens e k) (us_cp a_constants e k) a_lengths a_nodeOp a_nodeA a_nodeB a_nodeC a_needs a_wanted a_value a_state a_work a_parts a_heads a_chain a_places a_sorted a_groupNull a_groupKey a_groupPairs a_groupValues a_groupSum a_groupLeast a_groupMost := by
  intro r
  induction r with
  | zero =>
    intro n k hk hn
    obtain ⟨n, rfl⟩ := zb_ex hn
    have : k = l := by omega
    subst this
    rw [wX_use_46]
    dsimp only
    rw [nI_clamp (show e < 2 ^ 31 by omega)]
    refine br_t (nI_le (Nat.le_refl _) (by omega)) ⟨vp_in_nI (by omega) (by omega), nm_e (xw_compile (ht 0 (by omega)) (ht 1 (by omega)) (ht 2 (by omega)) (fun nodes F V Q pc op A B C nd W st wk parts vl h => ?_))⟩
    exact K nodes F V Q pc op A B C nd W st wk parts vl h
  | succ r ih =>
    intro n k hk hn
    obtain ⟨n, rfl⟩ := zb_ex (show 0 < n by omega)
    have e1 : (60 : Int32) + nI k = nI (60 + k) := nI_add 60 k
    have e2 : nI e * 20 + nI k = nI (20 * e + k) := by rw [show (20 : Int32) = nI 20 from rfl, pk_mul, nI_add, Nat.mul_comm]
    have b : vp_nar .byte (a_tokens (60 + k)) = a_tokens (60 + k) := by rw [vp_nar_byte, mq_ok_8 (ho k (by omega))]
    rw [wX_use_46]
    dsimp only
    rw [e1, e2, nI_clamp (show 60 + k < 2 ^ 31 by omega), nI_clamp (show 20 * e + k < 2 ^ 31 by omega), us_src he (by omega) (by omega), us_src he (by omega) (by omega), b, us_s he (by omega), us_s he (by omega)]
    refine br_f (nI_ge (by omega) (by omega)) ⟨vp_in_nI (by omega) (by omega), vp_in_nI (by omega) (by omega), nm_e ⟨vp_in_nI (by omega) (by omega), vp_in_nI (by omega) (by omega), nm_e (nm_r (nI_1 k) (ih n (k + 1) (by omega) (by omega)))⟩⟩
theorem us_37 {post : Int32 → SY → Prop} {e : Nat} (he : e < 3) (hln : b_len 3 = nI l) (K : post 1 (y_top, y_groups, y_full, y_passed, b_cells, b_count, us_cp b_tok e 20, us_cp b_con e 20, upd (upd b_len e (nI l)) 3 0, b_num, b_isNull, b_gNull, b_gKey, b_gStat)) :
    ∀ (r n k : Nat), k + r = 20 → r < n → wY_use_37 post (nI e) 1 y_top y_groups y_full y_passed n (nI k) b_cells b_count (us_cp b_tok e k) (us_cp b_con e k) b_len b_num b_isNull b_gNull b_gKey b_gStat := by
  intro r
  induction r with
  | zero =>
    intro n k hk hn
    obtain ⟨n, rfl⟩ := zb_ex hn
    have : k = 20 := by omega
    subst this
    rw [wY_use_37]
    dsimp only
    rw [nI_clamp (show e < 2 ^ 31 by omega), hln]
    exact br_t (by decide) ⟨vp_in_nI (by omega) (by omega), nm_e (nm_e ⟨rfl, K⟩)⟩
  | succ r ih =>
    intro n k hk hn
    obtain ⟨n, rfl⟩ := zb_ex (show 0 < n by omega)
    have e1 : (60 : Int32) + nI k = nI (60 + k) := nI_add 60 k
    have e2 : 20 * nI e + nI k = nI (20 * e + k) := by rw [show (20 : Int32) = nI 20 from rfl, pk_mul, nI_add]
    rw [wY_use_37]
    dsimp only
    rw [e1, e2, nI_clamp (show 60 + k < 2 ^ 31 by omega), nI_clamp (show 20 * e + k < 2 ^ 31 by omega), us_src he (by omega) (by omega), us_src he (by omega) (by omega), us_s he (by omega), us_s he (by omega)]
    refine br_f (nI_ge (b := 20) (by omega) (by decide)) ⟨vp_in_nI (by omega) (by omega), vp_in_nI (by omega) (by omega), nm_e ⟨vp_in_nI (by omega) (by omega), vp_in_nI (by omega) (by omega), nm_e (nm_r (nI_1 k) (ih n (k + 1) (by omega) (by omega)))⟩⟩
theorem us_ck {o : Option (List Bool)} {e : Nat} : ck_k o = (if e = 0 then 2 else 1) ↔ o = some [tk_k e] := by
  unfold ck_k tk_k
  by_cases h : e = 0
  · rw [if_pos h, decide_eq_true h]
    by_cases a : o = some [true]
    · rw [if_pos a]; exact ⟨fun _ => a, fun _ => rfl⟩
    · rw [if_neg a]
      refine ⟨fun z => ?_, fun z => absurd z a⟩
      split at z <;> exact absurd z (by decide)
  · rw [if_neg h, decide_eq_false h]
    by_cases a : o = some [true]
    · rw [if_pos a]; subst a; exact ⟨fun z => absurd z (by decide), fun z => by cases z⟩
    · rw [if_neg a]
      by_cases b : o = some [false]
      · rw [if_pos b]; exact ⟨fun _ => b, fun _ => rfl⟩
      · rw [if_neg b]; exact ⟨fun z => absurd z (by decide), fun z => absurd z b⟩
theorem tk_use {x : Int32} (R : tk_rel E a_tokens a_constants a_lengths b_tok b_con b_len) :
    ∃ r E' at' ac al bt bc bl, tk_rel E' at' ac al bt bc bl ∧
      (∀ post : Int32 → SX → Prop, xk_ok f_nodes f_filterRoot f_valueRoot f_keyRoot f_partCount a_nodeOp a_nodeA a_nodeB a_nodeC a_needs a_wanted a_state a_parts a_value (E 0) (E 1) (E 2) →
        (∀ (nodes F V Q pc : Int32) (op A B C nd W st wk parts : Nat → Int32) (vl : Nat → Int64), xk_ok nodes F V Q pc op A B C nd W st parts vl (E' 0) (E' 1) (E' 2) → post r (nodes, F, V, Q, pc, f_groups, f_passed, f_overflow, a_cells, a_live, a_zoneLeast, a_zoneMost, at', ac, al, op, A, B, C, nd, W, vl, st, wk, parts, a_heads, a_chain, a_places, a_sorted, a_groupNull, a_groupKey, a_groupPairs, a_groupValues, a_groupSum, a_groupLeast, a_groupMost)) → wpX_use post (f_nodes, f_filterRoot, f_valueRoot, f_keyRoot, f_partCount, f_groups, f_passed, f_overflow, a_cells, a_live, a_zoneLeast, a_zoneMost, a_tokens, a_constants, a_lengths, a_nodeOp, a_nodeA, a_nodeB, a_nodeC, a_needs, a_wanted, a_value, a_state, a_work, a_parts, a_heads, a_chain, a_places, a_sorted, a_groupNull, a_groupKey, a_groupPairs, a_groupValues, a_groupSum, a_groupLeast, a_groupMost) x) ∧
      (∀ post : Int32 → SY → Prop, (∀ top num, post r (top, y_groups, y_full, y_passed, b_cells, b_count, bt, bc, bl, num, b_isNull, b_gNull, b_gKey, b_gStat)) → wpY_use post (y_top, y_groups, y_full, y_passed, b_cells, b_count, b_tok, b_con, b_len, b_num, b_isNull, b_gNull, b_gKey, b_gStat) x) := by
  obtain ⟨l, h1, h2, h3, h4, h5, h6⟩ := R
  have ho : ∀ j, j < l → mq_ok (a_tokens (60 + j)) := fun j hj => by rw [(h4 j hj).1]; exact (h4 j hj).2.2
  have hob : ∀ j, j < l → mq_ok (b_tok (60 + j)) := fun j hj => (h4 j hj).2.2
  have ix : ∀ j, j < l → 60 + l - (j + 1) = 60 + (l - (j + 1)) := fun j hj => by omega
  have ks : mq_kst b_tok (60 + l) l = mq_kst a_tokens (60 + l) l := mq_kst_cg (fun j hj => by rw [ix j hj]; exact ((h4 _ (by omega)).1).symm)
  have es : ∀ env, mq_est env b_tok b_con (60 + l) l = mq_est env a_tokens a_constants (60 + l) l := fun env => mq_est_cg (fun j hj => by rw [ix j hj]; exact ⟨((h4 _ (by omega)).1).symm, ((h4 _ (by omega)).2.1).symm⟩)
  have none : tk_rel E a_tokens a_constants (upd a_lengths 3 0) b_tok b_con (upd b_len 3 0) :=
    ⟨0, by omega, pk_us, pk_us, fun j hj => by omega, fun e he => xk_tk_fr (fun j hj => ⟨rfl, rfl⟩) (pk_un (by omega)) (h5 e he), fun e he => xk_tk_fr (fun j hj => ⟨rfl, rfl⟩) (pk_un (by omega)) (h6 e he)⟩
  by_cases x0 : x < 0
  · refine ⟨0, E, _, _, _, _, _, _, none, fun post C K => xw_check h1 h2 ho (fun wk' => ?_), fun post K => br_t x0 (br_t rfl (nm_e ⟨rfl, K y_top b_num⟩))⟩
    exact nm_e (nm_e (br_t x0 (K _ _ _ _ _ _ _ _ _ _ _ _ wk' _ _ C)))
  · by_cases x2 : 2 < x
    · refine ⟨0, E, _, _, _, _, _, _, none, fun post C K => xw_check h1 h2 ho (fun wk' => ?_), fun post K => br_f x0 (br_t x2 (br_t rfl (nm_e ⟨rfl, K y_top b_num⟩)))⟩
      exact nm_e (nm_e (br_f x0 (br_t x2 (K _ _ _ _ _ _ _ _ _ _ _ _ wk' _ _ C))))
    · obtain ⟨e, he, rfl⟩ := us_3 x0 x2
      -- what the sides compare
      have xs : ∀ (post : Int32 → SX → Prop) (wk' : Nat → Int32), wX_use_38 post (nI e) (nI l) (if e = 0 then 2 else 1) (ck_k (mq_kst a_tokens (60 + l) l)) f_nodes f_filterRoot f_valueRoot f_keyRoot f_partCount f_groups f_passed f_overflow a_cells a_live a_zoneLeast a_zoneMost a_tokens a_constants (upd a_lengths 3 0) a_nodeOp a_nodeA a_nodeB a_nodeC a_needs a_wanted a_value a_state wk' a_parts a_heads a_chain a_places a_sorted a_groupNull a_groupKey a_groupPairs a_groupValues a_groupSum a_groupLeast a_groupMost → ((nI e = 0 → wX_use_38 post (nI e) (nI l) 2 (ck_k (mq_kst a_tokens (60 + l) l)) f_nodes f_filterRoot f_valueRoot f_keyRoot f_partCount f_groups f_passed f_overflow a_cells a_live a_zoneLeast a_zoneMost a_tokens a_constants (upd a_lengths 3 0) a_nodeOp a_nodeA a_nodeB a_nodeC a_needs a_wanted a_value a_state wk' a_parts a_heads a_chain a_places a_sorted a_groupNull a_groupKey a_groupPairs a_groupValues a_groupSum a_groupLeast a_groupMost) ∧ (¬ nI e = 0 → wX_use_38 post (nI e) (nI l) 1 (ck_k (mq_kst a_tokens (60 + l) l)) f_nodes f_filterRoot f_valueRoot f_keyRoot f_partCount f_groups f_passed f_overflow a_cells a_live a_zoneLeast a_zoneMost a_tokens a_constants (upd a_lengths 3 0) a_nodeOp a_nodeA a_nodeB a_nodeC a_needs a_wanted a_value a_state wk' a_parts a_heads a_chain a_places a_sorted a_groupNull a_groupKey a_groupPairs a_groupValues a_groupSum a_groupLeast a_groupMost)) := by
        intro post wk' h
        refine br_c (fun z => ?_) (fun z => ?_)
        · rw [if_pos (zb_inj (b := 0) z (by omega) (by omega))] at h; exact h
        · rw [if_neg (fun q => z (by rw [q]; rfl))] at h; exact h
      have ys : ∀ (post : Int32 → SY → Prop), wY_use_19 post (nI e) (rr_i (tk_k e)) y_top y_groups y_full y_passed b_cells b_count b_tok b_con b_len b_num b_isNull b_gNull b_gKey b_gStat → wpY_use post (y_top, y_groups, y_full, y_passed, b_cells, b_count, b_tok, b_con, b_len, b_num, b_isNull, b_gNull, b_gKey, b_gStat) (nI e) := by
        intro post h
        refine br_f x0 (br_f x2 (br_c (fun z => ?_) (fun z => ?_)))
        · have : tk_k e = true := decide_eq_true (zb_inj (b := 0) z (by omega) (by omega))
          rw [this] at h; exact h
        · have : tk_k e = false := decide_eq_false (fun q => z (by rw [q]; rfl))
          rw [this] at h; exact h
      by_cases good : mq_kst a_tokens (60 + l) l = some [tk_k e]
      · have lw : ∀ (f : Nat → Int32), upd (upd f 3 0) e (nI l) = upd (upd f e (nI l)) 3 0 := by
          intro f
          funext j
          by_cases a : j = 3
          · subst a; rw [pk_un (by omega), pk_us, pk_us]
          · by_cases b : j = e
            · subst b; rw [pk_us, pk_un a, pk_us]
            · rw [pk_un b, pk_un a, pk_un a, pk_un b]
        have nx : ∀ i, i < 3 → xk_tk (us_cp a_tokens e l) (us_cp a_constants e l) (upd (upd a_lengths 3 0) e (nI l)) i (tk_k i) (if i = e then (fun env => (mq_est env a_tokens a_constants (60 + l) l).headD (0, 0)) else E i) := by
          intro i hi
          by_cases q : i = e
          · subst q
            rw [if_pos rfl]
            exact us_row h1 good ho (fun j hj => ⟨us_in hj, us_in hj⟩) pk_us
          · rw [if_neg q]
            exact xk_tk_fr (fun j hj => ⟨us_out h1 q hj, us_out h1 q hj⟩) (by rw [pk_un q, pk_un (by omega)]) (h5 i hi)
        have ny : ∀ i, i < 3 → xk_tk (us_cp b_tok e 20) (us_cp b_con e 20) (upd (upd b_len e (nI l)) 3 0) i (tk_k i) (if i = e then (fun env => (mq_est env a_tokens a_constants (60 + l) l).headD (0, 0)) else E i) := by
          intro i hi
          by_cases q : i = e
          · subst q
            rw [if_pos rfl]
            have := us_row (tok' := us_cp b_tok i 20) (con' := us_cp b_con i 20) (len' := upd (upd b_len i (nI l)) 3 0) (e := i) (con := b_con) h1 (ks.trans good) hob (fun j hj => ⟨us_in (by omega), us_in (by omega)⟩) (by rw [pk_un (by omega), pk_us])
            simp only [es] at this
            exact this
          · rw [if_neg q]
            exact xk_tk_fr (fun j hj => ⟨us_out (Nat.le_refl _) q hj, us_out (Nat.le_refl _) q hj⟩) (by rw [pk_un (by omega), pk_un q]) (h6 i hi)
        refine ⟨1, (fun i => if i = e then (fun env => (mq_est env a_tokens a_constants (60 + l) l).headD (0, 0)) else E i), us_cp a_tokens e l, us_cp a_constants e l, upd (upd a_lengths 3 0) e (nI l), us_cp b_tok e 20, us_cp b_con e 20, upd (upd b_len e (nI l)) 3 0, ⟨0, by omega, by rw [pk_un (by omega), pk_us]; rfl, pk_us, fun j hj => by omega, nx, ny⟩, fun post C K => xw_check h1 h2 ho (fun wk' => ?_), fun post K => ys post (yw_right h1 h3 hob (fun top num' => ?_))⟩
        · refine nm_r h2 (nm_e (br_f x0 (br_f x2 (xs post wk' (br_t (us_ck.mpr good) ⟨l + 1, ?_⟩)))))
          have := us_46 (f_nodes := f_nodes) (f_filterRoot := f_filterRoot) (f_valueRoot := f_valueRoot) (f_keyRoot := f_keyRoot) (f_partCount := f_partCount) (f_groups := f_groups) (f_passed := f_passed) (f_overflow := f_overflow) (a_cells := a_cells) (a_live := a_live) (a_zoneLeast := a_zoneLeast) (a_zoneMost := a_zoneMost) (a_tokens := a_tokens) (a_constants := a_constants) (a_lengths := upd a_lengths 3 0) (a_nodeOp := a_nodeOp) (a_nodeA := a_nodeA) (a_nodeB := a_nodeB) (a_nodeC := a_nodeC) (a_needs := a_needs) (a_wanted := a_wanted) (a_value := a_value) (a_state := a_state) (a_work := wk') (a_parts := a_parts) (a_heads := a_heads) (a_chain := a_chain) (a_places := a_places) (a_sorted := a_sorted) (a_groupNull := a_groupNull) (a_groupKey := a_groupKey) (a_groupPairs := a_groupPairs) (a_groupValues := a_groupValues) (a_groupSum := a_groupSum) (a_groupLeast := a_groupLeast) (a_groupMost := a_groupMost) (post := post) he h1 ho nx (fun nodes F V Q pc op A B C nd W st wk parts vl h => K nodes F V Q pc op A B C nd W st wk parts vl h) l (l + 1) 0 (by omega) (by omega)
          rw [us_0, us_0] at this
          exact this
        · rw [if_pos (ks.trans good)]
          refine br_f (by decide) (br_f (by decide) ⟨21, ?_⟩)
          have := us_37 (y_top := top) (y_groups := y_groups) (y_full := y_full) (y_passed := y_passed) (b_cells := b_cells) (b_count := b_count) (b_tok := b_tok) (b_con := b_con) (b_len := b_len) (b_num := num') (b_isNull := b_isNull) (b_gNull := b_gNull) (b_gKey := b_gKey) (b_gStat := b_gStat) (post := post) he h3 (K top num') 20 21 0 (by omega) (by omega)
          rw [us_0, us_0] at this
          exact this
      · refine ⟨0, E, _, _, _, _, _, _, none, fun post C K => xw_check h1 h2 ho (fun wk' => ?_), fun post K => ys post (yw_right h1 h3 hob (fun top num' => ?_))⟩
        · exact nm_r h2 (nm_e (br_f x0 (br_f x2 (xs post wk' (br_f (fun z => good (us_ck.mp z)) (K _ _ _ _ _ _ _ _ _ _ _ _ wk' _ _ C))))))
        · rw [if_neg (fun z => good (ks.symm.trans z))]
          exact br_t rfl (br_t rfl (nm_e ⟨rfl, K top num'⟩))
end USE
end
section
/-! ===== the places of a set of bits ===== -/
def tb_bl : Nat → Nat → Nat → List Nat
  | 0, _, _ => []
  | n + 1, o, m => if m % 2 = 1 then o :: tb_bl n (o + 1) (m / 2) else tb_bl n (o + 1) (m / 2)
theorem tb_c1 {n o m : Nat} (h : m % 2 = 1) : tb_bl (n + 1) o m = o :: tb_bl n (o + 1) (m / 2) := by rw [tb_bl, if_pos h]
theorem tb_c0 {n o m : Nat} (h : ¬ m % 2 = 1) : tb_bl (n + 1) o m = tb_bl n (o + 1) (m / 2) := by rw [tb_bl, if_neg h]
theorem tb_len : ∀ (n o m : Nat), (tb_bl n o m).length ≤ n
  | 0, _, _ => Nat.le_refl _
  | n + 1, o, m => by
    have := tb_len n (o + 1) (m / 2)
    by_cases h : m % 2 = 1
    · rw [tb_c1 h, List.length_cons]; omega
    · rw [tb_c0 h]; omega
theorem tb_zero : ∀ (n o : Nat), tb_bl n o 0 = []
  | 0, _ => rfl
  | n + 1, o => by rw [tb_c0 (by decide)]; exact tb_zero n (o + 1)
theorem tb_nil : ∀ {n o m : Nat}, m < 2 ^ n → tb_bl n o m = [] → m = 0
  | 0, _, m, h, _ => by simp at h; exact h
  | n + 1, o, m, h, e => by
    by_cases q : m % 2 = 1
    · rw [tb_c1 q] at e; cases e
    · rw [tb_c0 q] at e
      have := tb_nil (by rw [Nat.pow_succ] at h; omega) e
      omega
theorem tb_and (m k : Nat) : (m &&& k) / 2 = m / 2 &&& k / 2 := Nat.and_div_two
theorem tb_and2 (m k : Nat) : (m &&& k) % 2 = 1 ↔ m % 2 = 1 ∧ k % 2 = 1 := by
  have a := Nat.testBit_and m k 0
  simp only [Nat.testBit_zero] at a
  by_cases x : m % 2 = 1 <;> by_cases y : k % 2 = 1 <;> simp [x, y] at a ⊢ <;> omega
theorem tb_or2 (m k : Nat) : (m ||| k) % 2 = 1 ↔ m % 2 = 1 ∨ k % 2 = 1 := by
  have a := Nat.testBit_or m k 0
  simp only [Nat.testBit_zero] at a
  by_cases x : m % 2 = 1 <;> by_cases y : k % 2 = 1 <;> simp [x, y] at a ⊢ <;> omega
theorem tb_clr : ∀ {n o m : Nat}, m < 2 ^ n → 0 < m → tb_bl n o (m &&& (m - 1)) = (tb_bl n o m).tail
  | 0, _, m, h, h0 => by simp at h; omega
  | n + 1, o, m, h, h0 => by
    have q : ¬ (m &&& (m - 1)) % 2 = 1 := by rw [tb_and2]; omega
    rw [tb_c0 q, tb_and]
    by_cases e : m % 2 = 1
    · rw [tb_c1 e, List.tail_cons, show (m - 1) / 2 = m / 2 by omega, Nat.and_self]
    · rw [tb_c0 e, show (m - 1) / 2 = m / 2 - 1 by omega]
      exact tb_clr (by rw [Nat.pow_succ] at h; omega) (by omega)
theorem tb_snoc : ∀ (n o m : Nat), tb_bl (n + 1) o m = tb_bl n o m ++ (if m / 2 ^ n % 2 = 1 then [o + n] else [])
  | 0, o, m => by
    rw [Nat.pow_zero, Nat.div_one]
    by_cases h : m % 2 = 1
    · rw [tb_c1 h, if_pos h]; rfl
    · rw [tb_c0 h, if_neg h]; rfl
  | n + 1, o, m => by
    have ih := tb_snoc n (o + 1) (m / 2)
    rw [Nat.div_div_eq_div_mul, show 2 * 2 ^ n = 2 ^ (n + 1) by rw [Nat.pow_succ, Nat.mul_comm], show o + 1 + n = o + (n + 1) by omega] at ih
    by_cases h : m % 2 = 1
    · rw [tb_c1 h, ih, tb_c1 h, List.cons_append]
    · rw [tb_c0 h, ih, tb_c0 h]
theorem tb_mem : ∀ {n o m s : Nat}, s ∈ tb_bl n o m → o ≤ s ∧ s < o + n ∧ m / 2 ^ (s - o) % 2 = 1
  | 0, _, _, _, h => absurd h List.not_mem_nil
  | n + 1, o, m, s, h => by
    have st : s ∈ tb_bl n (o + 1) (m / 2) → o ≤ s ∧ s < o + (n + 1) ∧ m / 2 ^ (s - o) % 2 = 1 := by
      intro h
      obtain ⟨a, b, c⟩ := tb_mem h
      refine ⟨by omega, by omega, ?_⟩
      rw [Nat.div_div_eq_div_mul, show 2 * 2 ^ (s - (o + 1)) = 2 ^ (s - o) by rw [show s - o = (s - (o + 1)) + 1 by omega, Nat.pow_succ, Nat.mul_comm]] at c
      exact c
    by_cases e : m % 2 = 1
    · rw [tb_c1 e] at h
      rcases List.mem_cons.mp h with rfl | h
      · refine ⟨by omega, by omega, ?_⟩
        rw [Nat.sub_self, Nat.pow_zero, Nat.div_one]; exact e
      · exact st h
    · rw [tb_c0 e] at h; exact st h
theorem tb_hd : ∀ {n o m s : Nat} {r : List Nat}, tb_bl n o m = s :: r → m / 2 ^ (s - o) % 2 = 1 ∧ ∀ j, j < s - o → m / 2 ^ j % 2 = 0
  | 0, _, _, _, _, h => by cases h
  | n + 1, o, m, s, r, h => by
    by_cases e : m % 2 = 1
    · rw [tb_c1 e] at h
      obtain ⟨rfl, _⟩ := List.cons.inj h
      refine ⟨?_, fun j hj => by omega⟩
      rw [Nat.sub_self, Nat.pow_zero, Nat.div_one]; exact e
    · rw [tb_c0 e] at h
      have lo := (tb_mem (s := s) (by rw [h]; exact List.mem_cons_self ..)).1
      obtain ⟨a, b⟩ := tb_hd h
      refine ⟨?_, fun j hj => ?_⟩
      · rw [Nat.div_div_eq_div_mul, show 2 * 2 ^ (s - (o + 1)) = 2 ^ (s - o) by rw [show s - o = (s - (o + 1)) + 1 by omega, Nat.pow_succ, Nat.mul_comm]] at a
        exact a
      · cases j with
        | zero => rw [Nat.pow_zero, Nat.div_one]; omega
        | succ j =>
          have := b j (by omega)
          rw [Nat.div_div_eq_div_mul, show 2 * 2 ^ j = 2 ^ (j + 1) by rw [Nat.pow_succ, Nat.mul_comm]] at this
          exact this
theorem tb_erase : ∀ {n o m p s : Nat}, (tb_bl n o m)[p]? = some s → tb_bl n o (m &&& (2 ^ n - 1 - 2 ^ (s - o))) = (tb_bl n o m).eraseIdx p
  | 0, _, _, _, _, h => by simp [tb_bl] at h
  | n + 1, o, m, p, s, h => by
    have pn : 1 ≤ 2 ^ n := Nat.one_le_two_pow
    have e2 : 2 ^ (n + 1) = 2 * 2 ^ n := by rw [Nat.pow_succ, Nat.mul_comm]
    have ms : s ∈ tb_bl (n + 1) o m := List.mem_of_getElem? h
    obtain ⟨l1, l2, _⟩ := tb_mem ms
    by_cases so : s = o
    · -- the lowest place
      subst so
      have e : m % 2 = 1 := by
        have := (tb_mem ms).2.2
        rw [Nat.sub_self, Nat.pow_zero, Nat.div_one] at this; exact this
      rw [Nat.sub_self, Nat.pow_zero, tb_c0 (by rw [tb_and2]; omega), tb_and, show (2 ^ (n + 1) - 1 - 1) / 2 = 2 ^ n - 1 by omega, tb_c1 e]
      have p0 : p = 0 := by
        cases p with
        | zero => rfl
        | succ p =>
          rw [tb_c1 e, List.getElem?_cons_succ] at h
          have := (tb_mem (List.mem_of_getElem? h)).1
          omega
      subst p0
      rw [List.eraseIdx_cons_zero, Nat.and_two_pow_sub_one_eq_mod]
      -- bits above n don't show
      have : ∀ (n o m : Nat), tb_bl n o (m % 2 ^ n) = tb_bl n o m := by
        intro n
        induction n with
        | zero => intro o m; rfl
        | succ n ih =>
          intro o m
          have e2 : 2 ^ (n + 1) = 2 * 2 ^ n := by rw [Nat.pow_succ, Nat.mul_comm]
          have h2 : m % 2 ^ (n + 1) % 2 = m % 2 := by rw [e2]; exact Nat.mod_mul_right_mod m 2 (2 ^ n)
          have h3 : m % 2 ^ (n + 1) / 2 = m / 2 % 2 ^ n := by rw [e2]; exact Nat.mod_mul_right_div_self m 2 (2 ^ n)
          by_cases e : m % 2 = 1
          · rw [tb_c1 (h2.trans e), tb_c1 e, h3, ih]
          · rw [tb_c0 (fun z => e (h2.symm.trans z)), tb_c0 e, h3, ih]
      exact this n (s + 1) (m / 2)
    · have hs : s - o = (s - (o + 1)) + 1 := by omega
      have ep : 2 ^ (s - o) = 2 * 2 ^ (s - (o + 1)) := by rw [hs, Nat.pow_succ, Nat.mul_comm]
      have lt : 2 ^ (s - (o + 1)) < 2 ^ n := Nat.pow_lt_pow_right (by omega) (by omega)
      have q2 : (2 ^ (n + 1) - 1 - 2 ^ (s - o)) / 2 = 2 ^ n - 1 - 2 ^ (s - (o + 1)) := by omega
      have q1 : (2 ^ (n + 1) - 1 - 2 ^ (s - o)) % 2 = 1 := by omega
      by_cases e : m % 2 = 1
      · rw [tb_c1 (by rw [tb_and2]; exact ⟨e, q1⟩), tb_and, q2, tb_c1 e]
        cases p with
        | zero =>
          rw [tb_c1 e, List.getElem?_cons_zero] at h
          exact absurd (Option.some.inj h).symm so
        | succ p =>
          rw [tb_c1 e, List.getElem?_cons_succ] at h
          rw [List.eraseIdx_cons_succ, tb_erase h]
      · rw [tb_c0 (by rw [tb_and2]; exact fun z => e z.1), tb_and, q2, tb_c0 e]
        rw [tb_c0 e] at h
        exact tb_erase h
theorem tb_app : ∀ {n o m j : Nat}, m < 2 ^ j → j < n → tb_bl n o (m ||| 2 ^ j) = tb_bl n o m ++ [o + j]
  | 0, _, _, _, _, h => by omega
  | n + 1, o, m, 0, h, _ => by
    have : m = 0 := by simp at h; exact h
    subst this
    rw [Nat.zero_or, Nat.pow_zero, tb_zero, tb_c1 (by decide)]
    show o :: tb_bl n (o + 1) 0 = _
    rw [tb_zero]; rfl
  | n + 1, o, m, j + 1, h, hj => by
    have e2 : 2 ^ (j + 1) = 2 * 2 ^ j := by rw [Nat.pow_succ, Nat.mul_comm]
    have q : (m ||| 2 ^ (j + 1)) / 2 = m / 2 ||| 2 ^ j := by rw [Nat.or_div_two, e2, Nat.mul_div_cancel_left _ (by omega)]
    have ih := tb_app (n := n) (o := o + 1) (m := m / 2) (j := j) (by omega) (by omega)
    rw [show o + 1 + j = o + (j + 1) by omega] at ih
    by_cases e : m % 2 = 1
    · rw [tb_c1 (by rw [tb_or2]; exact Or.inl e), q, ih, tb_c1 e, List.cons_append]
    · rw [tb_c0 (by rw [tb_or2]; intro z; rcases z with z | z; exact e z; omega), q, ih, tb_c0 e]
theorem tb_full : ∀ k, k < 17 → tb_bl 16 0 (2 ^ k - 1) = List.range k := by decide +kernel
theorem tb_srt : ∀ (n o m : Nat), (tb_bl n o m).Pairwise (· < ·)
  | 0, _, _ => List.Pairwise.nil
  | n + 1, o, m => by
    by_cases e : m % 2 = 1
    · rw [tb_c1 e]
      exact List.Pairwise.cons (fun s hs => by have := (tb_mem hs).1; omega) (tb_srt n (o + 1) (m / 2))
    · rw [tb_c0 e]; exact tb_srt n (o + 1) (m / 2)
theorem tb_getD {L : List Nat} {i : Nat} (h : i < L.length) : L[i]? = some (L.getD i 0) := by
  rw [List.getD_eq_getElem?_getD, List.getElem?_eq_getElem h]; rfl
theorem tb_gm {L : List Nat} {i : Nat} (h : i < L.length) : L.getD i 0 ∈ L := List.mem_of_getElem? (tb_getD h)
theorem tb_lt {L : List Nat} (hp : L.Pairwise (· < ·)) {i j : Nat} (hij : i < j) (hj : j < L.length) : L.getD i 0 < L.getD j 0 := by
  have a := List.pairwise_iff_getElem.mp hp i j (by omega) hj hij
  rw [List.getD_eq_getElem?_getD, List.getD_eq_getElem?_getD, List.getElem?_eq_getElem (show i < L.length by omega), List.getElem?_eq_getElem hj]
  exact a
theorem tb_inj {L : List Nat} (hp : L.Pairwise (· < ·)) {i j : Nat} (hi : i < L.length) (hj : j < L.length) (h : L.getD i 0 = L.getD j 0) : i = j := by
  rcases Nat.lt_trichotomy i j with z | z | z
  · have := tb_lt hp z hj; omega
  · exact z
  · have := tb_lt hp z hi; omega
theorem tb_le {L : List Nat} (hp : L.Pairwise (· < ·)) : ∀ i, i < L.length → i ≤ L.getD i 0 := by
  intro i
  induction i with
  | zero => intro _; omega
  | succ i ih =>
    intro h
    have := tb_lt (i := i) (j := i + 1) hp (by omega) h
    have := ih (by omega)
    omega
/-! the ints -/
theorem tb_sl : ∀ n, n < 32 → ((nI n &&& 31).toBitVec.smod 32).toNat = n := by decide +kernel
theorem nx_or (a b : Nat) : nI a ||| nI b = nI (a ||| b) := by
  apply Int32.toBitVec_inj.1
  show BitVec.ofNat 32 a ||| BitVec.ofNat 32 b = BitVec.ofNat 32 (a ||| b)
  apply BitVec.eq_of_getLsbD_eq
  intro i hi
  simp [hi]
theorem tb_shr {m s : Nat} (hm : m < 65536) (hs : s < 32) : nI m >>> (nI s &&& 31) = nI (m / 2 ^ s) := pk_shrN (by omega) _ s (tb_sl s hs)
theorem tb_bit {m s : Nat} (hm : m < 65536) (hs : s < 32) : (nI m >>> (nI s &&& 31)) &&& 1 = nI (m / 2 ^ s % 2) := by
  rw [tb_shr hm hs]
  exact pk_andN (Nat.lt_of_le_of_lt (Nat.div_le_self _ _) (by omega)) 1 (by decide)
theorem tb_ins {m s : Nat} (hm : m < 65536) (hs : s < 16) : vp_nar .char ((((nI m ||| ((((1 : Int32) <<< (nI s &&& 31)).toUInt32 % 65536).toInt32)).toUInt32 % 65536).toInt32)) = nI (m ||| 2 ^ s) := by
  have p : ∀ s, s < 16 → ((((1 : Int32) <<< (nI s &&& 31)).toUInt32 % 65536).toInt32) = nI (2 ^ s) := by decide +kernel
  have lt : m ||| 2 ^ s < 65536 := Nat.or_lt_two_pow (n := 16) hm (Nat.pow_lt_pow_right (by omega) hs)
  rw [pk_vc, p s hs, nx_or, pk_char, pk_tn (by omega), Nat.mod_eq_of_lt lt]
theorem tb_rem {m s : Nat} (hm : m < 65536) (hs : s < 16) : vp_nar .char ((((nI m &&& (((((1 : Int32) <<< (nI s &&& 31)) ^^^ (-1)).toUInt32 % 65536).toInt32)).toUInt32 % 65536).toInt32)) = nI (m &&& (2 ^ 16 - 1 - 2 ^ s)) := by
  have p : ∀ s, s < 16 → (((((1 : Int32) <<< (nI s &&& 31)) ^^^ (-1)).toUInt32 % 65536).toInt32) = nI (2 ^ 16 - 1 - 2 ^ s) := by decide +kernel
  have lt : m &&& (2 ^ 16 - 1 - 2 ^ s) < 65536 := Nat.lt_of_le_of_lt Nat.and_le_left hm
  rw [pk_vc, p s hs, nx_and, pk_char, pk_tn (by omega), Nat.mod_eq_of_lt lt]
theorem tb_cmp {k : Nat} (hk : k < 17) : vp_nar .char (((((1 : Int32) <<< (nI k &&& 31)) - 1).toUInt32 % 65536).toInt32) = nI (2 ^ k - 1) := by
  have p : ∀ k, k < 17 → (((((1 : Int32) <<< (nI k &&& 31)) - 1).toUInt32 % 65536).toInt32) = nI (2 ^ k - 1) := by decide +kernel
  rw [pk_vc, p k hk]
end
section
/-! ===== X: tables ===== -/
def zk_ok (cells zl zm : Nat → Int32) (col s : Nat) : Prop := ¬ cells (col * 16 + s) = -2147483648 → zl (col * 4 + s / 4) ≤ cells (col * 16 + s) ∧ cells (col * 16 + s) ≤ zm (col * 4 + s / 4)
/-- table t of X holds n rows R -/
def tx_ok (t n : Nat) (R : Nat → Nat → Int32) (cells live zl zm : Nat → Int32) : Prop :=
  ∃ m, m < 65536 ∧ live t = nI m ∧ (tb_bl 16 0 m).length = n ∧ (∀ i c, i < n → c < 3 → cells ((3 * t + c) * 16 + (tb_bl 16 0 m).getD i 0) = R i c) ∧ (∀ i c, i < n → c < 3 → zk_ok cells zl zm (3 * t + c) ((tb_bl 16 0 m).getD i 0))
theorem xt_bc {q : Int32 → Prop} {m : Nat} (hm : m < 65536) (h : q (nI (tb_bl 16 0 m).length)) : wpX_bitCount q (nI m) := by
  have main : ∀ (r n i m' : Nat), (tb_bl 16 0 m').length = r → m' < 65536 → i + r = (tb_bl 16 0 m).length → r < n → wX_bitCount_4 q n (nI i) (nI m') := by
    intro r
    induction r with
    | zero =>
      intro n i m' h1 h2 h3 h4
      obtain ⟨n, rfl⟩ := zb_ex h4
      have : m' = 0 := tb_nil (n := 16) h2 (List.length_eq_zero_iff.mp h1)
      subst this
      rw [wX_bitCount_4]
      rw [← show i = (tb_bl 16 0 m).length by omega] at h
      exact br_t rfl h
    | succ r ih =>
      intro n i m' h1 h2 h3 h4
      obtain ⟨n, rfl⟩ := zb_ex (show 0 < n by omega)
      have m0 : 0 < m' := by
        rcases Nat.eq_zero_or_pos m' with z | z
        · subst z; rw [tb_zero] at h1; cases h1
        · exact z
      have e : nI m' &&& (nI m' - 1) = nI (m' &&& (m' - 1)) := by
        obtain ⟨k, rfl⟩ := zb_ex m0
        rw [nI_pred, nx_and, Nat.add_sub_cancel]
      rw [wX_bitCount_4]
      refine br_f (nI_ne0 m0 (by omega)) (nm_r (nI_1 i) (nm_r e (ih n (i + 1) _ ?_ (Nat.lt_of_le_of_lt Nat.and_le_left h2) (by omega) (by omega))))
      rw [tb_clr (n := 16) h2 m0, List.length_tail]; omega
  exact ⟨(tb_bl 16 0 m).length + 1, main _ _ 0 m rfl hm (by omega) (by omega)⟩
section XTA
variable {f_nodes f_filterRoot f_valueRoot f_keyRoot f_partCount f_groups f_passed f_overflow : Int32}
variable {a_cells a_live a_zoneLeast a_zoneMost a_tokens a_constants a_lengths a_nodeOp a_nodeA a_nodeB a_nodeC a_needs a_wanted a_state a_work a_parts a_heads a_chain a_places a_sorted a_groupNull a_groupPairs a_groupValues : Nat → Int32}
variable {a_value a_groupKey a_groupSum a_groupLeast a_groupMost : Nat → Int64}
variable {t m : Nat}
theorem xt_47 {post : Int32 → Prop} {m' s : Nat} (hm : m' < 65536) (hs : s < 16) (h1 : m' / 2 ^ s % 2 = 1) (h0 : ∀ j, j < s → m' / 2 ^ j % 2 = 0) (K : post (nI s)) : ∀ (r n j : Nat), j + r = s → r < n → wX_slotOf_47 post (nI m') f_nodes f_filterRoot f_valueRoot f_keyRoot f_partCount f_groups f_passed f_overflow a_cells a_live a_zoneLeast a_zoneMost a_tokens a_constants a_lengths a_nodeOp a_nodeA a_nodeB a_nodeC a_needs a_wanted a_value a_state a_work a_parts a_heads a_chain a_places a_sorted a_groupNull a_groupKey a_groupPairs a_groupValues a_groupSum a_groupLeast a_groupMost n (nI j) := by
  intro r
  induction r with
  | zero =>
    intro n j hj hn
    obtain ⟨n, rfl⟩ := zb_ex hn
    have : j = s := by omega
    subst this
    rw [wX_slotOf_47]
    dsimp only
    rw [tb_bit hm (by omega), h1]
    exact br_f (by decide) K
  | succ r ih =>
    intro n j hj hn
    obtain ⟨n, rfl⟩ := zb_ex (show 0 < n by omega)
    rw [wX_slotOf_47]
    dsimp only
    rw [tb_bit hm (by omega), h0 j (by omega)]
    exact br_t rfl (nm_r (nI_1 j) (ih n (j + 1) (by omega) (by omega)))
theorem xt_slot {post : Int32 → Prop} {x : Int32} (ht : t < 2) (hm : m < 65536) (hl : a_live t = nI m) (K1 : ∀ p, p < (tb_bl 16 0 m).length → x = nI p → post (nI ((tb_bl 16 0 m).getD p 0))) (K0 : (x < 0 ∨ nI (tb_bl 16 0 m).length ≤ x) → post (-1)) : wpX_slotOf post (f_nodes, f_filterRoot, f_valueRoot, f_keyRoot, f_partCount, f_groups, f_passed, f_overflow, a_cells, a_live, a_zoneLeast, a_zoneMost, a_tokens, a_constants, a_lengths, a_nodeOp, a_nodeA, a_nodeB, a_nodeC, a_needs, a_wanted, a_value, a_state, a_work, a_parts, a_heads, a_chain, a_places, a_sorted, a_groupNull, a_groupKey, a_groupPairs, a_groupValues, a_groupSum, a_groupLeast, a_groupMost) (nI t) x := by
  unfold wpX_slotOf
  dsimp only
  rw [nI_clamp (show t < 2 ^ 31 by omega), hl]
  refine ⟨vp_in_nI ht (by omega), nm_e (br_c (fun h => ?_) (fun h => K0 (Or.inl (Int32.not_le.mp h))))⟩
  obtain ⟨p, hp, rfl⟩ := nI_of (Int32.not_lt.mpr h)
  have hlen := tb_len 16 0 m
  have s38 : ∀ (m' i : Nat), m' < 65536 → tb_bl 16 0 m' = (tb_bl 16 0 m).drop i → (i = p ∨ (tb_bl 16 0 m').length = 0 ∧ i ≤ p) → wX_slotOf_38 post (nI m') f_nodes f_filterRoot f_valueRoot f_keyRoot f_partCount f_groups f_passed f_overflow a_cells a_live a_zoneLeast a_zoneMost a_tokens a_constants a_lengths a_nodeOp a_nodeA a_nodeB a_nodeC a_needs a_wanted a_value a_state a_work a_parts a_heads a_chain a_places a_sorted a_groupNull a_groupKey a_groupPairs a_groupValues a_groupSum a_groupLeast a_groupMost := by
    intro m' i h1 h2 h3
    refine br_c (fun z => K0 (Or.inr ?_)) (fun z => ?_)
    · have : m' = 0 := zb_inj (b := 0) z (by omega) (by omega)
      subst this
      rw [tb_zero] at h2
      have := congrArg List.length h2
      rw [List.length_drop, List.length_nil] at this
      exact nI_le (by omega) hp
    · cases e : tb_bl 16 0 m' with
      | nil => exact absurd (by rw [tb_nil (n := 16) h1 e]; rfl) z
      | cons s rest =>
        rw [e] at h3
        have ip : i = p := h3.elim id (fun q => by simp at q)
        subst ip
        have b := tb_hd e
        have lt := (tb_mem (s := s) (by rw [e]; exact List.mem_cons_self ..)).2.1
        rw [Nat.sub_zero] at b
        have g : (tb_bl 16 0 m)[i]? = some s := by
          have := congrArg (fun l => l[0]?) (h2.symm.trans e)
          simpa using this
        have il : i < (tb_bl 16 0 m).length := (List.getElem?_eq_some_iff.mp g).1
        have k := K1 i il rfl
        rw [List.getD_eq_getElem?_getD, g] at k
        exact ⟨s + 1, xt_47 h1 (by omega) b.1 b.2 k s (s + 1) 0 (by omega) (by omega)⟩
  have main : ∀ (r n i m' : Nat), m' < 65536 → i + r = min p (tb_bl 16 0 m).length → tb_bl 16 0 m' = (tb_bl 16 0 m).drop i → r < n → wX_slotOf_16 post (nI p) f_nodes f_filterRoot f_valueRoot f_keyRoot f_partCount f_groups f_passed f_overflow a_cells a_live a_zoneLeast a_zoneMost a_tokens a_constants a_lengths a_nodeOp a_nodeA a_nodeB a_nodeC a_needs a_wanted a_value a_state a_work a_parts a_heads a_chain a_places a_sorted a_groupNull a_groupKey a_groupPairs a_groupValues a_groupSum a_groupLeast a_groupMost n (nI m') (nI i) := by
    intro r
    induction r with
    | zero =>
      intro n i m' h1 h2 h3 h4
      obtain ⟨n, rfl⟩ := zb_ex h4
      rw [wX_slotOf_16]
      by_cases q : p ≤ i
      · exact br_t (nI_le q (by omega)) (s38 m' i h1 h3 (Or.inl (by omega)))
      · have e : tb_bl 16 0 m' = [] := by rw [h3]; exact List.drop_eq_nil_of_le (by omega)
        have z : m' = 0 := tb_nil (n := 16) h1 e
        refine br_f (nI_ge (by omega) (by omega)) (br_t (by rw [z]; rfl) (s38 m' i h1 h3 (Or.inr ⟨by rw [e]; rfl, by omega⟩)))
    | succ r ih =>
      intro n i m' h1 h2 h3 h4
      obtain ⟨n, rfl⟩ := zb_ex (show 0 < n by omega)
      have m0 : 0 < m' := by
        rcases Nat.eq_zero_or_pos m' with z | z
        · subst z; rw [tb_zero] at h3
          have := congrArg List.length h3
          rw [List.length_drop, List.length_nil] at this
          omega
        · exact z
      have e : nI m' &&& (nI m' - 1) = nI (m' &&& (m' - 1)) := by
        obtain ⟨k, rfl⟩ := zb_ex m0
        rw [nI_pred, nx_and, Nat.add_sub_cancel]
      rw [wX_slotOf_16]
      refine br_f (nI_ge (by omega) (by omega)) (br_f (nI_ne0 m0 (by omega)) (nm_r e (nm_r (nI_1 i) (ih n (i + 1) _ (Nat.lt_of_le_of_lt Nat.and_le_left h1) (by omega) ?_ (by omega)))))
      rw [tb_clr (n := 16) h1 m0, h3, List.tail_drop]
  exact ⟨min p (tb_bl 16 0 m).length + 1, main (min p (tb_bl 16 0 m).length) _ 0 m hm (by omega) rfl (by omega)⟩
theorem xt_store {post : SX → Prop} {col s : Nat} {v : Int32} (hc : col < 6) (hs : s < 16)
    (K : ∀ zl' zm', (∀ z, z ≠ col * 4 + s / 4 → zl' z = a_zoneLeast z ∧ zm' z = a_zoneMost z) → (∀ c s', s' < 16 → (zk_ok a_cells a_zoneLeast a_zoneMost c s' ∨ (c = col ∧ s' = s)) → zk_ok (upd a_cells (col * 16 + s) v) zl' zm' c s') → post (f_nodes, f_filterRoot, f_valueRoot, f_keyRoot, f_partCount, f_groups, f_passed, f_overflow, upd a_cells (col * 16 + s) v, a_live, zl', zm', a_tokens, a_constants, a_lengths, a_nodeOp, a_nodeA, a_nodeB, a_nodeC, a_needs, a_wanted, a_value, a_state, a_work, a_parts, a_heads, a_chain, a_places, a_sorted, a_groupNull, a_groupKey, a_groupPairs, a_groupValues, a_groupSum, a_groupLeast, a_groupMost)) : wpX_store post (f_nodes, f_filterRoot, f_valueRoot, f_keyRoot, f_partCount, f_groups, f_passed, f_overflow, a_cells, a_live, a_zoneLeast, a_zoneMost, a_tokens, a_constants, a_lengths, a_nodeOp, a_nodeA, a_nodeB, a_nodeC, a_needs, a_wanted, a_value, a_state, a_work, a_parts, a_heads, a_chain, a_places, a_sorted, a_groupNull, a_groupKey, a_groupPairs, a_groupValues, a_groupSum, a_groupLeast, a_groupMost) (nI col) (nI s) v := by
  have e1 : nI col * 16 + nI s = nI (col * 16 + s) := by rw [show (16 : Int32) = nI 16 from rfl, pk_mul, nI_add]
  have e2 : nI col * 4 + (nI s >>> ((2 : Int32) &&& 31)) = nI (col * 4 + s / 4) := by
    rw [show (4 : Int32) = nI 4 from rfl, pk_mul, pk_shrN (by omega) _ 2 (by decide), nI_add]
  have w2 : vp_in (nI (col * 4 + s / 4)) 24 := vp_in_nI (by omega) (by omega)
  unfold wpX_store
  dsimp only
  rw [e1, e2, nI_clamp (by omega)]
  -- the bounds: any that are wider and hold v
  have key : ∀ zl' zm', (∀ z, z ≠ col * 4 + s / 4 → zl' z = a_zoneLeast z ∧ zm' z = a_zoneMost z) → zl' (col * 4 + s / 4) ≤ a_zoneLeast (col * 4 + s / 4) → a_zoneMost (col * 4 + s / 4) ≤ zm' (col * 4 + s / 4) → (¬ v = -2147483648 → zl' (col * 4 + s / 4) ≤ v ∧ v ≤ zm' (col * 4 + s / 4)) → post (f_nodes, f_filterRoot, f_valueRoot, f_keyRoot, f_partCount, f_groups, f_passed, f_overflow, upd a_cells (col * 16 + s) v, a_live, zl', zm', a_tokens, a_constants, a_lengths, a_nodeOp, a_nodeA, a_nodeB, a_nodeC, a_needs, a_wanted, a_value, a_state, a_work, a_parts, a_heads, a_chain, a_places, a_sorted, a_groupNull, a_groupKey, a_groupPairs, a_groupValues, a_groupSum, a_groupLeast, a_groupMost) := by
    intro zl' zm' h1 h2 h3 h4
    refine K zl' zm' h1 (fun c s' hs' h => ?_)
    intro hne
    by_cases q : c = col ∧ s' = s
    · obtain ⟨rfl, rfl⟩ := q
      rw [pk_us] at hne ⊢
      exact h4 hne
    · have ne : c * 16 + s' ≠ col * 16 + s := by omega
      rw [pk_un ne] at hne ⊢
      obtain ⟨a, b⟩ := (h.resolve_right q) hne
      by_cases z : c * 4 + s' / 4 = col * 4 + s / 4
      · rw [z] at a b ⊢
        exact ⟨Int32.le_trans h2 a, Int32.le_trans b h3⟩
      · rw [(h1 _ z).1, (h1 _ z).2]; exact ⟨a, b⟩
  refine ⟨vp_in_nI (by omega) (by omega), nm_e (nm_e (br_c (fun h => ?_) (fun h => ⟨w2, ?_⟩)))⟩
  · exact key _ _ (fun _ _ => ⟨rfl, rfl⟩) (Int32.le_refl _) (Int32.le_refl _) (fun z => absurd h z)
  · rw [nI_clamp (show col * 4 + s / 4 < 2 ^ 31 by omega)]
    have c3 : (nI (col * 4 + s / 4)).toNatClampNeg = col * 4 + s / 4 := nI_clamp (by omega)
    refine br_c (fun le => ?_) (fun nle => ⟨w2, nm_e ?_⟩)
    · unfold wX_store_47
      rw [c3]
      refine ⟨w2, br_c (fun le2 => key _ _ (fun _ _ => ⟨rfl, rfl⟩) (Int32.le_refl _) (Int32.le_refl _) (fun _ => ⟨le, le2⟩)) (fun nle2 => ⟨w2, nm_e ?_⟩)⟩
      have lt := Int32.not_le.mp nle2
      exact key _ _ (fun z hz => ⟨rfl, pk_un hz⟩) (Int32.le_refl _) (by rw [pk_us]; exact Int32.le_of_lt lt) (fun _ => ⟨le, by rw [pk_us]; exact Int32.le_refl _⟩)
    · have lt := Int32.not_le.mp nle
      unfold wX_store_47
      rw [c3]
      refine ⟨w2, br_c (fun le2 => key _ _ (fun z hz => ⟨pk_un hz, rfl⟩) (by rw [pk_us]; exact Int32.le_of_lt lt) (Int32.le_refl _) (fun _ => ⟨by rw [pk_us]; exact Int32.le_refl _, le2⟩)) (fun nle2 => ⟨w2, nm_e ?_⟩)⟩
      have lt2 := Int32.not_le.mp nle2
      exact key _ _ (fun z hz => ⟨pk_un hz, pk_un hz⟩) (by rw [pk_us]; exact Int32.le_of_lt lt) (by rw [pk_us]; exact Int32.le_of_lt lt2) (fun _ => ⟨by rw [pk_us]; exact Int32.le_refl _, by rw [pk_us]; exact Int32.le_refl _⟩)
theorem xt_reset {post : SX → Prop} {k : Nat} (hk : k < 24) (K : post (f_nodes, f_filterRoot, f_valueRoot, f_keyRoot, f_partCount, f_groups, f_passed, f_overflow, a_cells, a_live, upd a_zoneLeast k 2147483647, upd a_zoneMost k (-2147483648), a_tokens, a_constants, a_lengths, a_nodeOp, a_nodeA, a_nodeB, a_nodeC, a_needs, a_wanted, a_value, a_state, a_work, a_parts, a_heads, a_chain, a_places, a_sorted, a_groupNull, a_groupKey, a_groupPairs, a_groupValues, a_groupSum, a_groupLeast, a_groupMost)) : wpX_resetZone post (f_nodes, f_filterRoot, f_valueRoot, f_keyRoot, f_partCount, f_groups, f_passed, f_overflow, a_cells, a_live, a_zoneLeast, a_zoneMost, a_tokens, a_constants, a_lengths, a_nodeOp, a_nodeA, a_nodeB, a_nodeC, a_needs, a_wanted, a_value, a_state, a_work, a_parts, a_heads, a_chain, a_places, a_sorted, a_groupNull, a_groupKey, a_groupPairs, a_groupValues, a_groupSum, a_groupLeast, a_groupMost) (nI k) := by
  have w : vp_in (nI k) 24 := vp_in_nI hk (by omega)
  unfold wpX_resetZone
  dsimp only
  rw [nI_clamp (by omega)]
  exact ⟨w, nm_e ⟨w, nm_e K⟩⟩
/-! compact -/
theorem xt_55 {post : SX → Prop} {J : Int32 → Int32 → Int32 → Int32 → Int32 → Int32 → Int32 → Int32 → Int32 → Int32 → (Nat → Int32) → (Nat → Int32) → (Nat → Int32) → (Nat → Int32) → (Nat → Int32) → (Nat → Int32) → (Nat → Int32) → (Nat → Int32) → (Nat → Int32) → (Nat → Int32) → (Nat → Int32) → (Nat → Int32) → (Nat → Int32) → (Nat → Int64) → (Nat → Int32) → (Nat → Int32) → (Nat → Int32) → (Nat → Int32) → (Nat → Int32) → (Nat → Int32) → (Nat → Int32) → (Nat → Int32) → (Nat → Int64) → (Nat → Int32) → (Nat → Int32) → (Nat → Int64) → (Nat → Int64) → (Nat → Int64) → Prop} {to x : Nat} (ht : t < 2) (hto : to ≤ x) (hx : x < 16) :
    ∀ (r n c : Nat) (cells zl zm : Nat → Int32), c + r = 3 → r < n →
    (∀ cells' zl' zm', (∀ d j, d < 3 → j < 16 → cells' ((3 * t + d) * 16 + j) = if c ≤ d ∧ j = to then cells ((3 * t + d) * 16 + x) else cells ((3 * t + d) * 16 + j)) → (∀ col j, col < 6 → j < 16 → (∀ d, d < 3 → col ≠ 3 * t + d) → cells' (col * 16 + j) = cells (col * 16 + j)) → (∀ z, z < 24 → (∀ d, d < 3 → z / 4 ≠ 3 * t + d) → zl' z = zl z ∧ zm' z = zm z) →
      (∀ col j, j < 16 → (zk_ok cells zl zm col j ∨ (∃ d, c ≤ d ∧ d < 3 ∧ col = 3 * t + d ∧ j = to)) → zk_ok cells' zl' zm' col j) → J (nI (to + 1)) (nI (x + 1)) f_nodes f_filterRoot f_valueRoot f_keyRoot f_partCount f_groups f_passed f_overflow cells' a_live zl' zm' a_tokens a_constants a_lengths a_nodeOp a_nodeA a_nodeB a_nodeC a_needs a_wanted a_value a_state a_work a_parts a_heads a_chain a_places a_sorted a_groupNull a_groupKey a_groupPairs a_groupValues a_groupSum a_groupLeast a_groupMost) →
    wX_compact_55 post J (nI t) (nI to) (nI x) n (nI (3 * t + c)) f_nodes f_filterRoot f_valueRoot f_keyRoot f_partCount f_groups f_passed f_overflow cells a_live zl zm a_tokens a_constants a_lengths a_nodeOp a_nodeA a_nodeB a_nodeC a_needs a_wanted a_value a_state a_work a_parts a_heads a_chain a_places a_sorted a_groupNull a_groupKey a_groupPairs a_groupValues a_groupSum a_groupLeast a_groupMost := by
  have e3 : nI t * 3 + 3 = nI (3 * t + 3) := by rw [show (3 : Int32) = nI 3 from rfl, pk_mul, nI_add, Nat.mul_comm]
  intro r
  induction r with
  | zero =>
    intro n c cells zl zm hc hn K
    obtain ⟨n, rfl⟩ := zb_ex hn
    have : c = 3 := by omega
    subst this
    rw [wX_compact_55]
    dsimp only
    rw [e3]
    refine br_t (nI_le (Nat.le_refl _) (by omega)) (nm_r (nI_1 to) (nm_r (nI_1 x) (K cells zl zm (fun d j hd hj => ?_) (fun _ _ _ _ _ => rfl) (fun _ _ _ => ⟨rfl, rfl⟩) (fun col j hj h => ?_))))
    · rw [if_neg (by omega)]
    · rcases h with h | ⟨d, h1, h2, _⟩
      · exact h
      · omega
  | succ r ih =>
    intro n c cells zl zm hc hn K
    obtain ⟨n, rfl⟩ := zb_ex (show 0 < n by omega)
    have e1 : nI (3 * t + c) * 16 + nI x = nI ((3 * t + c) * 16 + x) := by rw [show (16 : Int32) = nI 16 from rfl, pk_mul, nI_add]
    rw [wX_compact_55]
    dsimp only
    rw [e3, e1, nI_clamp (show (3 * t + c) * 16 + x < 2 ^ 31 by omega)]
    refine br_f (nI_ge (by omega) (by omega)) ⟨vp_in_nI (by omega) (by omega), xt_store (col := 3 * t + c) (s := to) (by omega) (by omega) (fun zl' zm' hz hk => nm_r (nI_1 _) ?_)⟩
    refine ih n (c + 1) (upd cells ((3 * t + c) * 16 + to) (cells ((3 * t + c) * 16 + x))) zl' zm' (by omega) (by omega) (fun cells' zl2 zm2 h1 h2 h3 h4 => K cells' zl2 zm2 (fun d j hd hj => ?_) (fun col j hcol hj hne => ?_) (fun z hz1 hz2 => ?_) (fun col j hj h => ?_))
    · rw [h1 d j hd hj]
      by_cases a : c + 1 ≤ d ∧ j = to
      · rw [if_pos a, if_pos ⟨by omega, a.2⟩, pk_un (by omega)]
      · rw [if_neg a]
        by_cases b : c ≤ d ∧ j = to
        · have : d = c := by omega
          subst this
          obtain ⟨_, rfl⟩ := b
          rw [if_pos ⟨by omega, rfl⟩, pk_us]
        · rw [if_neg b, pk_un (by omega)]
    · rw [h2 col j hcol hj hne, pk_un]
      have := hne c (by omega)
      omega
    · obtain ⟨a, b⟩ := h3 z hz1 hz2
      have := hz2 c (by omega)
      obtain ⟨a', b'⟩ := hz z (by omega)
      exact ⟨a.trans a', b.trans b'⟩
    · refine h4 col j hj ?_
      rcases h with h | ⟨d, q1, q2, q3, q4⟩
      · exact Or.inl (hk col j hj (Or.inl h))
      · by_cases e : d = c
        · subst e; exact Or.inl (hk col j hj (Or.inr ⟨q3, q4⟩))
        · exact Or.inr ⟨d, by omega, q2, q3, q4⟩
end XTA
end
section
/-! ===== X: compact, insert, remove, set, cell, rows ===== -/
/-- only table t is touched -/
def tx_of (t : Nat) (cells live zl zm cells' live' zl' zm' : Nat → Int32) : Prop :=
  (∀ col j, col < 6 → j < 16 → (∀ d, d < 3 → col ≠ 3 * t + d) → cells' (col * 16 + j) = cells (col * 16 + j)) ∧ (∀ z, z < 24 → (∀ d, d < 3 → z / 4 ≠ 3 * t + d) → zl' z = zl z ∧ zm' z = zm z) ∧ (∀ t', t' ≠ t → live' t' = live t')
theorem tx_of_tr {t : Nat} {c l a b c' l' a' b' c2 l2 a2 b2 : Nat → Int32} (h : tx_of t c l a b c' l' a' b') (g : tx_of t c' l' a' b' c2 l2 a2 b2) : tx_of t c l a b c2 l2 a2 b2 :=
  ⟨fun col j h1 h2 h3 => (g.1 col j h1 h2 h3).trans (h.1 col j h1 h2 h3), fun z h1 h2 => ⟨(g.2.1 z h1 h2).1.trans (h.2.1 z h1 h2).1, (g.2.1 z h1 h2).2.trans (h.2.1 z h1 h2).2⟩, fun t' ht => (g.2.2 t' ht).trans (h.2.2 t' ht)⟩
theorem tx_fr {t t' n : Nat} {R : Nat → Nat → Int32} {c l a b c' l' a' b' : Nat → Int32} (ht : t' < 2) (hn : t' ≠ t) (hb : t < 2) (F : tx_of t c l a b c' l' a' b') (H : tx_ok t' n R c l a b) : tx_ok t' n R c' l' a' b' := by
  obtain ⟨m, h1, h2, h3, h4, h5⟩ := H
  have lt : ∀ i, i < n → (tb_bl 16 0 m).getD i 0 < 16 := fun i hi => by have := (tb_mem (tb_gm (by rw [h3]; exact hi))).2.1; omega
  have ce : ∀ i d, i < n → d < 3 → c' ((3 * t' + d) * 16 + (tb_bl 16 0 m).getD i 0) = c ((3 * t' + d) * 16 + (tb_bl 16 0 m).getD i 0) := fun i d hi hd => F.1 (3 * t' + d) _ (by omega) (lt i hi) (fun d' hd' => by omega)
  refine ⟨m, h1, (F.2.2 t' hn).trans h2, h3, fun i d hi hd => (ce i d hi hd).trans (h4 i d hi hd), fun i d hi hd => ?_⟩
  have z := F.2.1 ((3 * t' + d) * 4 + (tb_bl 16 0 m).getD i 0 / 4) (by have := lt i hi; omega) (fun d' hd' => by have := lt i hi; omega)
  unfold zk_ok
  rw [ce i d hi hd, z.1, z.2]
  exact h5 i d hi hd
section XT2
variable {f_nodes f_filterRoot f_valueRoot f_keyRoot f_partCount f_groups f_passed f_overflow : Int32}
variable {a_cells a_live a_zoneLeast a_zoneMost a_tokens a_constants a_lengths a_nodeOp a_nodeA a_nodeB a_nodeC a_needs a_wanted a_state a_work a_parts a_heads a_chain a_places a_sorted a_groupNull a_groupPairs a_groupValues : Nat → Int32}
variable {a_value a_groupKey a_groupSum a_groupLeast a_groupMost : Nat → Int64}
variable {t m : Nat}
theorem xt_31 {post : SX → Prop} (ht : t < 2) (hm : m < 65536) (hl : a_live t = nI m)
    (K : ∀ cells' zl' zm', (∀ d i, d < 3 → i < (tb_bl 16 0 m).length → cells' ((3 * t + d) * 16 + i) = a_cells ((3 * t + d) * 16 + (tb_bl 16 0 m).getD i 0)) → (∀ d i, d < 3 → i < (tb_bl 16 0 m).length → zk_ok cells' zl' zm' (3 * t + d) i) → tx_of t a_cells a_live a_zoneLeast a_zoneMost cells' (upd a_live t (nI (2 ^ (tb_bl 16 0 m).length - 1))) zl' zm' → post (f_nodes, f_filterRoot, f_valueRoot, f_keyRoot, f_partCount, f_groups, f_passed, f_overflow, cells', upd a_live t (nI (2 ^ (tb_bl 16 0 m).length - 1)), zl', zm', a_tokens, a_constants, a_lengths, a_nodeOp, a_nodeA, a_nodeB, a_nodeC, a_needs, a_wanted, a_value, a_state, a_work, a_parts, a_heads, a_chain, a_places, a_sorted, a_groupNull, a_groupKey, a_groupPairs, a_groupValues, a_groupSum, a_groupLeast, a_groupMost)) :
    ∀ (r n x : Nat) (cells zl zm : Nat → Int32), x + r = 16 → r < n →
      (∀ d i, d < 3 → i < (tb_bl x 0 m).length → cells ((3 * t + d) * 16 + i) = a_cells ((3 * t + d) * 16 + (tb_bl x 0 m).getD i 0)) → (∀ d j, d < 3 → (tb_bl x 0 m).length ≤ j → j < 16 → cells ((3 * t + d) * 16 + j) = a_cells ((3 * t + d) * 16 + j)) → (∀ d i, d < 3 → i < (tb_bl x 0 m).length → zk_ok cells zl zm (3 * t + d) i) →
      tx_of t a_cells a_live a_zoneLeast a_zoneMost cells a_live zl zm →
      wX_compact_31 post (nI t) n (nI (tb_bl x 0 m).length) (nI x) f_nodes f_filterRoot f_valueRoot f_keyRoot f_partCount f_groups f_passed f_overflow cells a_live zl zm a_tokens a_constants a_lengths a_nodeOp a_nodeA a_nodeB a_nodeC a_needs a_wanted a_value a_state a_work a_parts a_heads a_chain a_places a_sorted a_groupNull a_groupKey a_groupPairs a_groupValues a_groupSum a_groupLeast a_groupMost := by
  have ct : (nI t).toNatClampNeg = t := nI_clamp (by omega)
  have wt : vp_in (nI t) 2 := vp_in_nI ht (by omega)
  intro r
  induction r with
  | zero =>
    intro n x cells zl zm hx hn h1 h2 h3 h4
    obtain ⟨n, rfl⟩ := zb_ex hn
    have : x = 16 := by omega
    subst this
    have le := tb_len 16 0 m
    rw [wX_compact_31]
    dsimp only
    rw [ct, tb_cmp (by omega)]
    exact br_t (by decide) ⟨wt, nm_e (K cells zl zm h1 h3 ⟨h4.1, h4.2.1, fun t' ht' => pk_un ht'⟩)⟩
  | succ r ih =>
    intro n x cells zl zm hx hn h1 h2 h3 h4
    obtain ⟨n, rfl⟩ := zb_ex (show 0 < n by omega)
    have le := tb_len x 0 m
    have sn := tb_snoc x 0 m
    rw [Nat.zero_add] at sn
    rw [wX_compact_31]
    dsimp only
    rw [ct, hl, tb_bit hm (by omega)]
    refine br_f (nI_ge (b := 16) (by omega) (by decide)) ⟨wt, br_c (fun z => nm_r (nI_1 x) ?_) (fun z => ?_)⟩
    · have b0 : ¬ m / 2 ^ x % 2 = 1 := fun q => by rw [q] at z; exact absurd z (by decide)
      rw [if_neg b0, List.append_nil] at sn
      have := ih n (x + 1) cells zl zm (by omega) (by omega) (by rw [sn]; exact h1) (by rw [sn]; exact h2) (by rw [sn]; exact h3) h4
      rw [sn] at this
      exact this
    · have b1 : m / 2 ^ x % 2 = 1 := by
        rcases Nat.mod_two_eq_zero_or_one (m / 2 ^ x) with q | q
        · rw [q] at z; exact absurd rfl z
        · exact q
      rw [if_pos b1] at sn
      have sl : (tb_bl (x + 1) 0 m).length = (tb_bl x 0 m).length + 1 := by rw [sn]; simp
      have e3 : nI t * 3 = nI (3 * t + 0) := by rw [show (3 : Int32) = nI 3 from rfl, pk_mul, Nat.mul_comm]; rfl
      refine nm_r e3 ⟨4, xt_55 (to := (tb_bl x 0 m).length) (x := x) ht le (by omega) 3 4 0 cells zl zm (by omega) (by omega) (fun cells' zl' zm' k1 k2 k3 k4 => ?_)⟩
      have gl : ∀ i, i < (tb_bl x 0 m).length → (tb_bl (x + 1) 0 m).getD i 0 = (tb_bl x 0 m).getD i 0 := by
        intro i hi
        rw [sn, List.getD_eq_getElem?_getD, List.getElem?_append_left hi, List.getD_eq_getElem?_getD]
      have gr : (tb_bl (x + 1) 0 m).getD (tb_bl x 0 m).length 0 = x := by
        rw [sn, List.getD_eq_getElem?_getD, List.getElem?_append_right (Nat.le_refl _), Nat.sub_self]; rfl
      have := ih n (x + 1) cells' zl' zm' (by omega) (by omega)
        (fun d i hd hi => by
          rw [sl] at hi
          rw [k1 d i hd (by omega)]
          by_cases e : i = (tb_bl x 0 m).length
          · subst e
            rw [if_pos ⟨by omega, rfl⟩, gr, h2 d x hd le (by omega)]
          · rw [if_neg (by omega), gl i (by omega)]
            exact h1 d i hd (by omega))
        (fun d j hd hj1 hj2 => by
          rw [sl] at hj1
          rw [k1 d j hd hj2, if_neg (by omega)]
          exact h2 d j hd (by omega) hj2)
        (fun d i hd hi => by
          rw [sl] at hi
          refine k4 (3 * t + d) i (by omega) ?_
          by_cases e : i = (tb_bl x 0 m).length
          · exact Or.inr ⟨d, by omega, hd, rfl, e⟩
          · exact Or.inl (h3 d i hd (by omega)))
        (tx_of_tr h4 ⟨k2, k3, fun _ _ => rfl⟩)
      rw [sl] at this
      exact this
theorem xt_compact {post : SX → Prop} (ht : t < 2) (hm : m < 65536) (hl : a_live t = nI m)
    (K : ∀ cells' zl' zm', (∀ d i, d < 3 → i < (tb_bl 16 0 m).length → cells' ((3 * t + d) * 16 + i) = a_cells ((3 * t + d) * 16 + (tb_bl 16 0 m).getD i 0)) → (∀ d i, d < 3 → i < (tb_bl 16 0 m).length → zk_ok cells' zl' zm' (3 * t + d) i) → tx_of t a_cells a_live a_zoneLeast a_zoneMost cells' (upd a_live t (nI (2 ^ (tb_bl 16 0 m).length - 1))) zl' zm' → post (f_nodes, f_filterRoot, f_valueRoot, f_keyRoot, f_partCount, f_groups, f_passed, f_overflow, cells', upd a_live t (nI (2 ^ (tb_bl 16 0 m).length - 1)), zl', zm', a_tokens, a_constants, a_lengths, a_nodeOp, a_nodeA, a_nodeB, a_nodeC, a_needs, a_wanted, a_value, a_state, a_work, a_parts, a_heads, a_chain, a_places, a_sorted, a_groupNull, a_groupKey, a_groupPairs, a_groupValues, a_groupSum, a_groupLeast, a_groupMost)) : wpX_compact post (f_nodes, f_filterRoot, f_valueRoot, f_keyRoot, f_partCount, f_groups, f_passed, f_overflow, a_cells, a_live, a_zoneLeast, a_zoneMost, a_tokens, a_constants, a_lengths, a_nodeOp, a_nodeA, a_nodeB, a_nodeC, a_needs, a_wanted, a_value, a_state, a_work, a_parts, a_heads, a_chain, a_places, a_sorted, a_groupNull, a_groupKey, a_groupPairs, a_groupValues, a_groupSum, a_groupLeast, a_groupMost) (nI t) := by
  have e12 : nI t * 12 = nI (12 * t + 0) := by rw [show (12 : Int32) = nI 12 from rfl, pk_mul, Nat.mul_comm]; rfl
  have e24 : nI t * 12 + 12 = nI (12 * t + 12) := by rw [show (12 : Int32) = nI 12 from rfl, pk_mul, nI_add, Nat.mul_comm]
  have main : ∀ (r n k : Nat) (zl zm : Nat → Int32), k + r = 12 → r < n → tx_of t a_cells a_live a_zoneLeast a_zoneMost a_cells a_live zl zm → wX_compact_7 post (nI t) 0 n (nI (12 * t + k)) f_nodes f_filterRoot f_valueRoot f_keyRoot f_partCount f_groups f_passed f_overflow a_cells a_live zl zm a_tokens a_constants a_lengths a_nodeOp a_nodeA a_nodeB a_nodeC a_needs a_wanted a_value a_state a_work a_parts a_heads a_chain a_places a_sorted a_groupNull a_groupKey a_groupPairs a_groupValues a_groupSum a_groupLeast a_groupMost := by
    intro r
    induction r with
    | zero =>
      intro n k zl zm hk hn F
      obtain ⟨n, rfl⟩ := zb_ex hn
      have : k = 12 := by omega
      subst this
      rw [wX_compact_7]
      dsimp only
      rw [e24]
      refine br_t (nI_le (Nat.le_refl _) (by omega)) ⟨17, ?_⟩
      exact xt_31 (f_nodes := f_nodes) (f_filterRoot := f_filterRoot) (f_valueRoot := f_valueRoot) (f_keyRoot := f_keyRoot) (f_partCount := f_partCount) (f_groups := f_groups) (f_passed := f_passed) (f_overflow := f_overflow) (a_cells := a_cells) (a_live := a_live) (a_zoneLeast := zl) (a_zoneMost := zm) (a_tokens := a_tokens) (a_constants := a_constants) (a_lengths := a_lengths) (a_nodeOp := a_nodeOp) (a_nodeA := a_nodeA) (a_nodeB := a_nodeB) (a_nodeC := a_nodeC) (a_needs := a_needs) (a_wanted := a_wanted) (a_value := a_value) (a_state := a_state) (a_work := a_work) (a_parts := a_parts) (a_heads := a_heads) (a_chain := a_chain) (a_places := a_places) (a_sorted := a_sorted) (a_groupNull := a_groupNull) (a_groupKey := a_groupKey) (a_groupPairs := a_groupPairs) (a_groupValues := a_groupValues) (a_groupSum := a_groupSum) (a_groupLeast := a_groupLeast) (a_groupMost := a_groupMost) ht hm hl (fun cells' zl' zm' k1 k2 k3 => K cells' zl' zm' k1 k2 (tx_of_tr F k3)) 16 17 0 a_cells zl zm (by omega) (by omega) (fun d i _ hi => absurd hi (Nat.not_lt_zero _)) (fun _ _ _ _ _ => rfl) (fun d i _ hi => absurd hi (Nat.not_lt_zero _)) ⟨fun _ _ _ _ _ => rfl, fun _ _ _ => ⟨rfl, rfl⟩, fun _ _ => rfl⟩
    | succ r ih =>
      intro n k zl zm hk hn F
      obtain ⟨n, rfl⟩ := zb_ex (show 0 < n by omega)
      rw [wX_compact_7]
      dsimp only
      rw [e24]
      refine br_f (nI_ge (by omega) (by omega)) (xt_reset (by omega) (nm_r (nI_1 _) (ih n (k + 1) (upd zl (12 * t + k) 2147483647) (upd zm (12 * t + k) (-2147483648)) (by omega) (by omega) (tx_of_tr F ⟨fun _ _ _ _ _ => rfl, fun z hz1 hz2 => ?_, fun _ _ => rfl⟩))))
      have := hz2 (k / 4) (by omega)
      exact ⟨pk_un (by omega), pk_un (by omega)⟩
  exact nm_r e12 ⟨13, main 12 13 0 a_zoneLeast a_zoneMost (by omega) (by omega) ⟨fun _ _ _ _ _ => rfl, fun _ _ _ => ⟨rfl, rfl⟩, fun _ _ => rfl⟩⟩
/-- a row's three cells -/
def tx_r3 (a b c : Int32) (k : Nat) : Int32 := if k = 0 then a else if k = 1 then b else c
def tx_ins (R : Nat → Nat → Int32) (n : Nat) (a b c : Int32) : Nat → Nat → Int32 := fun i k => if i = n then tx_r3 a b c k else R i k
theorem xt_52 {post : Int32 → SX → Prop} {n : Nat} {R : Nat → Nat → Int32} {a b c x5 : Int32} (ht : t < 2) (hm : m < 32768) (hl : a_live t = nI m) (hn : (tb_bl 16 0 m).length = n) (h4 : ∀ i c, i < n → c < 3 → a_cells ((3 * t + c) * 16 + (tb_bl 16 0 m).getD i 0) = R i c) (h5 : ∀ i c, i < n → c < 3 → zk_ok a_cells a_zoneLeast a_zoneMost (3 * t + c) ((tb_bl 16 0 m).getD i 0))
    (K : ∀ cells' live' zl' zm', tx_ok t (n + 1) (tx_ins R n a b c) cells' live' zl' zm' → tx_of t a_cells a_live a_zoneLeast a_zoneMost cells' live' zl' zm' → post (x5 + 1) (f_nodes, f_filterRoot, f_valueRoot, f_keyRoot, f_partCount, f_groups, f_passed, f_overflow, cells', live', zl', zm', a_tokens, a_constants, a_lengths, a_nodeOp, a_nodeA, a_nodeB, a_nodeC, a_needs, a_wanted, a_value, a_state, a_work, a_parts, a_heads, a_chain, a_places, a_sorted, a_groupNull, a_groupKey, a_groupPairs, a_groupValues, a_groupSum, a_groupLeast, a_groupMost)) :
    ∀ (r f s : Nat), s + r = 15 → r < f → wX_insert_52 post (nI t) a b c x5 f_nodes f_filterRoot f_valueRoot f_keyRoot f_partCount f_groups f_passed f_overflow a_cells a_live a_zoneLeast a_zoneMost a_tokens a_constants a_lengths a_nodeOp a_nodeA a_nodeB a_nodeC a_needs a_wanted a_value a_state a_work a_parts a_heads a_chain a_places a_sorted a_groupNull a_groupKey a_groupPairs a_groupValues a_groupSum a_groupLeast a_groupMost f (nI s) := by
  have ct : (nI t).toNatClampNeg = t := nI_clamp (by omega)
  have wt : vp_in (nI t) 2 := vp_in_nI ht (by omega)
  have e0 : nI t * 3 = nI (3 * t + 0) := by rw [show (3 : Int32) = nI 3 from rfl, pk_mul, Nat.mul_comm]; rfl
  have e1 : nI (3 * t + 0) + 1 = nI (3 * t + 1) := nI_1 _
  have e2 : nI (3 * t + 0) + 2 = nI (3 * t + 2) := nI_add (3 * t + 0) 2
  have place : ∀ s, s < 16 → m < 2 ^ s → wpX_store (fun u => match u with | (f_nodes, f_filterRoot, f_valueRoot, f_keyRoot, f_partCount, f_groups, f_passed, f_overflow, a_cells, a_live, a_zoneLeast, a_zoneMost, a_tokens, a_constants, a_lengths, a_nodeOp, a_nodeA, a_nodeB, a_nodeC, a_needs, a_wanted, a_value, a_state, a_work, a_parts, a_heads, a_chain, a_places, a_sorted, a_groupNull, a_groupKey, a_groupPairs, a_groupValues, a_groupSum, a_groupLeast, a_groupMost) => wpX_store (fun u => match u with | (f_nodes, f_filterRoot, f_valueRoot, f_keyRoot, f_partCount, f_groups, f_passed, f_overflow, a_cells, a_live, a_zoneLeast, a_zoneMost, a_tokens, a_constants, a_lengths, a_nodeOp, a_nodeA, a_nodeB, a_nodeC, a_needs, a_wanted, a_value, a_state, a_work, a_parts, a_heads, a_chain, a_places, a_sorted, a_groupNull, a_groupKey, a_groupPairs, a_groupValues, a_groupSum, a_groupLeast, a_groupMost) => wpX_store (fun u => match u with | (f_nodes, f_filterRoot, f_valueRoot, f_keyRoot, f_partCount, f_groups, f_passed, f_overflow, a_cells, a_live, a_zoneLeast, a_zoneMost, a_tokens, a_constants, a_lengths, a_nodeOp, a_nodeA, a_nodeB, a_nodeC, a_needs, a_wanted, a_value, a_state, a_work, a_parts, a_heads, a_chain, a_places, a_sorted, a_groupNull, a_groupKey, a_groupPairs, a_groupValues, a_groupSum, a_groupLeast, a_groupMost) => vp_in (nI t) 2 ∧ (vp_in (nI t) 2 ∧ ∀ l2, l2 = upd a_live (nI t).toNatClampNeg (vp_nar .char ((((a_live (nI t).toNatClampNeg) ||| ((((1 : Int32) <<< (nI s &&& 31)).toUInt32 % 65536).toInt32)).toUInt32 % 65536).toInt32)) → post (x5 + 1) (f_nodes, f_filterRoot, f_valueRoot, f_keyRoot, f_partCount, f_groups, f_passed, f_overflow, a_cells, l2, a_zoneLeast, a_zoneMost, a_tokens, a_constants, a_lengths, a_nodeOp, a_nodeA, a_nodeB, a_nodeC, a_needs, a_wanted, a_value, a_state, a_work, a_parts, a_heads, a_chain, a_places, a_sorted, a_groupNull, a_groupKey, a_groupPairs, a_groupValues, a_groupSum, a_groupLeast, a_groupMost))) (f_nodes, f_filterRoot, f_valueRoot, f_keyRoot, f_partCount, f_groups, f_passed, f_overflow, a_cells, a_live, a_zoneLeast, a_zoneMost, a_tokens, a_constants, a_lengths, a_nodeOp, a_nodeA, a_nodeB, a_nodeC, a_needs, a_wanted, a_value, a_state, a_work, a_parts, a_heads, a_chain, a_places, a_sorted, a_groupNull, a_groupKey, a_groupPairs, a_groupValues, a_groupSum, a_groupLeast, a_groupMost) (nI t * 3 + 2) (nI s) c) (f_nodes, f_filterRoot, f_valueRoot, f_keyRoot, f_partCount, f_groups, f_passed, f_overflow, a_cells, a_live, a_zoneLeast, a_zoneMost, a_tokens, a_constants, a_lengths, a_nodeOp, a_nodeA, a_nodeB, a_nodeC, a_needs, a_wanted, a_value, a_state, a_work, a_parts, a_heads, a_chain, a_places, a_sorted, a_groupNull, a_groupKey, a_groupPairs, a_groupValues, a_groupSum, a_groupLeast, a_groupMost) (nI t * 3 + 1) (nI s) b) (f_nodes, f_filterRoot, f_valueRoot, f_keyRoot, f_partCount, f_groups, f_passed, f_overflow, a_cells, a_live, a_zoneLeast, a_zoneMost, a_tokens, a_constants, a_lengths, a_nodeOp, a_nodeA, a_nodeB, a_nodeC, a_needs, a_wanted, a_value, a_state, a_work, a_parts, a_heads, a_chain, a_places, a_sorted, a_groupNull, a_groupKey, a_groupPairs, a_groupValues, a_groupSum, a_groupLeast, a_groupMost) (nI t * 3) (nI s) a := by
    intro s hs hms
    rw [e0, e1, e2]
    refine xt_store (by omega) hs (fun zl1 zm1 z1 k1 => ?_)
    dsimp only
    refine xt_store (by omega) hs (fun zl2 zm2 z2 k2 => ?_)
    dsimp only
    refine xt_store (by omega) hs (fun zl3 zm3 z3 k3 => ?_)
    dsimp only
    rw [ct, hl, tb_ins (by omega) hs]
    refine ⟨wt, wt, nm_e ?_⟩
    have ap := tb_app (n := 16) (o := 0) hms hs
    rw [Nat.zero_add] at ap
    have lt : ∀ i, i < n → (tb_bl 16 0 m).getD i 0 < s := by
      intro i hi
      have q := tb_mem (tb_gm (L := tb_bl 16 0 m) (i := i) (by omega))
      rcases Nat.lt_or_ge ((tb_bl 16 0 m).getD i 0) s with h | h
      · exact h
      · have : m / 2 ^ ((tb_bl 16 0 m).getD i 0 - 0) = 0 := Nat.div_eq_of_lt (Nat.lt_of_lt_of_le hms (Nat.pow_le_pow_right (by omega) (by omega)))
        rw [this] at q; omega
    have lt16 : ∀ i, i < n → (tb_bl 16 0 m).getD i 0 < 16 := fun i hi => by have := lt i hi; omega
    have gl : ∀ i, i < n → (tb_bl 16 0 m ++ [s]).getD i 0 = (tb_bl 16 0 m).getD i 0 := by
      intro i hi
      rw [List.getD_eq_getElem?_getD, List.getElem?_append_left (by omega), List.getD_eq_getElem?_getD]
    have gr : (tb_bl 16 0 m ++ [s]).getD n 0 = s := by
      rw [List.getD_eq_getElem?_getD, ← hn, List.getElem?_append_right (Nat.le_refl _), Nat.sub_self]; rfl
    refine K _ _ _ _ ⟨m ||| 2 ^ s, Nat.or_lt_two_pow (n := 16) (by omega) (Nat.pow_lt_pow_right (by omega) hs), pk_us, by rw [ap]; simp [hn], fun i k hi hk => ?_, fun i k hi hk => ?_⟩ ⟨fun col j h1 h2 h3 => ?_, fun z h1 h2 => ?_, fun t' ht' => pk_un ht'⟩
    · rw [ap]
      unfold tx_ins
      by_cases e : i = n
      · subst e
        rw [if_pos rfl, gr]
        rcases (show k = 0 ∨ k = 1 ∨ k = 2 by omega) with rfl | rfl | rfl
        · rw [pk_un (by omega), pk_un (by omega), pk_us]; rfl
        · rw [pk_un (by omega), pk_us]; rfl
        · rw [pk_us]; rfl
      · have li := lt i (by omega)
        rw [if_neg e, gl i (by omega), pk_un (by omega), pk_un (by omega), pk_un (by omega)]
        exact h4 i k (by omega) hk
    · rw [ap]
      by_cases e : i = n
      · subst e
        rw [gr]
        rcases (show k = 0 ∨ k = 1 ∨ k = 2 by omega) with rfl | rfl | rfl
        · exact k3 _ _ hs (Or.inl (k2 _ _ hs (Or.inl (k1 _ _ hs (Or.inr ⟨rfl, rfl⟩)))))
        · exact k3 _ _ hs (Or.inl (k2 _ _ hs (Or.inr ⟨rfl, rfl⟩)))
        · exact k3 _ _ hs (Or.inr ⟨rfl, rfl⟩)
      · rw [gl i (by omega)]
        have l16 := lt16 i (by omega)
        exact k3 _ _ l16 (Or.inl (k2 _ _ l16 (Or.inl (k1 _ _ l16 (Or.inl (h5 i k (by omega) hk))))))
    · have q0 := h3 0 (by omega)
      have q1 := h3 1 (by omega)
      have q2 := h3 2 (by omega)
      rw [pk_un (by omega), pk_un (by omega), pk_un (by omega)]
    · have q0 := h2 0 (by omega)
      have q1 := h2 1 (by omega)
      have q2 := h2 2 (by omega)
      obtain ⟨a1, b1⟩ := z1 z (by omega)
      obtain ⟨a2, b2⟩ := z2 z (by omega)
      obtain ⟨a3, b3⟩ := z3 z (by omega)
      exact ⟨a3.trans (a2.trans a1), b3.trans (b2.trans b1)⟩
  intro r
  induction r with
  | zero =>
    intro f s hs hf
    obtain ⟨f, rfl⟩ := zb_ex hf
    have : s = 15 := by omega
    subst this
    rw [wX_insert_52]
    refine ⟨wt, ?_⟩
    have z : nI m >>> (nI 15 &&& 31) = 0 := by rw [tb_shr (by omega) (by omega), Nat.div_eq_of_lt (show m < 2 ^ 15 by omega)]; rfl
    refine br_t (by rw [ct, hl]; exact z) (place 15 (by omega) (by omega))
  | succ r ih =>
    intro f s hs hf
    obtain ⟨f, rfl⟩ := zb_ex (show 0 < f by omega)
    rw [wX_insert_52]
    have sh : nI m >>> (nI s &&& 31) = nI (m / 2 ^ s) := tb_shr (by omega) (by omega)
    have dl : m / 2 ^ s ≤ m := Nat.div_le_self _ _
    refine ⟨wt, br_c (fun z => place s (by omega) ?_) (fun _ => nm_r (nI_1 s) (ih f (s + 1) (by omega) (by omega)))⟩
    rw [ct, hl, sh] at z
    have := zb_inj (b := 0) z (by omega) (by omega)
    rcases Nat.lt_or_ge m (2 ^ s) with q | q
    · exact q
    · have := Nat.div_pos q (Nat.pos_of_neZero _); omega
theorem xt_insert {post : Int32 → SX → Prop} {n : Nat} {R : Nat → Nat → Int32} {a b c : Int32} (ht : t < 2) (H : tx_ok t n R a_cells a_live a_zoneLeast a_zoneMost)
    (K0 : n = 16 → post (-2) (f_nodes, f_filterRoot, f_valueRoot, f_keyRoot, f_partCount, f_groups, f_passed, f_overflow, a_cells, a_live, a_zoneLeast, a_zoneMost, a_tokens, a_constants, a_lengths, a_nodeOp, a_nodeA, a_nodeB, a_nodeC, a_needs, a_wanted, a_value, a_state, a_work, a_parts, a_heads, a_chain, a_places, a_sorted, a_groupNull, a_groupKey, a_groupPairs, a_groupValues, a_groupSum, a_groupLeast, a_groupMost)) (K : n < 16 → ∀ cells' live' zl' zm', tx_ok t (n + 1) (tx_ins R n a b c) cells' live' zl' zm' → tx_of t a_cells a_live a_zoneLeast a_zoneMost cells' live' zl' zm' → post (nI (n + 1)) (f_nodes, f_filterRoot, f_valueRoot, f_keyRoot, f_partCount, f_groups, f_passed, f_overflow, cells', live', zl', zm', a_tokens, a_constants, a_lengths, a_nodeOp, a_nodeA, a_nodeB, a_nodeC, a_needs, a_wanted, a_value, a_state, a_work, a_parts, a_heads, a_chain, a_places, a_sorted, a_groupNull, a_groupKey, a_groupPairs, a_groupValues, a_groupSum, a_groupLeast, a_groupMost)) : wpX_insert post (f_nodes, f_filterRoot, f_valueRoot, f_keyRoot, f_partCount, f_groups, f_passed, f_overflow, a_cells, a_live, a_zoneLeast, a_zoneMost, a_tokens, a_constants, a_lengths, a_nodeOp, a_nodeA, a_nodeB, a_nodeC, a_needs, a_wanted, a_value, a_state, a_work, a_parts, a_heads, a_chain, a_places, a_sorted, a_groupNull, a_groupKey, a_groupPairs, a_groupValues, a_groupSum, a_groupLeast, a_groupMost) (nI t) a b c := by
  obtain ⟨m, h1, h2, h3, h4, h5⟩ := H
  have ct : (nI t).toNatClampNeg = t := nI_clamp (by omega)
  have wt : vp_in (nI t) 2 := vp_in_nI ht (by omega)
  have le := tb_len 16 0 m
  have s11 : wX_insert_11 post (nI t) a b c f_nodes f_filterRoot f_valueRoot f_keyRoot f_partCount f_groups f_passed f_overflow a_cells a_live a_zoneLeast a_zoneMost a_tokens a_constants a_lengths a_nodeOp a_nodeA a_nodeB a_nodeC a_needs a_wanted a_value a_state a_work a_parts a_heads a_chain a_places a_sorted a_groupNull a_groupKey a_groupPairs a_groupValues a_groupSum a_groupLeast a_groupMost := by
    unfold wX_insert_11
    rw [ct, h2]
    refine ⟨wt, xt_bc h1 ?_⟩
    rw [h3]
    refine br_c (fun z => K0 (zb_inj (b := 16) z (by omega) (by omega))) (fun z => ⟨wt, ?_⟩)
    have n16 : n < 16 := by
      have : n ≠ 16 := fun q => z (by rw [q]; rfl)
      omega
    have K := K n16
    rw [← nI_1] at K
    have sh : nI m >>> ((15 : Int32) &&& 31) = nI (m / 2 ^ 15) := tb_shr (s := 15) h1 (by omega)
    rw [sh]
    refine br_c (fun q => ⟨16, ?_⟩) (fun q => ?_)
    · have : m / 2 ^ 15 = 0 := zb_inj (b := 0) q (by omega) (by omega)
      exact xt_52 ht (by omega) h2 h3 h4 h5 K 15 16 0 (by omega) (by omega)
    · refine xt_compact ht h1 h2 (fun cells' zl' zm' k1 k2 k3 => ?_)
      dsimp only
      rw [h3] at k1 k2 k3 ⊢
      have fl := tb_full n (by omega)
      have p1 : 2 ^ n - 1 < 32768 := by
        have : 2 ^ n ≤ 2 ^ 15 := Nat.pow_le_pow_right (by omega) (by omega)
        omega
      have gd : ∀ i, i < n → (List.range n).getD i 0 = i := by
        intro i hi
        rw [List.getD_eq_getElem?_getD, List.getElem?_range hi]; rfl
      refine ⟨16, xt_52 (m := 2 ^ n - 1) (n := n) (R := R) ht p1 pk_us (by rw [fl, List.length_range]) (fun i k hi hk => ?_) (fun i k hi hk => ?_) (fun cells2 live2 zl2 zm2 q1 q2 => K cells2 live2 zl2 zm2 q1 (tx_of_tr k3 q2)) 15 16 0 (by omega) (by omega)⟩
      · rw [fl, gd i hi, k1 k i hk hi]; exact h4 i k hi hk
      · rw [fl, gd i hi]; exact k2 k i hk hi
  rcases (show t = 0 ∨ t = 1 by omega) with rfl | rfl
  · exact br_t rfl s11
  · exact br_f (by decide) (br_t rfl s11)
end XT2
end
section
/-! ===== X: remove, set, cell, rows ===== -/
def tx_del (R : Nat → Nat → Int32) (p : Nat) : Nat → Nat → Int32 := fun i k => if i < p then R i k else R (i + 1) k
def tx_set (R : Nat → Nat → Int32) (p c : Nat) (v : Int32) : Nat → Nat → Int32 := fun i k => if i = p ∧ k = c then v else R i k
section XT3
variable {f_nodes f_filterRoot f_valueRoot f_keyRoot f_partCount f_groups f_passed f_overflow : Int32}
variable {a_cells a_live a_zoneLeast a_zoneMost a_tokens a_constants a_lengths a_nodeOp a_nodeA a_nodeB a_nodeC a_needs a_wanted a_state a_work a_parts a_heads a_chain a_places a_sorted a_groupNull a_groupPairs a_groupValues : Nat → Int32}
variable {a_value a_groupKey a_groupSum a_groupLeast a_groupMost : Nat → Int64}
variable {t n : Nat} {R : Nat → Nat → Int32} {x : Int32}
theorem xt_remove {post : Int32 → SX → Prop} (ht : t < 2) (H : tx_ok t n R a_cells a_live a_zoneLeast a_zoneMost) (K0 : (x < 0 ∨ nI n ≤ x) → post (-1) (f_nodes, f_filterRoot, f_valueRoot, f_keyRoot, f_partCount, f_groups, f_passed, f_overflow, a_cells, a_live, a_zoneLeast, a_zoneMost, a_tokens, a_constants, a_lengths, a_nodeOp, a_nodeA, a_nodeB, a_nodeC, a_needs, a_wanted, a_value, a_state, a_work, a_parts, a_heads, a_chain, a_places, a_sorted, a_groupNull, a_groupKey, a_groupPairs, a_groupValues, a_groupSum, a_groupLeast, a_groupMost))
    (K : ∀ p, p < n → x = nI p → ∀ live', tx_ok t (n - 1) (tx_del R p) a_cells live' a_zoneLeast a_zoneMost → tx_of t a_cells a_live a_zoneLeast a_zoneMost a_cells live' a_zoneLeast a_zoneMost → post (nI (n - 1)) (f_nodes, f_filterRoot, f_valueRoot, f_keyRoot, f_partCount, f_groups, f_passed, f_overflow, a_cells, live', a_zoneLeast, a_zoneMost, a_tokens, a_constants, a_lengths, a_nodeOp, a_nodeA, a_nodeB, a_nodeC, a_needs, a_wanted, a_value, a_state, a_work, a_parts, a_heads, a_chain, a_places, a_sorted, a_groupNull, a_groupKey, a_groupPairs, a_groupValues, a_groupSum, a_groupLeast, a_groupMost)) : wpX_remove post (f_nodes, f_filterRoot, f_valueRoot, f_keyRoot, f_partCount, f_groups, f_passed, f_overflow, a_cells, a_live, a_zoneLeast, a_zoneMost, a_tokens, a_constants, a_lengths, a_nodeOp, a_nodeA, a_nodeB, a_nodeC, a_needs, a_wanted, a_value, a_state, a_work, a_parts, a_heads, a_chain, a_places, a_sorted, a_groupNull, a_groupKey, a_groupPairs, a_groupValues, a_groupSum, a_groupLeast, a_groupMost) (nI t) x := by
  obtain ⟨m, h1, h2, h3, h4, h5⟩ := H
  have ct : (nI t).toNatClampNeg = t := nI_clamp (by omega)
  have wt : vp_in (nI t) 2 := vp_in_nI ht (by omega)
  have le := tb_len 16 0 m
  have s11 : wX_remove_11 post (nI t) x f_nodes f_filterRoot f_valueRoot f_keyRoot f_partCount f_groups f_passed f_overflow a_cells a_live a_zoneLeast a_zoneMost a_tokens a_constants a_lengths a_nodeOp a_nodeA a_nodeB a_nodeC a_needs a_wanted a_value a_state a_work a_parts a_heads a_chain a_places a_sorted a_groupNull a_groupKey a_groupPairs a_groupValues a_groupSum a_groupLeast a_groupMost := by
    refine xt_slot ht h1 h2 (fun p hp hx => ?_) (fun h => br_f (by decide) (K0 (by rw [h3] at h; exact h)))
    have l16 : (tb_bl 16 0 m).getD p 0 < 16 := by have := (tb_mem (tb_gm hp)).2.1; omega
    rw [ct, h2, tb_rem h1 l16]
    refine br_t (nI_pos' (by omega)) ⟨wt, wt, nm_e ⟨wt, ?_⟩⟩
    rw [pk_us]
    have er := tb_erase (n := 16) (o := 0) (tb_getD hp)
    rw [Nat.sub_zero] at er
    have len : (tb_bl 16 0 (m &&& (2 ^ 16 - 1 - 2 ^ (tb_bl 16 0 m).getD p 0))).length = n - 1 := by rw [er, List.length_eraseIdx, if_pos hp, h3]
    have lt : m &&& (2 ^ 16 - 1 - 2 ^ (tb_bl 16 0 m).getD p 0) < 65536 := Nat.lt_of_le_of_lt Nat.and_le_left h1
    have gd : ∀ i, i < n - 1 → ((tb_bl 16 0 m).eraseIdx p).getD i 0 = (tb_bl 16 0 m).getD (if i < p then i else i + 1) 0 := by
      intro i hi
      rw [List.getD_eq_getElem?_getD, List.getElem?_eraseIdx, List.getD_eq_getElem?_getD]
      split <;> rfl
    refine xt_bc lt ?_
    rw [len]
    refine K p (by omega) hx _ ⟨_, lt, pk_us, len, fun i k hi hk => ?_, fun i k hi hk => ?_⟩ ⟨fun _ _ _ _ _ => rfl, fun _ _ _ => ⟨rfl, rfl⟩, fun t' ht' => pk_un ht'⟩
    · rw [er, gd i hi]
      unfold tx_del
      split
      · exact h4 i k (by omega) hk
      · exact h4 (i + 1) k (by omega) hk
    · rw [er, gd i hi]
      split
      · exact h5 i k (by omega) hk
      · exact h5 (i + 1) k (by omega) hk
  rcases (show t = 0 ∨ t = 1 by omega) with rfl | rfl
  · exact br_t rfl s11
  · exact br_f (by decide) (br_t rfl s11)
theorem xt_div3 : ∀ c, c < 6 → nI c / 3 = nI (c / 3) := by decide +kernel
theorem xt_set {post : Int32 → SX → Prop} {col : Nat} {v : Int32} (hc : col < 6) (H : tx_ok (col / 3) n R a_cells a_live a_zoneLeast a_zoneMost) (K0 : (x < 0 ∨ nI n ≤ x) → post (-1) (f_nodes, f_filterRoot, f_valueRoot, f_keyRoot, f_partCount, f_groups, f_passed, f_overflow, a_cells, a_live, a_zoneLeast, a_zoneMost, a_tokens, a_constants, a_lengths, a_nodeOp, a_nodeA, a_nodeB, a_nodeC, a_needs, a_wanted, a_value, a_state, a_work, a_parts, a_heads, a_chain, a_places, a_sorted, a_groupNull, a_groupKey, a_groupPairs, a_groupValues, a_groupSum, a_groupLeast, a_groupMost))
    (K : ∀ p, p < n → x = nI p → ∀ cells' zl' zm', tx_ok (col / 3) n (tx_set R p (col % 3) v) cells' a_live zl' zm' → tx_of (col / 3) a_cells a_live a_zoneLeast a_zoneMost cells' a_live zl' zm' → post (nI n) (f_nodes, f_filterRoot, f_valueRoot, f_keyRoot, f_partCount, f_groups, f_passed, f_overflow, cells', a_live, zl', zm', a_tokens, a_constants, a_lengths, a_nodeOp, a_nodeA, a_nodeB, a_nodeC, a_needs, a_wanted, a_value, a_state, a_work, a_parts, a_heads, a_chain, a_places, a_sorted, a_groupNull, a_groupKey, a_groupPairs, a_groupValues, a_groupSum, a_groupLeast, a_groupMost)) : wpX_set post (f_nodes, f_filterRoot, f_valueRoot, f_keyRoot, f_partCount, f_groups, f_passed, f_overflow, a_cells, a_live, a_zoneLeast, a_zoneMost, a_tokens, a_constants, a_lengths, a_nodeOp, a_nodeA, a_nodeB, a_nodeC, a_needs, a_wanted, a_value, a_state, a_work, a_parts, a_heads, a_chain, a_places, a_sorted, a_groupNull, a_groupKey, a_groupPairs, a_groupValues, a_groupSum, a_groupLeast, a_groupMost) (nI col) x v := by
  obtain ⟨m, h1, h2, h3, h4, h5⟩ := H
  have le := tb_len 16 0 m
  have srt := tb_srt 16 0 m
  unfold wpX_set
  dsimp only
  rw [xt_div3 col hc]
  refine br_f (nI_pos (by omega)) (br_t (nI_le (b := 5) (by omega) (by decide)) ⟨by decide, nm_e (xt_slot (by omega) h1 h2 (fun p hp hx => ?_) (fun h => br_f (by decide) (K0 (by rw [h3] at h; exact h))))⟩)
  have l16 : ∀ i, i < n → (tb_bl 16 0 m).getD i 0 < 16 := fun i hi => by have := (tb_mem (tb_gm (L := tb_bl 16 0 m) (i := i) (by omega))).2.1; omega
  refine br_t (nI_pos' (by have := l16 p (by omega); omega)) (xt_store hc (l16 p (by omega)) (fun zl' zm' z1 k1 => ?_))
  dsimp only
  rw [nI_clamp (show col / 3 < 2 ^ 31 by omega), h2]
  refine ⟨vp_in_nI (by omega) (by omega), xt_bc h1 ?_⟩
  rw [h3]
  refine K p (by omega) hx _ _ _ ⟨m, h1, h2, h3, fun i k hi hk => ?_, fun i k hi hk => k1 _ _ (l16 i hi) (Or.inl (h5 i k hi hk))⟩ ⟨fun cl j q1 q2 q3 => ?_, fun z q1 q2 => ?_, fun _ _ => rfl⟩
  · unfold tx_set
    have li := l16 i hi
    have lp := l16 p (by omega)
    by_cases e : i = p ∧ k = col % 3
    · obtain ⟨rfl, rfl⟩ := e
      rw [if_pos ⟨rfl, rfl⟩, show (3 * (col / 3) + col % 3) * 16 + (tb_bl 16 0 m).getD i 0 = col * 16 + (tb_bl 16 0 m).getD i 0 by omega, pk_us]
    · rw [if_neg e, pk_un, h4 i k hi hk]
      intro z
      have e1 : (tb_bl 16 0 m).getD i 0 = (tb_bl 16 0 m).getD p 0 := by omega
      exact e ⟨tb_inj srt (by omega) hp e1, by omega⟩
  · have := q3 (col % 3) (by omega)
    have lp := l16 p (by omega)
    rw [pk_un (by omega)]
  · have := q2 (col % 3) (by omega)
    have lp := l16 p (by omega)
    exact z1 z (by omega)
theorem xt_cell {post : Int32 → Prop} {col : Nat} (hc : col < 6) (H : tx_ok (col / 3) n R a_cells a_live a_zoneLeast a_zoneMost) (K0 : (x < 0 ∨ nI n ≤ x) → post 0) (K : ∀ p, p < n → x = nI p → post (R p (col % 3))) : wpX_cell post (f_nodes, f_filterRoot, f_valueRoot, f_keyRoot, f_partCount, f_groups, f_passed, f_overflow, a_cells, a_live, a_zoneLeast, a_zoneMost, a_tokens, a_constants, a_lengths, a_nodeOp, a_nodeA, a_nodeB, a_nodeC, a_needs, a_wanted, a_value, a_state, a_work, a_parts, a_heads, a_chain, a_places, a_sorted, a_groupNull, a_groupKey, a_groupPairs, a_groupValues, a_groupSum, a_groupLeast, a_groupMost) (nI col) x := by
  obtain ⟨m, h1, h2, h3, h4, h5⟩ := H
  unfold wpX_cell
  dsimp only
  rw [xt_div3 col hc]
  refine br_f (nI_pos (by omega)) (br_t (nI_le (b := 5) (by omega) (by decide)) ⟨by decide, xt_slot (by omega) h1 h2 (fun p hp hx => ?_) (fun h => br_f (by decide) (K0 (by rw [h3] at h; exact h)))⟩)
  have lp : (tb_bl 16 0 m).getD p 0 < 16 := by have := (tb_mem (tb_gm hp)).2.1; omega
  have e1 : nI col * 16 + nI ((tb_bl 16 0 m).getD p 0) = nI (col * 16 + (tb_bl 16 0 m).getD p 0) := by rw [show (16 : Int32) = nI 16 from rfl, pk_mul, nI_add]
  rw [e1, nI_clamp (show col * 16 + (tb_bl 16 0 m).getD p 0 < 2 ^ 31 by omega)]
  refine br_t (nI_pos' (by omega)) ⟨vp_in_nI (by omega) (by omega), ?_⟩
  have := K p (by omega) hx
  rw [← h4 p (col % 3) (by omega) (by omega), show (3 * (col / 3) + col % 3) * 16 = col * 16 by omega] at this
  exact this
theorem xt_rows {post : Int32 → Prop} (ht : t < 2) (H : tx_ok t n R a_cells a_live a_zoneLeast a_zoneMost) (K : post (nI n)) : wpX_rows post (f_nodes, f_filterRoot, f_valueRoot, f_keyRoot, f_partCount, f_groups, f_passed, f_overflow, a_cells, a_live, a_zoneLeast, a_zoneMost, a_tokens, a_constants, a_lengths, a_nodeOp, a_nodeA, a_nodeB, a_nodeC, a_needs, a_wanted, a_value, a_state, a_work, a_parts, a_heads, a_chain, a_places, a_sorted, a_groupNull, a_groupKey, a_groupPairs, a_groupValues, a_groupSum, a_groupLeast, a_groupMost) (nI t) := by
  obtain ⟨m, h1, h2, h3, h4, h5⟩ := H
  have s9 : wX_rows_9 post (nI t) f_nodes f_filterRoot f_valueRoot f_keyRoot f_partCount f_groups f_passed f_overflow a_cells a_live a_zoneLeast a_zoneMost a_tokens a_constants a_lengths a_nodeOp a_nodeA a_nodeB a_nodeC a_needs a_wanted a_value a_state a_work a_parts a_heads a_chain a_places a_sorted a_groupNull a_groupKey a_groupPairs a_groupValues a_groupSum a_groupLeast a_groupMost := by
    unfold wX_rows_9
    rw [nI_clamp (show t < 2 ^ 31 by omega), h2]
    exact ⟨vp_in_nI ht (by omega), xt_bc h1 (by rw [h3]; exact K)⟩
  rcases (show t = 0 ∨ t = 1 by omega) with rfl | rfl
  · exact br_t rfl s9
  · exact br_f (by decide) (br_t rfl s9)
end XT3
/-! ===== Y: tables ===== -/
def ty_ok (t n : Nat) (R : Nat → Nat → Int32) (cells count : Nat → Int32) : Prop := n ≤ 16 ∧ count t = nI n ∧ ∀ i c, i < n → c < 3 → cells (48 * t + 3 * i + c) = R i c
def ty_of (t : Nat) (cells count cells' count' : Nat → Int32) : Prop := (∀ k, (k < 48 * t ∨ 48 * t + 48 ≤ k) → cells' k = cells k) ∧ (∀ t', t' ≠ t → count' t' = count t')
theorem ty_fr {t t' n : Nat} {R : Nat → Nat → Int32} {c l c' l' : Nat → Int32} (hn : t' ≠ t) (F : ty_of t c l c' l') (H : ty_ok t' n R c l) : ty_ok t' n R c' l' :=
  ⟨H.1, (F.2 t' hn).trans H.2.1, fun i k hi hk => (F.1 _ (by have := H.1; omega)).trans (H.2.2 i k hi hk)⟩
section YTA
variable {y_top y_groups y_full y_passed : Int32}
variable {b_cells b_count b_tok b_con b_len b_isNull b_gNull : Nat → Int32}
variable {b_num b_gKey b_gStat : Nat → Int64}
variable {t n : Nat} {R : Nat → Nat → Int32} {x : Int32}
theorem yt_insert {post : Int32 → SY → Prop} {a b c : Int32} (ht : t < 2) (H : ty_ok t n R b_cells b_count)
    (K0 : n = 16 → post (-2) (y_top, y_groups, y_full, y_passed, b_cells, b_count, b_tok, b_con, b_len, b_num, b_isNull, b_gNull, b_gKey, b_gStat)) (K : n < 16 → ∀ cells' count', ty_ok t (n + 1) (tx_ins R n a b c) cells' count' → ty_of t b_cells b_count cells' count' → post (nI (n + 1)) (y_top, y_groups, y_full, y_passed, cells', count', b_tok, b_con, b_len, b_num, b_isNull, b_gNull, b_gKey, b_gStat)) : wpY_insert post (y_top, y_groups, y_full, y_passed, b_cells, b_count, b_tok, b_con, b_len, b_num, b_isNull, b_gNull, b_gKey, b_gStat) (nI t) a b c := by
  obtain ⟨h1, h2, h3⟩ := H
  have wt : vp_in (nI t) 2 := vp_in_nI ht (by omega)
  have e : 48 * nI t + 3 * nI n = nI (48 * t + 3 * n) := by rw [show (48 : Int32) = nI 48 from rfl, show (3 : Int32) = nI 3 from rfl, pk_mul, pk_mul, nI_add]
  unfold wpY_insert
  dsimp only
  rw [nI_clamp (show t < 2 ^ 31 by omega), h2]
  refine br_f (nI_pos (by omega)) (br_t (nI_le (b := 1) (by omega) (by decide)) ⟨wt, br_c (fun z => K0 (zb_inj (b := 16) z (by omega) (by omega))) (fun z => ⟨wt, nm_r e ?_⟩)⟩)
  have n16 : n < 16 := by
    have : n ≠ 16 := fun q => z (by rw [q]; rfl)
    omega
  have e1 : nI (48 * t + 3 * n) + 1 = nI (48 * t + 3 * n + 1) := nI_1 _
  have e2 : nI (48 * t + 3 * n) + 2 = nI (48 * t + 3 * n + 2) := nI_add _ 2
  rw [e1, e2, nI_clamp (show 48 * t + 3 * n < 2 ^ 31 by omega), nI_clamp (show 48 * t + 3 * n + 1 < 2 ^ 31 by omega), nI_clamp (show 48 * t + 3 * n + 2 < 2 ^ 31 by omega), nI_1]
  refine ⟨vp_in_nI (by omega) (by omega), nm_e ⟨vp_in_nI (by omega) (by omega), nm_e ⟨vp_in_nI (by omega) (by omega), nm_e ⟨wt, wt, nm_e ⟨wt, ?_⟩⟩⟩⟩⟩
  rw [pk_us]
  refine K n16 _ _ ⟨by omega, pk_us, fun i k hi hk => ?_⟩ ⟨fun k hk => ?_, fun t' ht' => pk_un ht'⟩
  · unfold tx_ins
    by_cases q : i = n
    · subst q
      rw [if_pos rfl]
      rcases (show k = 0 ∨ k = 1 ∨ k = 2 by omega) with rfl | rfl | rfl
      · rw [pk_un (by omega), pk_un (by omega)]; exact pk_us
      · rw [pk_un (by omega)]; exact pk_us
      · exact pk_us
    · rw [if_neg q, pk_un (by omega), pk_un (by omega), pk_un (by omega)]
      exact h3 i k (by omega) hk
  · rw [pk_un (by omega), pk_un (by omega), pk_un (by omega)]
theorem yt_44 {post : Int32 → SY → Prop} {p : Nat} (ht : t < 2) (hp : p ≤ n) (hn : n ≤ 15) (hc : b_count t = nI n)
    (K : ∀ cells', (∀ k, cells' k = if 48 * t + 3 * p ≤ k ∧ k < 48 * t + 3 * n then b_cells (k + 3) else b_cells k) → post (nI n) (y_top, y_groups, y_full, y_passed, cells', b_count, b_tok, b_con, b_len, b_num, b_isNull, b_gNull, b_gKey, b_gStat)) :
    ∀ (r f k : Nat) (cells : Nat → Int32), 48 * t + 3 * p ≤ k → k + r = 48 * t + 3 * n → r < f → (∀ j, cells j = if 48 * t + 3 * p ≤ j ∧ j < k then b_cells (j + 3) else b_cells j) → wY_remove_44 post (nI t) y_top y_groups y_full y_passed f (nI k) cells b_count b_tok b_con b_len b_num b_isNull b_gNull b_gKey b_gStat := by
  have wt : vp_in (nI t) 2 := vp_in_nI ht (by omega)
  have ct : (nI t).toNatClampNeg = t := nI_clamp (by omega)
  have e : 48 * nI t + 3 * nI n = nI (48 * t + 3 * n) := by rw [show (48 : Int32) = nI 48 from rfl, show (3 : Int32) = nI 3 from rfl, pk_mul, pk_mul, nI_add]
  intro r
  induction r with
  | zero =>
    intro f k cells h0 hk hf h
    obtain ⟨f, rfl⟩ := zb_ex hf
    rw [wY_remove_44]
    dsimp only
    rw [ct, hc, e]
    have : k = 48 * t + 3 * n := by omega
    subst this
    exact ⟨wt, br_t (nI_le (Nat.le_refl _) (by omega)) ⟨wt, K cells h⟩⟩
  | succ r ih =>
    intro f k cells h0 hk hf h
    obtain ⟨f, rfl⟩ := zb_ex (show 0 < f by omega)
    rw [wY_remove_44]
    dsimp only
    have e3 : nI k + 3 = nI (k + 3) := nI_add k 3
    rw [ct, hc, e, e3, nI_clamp (show k + 3 < 2 ^ 31 by omega), nI_clamp (show k < 2 ^ 31 by omega)]
    refine ⟨wt, br_f (nI_ge (by omega) (by omega)) ⟨vp_in_nI (by omega) (by omega), vp_in_nI (by omega) (by omega), nm_e (nm_r (nI_1 k) (ih f (k + 1) _ (by omega) (by omega) (by omega) (fun j => ?_)))⟩⟩
    by_cases q : j = k
    · subst q
      rw [pk_us, if_pos (by omega), h (j + 3), if_neg (by omega)]
    · rw [pk_un q, h j]
      by_cases z : 48 * t + 3 * p ≤ j ∧ j < k
      · rw [if_pos z, if_pos (by omega)]
      · rw [if_neg z, if_neg (by omega)]
theorem yt_remove {post : Int32 → SY → Prop} (ht : t < 2) (H : ty_ok t n R b_cells b_count) (K0 : (x < 0 ∨ nI n ≤ x) → post (-1) (y_top, y_groups, y_full, y_passed, b_cells, b_count, b_tok, b_con, b_len, b_num, b_isNull, b_gNull, b_gKey, b_gStat))
    (K : ∀ p, p < n → x = nI p → ∀ cells' count', ty_ok t (n - 1) (tx_del R p) cells' count' → ty_of t b_cells b_count cells' count' → post (nI (n - 1)) (y_top, y_groups, y_full, y_passed, cells', count', b_tok, b_con, b_len, b_num, b_isNull, b_gNull, b_gKey, b_gStat)) : wpY_remove post (y_top, y_groups, y_full, y_passed, b_cells, b_count, b_tok, b_con, b_len, b_num, b_isNull, b_gNull, b_gKey, b_gStat) (nI t) x := by
  obtain ⟨h1, h2, h3⟩ := H
  have wt : vp_in (nI t) 2 := vp_in_nI ht (by omega)
  unfold wpY_remove
  dsimp only
  rw [nI_clamp (show t < 2 ^ 31 by omega), h2]
  refine br_f (nI_pos (by omega)) (br_f (nI_nlt (b := t) (a := 1) (by omega) (by decide)) (br_c (fun z => K0 (Or.inl z)) (fun z => ⟨wt, br_c (fun q => ⟨wt, wt, ?_⟩) (fun q => K0 (Or.inr (Int32.not_lt.mp q)))⟩)))
  obtain ⟨p, hp, rfl⟩ := nI_of z
  have pn : p < n := (nI_ltI hp (by omega)).mp q
  have e1 : nI n - 1 = nI (n - 1) := by rw [show (1 : Int32) = nI 1 from rfl, pk_sub (by omega)]
  have e2 : 48 * nI t + 3 * nI p = nI (48 * t + 3 * p) := by rw [show (48 : Int32) = nI 48 from rfl, show (3 : Int32) = nI 3 from rfl, pk_mul, pk_mul, nI_add]
  rw [e1]
  refine nm_e (nm_r e2 ⟨3 * (n - 1 - p) + 1, ?_⟩)
  refine yt_44 (n := n - 1) (p := p) ht (by omega) (by omega) pk_us (fun cells' hc => K p pn rfl cells' _ ⟨by omega, pk_us, fun i k hi hk => ?_⟩ ⟨fun k hk => ?_, fun t' ht' => pk_un ht'⟩) (3 * (n - 1 - p)) _ (48 * t + 3 * p) b_cells (by omega) (by omega) (by omega) (fun j => by rw [if_neg (by omega)])
  · unfold tx_del
    rw [hc]
    by_cases e : i < p
    · rw [if_pos e, if_neg (by omega)]; exact h3 i k (by omega) hk
    · rw [if_neg e, if_pos (by omega), show 48 * t + 3 * i + k + 3 = 48 * t + 3 * (i + 1) + k by omega]
      exact h3 (i + 1) k (by omega) hk
  · rw [hc, if_neg (by omega)]
theorem yt_rem3 : ∀ c, c < 6 → nI c - nI c / 3 * 3 = nI (c % 3) := by decide +kernel
theorem yt_find {post : Int32 → Prop} {col : Nat} (hc : col < 6) (H : ty_ok (col / 3) n R b_cells b_count) (K0 : (x < 0 ∨ nI n ≤ x) → post (-1)) (K : ∀ p, p < n → x = nI p → post (nI (48 * (col / 3) + 3 * p + col % 3))) : wpY_find post (y_top, y_groups, y_full, y_passed, b_cells, b_count, b_tok, b_con, b_len, b_num, b_isNull, b_gNull, b_gKey, b_gStat) (nI col) x := by
  obtain ⟨h1, h2, h3⟩ := H
  unfold wpY_find
  dsimp only
  rw [yt_rem3 col hc, xt_div3 col hc, nI_clamp (show col / 3 < 2 ^ 31 by omega), h2]
  refine br_f (nI_pos (by omega)) (br_f (nI_nlt (b := col) (a := 5) (by omega) (by decide)) (br_c (fun z => K0 (Or.inl z)) (fun z => ⟨by decide, vp_in_nI (by omega) (by omega), br_c (fun q => ⟨by decide, by decide, ?_⟩) (fun q => K0 (Or.inr (Int32.not_lt.mp q)))⟩)))
  obtain ⟨p, hp, rfl⟩ := nI_of z
  have pn : p < n := (nI_ltI hp (by omega)).mp q
  rw [show (48 : Int32) = nI 48 from rfl, show (3 : Int32) = nI 3 from rfl, pk_mul, pk_mul, nI_add, nI_add]
  exact K p pn rfl
theorem yt_set {post : Int32 → SY → Prop} {col : Nat} {v : Int32} (hc : col < 6) (H : ty_ok (col / 3) n R b_cells b_count) (K0 : (x < 0 ∨ nI n ≤ x) → post (-1) (y_top, y_groups, y_full, y_passed, b_cells, b_count, b_tok, b_con, b_len, b_num, b_isNull, b_gNull, b_gKey, b_gStat))
    (K : ∀ p, p < n → x = nI p → ∀ cells', ty_ok (col / 3) n (tx_set R p (col % 3) v) cells' b_count → ty_of (col / 3) b_cells b_count cells' b_count → post (nI n) (y_top, y_groups, y_full, y_passed, cells', b_count, b_tok, b_con, b_len, b_num, b_isNull, b_gNull, b_gKey, b_gStat)) : wpY_set post (y_top, y_groups, y_full, y_passed, b_cells, b_count, b_tok, b_con, b_len, b_num, b_isNull, b_gNull, b_gKey, b_gStat) (nI col) x v := by
  have H' := H
  obtain ⟨h1, h2, h3⟩ := H
  unfold wpY_set
  dsimp only
  refine yt_find hc H' (fun h => br_f (by decide) (K0 h)) (fun p hp hx => br_t (nI_pos' (by omega)) ?_)
  rw [xt_div3 col hc, nI_clamp (show col / 3 < 2 ^ 31 by omega), h2, nI_clamp (show 48 * (col / 3) + 3 * p + col % 3 < 2 ^ 31 by omega)]
  refine ⟨vp_in_nI (by omega) (by omega), nm_e ⟨by decide, vp_in_nI (by omega) (by omega), K p hp hx _ ⟨h1, h2, fun i k hi hk => ?_⟩ ⟨fun k hk => pk_un (by omega), fun _ _ => rfl⟩⟩⟩
  unfold tx_set
  by_cases e : i = p ∧ k = col % 3
  · obtain ⟨rfl, rfl⟩ := e
    rw [if_pos ⟨rfl, rfl⟩, pk_us]
  · rw [if_neg e, pk_un (by omega), h3 i k hi hk]
theorem yt_cell {post : Int32 → Prop} {col : Nat} (hc : col < 6) (H : ty_ok (col / 3) n R b_cells b_count) (K0 : (x < 0 ∨ nI n ≤ x) → post 0) (K : ∀ p, p < n → x = nI p → post (R p (col % 3))) : wpY_cell post (y_top, y_groups, y_full, y_passed, b_cells, b_count, b_tok, b_con, b_len, b_num, b_isNull, b_gNull, b_gKey, b_gStat) (nI col) x := by
  have H' := H
  obtain ⟨h1, h2, h3⟩ := H
  unfold wpY_cell
  dsimp only
  refine yt_find hc H' (fun h => br_f (by decide) (K0 h)) (fun p hp hx => br_t (nI_pos' (by omega)) ⟨vp_in_nI (by omega) (by omega), ?_⟩)
  rw [nI_clamp (show 48 * (col / 3) + 3 * p + col % 3 < 2 ^ 31 by omega), h3 p (col % 3) hp (by omega)]
  exact K p hp hx
theorem yt_rows {post : Int32 → Prop} (ht : t < 2) (H : ty_ok t n R b_cells b_count) (K : post (nI n)) : wpY_rows post (y_top, y_groups, y_full, y_passed, b_cells, b_count, b_tok, b_con, b_len, b_num, b_isNull, b_gNull, b_gKey, b_gStat) (nI t) := by
  unfold wpY_rows
  dsimp only
  rw [nI_clamp (show t < 2 ^ 31 by omega), H.2.1]
  exact br_f (nI_pos (by omega)) (br_t (nI_le (b := 1) (by omega) (by decide)) ⟨vp_in_nI ht (by omega), K⟩)
end YTA
end
section
/-! ===== the groups, and what a run means ===== -/
abbrev RR : Type := Nat × Nat × Int64 × Int64 × Int64
abbrev GL : Type := List (VV × RR)
abbrev GS : Type := GL × Bool × Nat
def gr_st (r : RR) (v : VV) : RR :=
  if v.2 = 0 then (r.1 + 1, r.2.1 + 1, r.2.2.1 + v.1, (if r.2.1 = 0 ∨ v.1 < r.2.2.2.1 then v.1 else r.2.2.2.1), (if r.2.1 = 0 ∨ r.2.2.2.2 < v.1 then v.1 else r.2.2.2.2)) else (r.1 + 1, r.2)
def gr_z : RR := (0, 0, 0, 0, 0)
def gr_d : VV × RR := ((0, 0), gr_z)
def gr_up (l : GL) (k v : VV) : GL := l.map (fun x => if x.1 = k then (x.1, gr_st x.2 v) else x)
def gr_step (gs : GS) (k v : VV) : GS :=
  if k ∈ gs.1.map Prod.fst then (gr_up gs.1 k v, gs.2.1, gs.2.2 + 1)
  else if gs.1.length < 12 then (gr_up (gs.1 ++ [(k, gr_z)]) k v, gs.2.1, gs.2.2 + 1)
  else (gs.1, true, gs.2.2 + 1)
def gr_ok (gs : GS) : Prop := (∀ x, x ∈ gs.1 → x.2.1 ≤ gs.2.2 ∧ x.2.2.1 ≤ gs.2.2 ∧ mq_ov false x.1) ∧ (gs.1.map Prod.fst).Nodup ∧ gs.1.length ≤ 12
theorem gr_up_keys (l : GL) (k v : VV) : (gr_up l k v).map Prod.fst = l.map Prod.fst := by
  unfold gr_up
  rw [List.map_map]
  apply List.map_congr_left
  intro x _
  show (if x.1 = k then (x.1, gr_st x.2 v) else x).1 = x.1
  split <;> rfl
theorem gr_up_len (l : GL) (k v : VV) : (gr_up l k v).length = l.length := by unfold gr_up; rw [List.length_map]
theorem gr_st_le (r : RR) (v : VV) : (gr_st r v).1 ≤ r.1 + 1 ∧ (gr_st r v).2.1 ≤ r.2.1 + 1 := by
  unfold gr_st
  by_cases h : v.2 = 0
  · rw [if_pos h]; exact ⟨Nat.le_refl _, Nat.le_refl _⟩
  · rw [if_neg h]; exact ⟨Nat.le_refl _, Nat.le_succ _⟩
theorem gr_up_b {l : GL} {k v : VV} {B : Nat} (h : ∀ x, x ∈ l → x.2.1 ≤ B ∧ x.2.2.1 ≤ B ∧ mq_ov false x.1) : ∀ x, x ∈ gr_up l k v → x.2.1 ≤ B + 1 ∧ x.2.2.1 ≤ B + 1 ∧ mq_ov false x.1 := by
  intro x hx
  obtain ⟨y, hy, rfl⟩ := List.mem_map.mp hx
  obtain ⟨a, b, c⟩ := h y hy
  by_cases e : y.1 = k
  · rw [if_pos e]
    have := gr_st_le y.2 v
    exact ⟨by show (gr_st y.2 v).1 ≤ B + 1; omega, by show (gr_st y.2 v).2.1 ≤ B + 1; omega, c⟩
  · rw [if_neg e]; exact ⟨by omega, by omega, c⟩
theorem gr_ok_step {gs : GS} {k v : VV} (h : gr_ok gs) (hk : mq_ov false k) : gr_ok (gr_step gs k v) := by
  obtain ⟨h1, h2, h3⟩ := h
  unfold gr_step
  by_cases m : k ∈ gs.1.map Prod.fst
  · rw [if_pos m]
    exact ⟨gr_up_b h1, by rw [gr_up_keys]; exact h2, by rw [gr_up_len]; exact h3⟩
  · rw [if_neg m]
    by_cases l : gs.1.length < 12
    · rw [if_pos l]
      refine ⟨gr_up_b (fun x hx => ?_), ?_, ?_⟩
      · rcases List.mem_append.mp hx with hx | hx
        · exact h1 x hx
        · have : x = (k, gr_z) := by simpa using hx
          subst this
          exact ⟨Nat.zero_le _, Nat.zero_le _, hk⟩
      · rw [gr_up_keys, List.map_append]
        refine List.nodup_append.mpr ⟨h2, by simp, fun a ha b hb => ?_⟩
        have : b = k := by simpa using hb
        subst this
        intro e; subst e; exact m ha
      · rw [gr_up_len, List.length_append, List.length_singleton]; omega
    · rw [if_neg l]
      exact ⟨fun x hx => by obtain ⟨a, b, c⟩ := h1 x hx; exact ⟨by show x.2.1 ≤ gs.2.2 + 1; omega, by show x.2.2.1 ≤ gs.2.2 + 1; omega, c⟩, h2, h3⟩
theorem gr_ps (gs : GS) (k v : VV) : (gr_step gs k v).2.2 = gs.2.2 + 1 := by
  unfold gr_step; split
  · rfl
  · split <;> rfl
theorem gr_0 : gr_ok ([], false, 0) := ⟨fun x hx => absurd hx List.not_mem_nil, List.nodup_nil, Nat.zero_le _⟩
theorem gr_get {l : GL} {i : Nat} (h : i < l.length) : l[i]? = some (l.getD i gr_d) := by
  rw [List.getD_eq_getElem?_getD, List.getElem?_eq_getElem h]; rfl
theorem gr_mem {l : GL} {i : Nat} (h : i < l.length) : l.getD i gr_d ∈ l := List.mem_of_getElem? (gr_get h)
theorem gr_kinj {l : GL} (hn : (l.map Prod.fst).Nodup) {i j : Nat} (hi : i < l.length) (hj : j < l.length) (h : (l.getD i gr_d).1 = (l.getD j gr_d).1) : i = j := by
  have a : (l.map Prod.fst)[i]? = some (l.getD i gr_d).1 := by rw [List.getElem?_map, gr_get hi]; rfl
  have b : (l.map Prod.fst)[j]? = some (l.getD j gr_d).1 := by rw [List.getElem?_map, gr_get hj]; rfl
  rw [h, ← b] at a
  exact (List.getElem?_inj (by rw [List.length_map]; exact hi) hn).mp a
theorem gr_up_get {l : GL} {k v : VV} {i : Nat} (h : i < l.length) : (gr_up l k v).getD i gr_d = if (l.getD i gr_d).1 = k then ((l.getD i gr_d).1, gr_st (l.getD i gr_d).2 v) else l.getD i gr_d := by
  rw [List.getD_eq_getElem?_getD]
  unfold gr_up
  rw [List.getElem?_map, gr_get h]; rfl
theorem gr_kmem {l : GL} {k : VV} (h : k ∈ l.map Prod.fst) : ∃ i, i < l.length ∧ (l.getD i gr_d).1 = k := by
  obtain ⟨x, hx, rfl⟩ := List.mem_map.mp h
  obtain ⟨i, hi, e⟩ := List.mem_iff_getElem.mp hx
  refine ⟨i, hi, ?_⟩
  rw [List.getD_eq_getElem?_getD, List.getElem?_eq_getElem hi, e]; rfl
theorem gr_kmem' {l : GL} {i : Nat} (h : i < l.length) : (l.getD i gr_d).1 ∈ l.map Prod.fst := List.mem_map.mpr ⟨_, gr_mem h, rfl⟩
/-! keys in order: NULL first -/
def gr_lt (a b : VV) : Prop := (¬ a.2 = 0 ∧ b.2 = 0) ∨ (a.2 = 0 ∧ b.2 = 0 ∧ a.1 < b.1)
theorem gr_as {a b : VV} (h : gr_lt a b) (g : gr_lt b a) : False := by
  rcases h with ⟨h1, h2⟩ | ⟨h1, h2, h3⟩
  · rcases g with ⟨g1, g2⟩ | ⟨g1, g2, g3⟩
    · exact g1 h2
    · exact h1 g2
  · rcases g with ⟨g1, g2⟩ | ⟨g1, g2, g3⟩
    · exact g1 h2
    · exact Int64.lt_irrefl (Int64.lt_trans h3 g3)
def gr_srt (l : GL) : Prop := l.Pairwise (fun x y => gr_lt x.1 y.1)
theorem gr_uniq {l l' : GL} (h : gr_srt l) (h' : gr_srt l') (p : l.Perm l') : l = l' :=
  List.Perm.eq_of_pairwise (le := fun (x y : VV × RR) => gr_lt x.1 y.1) (fun a b _ _ q r => (gr_as q r).elim) h h' p
theorem gr_up_srt {l : GL} {k v : VV} (h : gr_srt l) : gr_srt (gr_up l k v) := by
  unfold gr_srt gr_up
  refine List.pairwise_map.mpr (List.Pairwise.imp (fun {x y} hxy => ?_) h)
  have e : ∀ z : VV × RR, (if z.1 = k then (z.1, gr_st z.2 v) else z).1 = z.1 := fun z => by split <;> rfl
  rw [e, e]; exact hxy
/-! what a run computes -/
def rn_env (R0 R1 : Nat → Nat → Int32) (i : Nat) (j : Option Nat) : Nat → Int32 := fun c => if c < 3 then R0 i c else match j with
  | none => -2147483648
  | some j => R1 j (c - 3)
def rn_ev (E : Nat → (Nat → Int32) → VV) (gs : GS) (env : Nat → Int32) : GS := if E 0 env = (1, 0) then gr_step gs (E 2 env) (E 1 env) else gs
/-- one row of table 1 against row i -/
def rn_j (E : Nat → (Nat → Int32) → VV) (R0 R1 : Nat → Nat → Int32) (l r i : Nat) (gs : GS) (j : Nat) : GS := if R1 j r = R0 i l then rn_ev E gs (rn_env R0 R1 i (some j)) else gs
def rn_mt (n1 : Nat) (R0 R1 : Nat → Nat → Int32) (mode l r i : Nat) : Prop := 0 < mode ∧ ¬ R0 i l = -2147483648 ∧ ∃ j, j < n1 ∧ R1 j r = R0 i l
noncomputable def rn_row (E : Nat → (Nat → Int32) → VV) (n1 : Nat) (R0 R1 : Nat → Nat → Int32) (mode l r : Nat) (gs : GS) (i : Nat) : GS :=
  @ite GS (mode = 0 ∨ (mode = 2 ∧ ¬ rn_mt n1 R0 R1 mode l r i)) (Classical.propDecidable _)
    (rn_ev E (if 0 < mode ∧ ¬ R0 i l = -2147483648 then (List.range n1).foldl (rn_j E R0 R1 l r i) gs else gs) (rn_env R0 R1 i none))
    (if 0 < mode ∧ ¬ R0 i l = -2147483648 then (List.range n1).foldl (rn_j E R0 R1 l r i) gs else gs)
noncomputable def rn_all (E : Nat → (Nat → Int32) → VV) (n1 : Nat) (R0 R1 : Nat → Nat → Int32) (mode l r n : Nat) : GS := (List.range n).foldl (rn_row E n1 R0 R1 mode l r) ([], false, 0)
theorem rn_ev_ok {E : Nat → (Nat → Int32) → VV} (hE : ∀ env, mq_ov false (E 2 env)) {gs : GS} {env : Nat → Int32} (h : gr_ok gs) : gr_ok (rn_ev E gs env) := by
  unfold rn_ev; split
  · exact gr_ok_step h (hE env)
  · exact h
theorem rn_ev_ps (E : Nat → (Nat → Int32) → VV) (gs : GS) (env : Nat → Int32) : (rn_ev E gs env).2.2 ≤ gs.2.2 + 1 := by
  unfold rn_ev; split
  · rw [gr_ps]; exact Nat.le_refl _
  · exact Nat.le_succ _
theorem rn_j_ok {E : Nat → (Nat → Int32) → VV} (hE : ∀ env, mq_ov false (E 2 env)) {R0 R1 : Nat → Nat → Int32} {l r i j : Nat} {gs : GS} (h : gr_ok gs) : gr_ok (rn_j E R0 R1 l r i gs j) := by
  unfold rn_j; split
  · exact rn_ev_ok hE h
  · exact h
theorem rn_j_ps {E : Nat → (Nat → Int32) → VV} {R0 R1 : Nat → Nat → Int32} {l r i j : Nat} {gs : GS} : (rn_j E R0 R1 l r i gs j).2.2 ≤ gs.2.2 + 1 := by
  unfold rn_j; split
  · exact rn_ev_ps _ _ _
  · exact Nat.le_succ _
theorem rn_fold {α : Type} {P : GS → Prop} {F : GS → α → GS} (h1 : ∀ gs a, P gs → P (F gs a)) (h2 : ∀ gs a, (F gs a).2.2 ≤ gs.2.2 + 1) : ∀ (l : List α) (gs : GS), P gs → P (l.foldl F gs) ∧ (l.foldl F gs).2.2 ≤ gs.2.2 + l.length
  | [], gs, h => ⟨h, Nat.le_refl _⟩
  | a :: s, gs, h => by
    obtain ⟨x, y⟩ := rn_fold h1 h2 s (F gs a) (h1 gs a h)
    refine ⟨x, ?_⟩
    have := h2 gs a
    rw [List.length_cons]
    show (s.foldl F (F gs a)).2.2 ≤ _
    omega
theorem rn_row_ok {E : Nat → (Nat → Int32) → VV} (hE : ∀ env, mq_ov false (E 2 env)) {n1 : Nat} {R0 R1 : Nat → Nat → Int32} {mode l r i : Nat} {gs : GS} (h : gr_ok gs) :
    gr_ok (rn_row E n1 R0 R1 mode l r gs i) ∧ (rn_row E n1 R0 R1 mode l r gs i).2.2 ≤ gs.2.2 + n1 + 1 := by
  have f := rn_fold (P := gr_ok) (F := rn_j E R0 R1 l r i) (fun gs a h => rn_j_ok hE h) (fun gs a => rn_j_ps) (List.range n1) gs h
  rw [List.length_range] at f
  have g : gr_ok (if 0 < mode ∧ ¬ R0 i l = -2147483648 then (List.range n1).foldl (rn_j E R0 R1 l r i) gs else gs) ∧ (if 0 < mode ∧ ¬ R0 i l = -2147483648 then (List.range n1).foldl (rn_j E R0 R1 l r i) gs else gs).2.2 ≤ gs.2.2 + n1 := by
    split
    · exact f
    · exact ⟨h, by omega⟩
  unfold rn_row
  split
  · have := rn_ev_ps E (if 0 < mode ∧ ¬ R0 i l = -2147483648 then (List.range n1).foldl (rn_j E R0 R1 l r i) gs else gs) (rn_env R0 R1 i none)
    exact ⟨rn_ev_ok hE g.1, by omega⟩
  · exact ⟨g.1, by omega⟩
theorem rn_all_s {E : Nat → (Nat → Int32) → VV} {n1 : Nat} {R0 R1 : Nat → Nat → Int32} {mode l r n : Nat} : rn_all E n1 R0 R1 mode l r (n + 1) = rn_row E n1 R0 R1 mode l r (rn_all E n1 R0 R1 mode l r n) n := by
  unfold rn_all
  rw [List.range_succ, List.foldl_append]; rfl
theorem rn_all_ok {E : Nat → (Nat → Int32) → VV} (hE : ∀ env, mq_ov false (E 2 env)) {n1 : Nat} {R0 R1 : Nat → Nat → Int32} {mode l r : Nat} (hn : n1 ≤ 16) : ∀ n, gr_ok (rn_all E n1 R0 R1 mode l r n) ∧ (rn_all E n1 R0 R1 mode l r n).2.2 ≤ 17 * n
  | 0 => ⟨gr_0, Nat.le_refl _⟩
  | n + 1 => by
    obtain ⟨a, b⟩ := rn_all_ok hE (n1 := n1) (R0 := R0) (R1 := R1) (mode := mode) (l := l) (r := r) hn n
    obtain ⟨c, d⟩ := rn_row_ok hE (n1 := n1) (R0 := R0) (R1 := R1) (mode := mode) (l := l) (r := r) (i := n) a
    rw [rn_all_s]
    exact ⟨c, by omega⟩
theorem rn_foldcg {α : Type} {F F' : GS → α → GS} : ∀ (l : List α) (gs : GS), (∀ gs a, a ∈ l → F gs a = F' gs a) → l.foldl F gs = l.foldl F' gs
  | [], _, _ => rfl
  | a :: s, gs, h => by
    show s.foldl F (F gs a) = s.foldl F' (F' gs a)
    rw [h gs a (List.mem_cons_self ..)]
    exact rn_foldcg s _ (fun g b hb => h g b (List.mem_cons_of_mem _ hb))
theorem rn_foldid {α : Type} {F : GS → α → GS} (l : List α) (gs : GS) (h : ∀ gs a, a ∈ l → F gs a = gs) : l.foldl F gs = gs := by
  rw [rn_foldcg (F' := fun gs _ => gs) l gs h]
  induction l generalizing gs with
  | nil => rfl
  | cons a s ih => exact ih gs (fun g b hb => h g b (List.mem_cons_of_mem _ hb))
/-- a row that never passes -/
theorem rn_row_id {E : Nat → (Nat → Int32) → VV} {n1 : Nat} {R0 R1 : Nat → Nat → Int32} {mode l r i : Nat} {gs : GS} (h : ∀ j, (∀ q, j = some q → q < n1) → ¬ E 0 (rn_env R0 R1 i j) = (1, 0)) : rn_row E n1 R0 R1 mode l r gs i = gs := by
  have f : (if 0 < mode ∧ ¬ R0 i l = -2147483648 then (List.range n1).foldl (rn_j E R0 R1 l r i) gs else gs) = gs := by
    split
    · refine rn_foldid _ _ (fun g a ha => ?_)
      unfold rn_j
      split
      · unfold rn_ev; rw [if_neg (h (some a) (fun q e => by cases e; exact List.mem_range.mp ha))]
      · rfl
    · rfl
  unfold rn_row
  rw [f]
  split
  · unfold rn_ev; rw [if_neg (h none (fun q e => by cases e))]
  · rfl
end
section
/-! ===== Y: groups ===== -/
def yg_rec (gN : Nat → Int32) (gK gS : Nat → Int64) (p : Nat) (x : VV × RR) : Prop := gN p = x.1.2 ∧ gK p = x.1.1 ∧ gS (5 * p) = lN x.2.1 ∧ gS (5 * p + 1) = lN x.2.2.1 ∧ gS (5 * p + 2) = x.2.2.2.1 ∧ gS (5 * p + 3) = x.2.2.2.2.1 ∧ gS (5 * p + 4) = x.2.2.2.2.2
def yg_at (gN : Nat → Int32) (gK gS : Nat → Int64) (l : GL) : Prop := ∀ p, p < l.length → yg_rec gN gK gS p (l.getD p gr_d)
theorem gr_tr {a b c : VV} (h : gr_lt a b) (g : gr_lt b c) : gr_lt a c := by
  rcases h with ⟨h1, h2⟩ | ⟨h1, h2, h3⟩
  · rcases g with ⟨g1, g2⟩ | ⟨g1, g2, g3⟩
    · exact absurd h2 g1
    · exact Or.inl ⟨h1, g2⟩
  · rcases g with ⟨g1, g2⟩ | ⟨g1, g2, g3⟩
    · exact absurd h2 g1
    · exact Or.inr ⟨h1, g2, Int64.lt_trans h3 g3⟩
theorem yg_fr {gN gN' : Nat → Int32} {gK gS gK' gS' : Nat → Int64} {p : Nat} {x : VV × RR} (h1 : gN' p = gN p) (h2 : gK' p = gK p) (h3 : ∀ k, k < 5 → gS' (5 * p + k) = gS (5 * p + k)) (h : yg_rec gN gK gS p x) : yg_rec gN' gK' gS' p x := by
  obtain ⟨a, b, c, d, e, f, g⟩ := h
  exact ⟨h1.trans a, h2.trans b, (h3 0 (by omega)).trans c, (h3 1 (by omega)).trans d, (h3 2 (by omega)).trans e, (h3 3 (by omega)).trans f, (h3 4 (by omega)).trans g⟩
def yg_li (l : GL) (a : Nat) (k : VV) : GL := l.take a ++ (k, gr_z) :: l.drop a
theorem yg_li_len {l : GL} {a : Nat} {k : VV} (h : a ≤ l.length) : (yg_li l a k).length = l.length + 1 := by
  unfold yg_li
  rw [List.length_append, List.length_cons, List.length_take, List.length_drop]; omega
theorem yg_li_get {l : GL} {a : Nat} {k : VV} (h : a ≤ l.length) (p : Nat) : (yg_li l a k).getD p gr_d = if p < a then l.getD p gr_d else if p = a then (k, gr_z) else l.getD (p - 1) gr_d := by
  unfold yg_li
  have lt : (l.take a).length = a := by rw [List.length_take]; omega
  rw [List.getD_eq_getElem?_getD]
  by_cases e : p < a
  · rw [if_pos e, List.getElem?_append_left (by omega), List.getElem?_take_of_lt e, List.getD_eq_getElem?_getD]
  · rw [if_neg e, List.getElem?_append_right (by omega), lt]
    by_cases f : p = a
    · rw [if_pos f, f, Nat.sub_self]; rfl
    · rw [if_neg f]
      obtain ⟨q, rfl⟩ : ∃ q, p = a + (q + 1) := ⟨p - a - 1, by omega⟩
      rw [show a + (q + 1) - a = q + 1 by omega, List.getElem?_cons_succ, List.getElem?_drop, List.getD_eq_getElem?_getD, show a + (q + 1) - 1 = a + q by omega]
theorem yg_li_perm {l : GL} {a : Nat} {k : VV} : (yg_li l a k).Perm (l ++ [(k, gr_z)]) := by
  unfold yg_li
  have h1 : (l.take a ++ (k, gr_z) :: l.drop a).Perm ((k, gr_z) :: (l.take a ++ l.drop a)) := List.perm_middle
  rw [List.take_append_drop] at h1
  exact h1.trans (List.perm_append_comm (l₁ := [(k, gr_z)]) (l₂ := l))
theorem yg_li_srt {l : GL} {a : Nat} {k : VV} (h : gr_srt l) (ha : a ≤ l.length) (h1 : ∀ p, p < a → gr_lt (l.getD p gr_d).1 k) (h2 : ∀ p, a ≤ p → p < l.length → gr_lt k (l.getD p gr_d).1) : gr_srt (yg_li l a k) := by
  unfold gr_srt yg_li
  have tk : ∀ x, x ∈ l.take a → gr_lt x.1 k := by
    intro x hx
    obtain ⟨i, hi, e⟩ := List.mem_iff_getElem.mp hx
    have il : i < a := by rw [List.length_take] at hi; omega
    have := h1 i il
    rw [List.getD_eq_getElem?_getD, List.getElem?_eq_getElem (show i < l.length by omega)] at this
    rw [List.getElem_take] at e
    rw [← e]; exact this
  have dk : ∀ x, x ∈ l.drop a → gr_lt k x.1 := by
    intro x hx
    obtain ⟨i, hi, e⟩ := List.mem_iff_getElem.mp hx
    rw [List.length_drop] at hi
    have := h2 (a + i) (by omega) (by omega)
    rw [List.getD_eq_getElem?_getD, List.getElem?_eq_getElem (show a + i < l.length by omega)] at this
    rw [List.getElem_drop] at e
    rw [← e]; exact this
  refine List.pairwise_append.mpr ⟨List.Pairwise.sublist (List.take_sublist _ _) h, List.Pairwise.cons dk (List.Pairwise.sublist (List.drop_sublist _ _) h), fun x hx y hy => ?_⟩
  rcases List.mem_cons.mp hy with rfl | hy
  · exact tk x hx
  · exact gr_tr (tk x hx) (dk y hy)
theorem gr_slt {l : GL} (h : gr_srt l) {i j : Nat} (hij : i < j) (hj : j < l.length) : gr_lt (l.getD i gr_d).1 (l.getD j gr_d).1 := by
  have a := List.pairwise_iff_getElem.mp h i j (by omega) hj hij
  rw [List.getD_eq_getElem?_getD, List.getD_eq_getElem?_getD, List.getElem?_eq_getElem (show i < l.length by omega), List.getElem?_eq_getElem hj]
  exact a
theorem ov_01 {k : VV} (h : mq_ov false k) : k.2 = 0 ∨ k.2 = 1 := by
  rcases h with h | h
  · exact Or.inl h
  · exact Or.inr (by rw [h])
section YGR
variable {y_top y_groups y_full y_passed : Int32}
variable {b_cells b_count b_tok b_con b_len b_isNull b_gNull : Nat → Int32}
variable {b_num b_gKey b_gStat : Nat → Int64}
theorem yg_26 {post : SY → Prop} {fr to : Nat} (hf : fr < 12) (ht : to < 12) (hn : fr ≠ to) (K : ∀ gS', (∀ j, gS' j = if 5 * to ≤ j ∧ j < 5 * to + 5 then b_gStat (5 * fr + (j - 5 * to)) else b_gStat j) → post (y_top, y_groups, y_full, y_passed, b_cells, b_count, b_tok, b_con, b_len, b_num, b_isNull, b_gNull, b_gKey, gS')) :
    ∀ (r n k : Nat) (gS : Nat → Int64), k + r = 5 → r < n → (∀ j, gS j = if 5 * to ≤ j ∧ j < 5 * to + k then b_gStat (5 * fr + (j - 5 * to)) else b_gStat j) → wY_moveGroup_26 post (nI fr) (nI to) y_top y_groups y_full y_passed n (nI k) b_cells b_count b_tok b_con b_len b_num b_isNull b_gNull b_gKey gS := by
  intro r
  induction r with
  | zero =>
    intro n k gS hk hn h
    obtain ⟨n, rfl⟩ := zb_ex hn
    have : k = 5 := by omega
    subst this
    rw [wY_moveGroup_26]
    exact br_t (by decide) (K gS h)
  | succ r ih =>
    intro n k gS hk hn h
    obtain ⟨n, rfl⟩ := zb_ex (show 0 < n by omega)
    have e1 : 5 * nI fr + nI k = nI (5 * fr + k) := by rw [show (5 : Int32) = nI 5 from rfl, pk_mul, nI_add]
    have e2 : 5 * nI to + nI k = nI (5 * to + k) := by rw [show (5 : Int32) = nI 5 from rfl, pk_mul, nI_add]
    rw [wY_moveGroup_26]
    dsimp only
    rw [e1, e2, nI_clamp (show 5 * fr + k < 2 ^ 31 by omega), nI_clamp (show 5 * to + k < 2 ^ 31 by omega)]
    refine br_f (nI_ge (b := 5) (by omega) (by decide)) ⟨vp_in_nI (by omega) (by omega), vp_in_nI (by omega) (by omega), nm_e (nm_r (nI_1 k) (ih n (k + 1) _ (by omega) (by omega) (fun j => ?_)))⟩
    by_cases q : j = 5 * to + k
    · subst q
      rw [pk_uLs, if_pos (by omega), h (5 * fr + k), if_neg (by omega), show 5 * to + k - 5 * to = k by omega]
    · rw [pk_uLn q, h j]
      by_cases z : 5 * to ≤ j ∧ j < 5 * to + k
      · rw [if_pos z, if_pos (by omega)]
      · rw [if_neg z, if_neg (by omega)]
theorem yg_move {post : SY → Prop} {fr to : Nat} (hf : fr < 12) (ht : to < 12) (hn : fr ≠ to) (h01 : b_gNull fr = 0 ∨ b_gNull fr = 1)
    (K : ∀ gN' gK' gS', (∀ x, yg_rec b_gNull b_gKey b_gStat fr x → yg_rec gN' gK' gS' to x) → (∀ q x, q ≠ to → yg_rec b_gNull b_gKey b_gStat q x → yg_rec gN' gK' gS' q x) → post (y_top, y_groups, y_full, y_passed, b_cells, b_count, b_tok, b_con, b_len, b_num, b_isNull, gN', gK', gS')) : wpY_moveGroup post (y_top, y_groups, y_full, y_passed, b_cells, b_count, b_tok, b_con, b_len, b_num, b_isNull, b_gNull, b_gKey, b_gStat) (nI fr) (nI to) := by
  have wf : vp_in (nI fr) 12 := vp_in_nI hf (by omega)
  have wt : vp_in (nI to) 12 := vp_in_nI ht (by omega)
  unfold wpY_moveGroup
  dsimp only
  rw [nI_clamp (show fr < 2 ^ 31 by omega), nI_clamp (show to < 2 ^ 31 by omega), zb_t h01]
  refine ⟨wf, wt, nm_e ⟨wf, wt, nm_e ⟨6, yg_26 hf ht hn (fun gS' hS => K _ _ gS' (fun x hx => ?_) (fun q x hq hx => ?_)) 5 6 0 b_gStat (by omega) (by omega) (fun j => by rw [if_neg (by omega)])⟩⟩⟩
  · obtain ⟨a, b, c, d, e, f, g⟩ := hx
    refine ⟨pk_us.trans a, pk_uLs.trans b, ?_, ?_, ?_, ?_, ?_⟩
    · rw [hS, if_pos (by omega), show 5 * fr + (5 * to - 5 * to) = 5 * fr by omega]; exact c
    · rw [hS, if_pos (by omega), show 5 * fr + (5 * to + 1 - 5 * to) = 5 * fr + 1 by omega]; exact d
    · rw [hS, if_pos (by omega), show 5 * fr + (5 * to + 2 - 5 * to) = 5 * fr + 2 by omega]; exact e
    · rw [hS, if_pos (by omega), show 5 * fr + (5 * to + 3 - 5 * to) = 5 * fr + 3 by omega]; exact f
    · rw [hS, if_pos (by omega), show 5 * fr + (5 * to + 4 - 5 * to) = 5 * fr + 4 by omega]; exact g
  · exact yg_fr (pk_un hq) (pk_uLn hq) (fun k hk => by rw [hS, if_neg (by omega)]) hx
theorem yg_141 {post : Int32 → SY → Prop} {at' : Nat} (ha : at' < 12) (K : ∀ gS', (∀ j, gS' j = if 5 * at' ≤ j ∧ j < 5 * at' + 5 then 0 else b_gStat j) → post (nI at') (y_top, y_groups, y_full, y_passed, b_cells, b_count, b_tok, b_con, b_len, b_num, b_isNull, b_gNull, b_gKey, gS')) :
    ∀ (r n k : Nat) (gS : Nat → Int64), k + r = 5 → r < n → (∀ j, gS j = if 5 * at' ≤ j ∧ j < 5 * at' + k then 0 else b_gStat j) → wY_groupOf_141 post (nI at') y_top y_groups y_full y_passed n (nI k) b_cells b_count b_tok b_con b_len b_num b_isNull b_gNull b_gKey gS := by
  intro r
  induction r with
  | zero =>
    intro n k gS hk hn h
    obtain ⟨n, rfl⟩ := zb_ex hn
    have : k = 5 := by omega
    subst this
    rw [wY_groupOf_141]
    exact br_t (by decide) (K gS h)
  | succ r ih =>
    intro n k gS hk hn h
    obtain ⟨n, rfl⟩ := zb_ex (show 0 < n by omega)
    have e2 : 5 * nI at' + nI k = nI (5 * at' + k) := by rw [show (5 : Int32) = nI 5 from rfl, pk_mul, nI_add]
    rw [wY_groupOf_141]
    dsimp only
    rw [e2, nI_clamp (show 5 * at' + k < 2 ^ 31 by omega)]
    refine br_f (nI_ge (b := 5) (by omega) (by decide)) ⟨vp_in_nI (by omega) (by omega), nm_e (nm_r (nI_1 k) (ih n (k + 1) _ (by omega) (by omega) (fun j => ?_)))⟩
    by_cases q : j = 5 * at' + k
    · subst q
      rw [pk_uLs, if_pos (by omega)]
    · rw [pk_uLn q, h j]
      by_cases z : 5 * at' ≤ j ∧ j < 5 * at' + k
      · rw [if_pos z, if_pos (by omega)]
      · rw [if_neg z, if_neg (by omega)]
theorem yg_112 {post : Int32 → SY → Prop} {a n : Nat} {k : VV} (ha : a < 12) (hk : mq_ov false k)
    (K : ∀ gN' gK' gS', yg_rec gN' gK' gS' a (k, gr_z) → (∀ q x, q ≠ a → yg_rec b_gNull b_gKey b_gStat q x → yg_rec gN' gK' gS' q x) → post (nI a) (y_top, nI (n + 1), y_full, y_passed, b_cells, b_count, b_tok, b_con, b_len, b_num, b_isNull, gN', gK', gS')) : wY_groupOf_112 post k.2 k.1 (nI a) y_top (nI n) y_full y_passed b_cells b_count b_tok b_con b_len b_num b_isNull b_gNull b_gKey b_gStat := by
  have wt : vp_in (nI a) 12 := vp_in_nI ha (by omega)
  unfold wY_groupOf_112
  rw [nI_clamp (show a < 2 ^ 31 by omega), zb_t (ov_01 hk)]
  refine nm_r (nI_1 n) ⟨wt, nm_e ⟨wt, nm_e ⟨6, yg_141 ha (fun gS' hS => K _ _ gS' ⟨pk_us, pk_uLs, ?_, ?_, ?_, ?_, ?_⟩ (fun q x hq hx => ?_)) 5 6 0 b_gStat (by omega) (by omega) (fun j => by rw [if_neg (by omega)])⟩⟩⟩
  · rw [hS, if_pos (by omega)]; rfl
  · rw [hS, if_pos (by omega)]; rfl
  · rw [hS, if_pos (by omega)]; rfl
  · rw [hS, if_pos (by omega)]; rfl
  · rw [hS, if_pos (by omega)]; rfl
  · exact yg_fr (pk_un hq) (pk_uLn hq) (fun j hj => by rw [hS, if_neg (by omega)]) hx
theorem yg_61 {post : Int32 → SY → Prop} {l : GL} {k : VV} (hk : mq_ov false k) (hl : l.length < 12) (hs : gr_srt l) (hov : ∀ p, p < l.length → mq_ov false (l.getD p gr_d).1) (hne : ∀ p, p < l.length → ¬ (l.getD p gr_d).1 = k)
    (K : ∀ a gN' gK' gS', a ≤ l.length → yg_at gN' gK' gS' (yg_li l a k) → gr_srt (yg_li l a k) → post (nI a) (y_top, nI (l.length + 1), y_full, y_passed, b_cells, b_count, b_tok, b_con, b_len, b_num, b_isNull, gN', gK', gS')) :
    ∀ (a n : Nat) (gN : Nat → Int32) (gK gS : Nat → Int64), a < n → a ≤ l.length → (∀ p, p < a → yg_rec gN gK gS p (l.getD p gr_d)) → (∀ p, a ≤ p → p < l.length → yg_rec gN gK gS (p + 1) (l.getD p gr_d)) → (∀ p, a ≤ p → p < l.length → gr_lt k (l.getD p gr_d).1) →
    wY_groupOf_61 post k.2 k.1 n (nI a) y_top (nI l.length) y_full y_passed b_cells b_count b_tok b_con b_len b_num b_isNull gN gK gS := by
  intro a
  induction a with
  | zero =>
    intro n gN gK gS hn ha h1 h2 h3
    obtain ⟨n, rfl⟩ := zb_ex hn
    rw [wY_groupOf_61]
    refine br_t (by decide) (yg_112 (by omega) hk (fun gN' gK' gS' q1 q2 => K 0 gN' gK' gS' (Nat.zero_le _) (fun p hp => ?_) (yg_li_srt hs (Nat.zero_le _) (fun p hp => by omega) (fun p _ hp => h3 p (by omega) hp))))
    rw [yg_li_len (Nat.zero_le _)] at hp
    rw [yg_li_get (Nat.zero_le _), if_neg (by omega)]
    by_cases e : p = 0
    · subst e; rw [if_pos rfl]; exact q1
    · rw [if_neg e]
      have := h2 (p - 1) (by omega) (by omega)
      rw [show p - 1 + 1 = p by omega] at this
      exact q2 p _ e this
  | succ a ih =>
    intro n gN gK gS hn ha h1 h2 h3
    obtain ⟨n, rfl⟩ := zb_ex (show 0 < n by omega)
    have e1 : nI (a + 1) - 1 = nI a := nI_pred a
    have ca : (nI a).toNatClampNeg = a := nI_clamp (by omega)
    have wa : vp_in (nI a) 12 := vp_in_nI (by omega) (by omega)
    have ra := h1 a (by omega)
    have va := hov a (by omega)
    have na := hne a (by omega)
    have stop : gr_lt (l.getD a gr_d).1 k → wY_groupOf_112 post k.2 k.1 (nI (a + 1)) y_top (nI l.length) y_full y_passed b_cells b_count b_tok b_con b_len b_num b_isNull gN gK gS := by
      intro lt
      refine yg_112 (by omega) hk (fun gN' gK' gS' q1 q2 => K (a + 1) gN' gK' gS' ha (fun p hp => ?_) (yg_li_srt hs ha (fun p hp => ?_) h3))
      · rw [yg_li_len ha] at hp
        rw [yg_li_get ha]
        by_cases e : p < a + 1
        · rw [if_pos e]; exact q2 p _ (by omega) (h1 p e)
        · rw [if_neg e]
          by_cases f : p = a + 1
          · subst f; rw [if_pos rfl]; exact q1
          · rw [if_neg f]
            have := h2 (p - 1) (by omega) (by omega)
            rw [show p - 1 + 1 = p by omega] at this
            exact q2 p _ f this
      · by_cases e : p = a
        · subst e; exact lt
        · exact gr_tr (gr_slt hs (show p < a by omega) (by omega)) lt
    have go : gr_lt k (l.getD a gr_d).1 → wY_groupOf_96 post (wY_groupOf_61 post k.2 k.1 n) k.2 k.1 (nI (a + 1)) y_top (nI l.length) y_full y_passed b_cells b_count b_tok b_con b_len b_num b_isNull gN gK gS := by
      intro lt
      unfold wY_groupOf_96
      rw [e1]
      refine yg_move (by omega) (by omega) (by omega) (by rw [ra.1]; exact ov_01 va) (fun gN' gK' gS' q1 q2 => nm_r (pk_m1 a) (ih n gN' gK' gS' (by omega) (by omega) (fun p hp => q2 p _ (by omega) (h1 p (by omega))) (fun p hp1 hp2 => ?_) (fun p hp1 hp2 => ?_)))
      · by_cases e : p = a
        · subst e; exact q1 _ ra
        · exact q2 (p + 1) _ (by omega) (h2 p (by omega) hp2)
      · by_cases e : p = a
        · subst e; exact lt
        · exact h3 p (by omega) hp2
    rw [wY_groupOf_61]
    dsimp only
    rw [e1, ca, ra.1, ra.2.1]
    refine br_f (nI_nle (by omega) (by omega)) ⟨wa, br_c (fun z => br_c (fun kz => ⟨wa, br_c (fun le => stop ?_) (fun nle => go ?_)⟩) (fun kz => go ?_)) (fun z => stop ?_)⟩
    · refine Or.inr ⟨z, kz, ?_⟩
      rcases Int64.lt_or_eq_of_le le with q | q
      · exact q
      · exact absurd (Prod.ext q (z.trans kz.symm)) na
    · exact Or.inr ⟨kz, z, Int64.not_le.mp nle⟩
    · exact Or.inl ⟨kz, z⟩
    · refine Or.inl ⟨z, ?_⟩
      rcases hk with q | q
      · exact q
      · rcases va with w | w
        · exact absurd w z
        · exact absurd (w.trans q.symm) na
theorem yg_groupOf {post : Int32 → SY → Prop} {l : GL} {k : VV} (hk : mq_ov false k) (hl : l.length ≤ 12) (hs : gr_srt l) (hov : ∀ p, p < l.length → mq_ov false (l.getD p gr_d).1) (hat : yg_at b_gNull b_gKey b_gStat l)
    (K1 : ∀ p, p < l.length → (l.getD p gr_d).1 = k → post (nI p) (y_top, nI l.length, y_full, y_passed, b_cells, b_count, b_tok, b_con, b_len, b_num, b_isNull, b_gNull, b_gKey, b_gStat)) (K2 : (∀ p, p < l.length → ¬ (l.getD p gr_d).1 = k) → l.length = 12 → post (-1) (y_top, nI l.length, y_full, y_passed, b_cells, b_count, b_tok, b_con, b_len, b_num, b_isNull, b_gNull, b_gKey, b_gStat))
    (K3 : (∀ p, p < l.length → ¬ (l.getD p gr_d).1 = k) → l.length < 12 → ∀ a gN' gK' gS', a ≤ l.length → yg_at gN' gK' gS' (yg_li l a k) → gr_srt (yg_li l a k) → post (nI a) (y_top, nI (l.length + 1), y_full, y_passed, b_cells, b_count, b_tok, b_con, b_len, b_num, b_isNull, gN', gK', gS')) :
    wpY_groupOf post (y_top, nI l.length, y_full, y_passed, b_cells, b_count, b_tok, b_con, b_len, b_num, b_isNull, b_gNull, b_gKey, b_gStat) k.2 k.1 := by
  have main : ∀ (r n p : Nat), p + r = l.length → r < n → (∀ q, q < p → ¬ (l.getD q gr_d).1 = k) → wY_groupOf_3 post k.2 k.1 y_top (nI l.length) y_full y_passed b_cells b_count b_tok b_con b_len b_num b_isNull b_gNull b_gKey b_gStat n (nI p) := by
    intro r
    induction r with
    | zero =>
      intro n p hp hn h
      obtain ⟨n, rfl⟩ := zb_ex hn
      have : p = l.length := by omega
      subst this
      rw [wY_groupOf_3]
      refine br_t (nI_le (Nat.le_refl _) (by omega)) (br_c (fun z => K2 h (zb_inj (b := 12) z (by omega) (by omega))) (fun z => ?_))
      have l12 : l.length < 12 := by
        have : l.length ≠ 12 := fun q => z (by rw [q]; rfl)
        omega
      exact ⟨l.length + 1, yg_61 hk l12 hs hov h (K3 h l12) l.length (l.length + 1) b_gNull b_gKey b_gStat (by omega) (Nat.le_refl _) hat (fun p h1 h2 => by omega) (fun p h1 h2 => by omega)⟩
    | succ r ih =>
      intro n p hp hn h
      obtain ⟨n, rfl⟩ := zb_ex (show 0 < n by omega)
      have rp := hat p (by omega)
      have nx : ¬ (l.getD p gr_d).1 = k → wY_groupOf_3 post k.2 k.1 y_top (nI l.length) y_full y_passed b_cells b_count b_tok b_con b_len b_num b_isNull b_gNull b_gKey b_gStat n (nI p + 1) := by
        intro ne
        rw [nI_1]
        refine ih n (p + 1) (by omega) (by omega) (fun q hq => ?_)
        by_cases e : q = p
        · subst e; exact ne
        · exact h q (by omega)
      rw [wY_groupOf_3]
      dsimp only
      rw [nI_clamp (show p < 2 ^ 31 by omega), rp.1, rp.2.1]
      exact br_f (nI_ge (by omega) (by omega)) ⟨vp_in_nI (by omega) (by omega), br_c (fun e1 => ⟨vp_in_nI (by omega) (by omega), br_c (fun e2 => K1 p (by omega) (Prod.ext e2 e1)) (fun e2 => nm_e (nx (fun z => e2 (by rw [z]))))⟩) (fun e1 => nm_e (nx (fun z => e1 (by rw [z]))))⟩
  exact ⟨l.length + 1, main l.length _ 0 (by omega) (by omega) (fun q hq => by omega)⟩
theorem yg_full {post : Int32 → SY → Prop} {x1 : Int32} {x2 : Int64} (K : ∀ r, post r (y_top, nI 12, y_full, y_passed, b_cells, b_count, b_tok, b_con, b_len, b_num, b_isNull, b_gNull, b_gKey, b_gStat)) : wpY_groupOf post (y_top, nI 12, y_full, y_passed, b_cells, b_count, b_tok, b_con, b_len, b_num, b_isNull, b_gNull, b_gKey, b_gStat) x1 x2 := by
  have main : ∀ (r n p : Nat), p + r = 12 → r < n → wY_groupOf_3 post x1 x2 y_top (nI 12) y_full y_passed b_cells b_count b_tok b_con b_len b_num b_isNull b_gNull b_gKey b_gStat n (nI p) := by
    intro r
    induction r with
    | zero =>
      intro n p hp hn
      obtain ⟨n, rfl⟩ := zb_ex hn
      have : p = 12 := by omega
      subst this
      rw [wY_groupOf_3]
      exact br_t (nI_le (Nat.le_refl _) (by omega)) (br_t rfl (K _))
    | succ r ih =>
      intro n p hp hn
      obtain ⟨n, rfl⟩ := zb_ex (show 0 < n by omega)
      have nx : wY_groupOf_3 post x1 x2 y_top (nI 12) y_full y_passed b_cells b_count b_tok b_con b_len b_num b_isNull b_gNull b_gKey b_gStat n (nI p + 1) := by
        rw [nI_1]; exact ih n (p + 1) (by omega) (by omega)
      rw [wY_groupOf_3]
      exact br_f (nI_ge (by omega) (by omega)) ⟨vp_in_nI (by omega) (by omega), br_c (fun e1 => ⟨vp_in_nI (by omega) (by omega), br_c (fun e2 => K _) (fun e2 => nm_e nx)⟩) (fun e1 => nm_e nx)⟩
  exact ⟨13, main 12 13 0 (by omega) (by omega)⟩
end YGR
end
section
/-! ===== Y: pair ===== -/
def yr_ok (gs : GS) (groups full passed : Int32) (gN : Nat → Int32) (gK gS : Nat → Int64) : Prop :=
  passed = nI gs.2.2 ∧ (gs.2.1 = false → full = 0 ∧ ∃ ly : GL, ly.Perm gs.1 ∧ gr_srt ly ∧ groups = nI ly.length ∧ yg_at gN gK gS ly) ∧ (gs.2.1 = true → full = 1 ∧ groups = nI 12)
section YPA
variable {y_top y_groups y_full y_passed : Int32}
variable {b_cells b_count b_tok b_con b_len b_isNull b_gNull : Nat → Int32}
variable {b_num b_gKey b_gStat : Nat → Int64}
/-- one pair more in group g -/
theorem yp_st {post : SY → Prop} {g : Nat} {k v : VV} {r : RR} (hg : g < 12) (hb : r.1 < 2 ^ 30 ∧ r.2.1 < 2 ^ 30) (hv : mq_ov false v) (hn : b_isNull 0 = v.2) (hm : b_num 0 = v.1) (hr : yg_rec b_gNull b_gKey b_gStat g (k, r))
    (K : ∀ gS', yg_rec b_gNull b_gKey gS' g (k, gr_st r v) → (∀ j, (j < 5 * g ∨ 5 * g + 5 ≤ j) → gS' j = b_gStat j) → post (y_top, y_groups, y_full, y_passed, b_cells, b_count, b_tok, b_con, b_len, b_num, b_isNull, b_gNull, b_gKey, gS')) :
    vp_in (5 * nI g) 60 ∧ (vp_in (5 * nI g) 60 ∧ ∀ s, s = vp_updL b_gStat (5 * nI g).toNatClampNeg ((b_gStat (5 * nI g).toNatClampNeg) + 1) → (((b_isNull 0) = 0 → (∀ x4, x4 = b_num 0 → (vp_in ((5 * nI g) + 1) 60 ∧ (((s ((5 * nI g) + 1).toNatClampNeg) = 0 → wY_pair_127 post (nI g) x4 1 y_top y_groups y_full y_passed b_cells b_count b_tok b_con b_len b_num b_isNull b_gNull b_gKey s) ∧ (¬ (s ((5 * nI g) + 1).toNatClampNeg) = 0 → wY_pair_127 post (nI g) x4 0 y_top y_groups y_full y_passed b_cells b_count b_tok b_con b_len b_num b_isNull b_gNull b_gKey s))))) ∧ (¬ (b_isNull 0) = 0 → post (y_top, y_groups, y_full, y_passed, b_cells, b_count, b_tok, b_con, b_len, b_num, b_isNull, b_gNull, b_gKey, s)))) := by
  obtain ⟨r1, r2, r3, r4, r5, r6, r7⟩ := hr
  have e0 : 5 * nI g = nI (5 * g) := pk_mul 5 g
  have e1 : nI (5 * g) + 1 = nI (5 * g + 1) := nI_1 _
  have e2 : nI (5 * g) + 2 = nI (5 * g + 2) := nI_add _ 2
  have e3 : nI (5 * g) + 3 = nI (5 * g + 3) := nI_add _ 3
  have e4 : nI (5 * g) + 4 = nI (5 * g + 4) := nI_add _ 4
  have c0 : (nI (5 * g)).toNatClampNeg = 5 * g := nI_clamp (by omega)
  have c1 : (nI (5 * g + 1)).toNatClampNeg = 5 * g + 1 := nI_clamp (by omega)
  have c2 : (nI (5 * g + 2)).toNatClampNeg = 5 * g + 2 := nI_clamp (by omega)
  have c3 : (nI (5 * g + 3)).toNatClampNeg = 5 * g + 3 := nI_clamp (by omega)
  have c4 : (nI (5 * g + 4)).toNatClampNeg = 5 * g + 4 := nI_clamp (by omega)
  have w0 : vp_in (nI (5 * g)) 60 := vp_in_nI (by omega) (by omega)
  have w1 : vp_in (nI (5 * g + 1)) 60 := vp_in_nI (by omega) (by omega)
  have w2 : vp_in (nI (5 * g + 2)) 60 := vp_in_nI (by omega) (by omega)
  have w3 : vp_in (nI (5 * g + 3)) 60 := vp_in_nI (by omega) (by omega)
  have w4 : vp_in (nI (5 * g + 4)) 60 := vp_in_nI (by omega) (by omega)
  rw [e0, e1, c0, c1]
  have r3 : b_gStat (5 * g) = lN r.1 := r3
  have r4 : b_gStat (5 * g + 1) = lN r.2.1 := r4
  have r5 : b_gStat (5 * g + 2) = r.2.2.1 := r5
  have r6 : b_gStat (5 * g + 3) = r.2.2.2.1 := r6
  have r7 : b_gStat (5 * g + 4) = r.2.2.2.2 := r7
  refine ⟨w0, w0, nm_r (e' := vp_updL b_gStat (5 * g) (lN (r.1 + 1))) (by rw [r3, lN_1]) ?_⟩
  rw [pk_uLn (show 5 * g + 1 ≠ 5 * g by omega), r4, hn]
  by_cases z : v.2 = 0
  · -- a value
    refine br_t z (nm_r hm ⟨w1, ?_⟩)
    have gs : gr_st r v = (r.1 + 1, r.2.1 + 1, r.2.2.1 + v.1, (if r.2.1 = 0 ∨ v.1 < r.2.2.2.1 then v.1 else r.2.2.2.1), (if r.2.1 = 0 ∨ r.2.2.2.2 < v.1 then v.1 else r.2.2.2.2)) := by unfold gr_st; rw [if_pos z]
    -- the last two cells
    have fin : ∀ (S : Nat → Int64), (∀ j, (j < 5 * g ∨ 5 * g + 5 ≤ j) → S j = b_gStat j) → S (5 * g) = lN (r.1 + 1) → S (5 * g + 1) = lN (r.2.1 + 1) → S (5 * g + 2) = r.2.2.1 + v.1 → S (5 * g + 3) = (if r.2.1 = 0 ∨ v.1 < r.2.2.2.1 then v.1 else r.2.2.2.1) → S (5 * g + 4) = r.2.2.2.2 → ∀ f : Int32, (f = 1 ∧ r.2.1 = 0 ∨ f = 0 ∧ ¬ r.2.1 = 0) → wY_pair_191 post (nI g) v.1 f y_top y_groups y_full y_passed b_cells b_count b_tok b_con b_len b_num b_isNull b_gNull b_gKey S := by
      intro S so s0 s1 s2 s3 s4 f hf
      have done : ∀ y, y = (if r.2.1 = 0 ∨ r.2.2.2.2 < v.1 then v.1 else r.2.2.2.2) → post (y_top, y_groups, y_full, y_passed, b_cells, b_count, b_tok, b_con, b_len, b_num, b_isNull, b_gNull, b_gKey, vp_updL S (5 * g + 4) y) := by
        intro y hy
        refine K _ ?_ (fun j hj => (pk_uLn (by omega)).trans (so j hj))
        rw [gs]
        exact ⟨r1, r2, (pk_uLn (by omega)).trans s0, (pk_uLn (by omega)).trans s1, (pk_uLn (by omega)).trans s2, (pk_uLn (by omega)).trans s3, pk_uLs.trans hy⟩
      have s212 : (r.2.1 = 0 ∨ r.2.2.2.2 < v.1) → wY_pair_212 post (nI g) v.1 y_top y_groups y_full y_passed b_cells b_count b_tok b_con b_len b_num b_isNull b_gNull b_gKey S := by
        intro h
        unfold wY_pair_212
        rw [e0, e4, c4]
        exact ⟨w4, nm_e (done v.1 (by rw [if_pos h]))⟩
      unfold wY_pair_191
      rw [e0, e4, c4, s4]
      rcases hf with ⟨rfl, h0⟩ | ⟨rfl, h0⟩
      · exact br_f (by decide) (s212 (Or.inl h0))
      · refine br_t rfl ⟨w4, br_c (fun le => ?_) (fun nle => s212 (Or.inr (Int64.not_le.mp nle)))⟩
        have := done r.2.2.2.2 (by rw [if_neg (fun q => q.elim h0 (fun q => Int64.not_lt.mpr le q))])
        rw [← s4, zb_uselfL] at this
        exact this
    have s127 : ∀ f : Int32, (f = 1 ∧ r.2.1 = 0 ∨ f = 0 ∧ ¬ r.2.1 = 0) → wY_pair_127 post (nI g) v.1 f y_top y_groups y_full y_passed b_cells b_count b_tok b_con b_len b_num b_isNull b_gNull b_gKey (vp_updL b_gStat (5 * g) (lN (r.1 + 1))) := by
      intro f hf
      unfold wY_pair_127
      rw [e0, e1, e2, e3, c1, c2, c3]
      refine ⟨w1, w1, nm_r (e' := vp_updL (vp_updL b_gStat (5 * g) (lN (r.1 + 1))) (5 * g + 1) (lN (r.2.1 + 1))) (by rw [pk_uLn (show 5 * g + 1 ≠ 5 * g by omega), r4, lN_1]) ⟨w2, w2, nm_r (e' := vp_updL (vp_updL (vp_updL b_gStat (5 * g) (lN (r.1 + 1))) (5 * g + 1) (lN (r.2.1 + 1))) (5 * g + 2) (r.2.2.1 + v.1)) (by rw [pk_uLn (show 5 * g + 2 ≠ 5 * g + 1 by omega), pk_uLn (show 5 * g + 2 ≠ 5 * g by omega), r5]) ?_⟩⟩
      have o3 : vp_updL (vp_updL (vp_updL b_gStat (5 * g) (lN (r.1 + 1))) (5 * g + 1) (lN (r.2.1 + 1))) (5 * g + 2) (r.2.2.1 + v.1) (5 * g + 3) = r.2.2.2.1 := by
        rw [pk_uLn (by omega), pk_uLn (by omega), pk_uLn (by omega), r6]
      have o4 : vp_updL (vp_updL (vp_updL b_gStat (5 * g) (lN (r.1 + 1))) (5 * g + 1) (lN (r.2.1 + 1))) (5 * g + 2) (r.2.2.1 + v.1) (5 * g + 4) = r.2.2.2.2 := by
        rw [pk_uLn (by omega), pk_uLn (by omega), pk_uLn (by omega), r7]
      have oo : ∀ j, (j < 5 * g ∨ 5 * g + 5 ≤ j) → vp_updL (vp_updL (vp_updL b_gStat (5 * g) (lN (r.1 + 1))) (5 * g + 1) (lN (r.2.1 + 1))) (5 * g + 2) (r.2.2.1 + v.1) j = b_gStat j := by
        intro j hj
        rw [pk_uLn (by omega), pk_uLn (by omega), pk_uLn (by omega)]
      have o0 : vp_updL (vp_updL (vp_updL b_gStat (5 * g) (lN (r.1 + 1))) (5 * g + 1) (lN (r.2.1 + 1))) (5 * g + 2) (r.2.2.1 + v.1) (5 * g) = lN (r.1 + 1) := by
        rw [pk_uLn (by omega), pk_uLn (by omega), pk_uLs]
      have o1 : vp_updL (vp_updL (vp_updL b_gStat (5 * g) (lN (r.1 + 1))) (5 * g + 1) (lN (r.2.1 + 1))) (5 * g + 2) (r.2.2.1 + v.1) (5 * g + 1) = lN (r.2.1 + 1) := by
        rw [pk_uLn (by omega), pk_uLs]
      have o2 : vp_updL (vp_updL (vp_updL b_gStat (5 * g) (lN (r.1 + 1))) (5 * g + 1) (lN (r.2.1 + 1))) (5 * g + 2) (r.2.2.1 + v.1) (5 * g + 2) = r.2.2.1 + v.1 := pk_uLs
      generalize vp_updL (vp_updL (vp_updL b_gStat (5 * g) (lN (r.1 + 1))) (5 * g + 1) (lN (r.2.1 + 1))) (5 * g + 2) (r.2.2.1 + v.1) = S at o0 o1 o2 o3 o4 oo ⊢
      have s179 : (r.2.1 = 0 ∨ v.1 < r.2.2.2.1) → wY_pair_179 post (nI g) v.1 f y_top y_groups y_full y_passed b_cells b_count b_tok b_con b_len b_num b_isNull b_gNull b_gKey S := by
        intro h
        unfold wY_pair_179
        rw [e0, e3, c3]
        refine ⟨w3, nm_e (fin _ (fun j hj => (pk_uLn (by omega)).trans (oo j hj)) ((pk_uLn (by omega)).trans o0) ((pk_uLn (by omega)).trans o1) ((pk_uLn (by omega)).trans o2) (pk_uLs.trans (by rw [if_pos h])) ((pk_uLn (by omega)).trans o4) f hf)⟩
      rw [o3]
      rcases hf with ⟨rfl, h0⟩ | ⟨rfl, h0⟩
      · exact br_f (by decide) (s179 (Or.inl h0))
      · refine br_t rfl ⟨w3, br_c (fun le => ?_) (fun nle => s179 (Or.inr (Int64.not_le.mp nle)))⟩
        exact fin S oo o0 o1 o2 (by rw [o3, if_neg (fun q => q.elim h0 (fun q => Int64.not_lt.mpr le q))]) o4 0 (Or.inr ⟨rfl, h0⟩)
    refine br_c (fun h => s127 1 (Or.inl ⟨rfl, ?_⟩)) (fun h => s127 0 (Or.inr ⟨rfl, fun q => h (by rw [q]; rfl)⟩))
    exact (lN_eq (b := 0) (by omega) (by omega)).mp h
  · -- NULL
    refine br_f z (K _ ?_ (fun j hj => pk_uLn (by omega)))
    have gs : gr_st r v = (r.1 + 1, r.2) := by unfold gr_st; rw [if_neg z]
    rw [gs]
    exact ⟨r1, r2, pk_uLs, (pk_uLn (by omega)).trans r4, (pk_uLn (by omega)).trans r5, (pk_uLn (by omega)).trans r6, (pk_uLn (by omega)).trans r7⟩
variable {E : Nat → (Nat → Int32) → VV} {env : Nat → Int32} {i : Nat} {x3 : Int32} {gs : GS}
theorem yp_pair {post : SY → Prop} (hE : ∀ e, e < 3 → xk_tk b_tok b_con b_len e (tk_k e) (E e)) (hv : yv_env b_cells env i x3) (hok : gr_ok gs) (hps : gs.2.2 < 2 ^ 30) (hR : yr_ok gs y_groups y_full y_passed b_gNull b_gKey b_gStat)
    (K : ∀ top groups full passed num nul gN gK gS, yr_ok (rn_ev E gs env) groups full passed gN gK gS → post (top, groups, full, passed, b_cells, b_count, b_tok, b_con, b_len, num, nul, gN, gK, gS)) : wpY_pair post (y_top, y_groups, y_full, y_passed, b_cells, b_count, b_tok, b_con, b_len, b_num, b_isNull, b_gNull, b_gKey, b_gStat) (nI i) x3 := by
  obtain ⟨l0, a0, b0, c0', d0, f0⟩ := hE 0 (by omega)
  obtain ⟨l1, a1, b1, c1', d1, f1⟩ := hE 1 (by omega)
  obtain ⟨l2, a2, b2, c2', d2, f2⟩ := hE 2 (by omega)
  have ix : ∀ e l j, j < l → 20 * e + l - (j + 1) = 20 * e + (l - (j + 1)) := fun e l j hj => by omega
  have t0 : mq_ov true (E 0 env) := by
    have := mq_est_ty (env := env) (con := b_con) (fun j hj => by rw [ix 0 l0 j hj]; exact d0 _ (by omega)) c0'
    rw [f0 env] at this; exact this.1
  have t1 : mq_ov false (E 1 env) := by
    have := mq_est_ty (env := env) (con := b_con) (fun j hj => by rw [ix 1 l1 j hj]; exact d1 _ (by omega)) c1'
    rw [f1 env] at this; exact this.1
  have t2 : mq_ov false (E 2 env) := by
    have := mq_est_ty (env := env) (con := b_con) (fun j hj => by rw [ix 2 l2 j hj]; exact d2 _ (by omega)) c2'
    rw [f2 env] at this; exact this.1
  obtain ⟨p1, p2, p3⟩ := hR
  unfold wpY_pair
  dsimp only
  refine yw_eval (e := 0) (by omega) a0 b0 c0' d0 hv (f0 env) (fun top num nul n1 n2 => ?_)
  dsimp only
  rw [n1]
  by_cases pass : E 0 env = (1, 0)
  · have ev : rn_ev E gs env = gr_step gs (E 2 env) (E 1 env) := by unfold rn_ev; rw [if_pos pass]
    rw [ev] at K
    refine br_t (by rw [pass]) (nm_r (e' := nI (gs.2.2 + 1)) (by rw [p1, nI_1]) ?_)
    refine yw_eval (e := 2) (by omega) a2 b2 c2' d2 hv (f2 env) (fun top num nul n1 n2 => ?_)
    dsimp only
    rw [n1, n2]
    cases ov : gs.2.1 with
    | true =>
      obtain ⟨q1, q2⟩ := p3 ov
      subst q1; subst q2
      have fin : yr_ok (gr_step gs (E 2 env) (E 1 env)) (nI 12) 1 (nI (gs.2.2 + 1)) b_gNull b_gKey b_gStat := by
        have o2 : (gr_step gs (E 2 env) (E 1 env)).2.1 = true := by
          unfold gr_step; split
          · exact ov
          · split
            · exact ov
            · rfl
        exact ⟨by rw [gr_ps], (fun z => absurd (o2.symm.trans z) (by decide)), (fun _ => ⟨rfl, rfl⟩)⟩
      refine yg_full (fun r => ?_)
      dsimp only
      exact br_c (fun _ => br_f (by decide) (K _ _ _ _ _ _ _ _ _ fin)) (fun _ => br_f (by decide) (K _ _ _ _ _ _ _ _ _ fin))
    | false =>
      obtain ⟨q1, ly, pm, srt, q2, yat⟩ := p2 ov
      subst q1; subst q2
      obtain ⟨g1, g2, g3⟩ := hok
      have mem : ∀ p, p < ly.length → ly.getD p gr_d ∈ gs.1 := fun p hp => pm.mem_iff.mp (gr_mem hp)
      have len : ly.length = gs.1.length := pm.length_eq
      have hov : ∀ p, p < ly.length → mq_ov false (ly.getD p gr_d).1 := fun p hp => (g1 _ (mem p hp)).2.2
      have kiff : (∀ p, p < ly.length → ¬ (ly.getD p gr_d).1 = E 2 env) → ¬ E 2 env ∈ gs.1.map Prod.fst := by
        intro h z
        have : E 2 env ∈ ly.map Prod.fst := (pm.map Prod.fst).mem_iff.mpr z
        obtain ⟨p, hp, e⟩ := gr_kmem this
        exact h p hp e
      -- the statistics of group g of a list lz
      have stat : ∀ (lz : GL) (g : Nat) (top' : Int32) (num : Nat → Int64) (nul : Nat → Int32) (gN : Nat → Int32) (gK gS : Nat → Int64), lz.length ≤ 12 → (lz.map Prod.fst).Nodup → (∀ x, x ∈ lz → x.2.1 ≤ gs.2.2 ∧ x.2.2.1 ≤ gs.2.2) → g < lz.length → (lz.getD g gr_d).1 = E 2 env → yg_at gN gK gS lz →
          (∀ top num nul gS', yg_at gN gK gS' (gr_up lz (E 2 env) (E 1 env)) → post (top, nI lz.length, 0, nI (gs.2.2 + 1), b_cells, b_count, b_tok, b_con, b_len, num, nul, gN, gK, gS')) →
          wY_pair_62 post (nI i) x3 (nI g) top' (nI lz.length) 0 (nI (gs.2.2 + 1)) b_cells b_count b_tok b_con b_len num nul gN gK gS := by
        intro lz g top' num nul gN gK gS h1 h2 h3 h4 h5 h6 K'
        refine br_t rfl (yw_eval (e := 1) (by omega) a1 b1 c1' d1 hv (f1 env) (fun top num nul n1 n2 => ?_))
        have bb := h3 _ (gr_mem h4)
        have rr := h6 g h4
        rw [show lz.getD g gr_d = (E 2 env, (lz.getD g gr_d).2) from Prod.ext h5 rfl] at rr
        refine yp_st (k := E 2 env) (v := E 1 env) (r := (lz.getD g gr_d).2) (by omega) ⟨by omega, by omega⟩ t1 n2 n1 rr (fun gS' s1 s2 => K' top num nul gS' (fun p hp => ?_))
        rw [gr_up_len] at hp
        rw [gr_up_get hp]
        by_cases e : p = g
        · subst e
          rw [if_pos h5, h5]; exact s1
        · rw [if_neg (fun z => e (gr_kinj h2 hp h4 (z.trans h5.symm)))]
          exact yg_fr rfl rfl (fun k hk => s2 _ (by omega)) (h6 p hp)
      refine yg_groupOf (l := ly) t2 (by omega) srt hov yat (fun p hp he => ?_) (fun h hl => ?_) (fun h hl a gN' gK' gS' ha hat hs => ?_)
      · -- an older group
        have mm : E 2 env ∈ gs.1.map Prod.fst := (pm.map Prod.fst).mem_iff.mp (he ▸ gr_kmem' hp)
        refine br_t (nI_pos' (by omega)) (stat ly p top num nul _ _ _ (by omega) ((pm.map Prod.fst).nodup_iff.mpr g2) (fun x hx => ⟨(g1 x (pm.mem_iff.mp hx)).1, (g1 x (pm.mem_iff.mp hx)).2.1⟩) hp he yat (fun top num nul gS' hat' => K _ _ _ _ _ _ _ _ _ ?_))
        unfold gr_step
        rw [if_pos mm]
        refine ⟨rfl, fun _ => ⟨rfl, gr_up ly (E 2 env) (E 1 env), pm.map _, gr_up_srt srt, by rw [gr_up_len], hat'⟩, fun z => ?_⟩
        have z : gs.2.1 = true := z
        rw [ov] at z; cases z
      · -- no room
        dsimp only
        refine br_f (by decide) (br_f (by decide) (K top (nI ly.length) 1 (nI (gs.2.2 + 1)) num nul b_gNull b_gKey b_gStat ?_))
        unfold gr_step
        rw [if_neg (kiff h), if_neg (by omega)]
        exact ⟨rfl, (fun z => absurd (show true = false from z) (by decide)), (fun _ => ⟨rfl, by rw [hl]⟩)⟩
      · -- a new group
        have ll : (yg_li ly a (E 2 env)).length = ly.length + 1 := yg_li_len ha
        have pm2 : (yg_li ly a (E 2 env)).Perm (gs.1 ++ [(E 2 env, gr_z)]) := yg_li_perm.trans (List.Perm.append_right _ pm)
        have nd : ((yg_li ly a (E 2 env)).map Prod.fst).Nodup := by
          refine (pm2.map Prod.fst).nodup_iff.mpr ?_
          rw [List.map_append]
          refine List.nodup_append.mpr ⟨g2, by simp, fun x hx y hy => ?_⟩
          have : y = E 2 env := by simpa using hy
          subst this
          intro e; subst e; exact kiff h hx
        have := stat (yg_li ly a (E 2 env)) a top num nul gN' gK' gS' (by omega) nd (fun x hx => ?_) (by omega) (by rw [yg_li_get ha, if_neg (by omega), if_pos rfl]) hat (fun top num nul gS2 hat' => K _ _ _ _ _ _ _ _ _ ?_)
        · rw [ll] at this
          exact br_t (nI_pos' (by omega)) this
        · rcases List.mem_append.mp (pm2.mem_iff.mp hx) with q | q
          · exact ⟨(g1 x q).1, (g1 x q).2.1⟩
          · have : x = (E 2 env, gr_z) := by simpa using q
            subst this
            exact ⟨Nat.zero_le _, Nat.zero_le _⟩
        · unfold gr_step
          rw [if_neg (kiff h), if_pos (by omega)]
          refine ⟨rfl, fun _ => ⟨rfl, gr_up (yg_li ly a (E 2 env)) (E 2 env) (E 1 env), pm2.map _, gr_up_srt hs, by rw [gr_up_len], hat'⟩, fun z => ?_⟩
          have z : gs.2.1 = true := z
          rw [ov] at z; cases z
  · have ev : rn_ev E gs env = gs := by unfold rn_ev; rw [if_neg pass]
    rw [ev] at K
    refine br_f (fun z => pass ?_) (K _ _ _ _ _ _ _ _ _ ⟨p1, p2, p3⟩)
    rcases t0 with e | e | e
    · rw [e] at z; exact absurd z (by decide)
    · exact e
    · rw [e] at z; exact absurd z (by decide)
end YPA
end
section
/-! ===== Y: run ===== -/
theorem yn_env {cells : Nat → Int32} {count : Nat → Int32} {n0 n1 : Nat} {R0 R1 : Nat → Nat → Int32} {i : Nat} (h0 : ty_ok 0 n0 R0 cells count) (h1 : ty_ok 1 n1 R1 cells count) (hi : i < n0) :
    yv_env cells (rn_env R0 R1 i none) i (-1) ∧ ∀ j, j < n1 → yv_env cells (rn_env R0 R1 i (some j)) i (nI j) := by
  obtain ⟨a1, a2, a3⟩ := h0
  obtain ⟨b1, b2, b3⟩ := h1
  have lo : ∀ (o : Option Nat) c, c < 3 → cells (3 * i + c) = rn_env R0 R1 i o c := by
    intro o c hc
    have := a3 i c hi hc
    rw [show 48 * 0 + 3 * i + c = 3 * i + c by omega] at this
    unfold rn_env
    rw [if_pos hc]; exact this
  refine ⟨⟨by omega, lo none, Or.inl ⟨rfl, fun c h1 h2 => ?_⟩⟩, fun j hj => ⟨by omega, lo (some j), Or.inr ⟨j, by omega, rfl, fun c h1 h2 => ?_⟩⟩⟩
  · unfold rn_env; rw [if_neg (by omega)]
  · have := b3 j (c - 3) hj (by omega)
    rw [show 48 * 1 + 3 * j + (c - 3) = 48 + 3 * j + c - 3 by omega] at this
    unfold rn_env
    rw [if_neg (by omega)]; exact this
section YRU
variable {y_top y_groups y_full y_passed : Int32}
variable {b_cells b_count b_tok b_con b_len b_isNull b_gNull : Nat → Int32}
variable {b_num b_gKey b_gStat : Nat → Int64}
variable {E : Nat → (Nat → Int32) → VV} {n0 n1 : Nat} {R0 R1 : Nat → Nat → Int32} {mode l r i : Nat}
theorem yn_141 {post : Int32 → SY → Prop} {J : Int32 → Int32 → Int32 → Int32 → Int32 → (Nat → Int32) → (Nat → Int32) → (Nat → Int32) → (Nat → Int32) → (Nat → Int32) → (Nat → Int64) → (Nat → Int32) → (Nat → Int32) → (Nat → Int64) → (Nat → Int64) → Prop} {gs : GS} {x5 : Int32} (hE : ∀ e, e < 3 → xk_tk b_tok b_con b_len e (tk_k e) (E e)) (h0 : ty_ok 0 n0 R0 b_cells b_count) (h1 : ty_ok 1 n1 R1 b_cells b_count) (hi : i < n0) (hm : mode ≤ 2)
    (hok : gr_ok gs) (hps : gs.2.2 < 2 ^ 30) (hR : yr_ok gs y_groups y_full y_passed b_gNull b_gKey b_gStat) (hx : x5 = 0 ↔ ¬ rn_mt n1 R0 R1 mode l r i)
    (K : ∀ top groups full passed num nul gN gK gS, yr_ok (@ite GS (mode = 0 ∨ (mode = 2 ∧ ¬ rn_mt n1 R0 R1 mode l r i)) (Classical.propDecidable _) (rn_ev E gs (rn_env R0 R1 i none)) gs) groups full passed gN gK gS → J (nI (i + 1)) top groups full passed b_cells b_count b_tok b_con b_len num nul gN gK gS) :
    wY_run_141 post J (nI mode) (nI l) (nI (r + 3)) (nI i) x5 y_top y_groups y_full y_passed b_cells b_count b_tok b_con b_len b_num b_isNull b_gNull b_gKey b_gStat := by
  have s155 : (mode = 0 ∨ (mode = 2 ∧ ¬ rn_mt n1 R0 R1 mode l r i)) → wY_run_155 post J (nI mode) (nI l) (nI (r + 3)) (nI i) y_top y_groups y_full y_passed b_cells b_count b_tok b_con b_len b_num b_isNull b_gNull b_gKey b_gStat := by
    intro h
    rw [if_pos h] at K
    unfold wY_run_155
    refine yp_pair hE (yn_env h0 h1 hi).1 hok hps hR (fun top groups full passed num nul gN gK gS hr => nm_r (nI_1 i) (K top groups full passed num nul gN gK gS hr))
  have skip : ¬ (mode = 0 ∨ (mode = 2 ∧ ¬ rn_mt n1 R0 R1 mode l r i)) → J (nI (i + 1)) y_top y_groups y_full y_passed b_cells b_count b_tok b_con b_len b_num b_isNull b_gNull b_gKey b_gStat := by
    intro h
    rw [if_neg h] at K
    exact K _ _ _ _ _ _ _ _ _ hR
  refine br_c (fun z => s155 (Or.inl (zb_inj (b := 0) z (by omega) (by omega)))) (fun z => ?_)
  have m0 : ¬ mode = 0 := fun q => z (by rw [q]; rfl)
  refine br_c (fun z2 => ?_) (fun z2 => nm_r (nI_1 i) (skip ?_))
  · have m2 : mode = 2 := zb_inj (b := 2) z2 (by omega) (by omega)
    refine br_c (fun q => s155 (Or.inr ⟨m2, hx.mp q⟩)) (fun q => nm_r (nI_1 i) (skip ?_))
    rintro (w | w)
    · exact m0 w
    · exact q (hx.mpr w.2)
  · rintro (w | w)
    · exact m0 w
    · exact z2 (by rw [w.1]; rfl)
theorem yn_78 {post : Int32 → SY → Prop} {J : Int32 → Int32 → Int32 → Int32 → Int32 → (Nat → Int32) → (Nat → Int32) → (Nat → Int32) → (Nat → Int32) → (Nat → Int32) → (Nat → Int64) → (Nat → Int32) → (Nat → Int32) → (Nat → Int64) → (Nat → Int64) → Prop} (hE : ∀ e, e < 3 → xk_tk b_tok b_con b_len e (tk_k e) (E e)) (hov : ∀ env, mq_ov false (E 2 env)) (h0 : ty_ok 0 n0 R0 b_cells b_count) (h1 : ty_ok 1 n1 R1 b_cells b_count) (hi : i < n0) (hm : mode ≤ 2) (hr : r < 3)
    (gs0 : GS) (K : ∀ top groups full passed num nul gN gK gS, yr_ok (rn_row E n1 R0 R1 mode l r gs0 i) groups full passed gN gK gS → J (nI (i + 1)) top groups full passed b_cells b_count b_tok b_con b_len num nul gN gK gS) :
    ∀ (q n j : Nat) (gs : GS) (x5 : Int32) (top groups full passed : Int32) (num : Nat → Int64) (nul gN : Nat → Int32) (gK gS : Nat → Int64), j + q = n1 → q < n → gs = (if 0 < mode ∧ ¬ R0 i l = -2147483648 then (List.range j).foldl (rn_j E R0 R1 l r i) gs0 else gs0) → gr_ok gs → gs.2.2 + q < 2 ^ 29 → yr_ok gs groups full passed gN gK gS →
      (x5 = 0 ↔ ¬ (0 < mode ∧ ¬ R0 i l = -2147483648 ∧ ∃ j', j' < j ∧ R1 j' r = R0 i l)) →
      wY_run_78 post J (nI mode) (nI l) (nI (r + 3)) (nI i) (R0 i l) n x5 (nI j) top groups full passed b_cells b_count b_tok b_con b_len num nul gN gK gS := by
  obtain ⟨b1, b2, b3⟩ := id h1
  have fin : ∀ (gs : GS) (x5 top groups full passed : Int32) (num : Nat → Int64) (nul gN : Nat → Int32) (gK gS : Nat → Int64), gs = (if 0 < mode ∧ ¬ R0 i l = -2147483648 then (List.range n1).foldl (rn_j E R0 R1 l r i) gs0 else gs0) → gr_ok gs → gs.2.2 < 2 ^ 30 → yr_ok gs groups full passed gN gK gS → (x5 = 0 ↔ ¬ rn_mt n1 R0 R1 mode l r i) →
      wY_run_141 post J (nI mode) (nI l) (nI (r + 3)) (nI i) x5 top groups full passed b_cells b_count b_tok b_con b_len num nul gN gK gS := by
    intro gs x5 top groups full passed num nul gN gK gS hg hok hps hR hx
    refine yn_141 (gs := gs) hE h0 h1 hi hm hok hps hR hx (fun top groups full passed num nul gN gK gS h => K top groups full passed num nul gN gK gS ?_)
    subst hg
    exact h
  intro q
  induction q with
  | zero =>
    intro n j gs x5 top groups full passed num nul gN gK gS hj hn hg hok hps hR hx
    obtain ⟨n, rfl⟩ := zb_ex hn
    have : j = n1 := by omega
    subst this
    rw [wY_run_78]
    dsimp only
    rw [b2]
    exact br_t (nI_le (Nat.le_refl _) (by omega)) (fin gs x5 top groups full passed num nul gN gK gS hg hok (by omega) hR hx)
  | succ q ih =>
    intro n j gs x5 top groups full passed num nul gN gK gS hj hn hg hok hps hR hx
    obtain ⟨n, rfl⟩ := zb_ex (show 0 < n by omega)
    rw [wY_run_78]
    dsimp only
    rw [b2]
    refine br_f (nI_ge (by omega) (by omega)) (br_c (fun m0 => ?_) (fun m0 => ?_))
    · -- mode 0
      have mz : mode = 0 := by
        have := (nI_leI (b := 0) (show mode < 2 ^ 31 by omega) (by omega)).mp m0
        omega
      refine fin gs x5 top groups full passed num nul gN gK gS ?_ hok (by omega) hR ?_
      · rw [if_neg (by omega)] at hg ⊢; exact hg
      · rw [hx]; unfold rn_mt
        exact ⟨fun _ z => by omega, fun _ z => by omega⟩
    · have mp : 0 < mode := by
        rcases Nat.eq_zero_or_pos mode with z | z
        · subst z; exact absurd (by decide) m0
        · exact z
      refine br_c (fun nl => nm_r (nI_1 j) ?_) (fun nl => ?_)
      · refine ih n (j + 1) gs x5 top groups full passed num nul gN gK gS (by omega) (by omega) ?_ hok (by omega) hR ?_
        · rw [if_neg (fun z => z.2 nl)] at hg ⊢; exact hg
        · rw [hx]; exact ⟨fun _ z => z.2.1 nl, fun _ z => z.2.1 nl⟩
      · have ex : ((48 : Int32) + 3 * nI j) + nI (r + 3) - 3 = nI (48 * 1 + 3 * j + r) := by
          rw [show (48 : Int32) = nI 48 from rfl, show (3 : Int32) = nI 3 from rfl, pk_mul, nI_add, nI_add, pk_sub (by omega)]
          congr 1
        rw [ex, nI_clamp (show 48 * 1 + 3 * j + r < 2 ^ 31 by omega), b3 j r (by omega) hr]
        rw [if_pos ⟨mp, nl⟩] at hg
        have sn : ∀ g : GS, (List.range (j + 1)).foldl (rn_j E R0 R1 l r i) g = rn_j E R0 R1 l r i ((List.range j).foldl (rn_j E R0 R1 l r i) g) j := by
          intro g; rw [List.range_succ, List.foldl_append]; rfl
        refine ⟨vp_in_nI (by omega) (by omega), br_c (fun eq => ?_) (fun ne => nm_r (nI_1 j) ?_)⟩
        · have ej : rn_j E R0 R1 l r i gs j = rn_ev E gs (rn_env R0 R1 i (some j)) := by unfold rn_j; rw [if_pos eq]
          refine yp_pair hE ((yn_env h0 h1 hi).2 j (by omega)) hok (by omega) hR (fun top groups full passed num nul gN gK gS hR' => nm_r (nI_1 j) ?_)
          have pp := rn_ev_ps E gs (rn_env R0 R1 i (some j))
          refine ih n (j + 1) (rn_ev E gs (rn_env R0 R1 i (some j))) 1 top groups full passed num nul gN gK gS (by omega) (by omega) ?_ (rn_ev_ok hov hok) (by omega) hR' ?_
          · rw [if_pos ⟨mp, nl⟩, sn, ← hg, ej]
          · exact ⟨fun z => absurd z (by decide), fun z => absurd ⟨mp, nl, j, by omega, eq⟩ z⟩
        · have ej : rn_j E R0 R1 l r i gs j = gs := by unfold rn_j; rw [if_neg ne]
          refine ih n (j + 1) gs x5 top groups full passed num nul gN gK gS (by omega) (by omega) ?_ hok (by omega) hR ?_
          · rw [if_pos ⟨mp, nl⟩, sn, ← hg, ej]
          · rw [hx]
            refine ⟨fun z w => z ⟨mp, nl, ?_⟩, fun z w => z ⟨mp, nl, ?_⟩⟩
            · obtain ⟨_, _, j', h1', h2'⟩ := w
              refine ⟨j', ?_, h2'⟩
              have : j' ≠ j := fun e => by subst e; exact ne h2'
              omega
            · obtain ⟨_, _, j', h1', h2'⟩ := w
              exact ⟨j', by omega, h2'⟩
theorem yn_run {post : Int32 → SY → Prop} (hE : ∀ e, e < 3 → xk_tk b_tok b_con b_len e (tk_k e) (E e)) (hov : ∀ env, mq_ov false (E 2 env)) (h0 : ty_ok 0 n0 R0 b_cells b_count) (h1 : ty_ok 1 n1 R1 b_cells b_count) (hm : mode ≤ 2) (hl : l < 3) (hr : r < 3)
    (K : ∀ top groups full passed num nul gN gK gS, yr_ok (rn_all E n1 R0 R1 mode l r n0) groups full passed gN gK gS → wY_run_180 post top ((if full = 0 then groups else 0)) full passed b_cells b_count b_tok b_con b_len num nul gN gK gS) :
    wpY_run post (y_top, y_groups, y_full, y_passed, b_cells, b_count, b_tok, b_con, b_len, b_num, b_isNull, b_gNull, b_gKey, b_gStat) (nI mode) (nI l) (nI (r + 3)) := by
  obtain ⟨a1, a2, a3⟩ := id h0
  obtain ⟨b1, b2, b3⟩ := id h1
  have main : ∀ (q n i : Nat) (top groups full passed : Int32) (num : Nat → Int64) (nul gN : Nat → Int32) (gK gS : Nat → Int64), i + q = n0 → q < n → yr_ok (rn_all E n1 R0 R1 mode l r i) groups full passed gN gK gS →
      wY_run_48 post (nI mode) (nI l) (nI (r + 3)) n (nI i) top groups full passed b_cells b_count b_tok b_con b_len num nul gN gK gS := by
    intro q
    induction q with
    | zero =>
      intro n i top groups full passed num nul gN gK gS hi hn hR
      obtain ⟨n, rfl⟩ := zb_ex hn
      have : i = n0 := by omega
      subst this
      rw [wY_run_48]
      dsimp only
      rw [a2]
      have k := K top groups full passed num nul gN gK gS hR
      refine br_t (nI_le (Nat.le_refl _) (by omega)) (br_c (fun z => ?_) (fun z => ?_))
      · rw [if_pos z] at k; exact k
      · rw [if_neg z] at k; exact k
    | succ q ih =>
      intro n i top groups full passed num nul gN gK gS hi hn hR
      obtain ⟨n, rfl⟩ := zb_ex (show 0 < n by omega)
      have ex : 3 * nI i + nI l = nI (48 * 0 + 3 * i + l) := by
        rw [show (3 : Int32) = nI 3 from rfl, pk_mul, nI_add]
        congr 1; omega
      have gok := rn_all_ok (E := E) hov (n1 := n1) (R0 := R0) (R1 := R1) (mode := mode) (l := l) (r := r) b1 i
      rw [wY_run_48]
      dsimp only
      rw [a2, ex, nI_clamp (show 48 * 0 + 3 * i + l < 2 ^ 31 by omega), a3 i l (by omega) hl]
      refine br_f (nI_ge (by omega) (by omega)) ⟨vp_in_nI (by omega) (by omega), nm_e ⟨n1 + 1, ?_⟩⟩
      refine yn_78 hE hov h0 h1 (by omega) hm hr (rn_all E n1 R0 R1 mode l r i) (fun top groups full passed num nul gN gK gS h => ?_) n1 (n1 + 1) 0 (rn_all E n1 R0 R1 mode l r i) 0 top groups full passed num nul gN gK gS (by omega) (by omega) ?_ gok.1 (by omega) hR ?_
      · exact ih n (i + 1) top groups full passed num nul gN gK gS (by omega) (by omega) (by rw [rn_all_s]; exact h)
      · split <;> rfl
      · exact ⟨fun _ z => by obtain ⟨_, _, j', h, _⟩ := z; omega, fun _ => rfl⟩
  refine br_f (nI_pos (by omega)) (br_f (nI_nlt (b := mode) (a := 2) hm (by decide)) (br_f (nI_pos (by omega)) (br_f (nI_nlt (b := l) (a := 2) (by omega) (by decide)) (br_f (nI_nlt (a := r + 3) (b := 3) (by omega) (by omega)) (br_t (nI_le (b := 5) (by omega) (by decide)) ⟨n0 + 1, ?_⟩)))))
  refine main n0 (n0 + 1) 0 y_top 0 0 0 b_num b_isNull b_gNull b_gKey b_gStat (by omega) (by omega) ⟨rfl, fun _ => ⟨rfl, [], List.Perm.refl _, List.Pairwise.nil, rfl, fun p hp => absurd hp (Nat.not_lt_zero _)⟩, fun z => ?_⟩
  exact absurd (show false = true from z) (by decide)
end YRU
end
section
/-! ===== X: fetch, evaluateAll, holds ===== -/
theorem xv_or1 {x y z : Int32} (hx : x = 0 ∨ x = 1 ∨ x = 2 ∨ x = 3) (hy : y = 0 ∨ y = 1 ∨ y = 2 ∨ y = 3) (hz : z = 0 ∨ z = 1 ∨ z = 2 ∨ z = 3) :
    (x ||| y ||| z = 0 ∨ x ||| y ||| z = 1 → (x = 0 ∨ x = 1) ∧ (y = 0 ∨ y = 1) ∧ (z = 0 ∨ z = 1)) ∧ (x ||| y ||| z = 0 ∨ x ||| y ||| z = 2 → (x = 0 ∨ x = 2) ∧ (y = 0 ∨ y = 2) ∧ (z = 0 ∨ z = 2)) := by
  rcases hx with rfl | rfl | rfl | rfl <;> rcases hy with rfl | rfl | rfl | rfl <;> rcases hz with rfl | rfl | rfl | rfl <;> decide
section XVP
variable {op A B C nd st : Nat → Int32} {vl : Nat → Int64} {D : (Nat → Int32) → Nat → VV} {T : Nat → Nat} {N : Nat} {env env' : Nat → Int32}
theorem pg_dep1 (P : pg_ok N op A B C nd st vl D T) (h : ∀ c, c < 3 → env c = env' c) : ∀ k, k < N → (nd k = 0 ∨ nd k = 1) → D env k = D env' k := by
  intro k
  induction k using Nat.strongRecOn with
  | ind k ih =>
    intro hk hn
    rcases P k hk with ⟨c, h1, h2, h3, h4, h5⟩ | ⟨h1, h2, h3, h4⟩ | ⟨h1, h2, h3, h4⟩ | ⟨a, b, c, h1, ha, hb, hc, h2, h3, h4, h5, h6, h7, h8, h9, h10, h11, h12⟩
    · rw [h4, h4]
      by_cases z : c < 3
      · rw [h c z]
      · rw [h3, if_neg z] at hn; exact absurd hn (by decide)
    · exact xr_un (h3 env) (h3 env')
    · exact xr_un (h3 env) (h3 env')
    · rw [h9] at hn
      obtain ⟨na, nb, nc⟩ := (xv_or1 (pg_nd P a (by omega)) (pg_nd P b (by omega)) (pg_nd P c (by omega))).1 hn
      rw [h11, h11, ih a ha (by omega) na, ih b hb (by omega) nb, ih c hc (by omega) nc]
theorem pg_dep2 (P : pg_ok N op A B C nd st vl D T) (h : ∀ c, 3 ≤ c → c < 6 → env c = env' c) : ∀ k, k < N → (nd k = 0 ∨ nd k = 2) → D env k = D env' k := by
  intro k
  induction k using Nat.strongRecOn with
  | ind k ih =>
    intro hk hn
    rcases P k hk with ⟨c, h1, h2, h3, h4, h5⟩ | ⟨h1, h2, h3, h4⟩ | ⟨h1, h2, h3, h4⟩ | ⟨a, b, c, h1, ha, hb, hc, h2, h3, h4, h5, h6, h7, h8, h9, h10, h11, h12⟩
    · rw [h4, h4]
      by_cases z : c < 3
      · rw [h3, if_pos z] at hn; exact absurd hn (by decide)
      · rw [h c (by omega) h1]
    · exact xr_un (h3 env) (h3 env')
    · exact xr_un (h3 env) (h3 env')
    · rw [h9] at hn
      obtain ⟨na, nb, nc⟩ := (xv_or1 (pg_nd P a (by omega)) (pg_nd P b (by omega)) (pg_nd P c (by omega))).2 hn
      rw [h11, h11, ih a ha (by omega) na, ih b hb (by omega) nb, ih c hc (by omega) nc]
end XVP
section XVA
variable {f_nodes f_filterRoot f_valueRoot f_keyRoot f_partCount f_groups f_passed f_overflow : Int32}
variable {a_cells a_live a_zoneLeast a_zoneMost a_tokens a_constants a_lengths a_nodeOp a_nodeA a_nodeB a_nodeC a_needs a_wanted a_state a_work a_parts a_heads a_chain a_places a_sorted a_groupNull a_groupPairs a_groupValues : Nat → Int32}
variable {a_value a_groupKey a_groupSum a_groupLeast a_groupMost : Nat → Int64}
variable {post : SX → Prop} {D : (Nat → Int32) → Nat → VV} {T : Nat → Nat} {N : Nat}
theorem xv_col (z : Int32) : (z = -2147483648 → xr_rp false 0 z.toInt64 (mq_col z)) ∧ (¬ z = -2147483648 → xr_rp false 1 z.toInt64 (mq_col z)) := by
  unfold mq_col
  refine ⟨fun h => ?_, fun h => ?_⟩
  · rw [if_pos h]; exact Or.inr ⟨rfl, rfl⟩
  · rw [if_neg h]; exact Or.inl ⟨rfl, rfl⟩
theorem xv_54 {J : Int32 → (Nat → Int32) → (Nat → Int32) → (Nat → Int32) → (Nat → Int32) → (Nat → Int32) → (Nat → Int32) → (Nat → Int32) → (Nat → Int32) → (Nat → Int32) → (Nat → Int32) → (Nat → Int32) → (Nat → Int32) → (Nat → Int32) → (Nat → Int64) → (Nat → Int32) → (Nat → Int32) → (Nat → Int32) → (Nat → Int32) → (Nat → Int32) → (Nat → Int32) → (Nat → Int32) → (Nat → Int32) → (Nat → Int64) → (Nat → Int32) → (Nat → Int32) → (Nat → Int64) → (Nat → Int64) → (Nat → Int64) → Prop} {x1 x2 z : Int32} {k : Nat} (hk : k < 64) (K : ∀ s v, xr_rp false s v (mq_col z) → J (nI (k + 1)) a_cells a_live a_zoneLeast a_zoneMost a_tokens a_constants a_lengths a_nodeOp a_nodeA a_nodeB a_nodeC a_needs a_wanted (vp_updL a_value k v) (upd a_state k s) a_work a_parts a_heads a_chain a_places a_sorted a_groupNull a_groupKey a_groupPairs a_groupValues a_groupSum a_groupLeast a_groupMost) : wX_fetch_54 post J x1 x2 (nI k) z f_nodes f_filterRoot f_valueRoot f_keyRoot f_partCount f_groups f_passed f_overflow a_cells a_live a_zoneLeast a_zoneMost a_tokens a_constants a_lengths a_nodeOp a_nodeA a_nodeB a_nodeC a_needs a_wanted a_value a_state a_work a_parts a_heads a_chain a_places a_sorted a_groupNull a_groupKey a_groupPairs a_groupValues a_groupSum a_groupLeast a_groupMost := by
  have w : vp_in (nI k) 64 := vp_in_nI hk (by omega)
  unfold wX_fetch_54
  rw [nI_clamp (show k < 2 ^ 31 by omega), pk_vb, pk_vb]
  exact ⟨w, nm_e (br_c (fun h => ⟨w, nm_e (nm_r (nI_1 k) (K 0 _ ((xv_col z).1 h)))⟩) (fun h => ⟨w, nm_e (nm_r (nI_1 k) (K 1 _ ((xv_col z).2 h)))⟩))⟩
theorem xv_fetch {tb : Nat} {x : Int32} {cv : Nat → Int32} (hN : N ≤ 63) (htb : tb < 2) (P : pg_ok N a_nodeOp a_nodeA a_nodeB a_nodeC a_needs a_state a_value D T) (hx : (x = -1 ∧ ∀ c, c < 6 → c / 3 = tb → cv c = -2147483648) ∨ ∃ s, s < 16 ∧ x = nI s ∧ ∀ c, c < 6 → c / 3 = tb → cv c = a_cells (c * 16 + s))
    (K : ∀ st' vl', (∀ k c, k < N → c < 6 → a_nodeOp k = nI c → c / 3 = tb → xr_rp false (st' k) (vl' k) (mq_col (cv c))) → (∀ k, (∀ c, c < 6 → c / 3 = tb → ¬ a_nodeOp k = nI c) → st' k = a_state k ∧ vl' k = a_value k) → post (nI N, f_filterRoot, f_valueRoot, f_keyRoot, f_partCount, f_groups, f_passed, f_overflow, a_cells, a_live, a_zoneLeast, a_zoneMost, a_tokens, a_constants, a_lengths, a_nodeOp, a_nodeA, a_nodeB, a_nodeC, a_needs, a_wanted, vl', st', a_work, a_parts, a_heads, a_chain, a_places, a_sorted, a_groupNull, a_groupKey, a_groupPairs, a_groupValues, a_groupSum, a_groupLeast, a_groupMost)) : wpX_fetch post (nI N, f_filterRoot, f_valueRoot, f_keyRoot, f_partCount, f_groups, f_passed, f_overflow, a_cells, a_live, a_zoneLeast, a_zoneMost, a_tokens, a_constants, a_lengths, a_nodeOp, a_nodeA, a_nodeB, a_nodeC, a_needs, a_wanted, a_value, a_state, a_work, a_parts, a_heads, a_chain, a_places, a_sorted, a_groupNull, a_groupKey, a_groupPairs, a_groupValues, a_groupSum, a_groupLeast, a_groupMost) (nI tb) x := by
  have main : ∀ (r n i : Nat) (st : Nat → Int32) (vl : Nat → Int64), i + r = N → r < n → (∀ k c, k < i → c < 6 → a_nodeOp k = nI c → c / 3 = tb → xr_rp false (st k) (vl k) (mq_col (cv c))) → (∀ k, (∀ c, c < 6 → c / 3 = tb → ¬ a_nodeOp k = nI c) → st k = a_state k ∧ vl k = a_value k) →
      wX_fetch_2 post (nI tb) x (nI N) f_filterRoot f_valueRoot f_keyRoot f_partCount f_groups f_passed f_overflow n (nI i) a_cells a_live a_zoneLeast a_zoneMost a_tokens a_constants a_lengths a_nodeOp a_nodeA a_nodeB a_nodeC a_needs a_wanted vl st a_work a_parts a_heads a_chain a_places a_sorted a_groupNull a_groupKey a_groupPairs a_groupValues a_groupSum a_groupLeast a_groupMost := by
    intro r
    induction r with
    | zero =>
      intro n i st vl hi hn h1 h2
      obtain ⟨n, rfl⟩ := zb_ex hn
      have : i = N := by omega
      subst this
      rw [wX_fetch_2]
      exact br_t (nI_le (Nat.le_refl _) (by omega)) (K st vl h1 h2)
    | succ r ih =>
      intro n i st vl hi hn h1 h2
      obtain ⟨n, rfl⟩ := zb_ex (show 0 < n by omega)
      have w : vp_in (nI i) 64 := vp_in_nI (by omega) (by omega)
      have skip : (∀ c, c < 6 → c / 3 = tb → ¬ a_nodeOp i = nI c) → wX_fetch_2 post (nI tb) x (nI N) f_filterRoot f_valueRoot f_keyRoot f_partCount f_groups f_passed f_overflow n (nI i + 1) a_cells a_live a_zoneLeast a_zoneMost a_tokens a_constants a_lengths a_nodeOp a_nodeA a_nodeB a_nodeC a_needs a_wanted vl st a_work a_parts a_heads a_chain a_places a_sorted a_groupNull a_groupKey a_groupPairs a_groupValues a_groupSum a_groupLeast a_groupMost := by
        intro h
        rw [nI_1]
        refine ih n (i + 1) st vl (by omega) (by omega) (fun k c hk hc ho ht => ?_) h2
        by_cases e : k = i
        · subst e; exact absurd ho (h c hc ht)
        · exact h1 k c (by omega) hc ho ht
      have hi6 : 6 ≤ a_nodeOp i → ∀ c, c < 6 → c / 3 = tb → ¬ a_nodeOp i = nI c := by
        intro h c hc _ z
        rw [z] at h
        exact nI_ge (b := 6) hc (by decide) h
      rw [wX_fetch_2]
      dsimp only
      rw [nI_clamp (show i < 2 ^ 31 by omega)]
      refine br_f (nI_ge (by omega) (by omega)) ⟨w, nm_e (br_c (fun h6 => nm_e (skip (hi6 h6))) (fun h6 => ⟨by decide, ?_⟩))⟩
      rcases P i (by omega) with ⟨c, g1, g2, _⟩ | ⟨g1, _⟩ | ⟨g1, _⟩ | ⟨_, _, _, g1, _⟩
      · rw [g2, xt_div3 c g1]
        have set : ∀ z, z = cv c → c / 3 = tb → wX_fetch_54 post (wX_fetch_2 post (nI tb) x (nI N) f_filterRoot f_valueRoot f_keyRoot f_partCount f_groups f_passed f_overflow n) (nI tb) x (nI i) z (nI N) f_filterRoot f_valueRoot f_keyRoot f_partCount f_groups f_passed f_overflow a_cells a_live a_zoneLeast a_zoneMost a_tokens a_constants a_lengths a_nodeOp a_nodeA a_nodeB a_nodeC a_needs a_wanted vl st a_work a_parts a_heads a_chain a_places a_sorted a_groupNull a_groupKey a_groupPairs a_groupValues a_groupSum a_groupLeast a_groupMost := by
          intro z hz ht
          subst hz
          refine xv_54 (by omega) (fun s v hs => ih n (i + 1) _ _ (by omega) (by omega) (fun k c' hk hc' ho ht' => ?_) (fun k hk => ?_))
          · by_cases e : k = i
            · subst e
              have : c' = c := zb_inj (ho.symm.trans g2) (by omega) (by omega)
              subst this
              rw [pk_us, pk_uLs]; exact hs
            · rw [pk_un e, pk_uLn e]; exact h1 k c' (by omega) hc' ho ht'
          · have e : k ≠ i := fun e => by subst e; exact hk c g1 ht g2
            rw [pk_un e, pk_uLn e]; exact h2 k hk
        refine br_c (fun q => ?_) (fun q => nm_e (skip (fun c' hc' ht' z => q ?_)))
        · have ct : c / 3 = tb := zb_inj q (by omega) (by omega)
          rcases hx with ⟨rfl, hx⟩ | ⟨s, hs, rfl, hx⟩
          · exact br_f (by decide) (set _ (hx c g1 ct).symm ct)
          · have e1 : nI c * 16 + nI s = nI (c * 16 + s) := by rw [show (16 : Int32) = nI 16 from rfl, pk_mul, nI_add]
            rw [e1, nI_clamp (show c * 16 + s < 2 ^ 31 by omega)]
            exact br_t (nI_pos' (by omega)) ⟨vp_in_nI (by omega) (by omega), set _ (hx c g1 ct).symm ct⟩
        · have : c' = c := zb_inj (z.symm.trans g2) (by omega) (by omega)
          subst this; rw [ht']
      · rw [g1] at h6; exact absurd (by decide) h6
      · rw [g1] at h6; exact absurd (by decide) h6
      · exact absurd (mq_op_lo g1).2.2.2.2.2.1 h6
  exact ⟨N + 1, main N (N + 1) 0 a_state a_value (by omega) (by omega) (fun k c hk => by omega) (fun k _ => ⟨rfl, rfl⟩)⟩
theorem xv_all {set more : Int32} {Q : Nat → Prop} {env : Nat → Int32} (hset : set = 1 ∨ set = 2) (hN : N ≤ 63) (P : pg_ok N a_nodeOp a_nodeA a_nodeB a_nodeC a_needs a_state a_value D T) (hcl : xk_cl N 0 a_nodeOp a_nodeA a_nodeB a_nodeC a_wanted)
    (hQ : ∀ k a b c, k < N → Q k → a < N → b < N → c < N → a_needs k = a_needs a ||| a_needs b ||| a_needs c → Q a ∧ Q b ∧ Q c) (hE : ∀ k, k < N → (a_needs k = set ∨ (¬ more = 0 ∧ a_needs k = 3)) → Q k)
    (h0 : ∀ k, k < N → a_wanted k ≠ 0 → Q k → ¬ (¬ a_nodeOp k < 10 ∧ (a_needs k = set ∨ (¬ more = 0 ∧ a_needs k = 3))) → xr_rp (mq_kd (a_nodeOp k)) (a_state k) (a_value k) (D env k))
    (K : ∀ st' vl', (∀ k, k < N → a_wanted k ≠ 0 → Q k → xr_rp (mq_kd (a_nodeOp k)) (st' k) (vl' k) (D env k)) → (∀ k, ¬ (¬ a_nodeOp k < 10 ∧ (a_needs k = set ∨ (¬ more = 0 ∧ a_needs k = 3))) → st' k = a_state k ∧ vl' k = a_value k) → post (nI N, f_filterRoot, f_valueRoot, f_keyRoot, f_partCount, f_groups, f_passed, f_overflow, a_cells, a_live, a_zoneLeast, a_zoneMost, a_tokens, a_constants, a_lengths, a_nodeOp, a_nodeA, a_nodeB, a_nodeC, a_needs, a_wanted, vl', st', a_work, a_parts, a_heads, a_chain, a_places, a_sorted, a_groupNull, a_groupKey, a_groupPairs, a_groupValues, a_groupSum, a_groupLeast, a_groupMost)) : wpX_evaluateAll post (nI N, f_filterRoot, f_valueRoot, f_keyRoot, f_partCount, f_groups, f_passed, f_overflow, a_cells, a_live, a_zoneLeast, a_zoneMost, a_tokens, a_constants, a_lengths, a_nodeOp, a_nodeA, a_nodeB, a_nodeC, a_needs, a_wanted, a_value, a_state, a_work, a_parts, a_heads, a_chain, a_places, a_sorted, a_groupNull, a_groupKey, a_groupPairs, a_groupValues, a_groupSum, a_groupLeast, a_groupMost) set more := by
  have main : ∀ (r n i : Nat) (st : Nat → Int32) (vl : Nat → Int64), i + r = N → r < n → (∀ k, k < i → a_wanted k ≠ 0 → Q k → xr_rp (mq_kd (a_nodeOp k)) (st k) (vl k) (D env k)) → (∀ k, i ≤ k → st k = a_state k ∧ vl k = a_value k) → (∀ k, ¬ (¬ a_nodeOp k < 10 ∧ (a_needs k = set ∨ (¬ more = 0 ∧ a_needs k = 3))) → st k = a_state k ∧ vl k = a_value k) →
      wX_evaluateAll_2 post set more n (nI i) (nI N) f_filterRoot f_valueRoot f_keyRoot f_partCount f_groups f_passed f_overflow a_cells a_live a_zoneLeast a_zoneMost a_tokens a_constants a_lengths a_nodeOp a_nodeA a_nodeB a_nodeC a_needs a_wanted vl st a_work a_parts a_heads a_chain a_places a_sorted a_groupNull a_groupKey a_groupPairs a_groupValues a_groupSum a_groupLeast a_groupMost := by
    intro r
    induction r with
    | zero =>
      intro n i st vl hi hn h1 h2 h3
      obtain ⟨n, rfl⟩ := zb_ex hn
      have : i = N := by omega
      subst this
      rw [wX_evaluateAll_2]
      exact br_t (nI_le (Nat.le_refl _) (by omega)) (K st vl h1 h3)
    | succ r ih =>
      intro n i st vl hi hn h1 h2 h3
      obtain ⟨n, rfl⟩ := zb_ex (show 0 < n by omega)
      have w : vp_in (nI i) 64 := vp_in_nI (by omega) (by omega)
      have skip : (a_wanted i ≠ 0 → ¬ (¬ a_nodeOp i < 10 ∧ (a_needs i = set ∨ (¬ more = 0 ∧ a_needs i = 3)))) → wX_evaluateAll_2 post set more n (nI i + 1) (nI N) f_filterRoot f_valueRoot f_keyRoot f_partCount f_groups f_passed f_overflow a_cells a_live a_zoneLeast a_zoneMost a_tokens a_constants a_lengths a_nodeOp a_nodeA a_nodeB a_nodeC a_needs a_wanted vl st a_work a_parts a_heads a_chain a_places a_sorted a_groupNull a_groupKey a_groupPairs a_groupValues a_groupSum a_groupLeast a_groupMost := by
        intro h
        rw [nI_1]
        refine ih n (i + 1) st vl (by omega) (by omega) (fun k hk hw hq => ?_) (fun k hk => h2 k (by omega)) h3
        by_cases e : k = i
        · subst e
          rw [(h2 k (Nat.le_refl _)).1, (h2 k (Nat.le_refl _)).2]
          exact h0 k (by omega) hw hq (h hw)
        · exact h1 k (by omega) hw hq
      have eval : a_wanted i ≠ 0 → ¬ a_nodeOp i < 10 → (a_needs i = set ∨ (¬ more = 0 ∧ a_needs i = 3)) → wX_evaluateAll_54 post (wX_evaluateAll_2 post set more n) set more (nI i) (nI N) f_filterRoot f_valueRoot f_keyRoot f_partCount f_groups f_passed f_overflow a_cells a_live a_zoneLeast a_zoneMost a_tokens a_constants a_lengths a_nodeOp a_nodeA a_nodeB a_nodeC a_needs a_wanted vl st a_work a_parts a_heads a_chain a_places a_sorted a_groupNull a_groupKey a_groupPairs a_groupValues a_groupSum a_groupLeast a_groupMost := by
        intro hw h10 hnd
        have qi := hE i (by omega) hnd
        have n0 : a_needs i ≠ 0 := by
          rcases hnd with e | ⟨_, e⟩
          · rw [e]; rcases hset with rfl | rfl <;> decide
          · rw [e]; decide
        rcases P i (by omega) with ⟨c, g1, g2, _⟩ | ⟨_, g1, _⟩ | ⟨_, g1, _⟩ | ⟨a, b, c, g1, la, lb, lc, ea, eb, ec, g15, ka, kb, kc, gn, _, gd, gt⟩
        · rw [g2] at h10; exact absurd (nI_lt (b := 10) (by omega) (by decide)) h10
        · exact absurd g1 n0
        · exact absurd g1 n0
        · obtain ⟨wa, wb, wc⟩ := hcl i (by omega) (by omega) hw g1
          rw [ea, nI_clamp (by omega)] at wa
          rw [eb, nI_clamp (by omega)] at wb
          rw [ec, nI_clamp (by omega)] at wc
          obtain ⟨qa, qb, qc⟩ := hQ i a b c (by omega) qi (by omega) (by omega) (by omega) gn
          unfold wX_evaluateAll_54
          refine xe_evaluate (t := a_nodeOp i) (a := a) (b := b) (c := c) (da := D env a) (db := D env b) (dc := D env c) (by omega) rfl ea eb ec (by omega) (by omega) (by omega) g1 g15 (ka ▸ h1 a la wa qa) (fun z => kb z ▸ h1 b lb wb qb) (fun z => kc z ▸ h1 c lc wc qc) (fun s' v' hs => nm_r (nI_1 i) ?_)
          refine ih n (i + 1) (upd st i s') (vp_updL vl i v') (by omega) (by omega) (fun k hk hw' hq => ?_) (fun k hk => ?_) (fun k hk => ?_)
          · by_cases e : k = i
            · subst e
              rw [pk_us, pk_uLs, mq_kd_op g1, gd]; exact hs
            · rw [pk_un e, pk_uLn e]; exact h1 k (by omega) hw' hq
          · rw [pk_un (by omega), pk_uLn (by omega)]; exact h2 k (by omega)
          · have e : k ≠ i := fun e => by subst e; exact hk ⟨h10, hnd⟩
            rw [pk_un e, pk_uLn e]; exact h3 k hk
      rw [wX_evaluateAll_2]
      dsimp only
      rw [nI_clamp (show i < 2 ^ 31 by omega)]
      refine br_f (nI_ge (by omega) (by omega)) ⟨w, br_c (fun w0 => nm_e (skip (fun z => absurd w0 z))) (fun w0 => ⟨w, br_c (fun o => nm_e (skip (fun _ z => z.1 o))) (fun o => ⟨w, br_c (fun q => eval w0 o (Or.inl q)) (fun q => br_c (fun m => nm_e (skip (fun _ z => z.2.elim q (fun y => y.1 m)))) (fun m => ⟨w, br_c (fun q3 => eval w0 o (Or.inr ⟨m, q3⟩)) (fun q3 => nm_e (skip (fun _ z => z.2.elim q (fun y => q3 y.2))))⟩))⟩)⟩)⟩
  exact ⟨N + 1, main N (N + 1) 0 a_state a_value (by omega) (by omega) (fun k hk => by omega) (fun k _ => ⟨rfl, rfl⟩) (fun k _ => ⟨rfl, rfl⟩)⟩
theorem xv_holds {post : Int32 → Prop} {set : Int32} {ps : List Nat} (hN : N ≤ 63) (hl : ps.length ≤ 20) (hpt : xk_pt a_parts ps) (hlt : ∀ x, x ∈ ps → x < N) (K1 : (∀ x, x ∈ ps → a_needs x = set → a_state x = 1) → post 1) (K0 : (∃ x, x ∈ ps ∧ a_needs x = set ∧ ¬ a_state x = 1) → post 0) : wpX_holds post (f_nodes, f_filterRoot, f_valueRoot, f_keyRoot, nI ps.length, f_groups, f_passed, f_overflow, a_cells, a_live, a_zoneLeast, a_zoneMost, a_tokens, a_constants, a_lengths, a_nodeOp, a_nodeA, a_nodeB, a_nodeC, a_needs, a_wanted, a_value, a_state, a_work, a_parts, a_heads, a_chain, a_places, a_sorted, a_groupNull, a_groupKey, a_groupPairs, a_groupValues, a_groupSum, a_groupLeast, a_groupMost) set := by
  have main : ∀ (r n i : Nat), i + r = ps.length → r < n → (∀ k, k < i → a_needs (ps.getD k 0) = set → a_state (ps.getD k 0) = 1) → wX_holds_2 post set f_nodes f_filterRoot f_valueRoot f_keyRoot (nI ps.length) f_groups f_passed f_overflow a_cells a_live a_zoneLeast a_zoneMost a_tokens a_constants a_lengths a_nodeOp a_nodeA a_nodeB a_nodeC a_needs a_wanted a_value a_state a_work a_parts a_heads a_chain a_places a_sorted a_groupNull a_groupKey a_groupPairs a_groupValues a_groupSum a_groupLeast a_groupMost n (nI i) := by
    intro r
    induction r with
    | zero =>
      intro n i hi hn h
      obtain ⟨n, rfl⟩ := zb_ex hn
      rw [wX_holds_2]
      have : i = ps.length := by omega
      subst this
      refine br_t (nI_le (Nat.le_refl _) (by omega)) (K1 (fun x hx hs => ?_))
      obtain ⟨k, hk, e⟩ := List.mem_iff_getElem.mp hx
      have : ps.getD k 0 = x := by rw [List.getD_eq_getElem?_getD, List.getElem?_eq_getElem hk, e]; rfl
      have := h k hk
      rw [‹ps.getD k 0 = x›] at this
      exact this hs
    | succ r ih =>
      intro n i hi hn h
      obtain ⟨n, rfl⟩ := zb_ex (show 0 < n by omega)
      have mm : ps.getD i 0 ∈ ps := tb_gm (by omega)
      have lt := hlt _ mm
      have w : vp_in (nI i) 24 := vp_in_nI (by omega) (by omega)
      have w2 : vp_in (nI (ps.getD i 0)) 64 := vp_in_nI (by omega) (by omega)
      have nx : (a_needs (ps.getD i 0) = set → a_state (ps.getD i 0) = 1) → wX_holds_2 post set f_nodes f_filterRoot f_valueRoot f_keyRoot (nI ps.length) f_groups f_passed f_overflow a_cells a_live a_zoneLeast a_zoneMost a_tokens a_constants a_lengths a_nodeOp a_nodeA a_nodeB a_nodeC a_needs a_wanted a_value a_state a_work a_parts a_heads a_chain a_places a_sorted a_groupNull a_groupKey a_groupPairs a_groupValues a_groupSum a_groupLeast a_groupMost n (nI i + 1) := by
        intro hh
        rw [nI_1]
        refine ih n (i + 1) (by omega) (by omega) (fun k hk => ?_)
        by_cases e : k = i
        · subst e; exact hh
        · exact h k (by omega)
      rw [wX_holds_2]
      dsimp only
      rw [nI_clamp (show i < 2 ^ 31 by omega), hpt i (by omega), nI_clamp (show ps.getD i 0 < 2 ^ 31 by omega)]
      exact br_f (nI_ge (by omega) (by omega)) ⟨w, w2, br_c (fun q => ⟨w, w2, br_c (fun s => nm_e (nx (fun _ => s))) (fun s => K0 ⟨_, mm, q, s⟩)⟩) (fun q => nm_e (nx (fun z => absurd z q)))⟩
  exact ⟨ps.length + 1, main ps.length _ 0 (by omega) (by omega) (fun k hk => by omega)⟩
end XVA
end
section
/-! ===== X: groups by hash ===== -/
def xg_rec (gN : Nat → Int32) (gK : Nat → Int64) (gP gV : Nat → Int32) (gS gL gM : Nat → Int64) (g : Nat) (x : VV × RR) : Prop :=
  gN g = x.1.2 ∧ gK g = x.1.1 ∧ gP g = nI x.2.1 ∧ gV g = nI x.2.2.1 ∧ gS g = x.2.2.2.1 ∧ gL g = x.2.2.2.2.1 ∧ gM g = x.2.2.2.2.2
def xg_at (gN : Nat → Int32) (gK : Nat → Int64) (gP gV : Nat → Int32) (gS gL gM : Nat → Int64) (l : GL) : Prop := ∀ g, g < l.length → xg_rec gN gK gP gV gS gL gM g (l.getD g gr_d)
theorem xg_fr {gN gN' gP gP' gV gV' : Nat → Int32} {gK gK' gS gS' gL gL' gM gM' : Nat → Int64} {g : Nat} {x : VV × RR} (h : xg_rec gN gK gP gV gS gL gM g x) (e : gN' g = gN g ∧ gK' g = gK g ∧ gP' g = gP g ∧ gV' g = gV g ∧ gS' g = gS g ∧ gL' g = gL g ∧ gM' g = gM g) : xg_rec gN' gK' gP' gV' gS' gL' gM' g x :=
  ⟨e.1.trans h.1, e.2.1.trans h.2.1, e.2.2.1.trans h.2.2.1, e.2.2.2.1.trans h.2.2.2.1, e.2.2.2.2.1.trans h.2.2.2.2.1, e.2.2.2.2.2.1.trans h.2.2.2.2.2.1, e.2.2.2.2.2.2.trans h.2.2.2.2.2.2⟩
def xh_mix (k : VV) : Int64 := if k.2 = 0 then k.1 ^^^ ((k.1.toUInt64 >>> ((32 : Int32).toInt64.toUInt64 &&& Int64.toUInt64 63)).toInt64) else 77
def xh_h (k : VV) : Nat := (((xh_mix k) ^^^ (((xh_mix k).toUInt64 >>> ((5 : Int32).toInt64.toUInt64 &&& Int64.toUInt64 63)).toInt64)).toInt32).toBitVec.toNat % 32
def xh_oc (pl : Nat → Int32) : Nat → Nat
  | 0 => 0
  | n + 1 => xh_oc pl n + (if pl n < 0 then 0 else 1)
theorem xh_full {pl : Nat → Int32} : ∀ {n : Nat}, (∀ h, h < n → ¬ pl h < 0) → xh_oc pl n = n
  | 0, _ => rfl
  | n + 1, h => by
    rw [xh_oc, xh_full (fun j hj => h j (by omega)), if_neg (h n (by omega))]
theorem xh_fr {pl pl' : Nat → Int32} : ∀ {n : Nat}, (∀ h, h < n → pl' h = pl h) → xh_oc pl' n = xh_oc pl n
  | 0, _ => rfl
  | n + 1, h => by rw [xh_oc, xh_oc, xh_fr (fun j hj => h j (by omega)), h n (by omega)]
theorem xh_upd {pl : Nat → Int32} {h : Nat} {v : Int32} (h0 : pl h < 0) (hv : ¬ v < 0) : ∀ {n : Nat}, h < n → xh_oc (upd pl h v) n = xh_oc pl n + 1
  | 0, hn => by omega
  | n + 1, hn => by
    rw [xh_oc, xh_oc]
    by_cases e : h = n
    · subst e
      rw [xh_fr (pl := pl) (fun j hj => pk_un (by omega)), pk_us, if_neg hv, if_pos h0]
    · rw [xh_upd h0 hv (by omega), pk_un (fun z => e z.symm)]; omega
def xp_ok (l : GL) (pl : Nat → Int32) : Prop := (∀ h, h < 32 → pl h = -1 ∨ ∃ g, g < l.length ∧ pl h = nI g) ∧ xh_oc pl 32 = l.length ∧ (∀ g, g < l.length → ∃ d, d < 32 ∧ pl ((xh_h (l.getD g gr_d).1 + d) % 32) = nI g ∧ ∀ d', d' < d → ¬ pl ((xh_h (l.getD g gr_d).1 + d') % 32) < 0)
theorem xp_empty {l : GL} {pl : Nat → Int32} (h : xp_ok l pl) (hl : l.length ≤ 12) (h0 : Nat) : ∃ e, e < 32 ∧ pl ((h0 + e) % 32) < 0 := by
  have : ∃ j, j < 32 ∧ pl j < 0 := by
    rcases Classical.em (∃ j, j < 32 ∧ pl j < 0) with q | q
    · exact q
    · have := xh_full (pl := pl) (n := 32) (fun j hj z => q ⟨j, hj, z⟩)
      rw [h.2.1] at this; omega
  obtain ⟨j, hj, q⟩ := this
  refine ⟨(j + 32 - h0 % 32) % 32, by omega, ?_⟩
  rw [show (h0 + (j + 32 - h0 % 32) % 32) % 32 = j by omega]; exact q
theorem xp_new {l : GL} {pl : Nat → Int32} {k : VV} {e : Nat} (h : xp_ok l pl) (hl : l.length < 12) (he : e < 32) (h0 : pl ((xh_h k + e) % 32) < 0) (hb : ∀ e', e' < e → ¬ pl ((xh_h k + e') % 32) < 0) : xp_ok (l ++ [(k, gr_z)]) (upd pl ((xh_h k + e) % 32) (nI l.length)) := by
  obtain ⟨h1, h2, h3⟩ := h
  have len : (l ++ [(k, gr_z)]).length = l.length + 1 := by simp
  have ge : ∀ g, g < l.length → (l ++ [(k, gr_z)]).getD g gr_d = l.getD g gr_d := by
    intro g hg
    rw [List.getD_eq_getElem?_getD, List.getElem?_append_left hg, List.getD_eq_getElem?_getD]
  have gn : (l ++ [(k, gr_z)]).getD l.length gr_d = (k, gr_z) := by
    rw [List.getD_eq_getElem?_getD, List.getElem?_append_right (Nat.le_refl _), Nat.sub_self]; rfl
  have pos : ¬ nI l.length < 0 := nI_pos (by omega)
  refine ⟨fun j hj => ?_, ?_, fun g hg => ?_⟩
  · by_cases q : j = (xh_h k + e) % 32
    · subst q; rw [pk_us]; exact Or.inr ⟨l.length, by omega, rfl⟩
    · rw [pk_un q]
      rcases h1 j hj with w | ⟨g, w1, w2⟩
      · exact Or.inl w
      · exact Or.inr ⟨g, by omega, w2⟩
  · rw [xh_upd h0 pos (by omega), h2, len]
  · by_cases q : g = l.length
    · subst q
      rw [gn]
      refine ⟨e, he, pk_us, fun d' hd' => ?_⟩
      by_cases w : (xh_h k + d') % 32 = (xh_h k + e) % 32
      · rw [w, pk_us]; exact pos
      · rw [pk_un w]; exact hb d' hd'
    · rw [ge g (by omega)]
      obtain ⟨d, d1, d2, d3⟩ := h3 g (by omega)
      have ne : ∀ d', ¬ pl ((xh_h (l.getD g gr_d).1 + d') % 32) < 0 → (xh_h (l.getD g gr_d).1 + d') % 32 ≠ (xh_h k + e) % 32 := fun d' w z => w (z ▸ h0)
      refine ⟨d, d1, ?_, fun d' hd' => ?_⟩
      · rw [pk_un (ne d (by rw [d2]; exact nI_pos (by omega)))]; exact d2
      · rw [pk_un (ne d' (d3 d' hd'))]; exact d3 d' hd'
section XGR
variable {f_nodes f_filterRoot f_valueRoot f_keyRoot f_partCount f_groups f_passed f_overflow : Int32}
variable {a_cells a_live a_zoneLeast a_zoneMost a_tokens a_constants a_lengths a_nodeOp a_nodeA a_nodeB a_nodeC a_needs a_wanted a_state a_work a_parts a_heads a_chain a_places a_sorted a_groupNull a_groupPairs a_groupValues : Nat → Int32}
variable {a_value a_groupKey a_groupSum a_groupLeast a_groupMost : Nat → Int64}
variable {post : Int32 → SX → Prop} {l : GL} {k : VV}
theorem xg_31 {x1 : Int32} {x2 : Int64} (hk : x1 = 0 ∧ k = (x2, 0) ∨ x1 = 1 ∧ k = (0, 1)) (hl : l.length ≤ 12) (hov : ∀ g, g < l.length → mq_ov false (l.getD g gr_d).1) (hat : xg_at a_groupNull a_groupKey a_groupPairs a_groupValues a_groupSum a_groupLeast a_groupMost l) (hp : xp_ok l a_places)
    (K1 : ∀ g, g < l.length → (l.getD g gr_d).1 = k → post (nI g) (f_nodes, f_filterRoot, f_valueRoot, f_keyRoot, f_partCount, nI l.length, f_passed, f_overflow, a_cells, a_live, a_zoneLeast, a_zoneMost, a_tokens, a_constants, a_lengths, a_nodeOp, a_nodeA, a_nodeB, a_nodeC, a_needs, a_wanted, a_value, a_state, a_work, a_parts, a_heads, a_chain, a_places, a_sorted, a_groupNull, a_groupKey, a_groupPairs, a_groupValues, a_groupSum, a_groupLeast, a_groupMost)) (K2 : (∀ g, g < l.length → ¬ (l.getD g gr_d).1 = k) → l.length = 12 → post (-1) (f_nodes, f_filterRoot, f_valueRoot, f_keyRoot, f_partCount, nI l.length, f_passed, 1, a_cells, a_live, a_zoneLeast, a_zoneMost, a_tokens, a_constants, a_lengths, a_nodeOp, a_nodeA, a_nodeB, a_nodeC, a_needs, a_wanted, a_value, a_state, a_work, a_parts, a_heads, a_chain, a_places, a_sorted, a_groupNull, a_groupKey, a_groupPairs, a_groupValues, a_groupSum, a_groupLeast, a_groupMost))
    (K3 : (∀ g, g < l.length → ¬ (l.getD g gr_d).1 = k) → l.length < 12 → ∀ pl gN gK gP gV gS gL gM, xg_at gN gK gP gV gS gL gM (l ++ [(k, gr_z)]) → xp_ok (l ++ [(k, gr_z)]) pl → post (nI l.length) (f_nodes, f_filterRoot, f_valueRoot, f_keyRoot, f_partCount, nI (l.length + 1), f_passed, f_overflow, a_cells, a_live, a_zoneLeast, a_zoneMost, a_tokens, a_constants, a_lengths, a_nodeOp, a_nodeA, a_nodeB, a_nodeC, a_needs, a_wanted, a_value, a_state, a_work, a_parts, a_heads, a_chain, pl, a_sorted, gN, gK, gP, gV, gS, gL, gM))
    {e0 : Nat} (he0 : e0 < 32) (hemp : a_places ((xh_h k + e0) % 32) < 0) :
    ∀ (r n e : Nat), e + r = e0 → r < n → (∀ e', e' < e → ∃ g, g < l.length ∧ a_places ((xh_h k + e') % 32) = nI g ∧ ¬ (l.getD g gr_d).1 = k) → wX_groupOf_31 post x1 x2 f_nodes f_filterRoot f_valueRoot f_keyRoot f_partCount (nI l.length) f_passed f_overflow a_cells a_live a_zoneLeast a_zoneMost a_tokens a_constants a_lengths a_nodeOp a_nodeA a_nodeB a_nodeC a_needs a_wanted a_value a_state a_work a_parts a_heads a_chain a_places a_sorted a_groupNull a_groupKey a_groupPairs a_groupValues a_groupSum a_groupLeast a_groupMost n (nI ((xh_h k + e) % 32)) := by
  have h01 : x1 = 0 ∨ x1 = 1 := hk.elim (fun z => Or.inl z.1) (fun z => Or.inr z.1)
  -- an empty place: the key isn't there
  have empty : ∀ (n e : Nat), e < 32 → a_places ((xh_h k + e) % 32) < 0 → (∀ e', e' < e → ∃ g, g < l.length ∧ a_places ((xh_h k + e') % 32) = nI g ∧ ¬ (l.getD g gr_d).1 = k) → wX_groupOf_31 post x1 x2 f_nodes f_filterRoot f_valueRoot f_keyRoot f_partCount (nI l.length) f_passed f_overflow a_cells a_live a_zoneLeast a_zoneMost a_tokens a_constants a_lengths a_nodeOp a_nodeA a_nodeB a_nodeC a_needs a_wanted a_value a_state a_work a_parts a_heads a_chain a_places a_sorted a_groupNull a_groupKey a_groupPairs a_groupValues a_groupSum a_groupLeast a_groupMost (n + 1) (nI ((xh_h k + e) % 32)) := by
    intro n e he hem hb
    have nin : ∀ g, g < l.length → ¬ (l.getD g gr_d).1 = k := by
      intro g hg z
      obtain ⟨d, d1, d2, d3⟩ := hp.2.2 g hg
      rw [z] at d2 d3
      rcases Nat.lt_trichotomy d e with q | q | q
      · obtain ⟨g', w1, w2, w3⟩ := hb d q
        have : g' = g := zb_inj (w2.symm.trans d2) (by omega) (by omega)
        subst this; exact w3 z
      · subst q; rw [d2] at hem; exact nI_pos (by omega) hem
      · exact d3 e q hem
    have w : vp_in (nI ((xh_h k + e) % 32)) 32 := vp_in_nI (by omega) (by omega)
    rw [wX_groupOf_31]
    dsimp only
    rw [nI_clamp (show (xh_h k + e) % 32 < 2 ^ 31 by omega)]
    refine ⟨w, br_t hem (br_c (fun z => K2 nin (zb_inj (b := 12) z (by omega) (by omega))) (fun z => ?_))⟩
    have l12 : l.length < 12 := by
      have : l.length ≠ 12 := fun q => z (by rw [q]; rfl)
      omega
    have wl : vp_in (nI l.length) 12 := vp_in_nI l12 (by omega)
    have cl : (nI l.length).toNatClampNeg = l.length := nI_clamp (by omega)
    rw [zb_by (show l.length < 128 by omega), cl, zb_t h01]
    refine ⟨w, nm_e ⟨wl, nm_e ?_⟩⟩
    have len : (l ++ [(k, gr_z)]).length = l.length + 1 := by simp
    have ge : ∀ g, g < l.length → (l ++ [(k, gr_z)]).getD g gr_d = l.getD g gr_d := by
      intro g hg
      rw [List.getD_eq_getElem?_getD, List.getElem?_append_left hg, List.getD_eq_getElem?_getD]
    have gn : (l ++ [(k, gr_z)]).getD l.length gr_d = (k, gr_z) := by
      rw [List.getD_eq_getElem?_getD, List.getElem?_append_right (Nat.le_refl _), Nat.sub_self]; rfl
    have s147 : ∀ y : Int64, k = (y, x1) → wX_groupOf_147 post y (nI l.length) f_nodes f_filterRoot f_valueRoot f_keyRoot f_partCount (nI l.length) f_passed f_overflow a_cells a_live a_zoneLeast a_zoneMost a_tokens a_constants a_lengths a_nodeOp a_nodeA a_nodeB a_nodeC a_needs a_wanted a_value a_state a_work a_parts a_heads a_chain (upd a_places ((xh_h k + e) % 32) (nI l.length)) a_sorted (upd a_groupNull l.length x1) a_groupKey a_groupPairs a_groupValues a_groupSum a_groupLeast a_groupMost := by
      intro y hy
      unfold wX_groupOf_147
      rw [cl]
      refine ⟨wl, nm_e ⟨wl, nm_e ⟨wl, nm_e ⟨wl, nm_e ⟨wl, nm_e ⟨wl, nm_e (nm_r (nI_1 _) ?_)⟩⟩⟩⟩⟩⟩
      refine K3 nin l12 _ _ _ _ _ _ _ _ (fun g hg => ?_) (xp_new hp l12 he hem (fun e' he' => by obtain ⟨g, _, w2, _⟩ := hb e' he'; rw [w2]; exact nI_pos (by omega)))
      rw [len] at hg
      by_cases q : g = l.length
      · subst q
        rw [gn]
        exact ⟨pk_us.trans (by rw [hy]), pk_uLs.trans (by rw [hy]), pk_us, pk_us, pk_uLs, pk_uLs, pk_uLs⟩
      · rw [ge g (by omega)]
        exact xg_fr (hat g (by omega)) ⟨pk_un q, pk_uLn q, pk_un q, pk_un q, pk_uLn q, pk_uLn q, pk_uLn q⟩
    rcases hk with ⟨h1, h2⟩ | ⟨h1, h2⟩
    · exact br_t h1 (s147 x2 (by rw [h1]; exact h2))
    · exact br_f (by rw [h1]; decide) (s147 0 (by rw [h1]; exact h2))
  intro r
  induction r with
  | zero =>
    intro n e he hn hb
    obtain ⟨n, rfl⟩ := zb_ex hn
    have : e = e0 := by omega
    subst this
    exact empty n e he0 hemp hb
  | succ r ih =>
    intro n e he hn hb
    obtain ⟨n, rfl⟩ := zb_ex (show 0 < n by omega)
    by_cases hem : a_places ((xh_h k + e) % 32) < 0
    · exact empty n e (by omega) hem hb
    · have w : vp_in (nI ((xh_h k + e) % 32)) 32 := vp_in_nI (by omega) (by omega)
      rcases hp.1 ((xh_h k + e) % 32) (by omega) with q | ⟨g, g1, g2⟩
      · rw [q] at hem; exact absurd (by decide) hem
      · have nx : ¬ (l.getD g gr_d).1 = k → wX_groupOf_31 post x1 x2 f_nodes f_filterRoot f_valueRoot f_keyRoot f_partCount (nI l.length) f_passed f_overflow a_cells a_live a_zoneLeast a_zoneMost a_tokens a_constants a_lengths a_nodeOp a_nodeA a_nodeB a_nodeC a_needs a_wanted a_value a_state a_work a_parts a_heads a_chain a_places a_sorted a_groupNull a_groupKey a_groupPairs a_groupValues a_groupSum a_groupLeast a_groupMost n ((nI ((xh_h k + e) % 32) + 1) &&& 31) := by
          intro ne
          have ee : (nI ((xh_h k + e) % 32) + 1) &&& 31 = nI ((xh_h k + (e + 1)) % 32) := by
            rw [nI_1, pk_andN (k := 5) (by omega) (by decide)]
            congr 1; omega
          rw [ee]
          refine ih n (e + 1) (by omega) (by omega) (fun e' he' => ?_)
          by_cases z : e' = e
          · subst z; exact ⟨g, g1, g2, ne⟩
          · exact hb e' (by omega)
        have rg := hat g g1
        have wg : vp_in (nI g) 12 := vp_in_nI (by omega) (by omega)
        rw [wX_groupOf_31]
        dsimp only
        rw [nI_clamp (show (xh_h k + e) % 32 < 2 ^ 31 by omega), g2]
        refine ⟨w, br_f (nI_pos (by omega)) ⟨w, nm_e ⟨wg, ?_⟩⟩⟩
        rw [nI_clamp (show g < 2 ^ 31 by omega), rg.1, rg.2.1]
        refine br_c (fun e1 => br_c (fun z0 => ⟨wg, br_c (fun e2 => K1 g g1 ?_) (fun e2 => nm_e (nx (fun z => e2 ?_)))⟩) (fun z0 => K1 g g1 ?_)) (fun e1 => nm_e (nx (fun z => e1 ?_)))
        · rcases hk with ⟨h1, h2⟩ | ⟨h1, h2⟩
          · rw [h2, ← e2, ← h1, ← e1]
          · rw [h1] at z0; exact absurd z0 (by decide)
        · rw [z]; rcases hk with ⟨_, h2⟩ | ⟨h1, _⟩
          · rw [h2]
          · rw [h1] at z0; exact absurd z0 (by decide)
        · rcases hk with ⟨h1, h2⟩ | ⟨h1, h2⟩
          · exact absurd h1 z0
          · rw [h2]
            rcases hov g g1 with q | q
            · rw [e1, h1] at q; exact absurd q (by decide)
            · exact q
        · rw [z]; rcases hk with ⟨h1, h2⟩ | ⟨h1, h2⟩ <;> rw [h1, h2]
theorem xg_groupOf {x1 : Int32} {x2 : Int64} (hk : x1 = 0 ∧ k = (x2, 0) ∨ x1 = 1 ∧ k = (0, 1)) (hl : l.length ≤ 12) (hov : ∀ g, g < l.length → mq_ov false (l.getD g gr_d).1) (hat : xg_at a_groupNull a_groupKey a_groupPairs a_groupValues a_groupSum a_groupLeast a_groupMost l) (hp : xp_ok l a_places)
    (K1 : ∀ g, g < l.length → (l.getD g gr_d).1 = k → post (nI g) (f_nodes, f_filterRoot, f_valueRoot, f_keyRoot, f_partCount, nI l.length, f_passed, f_overflow, a_cells, a_live, a_zoneLeast, a_zoneMost, a_tokens, a_constants, a_lengths, a_nodeOp, a_nodeA, a_nodeB, a_nodeC, a_needs, a_wanted, a_value, a_state, a_work, a_parts, a_heads, a_chain, a_places, a_sorted, a_groupNull, a_groupKey, a_groupPairs, a_groupValues, a_groupSum, a_groupLeast, a_groupMost)) (K2 : (∀ g, g < l.length → ¬ (l.getD g gr_d).1 = k) → l.length = 12 → post (-1) (f_nodes, f_filterRoot, f_valueRoot, f_keyRoot, f_partCount, nI l.length, f_passed, 1, a_cells, a_live, a_zoneLeast, a_zoneMost, a_tokens, a_constants, a_lengths, a_nodeOp, a_nodeA, a_nodeB, a_nodeC, a_needs, a_wanted, a_value, a_state, a_work, a_parts, a_heads, a_chain, a_places, a_sorted, a_groupNull, a_groupKey, a_groupPairs, a_groupValues, a_groupSum, a_groupLeast, a_groupMost))
    (K3 : (∀ g, g < l.length → ¬ (l.getD g gr_d).1 = k) → l.length < 12 → ∀ pl gN gK gP gV gS gL gM, xg_at gN gK gP gV gS gL gM (l ++ [(k, gr_z)]) → xp_ok (l ++ [(k, gr_z)]) pl → post (nI l.length) (f_nodes, f_filterRoot, f_valueRoot, f_keyRoot, f_partCount, nI (l.length + 1), f_passed, f_overflow, a_cells, a_live, a_zoneLeast, a_zoneMost, a_tokens, a_constants, a_lengths, a_nodeOp, a_nodeA, a_nodeB, a_nodeC, a_needs, a_wanted, a_value, a_state, a_work, a_parts, a_heads, a_chain, pl, a_sorted, gN, gK, gP, gV, gS, gL, gM)) :
    wpX_groupOf post (f_nodes, f_filterRoot, f_valueRoot, f_keyRoot, f_partCount, nI l.length, f_passed, f_overflow, a_cells, a_live, a_zoneLeast, a_zoneMost, a_tokens, a_constants, a_lengths, a_nodeOp, a_nodeA, a_nodeB, a_nodeC, a_needs, a_wanted, a_value, a_state, a_work, a_parts, a_heads, a_chain, a_places, a_sorted, a_groupNull, a_groupKey, a_groupPairs, a_groupValues, a_groupSum, a_groupLeast, a_groupMost) x1 x2 := by
  obtain ⟨e0, he0, hem⟩ := xp_empty hp hl (xh_h k)
  have go : ∀ z, z = xh_mix k → wX_groupOf_16 post x1 x2 z f_nodes f_filterRoot f_valueRoot f_keyRoot f_partCount (nI l.length) f_passed f_overflow a_cells a_live a_zoneLeast a_zoneMost a_tokens a_constants a_lengths a_nodeOp a_nodeA a_nodeB a_nodeC a_needs a_wanted a_value a_state a_work a_parts a_heads a_chain a_places a_sorted a_groupNull a_groupKey a_groupPairs a_groupValues a_groupSum a_groupLeast a_groupMost := by
    intro z hz
    subst hz
    refine nm_r (e' := nI ((xh_h k + 0) % 32)) ?_ ⟨e0 + 1, xg_31 hk hl hov hat hp K1 K2 K3 he0 hem e0 (e0 + 1) 0 (by omega) (by omega) (fun e' he' => by omega)⟩
    rw [pk_and _ 5 (by decide)]
    unfold xh_h
    congr 1; omega
  rcases hk with ⟨h1, h2⟩ | ⟨h1, h2⟩
  · refine br_t h1 (go _ ?_)
    rw [h2]; unfold xh_mix; rw [if_pos rfl]
  · refine br_f (by rw [h1]; decide) (go _ ?_)
    rw [h2]; unfold xh_mix; rw [if_neg (by decide)]
end XGR
end
section
/-! ===== X: pair ===== -/
def xg_ok (gs : GS) (fg fp fo : Int32) (pl gN : Nat → Int32) (gK : Nat → Int64) (gP gV : Nat → Int32) (gS gL gM : Nat → Int64) : Prop :=
  fg = nI gs.1.length ∧ fp = nI gs.2.2 ∧ fo = (if gs.2.1 = true then 1 else 0) ∧ xg_at gN gK gP gV gS gL gM gs.1 ∧ xp_ok gs.1 pl
theorem xp_up {l : GL} {k v : VV} {pl : Nat → Int32} (h : xp_ok l pl) : xp_ok (gr_up l k v) pl := by
  obtain ⟨h1, h2, h3⟩ := h
  have ke : ∀ g, g < l.length → ((gr_up l k v).getD g gr_d).1 = (l.getD g gr_d).1 := by
    intro g hg
    rw [gr_up_get hg]; split <;> rfl
  refine ⟨fun j hj => by rw [gr_up_len]; exact h1 j hj, by rw [gr_up_len]; exact h2, fun g hg => ?_⟩
  rw [gr_up_len] at hg
  rw [ke g hg]; exact h3 g hg
section XPA
variable {f_nodes f_filterRoot f_valueRoot f_keyRoot f_partCount f_groups f_passed f_overflow : Int32}
variable {a_cells a_live a_zoneLeast a_zoneMost a_tokens a_constants a_lengths a_nodeOp a_nodeA a_nodeB a_nodeC a_needs a_wanted a_state a_work a_parts a_heads a_chain a_places a_sorted a_groupNull a_groupPairs a_groupValues : Nat → Int32}
variable {a_value a_groupKey a_groupSum a_groupLeast a_groupMost : Nat → Int64}
/-- one pair more in group g -/
theorem xq_st {post : SX → Prop} {g vr : Nat} {k v : VV} {r : RR} (hg : g < 12) (hvr : vr < 64) (hb : r.2.1 < 2 ^ 30) (hv : xr_rp false (a_state vr) (a_value vr) v) (hr : xg_rec a_groupNull a_groupKey a_groupPairs a_groupValues a_groupSum a_groupLeast a_groupMost g (k, r))
    (K : ∀ gP gV gS gL gM, xg_rec a_groupNull a_groupKey gP gV gS gL gM g (k, gr_st r v) → (∀ j, j ≠ g → gP j = a_groupPairs j ∧ gV j = a_groupValues j ∧ gS j = a_groupSum j ∧ gL j = a_groupLeast j ∧ gM j = a_groupMost j) → post (f_nodes, f_filterRoot, nI vr, f_keyRoot, f_partCount, f_groups, f_passed, f_overflow, a_cells, a_live, a_zoneLeast, a_zoneMost, a_tokens, a_constants, a_lengths, a_nodeOp, a_nodeA, a_nodeB, a_nodeC, a_needs, a_wanted, a_value, a_state, a_work, a_parts, a_heads, a_chain, a_places, a_sorted, a_groupNull, a_groupKey, gP, gV, gS, gL, gM)) :
    vp_in (nI g) 12 ∧ (vp_in (nI g) 12 ∧ ∀ gP, gP = upd a_groupPairs (nI g).toNatClampNeg ((a_groupPairs (nI g).toNatClampNeg) + 1) → (vp_in (nI vr) 64 ∧ ((((a_state (nI vr).toNatClampNeg) = 0 → post (f_nodes, f_filterRoot, nI vr, f_keyRoot, f_partCount, f_groups, f_passed, f_overflow, a_cells, a_live, a_zoneLeast, a_zoneMost, a_tokens, a_constants, a_lengths, a_nodeOp, a_nodeA, a_nodeB, a_nodeC, a_needs, a_wanted, a_value, a_state, a_work, a_parts, a_heads, a_chain, a_places, a_sorted, a_groupNull, a_groupKey, gP, a_groupValues, a_groupSum, a_groupLeast, a_groupMost)) ∧ (¬ (a_state (nI vr).toNatClampNeg) = 0 → (vp_in (nI vr) 64 ∧ (∀ x3, x3 = a_value (nI vr).toNatClampNeg → (vp_in (nI g) 12 ∧ (vp_in (nI g) 12 ∧ ∀ gS, gS = vp_updL a_groupSum (nI g).toNatClampNeg ((a_groupSum (nI g).toNatClampNeg) + x3) → (vp_in (nI g) 12 ∧ (vp_in (nI g) 12 ∧ ∀ gV, gV = upd a_groupValues (nI g).toNatClampNeg ((a_groupValues (nI g).toNatClampNeg) + 1) → ((((a_groupValues (nI g).toNatClampNeg) = 0 → (vp_in (nI g) 12 ∧ ∀ gL, gL = vp_updL a_groupLeast (nI g).toNatClampNeg x3 → (vp_in (nI g) 12 ∧ ∀ gM, gM = vp_updL a_groupMost (nI g).toNatClampNeg x3 → (wX_pair_146 post (nI g) x3 f_nodes f_filterRoot (nI vr) f_keyRoot f_partCount f_groups f_passed f_overflow a_cells a_live a_zoneLeast a_zoneMost a_tokens a_constants a_lengths a_nodeOp a_nodeA a_nodeB a_nodeC a_needs a_wanted a_value a_state a_work a_parts a_heads a_chain a_places a_sorted a_groupNull a_groupKey gP gV gS gL gM)))) ∧ (¬ (a_groupValues (nI g).toNatClampNeg) = 0 → (wX_pair_146 post (nI g) x3 f_nodes f_filterRoot (nI vr) f_keyRoot f_partCount f_groups f_passed f_overflow a_cells a_live a_zoneLeast a_zoneMost a_tokens a_constants a_lengths a_nodeOp a_nodeA a_nodeB a_nodeC a_needs a_wanted a_value a_state a_work a_parts a_heads a_chain a_places a_sorted a_groupNull a_groupKey gP gV gS a_groupLeast a_groupMost))))))))))))))) := by
  have wg : vp_in (nI g) 12 := vp_in_nI hg (by omega)
  have wv : vp_in (nI vr) 64 := vp_in_nI hvr (by omega)
  have cg : (nI g).toNatClampNeg = g := nI_clamp (by omega)
  obtain ⟨r1, r2, r3, r4, r5, r6, r7⟩ := hr
  have r1 : a_groupNull g = k.2 := r1
  have r2 : a_groupKey g = k.1 := r2
  have r3 : a_groupPairs g = nI r.1 := r3
  have r4 : a_groupValues g = nI r.2.1 := r4
  have r5 : a_groupSum g = r.2.2.1 := r5
  have r6 : a_groupLeast g = r.2.2.2.1 := r6
  have r7 : a_groupMost g = r.2.2.2.2 := r7
  rw [cg, nI_clamp (show vr < 2 ^ 31 by omega)]
  refine ⟨wg, wg, nm_r (e' := upd a_groupPairs g (nI (r.1 + 1))) (by rw [r3, nI_1]) ⟨wv, ?_⟩⟩
  rcases hv with ⟨s1, e⟩ | ⟨s1, e⟩
  · rw [s1]
    refine br_f (by decide) ⟨wv, nm_e ⟨wg, wg, nm_r (e' := vp_updL a_groupSum g (r.2.2.1 + a_value vr)) (by rw [r5]) ⟨wg, wg, nm_r (e' := upd a_groupValues g (nI (r.2.1 + 1))) (by rw [r4, nI_1]) ?_⟩⟩⟩
    rw [r4]
    have gs : gr_st r v = (r.1 + 1, r.2.1 + 1, r.2.2.1 + a_value vr, (if r.2.1 = 0 ∨ a_value vr < r.2.2.2.1 then a_value vr else r.2.2.2.1), (if r.2.1 = 0 ∨ r.2.2.2.2 < a_value vr then a_value vr else r.2.2.2.2)) := by
      unfold gr_st; rw [e, if_pos rfl]
    rw [gs] at K
    have s146 : ∀ (L M : Nat → Int64), (∀ j, j ≠ g → L j = a_groupLeast j ∧ M j = a_groupMost j) → (if r.2.1 = 0 then L g = a_value vr ∧ M g = a_value vr else L g = r.2.2.2.1 ∧ M g = r.2.2.2.2) → wX_pair_146 post (nI g) (a_value vr) f_nodes f_filterRoot (nI vr) f_keyRoot f_partCount f_groups f_passed f_overflow a_cells a_live a_zoneLeast a_zoneMost a_tokens a_constants a_lengths a_nodeOp a_nodeA a_nodeB a_nodeC a_needs a_wanted a_value a_state a_work a_parts a_heads a_chain a_places a_sorted a_groupNull a_groupKey (upd a_groupPairs g (nI (r.1 + 1))) (upd a_groupValues g (nI (r.2.1 + 1))) (vp_updL a_groupSum g (r.2.2.1 + a_value vr)) L M := by
      intro L M ho hg2
      have fin : ∀ (L' M' : Nat → Int64), (∀ j, j ≠ g → L' j = a_groupLeast j ∧ M' j = a_groupMost j) → L' g = (if r.2.1 = 0 ∨ a_value vr < r.2.2.2.1 then a_value vr else r.2.2.2.1) → M' g = (if r.2.1 = 0 ∨ r.2.2.2.2 < a_value vr then a_value vr else r.2.2.2.2) → post (f_nodes, f_filterRoot, nI vr, f_keyRoot, f_partCount, f_groups, f_passed, f_overflow, a_cells, a_live, a_zoneLeast, a_zoneMost, a_tokens, a_constants, a_lengths, a_nodeOp, a_nodeA, a_nodeB, a_nodeC, a_needs, a_wanted, a_value, a_state, a_work, a_parts, a_heads, a_chain, a_places, a_sorted, a_groupNull, a_groupKey, upd a_groupPairs g (nI (r.1 + 1)), upd a_groupValues g (nI (r.2.1 + 1)), vp_updL a_groupSum g (r.2.2.1 + a_value vr), L', M') := by
        intro L' M' h1 h2 h3
        exact K _ _ _ _ _ ⟨r1, r2, pk_us, pk_us, pk_uLs, h2, h3⟩ (fun j hj => ⟨pk_un hj, pk_un hj, pk_uLn hj, (h1 j hj).1, (h1 j hj).2⟩)
      have s164 : ∀ L' : Nat → Int64, (∀ j, j ≠ g → L' j = a_groupLeast j) → L' g = (if r.2.1 = 0 ∨ a_value vr < r.2.2.2.1 then a_value vr else r.2.2.2.1) → wX_pair_164 post (nI g) (a_value vr) f_nodes f_filterRoot (nI vr) f_keyRoot f_partCount f_groups f_passed f_overflow a_cells a_live a_zoneLeast a_zoneMost a_tokens a_constants a_lengths a_nodeOp a_nodeA a_nodeB a_nodeC a_needs a_wanted a_value a_state a_work a_parts a_heads a_chain a_places a_sorted a_groupNull a_groupKey (upd a_groupPairs g (nI (r.1 + 1))) (upd a_groupValues g (nI (r.2.1 + 1))) (vp_updL a_groupSum g (r.2.2.1 + a_value vr)) L' M := by
        intro L' h1 h2
        unfold wX_pair_164
        rw [cg]
        refine ⟨wg, br_c (fun le => fin L' M (fun j hj => ⟨h1 j hj, (ho j hj).2⟩) h2 ?_) (fun nle => ⟨wg, nm_e (fin L' _ (fun j hj => ⟨h1 j hj, (pk_uLn hj).trans (ho j hj).2⟩) h2 ?_)⟩)⟩
        · by_cases z : r.2.1 = 0
          · rw [if_pos z] at hg2; rw [if_pos (Or.inl z)]; exact hg2.2
          · rw [if_neg z] at hg2
            rw [hg2.2] at le ⊢
            rw [if_neg (fun q => q.elim z (fun q => Int64.not_lt.mpr le q))]
        · rw [pk_uLs]
          by_cases z : r.2.1 = 0
          · rw [if_pos (Or.inl z)]
          · rw [if_neg z] at hg2
            rw [hg2.2] at nle
            rw [if_pos (Or.inr (Int64.not_le.mp nle))]
      unfold wX_pair_146
      rw [cg]
      refine ⟨wg, br_c (fun le => s164 L (fun j hj => (ho j hj).1) ?_) (fun nle => ⟨wg, nm_e (s164 _ (fun j hj => (pk_uLn hj).trans (ho j hj).1) ?_)⟩)⟩
      · by_cases z : r.2.1 = 0
        · rw [if_pos z] at hg2; rw [if_pos (Or.inl z)]; exact hg2.1
        · rw [if_neg z] at hg2
          rw [hg2.1] at le ⊢
          rw [if_neg (fun q => q.elim z (fun q => Int64.not_lt.mpr le q))]
      · rw [pk_uLs]
        by_cases z : r.2.1 = 0
        · rw [if_pos (Or.inl z)]
        · rw [if_neg z] at hg2
          rw [hg2.1] at nle
          rw [if_pos (Or.inr (Int64.not_le.mp nle))]
    refine br_c (fun z => ⟨wg, nm_e ⟨wg, nm_e (s146 _ _ (fun j hj => ⟨pk_uLn hj, pk_uLn hj⟩) ?_)⟩⟩) (fun z => s146 _ _ (fun j hj => ⟨rfl, rfl⟩) ?_)
    · rw [if_pos (zb_inj (b := 0) z (by omega) (by omega))]; exact ⟨pk_uLs, pk_uLs⟩
    · rw [if_neg (fun q => z (by rw [q]; rfl))]; exact ⟨r6, r7⟩
  · have gs : gr_st r v = (r.1 + 1, r.2) := by unfold gr_st; rw [e, if_neg (by decide)]
    rw [gs] at K
    exact br_t s1 (K _ _ _ _ _ ⟨r1, r2, pk_us, r4, r5, r6, r7⟩ (fun j hj => ⟨pk_un hj, rfl, rfl, rfl, rfl⟩))
theorem xq_57 {post : SX → Prop} {gs : GS} {k v : VV} {kr vr : Nat} {z0 fo : Int32} (hkr : kr < 64) (hvr : vr < 64) (hk : xr_rp false (a_state kr) (a_value kr) k) (hz : (a_state kr = 0 ∧ z0 = 1) ∨ (¬ a_state kr = 0 ∧ z0 = 0)) (hv : xr_rp false (a_state vr) (a_value vr) v) (hok : gr_ok gs) (hps : gs.2.2 < 2 ^ 30)
    (hfo : fo = (if gs.2.1 = true then 1 else 0)) (hat : xg_at a_groupNull a_groupKey a_groupPairs a_groupValues a_groupSum a_groupLeast a_groupMost gs.1) (hp : xp_ok gs.1 a_places)
    (K : ∀ (fg fp fo : Int32) (pl gN : Nat → Int32) (gK : Nat → Int64) (gP gV : Nat → Int32) (gS gL gM : Nat → Int64), xg_ok (gr_step gs k v) fg fp fo pl gN gK gP gV gS gL gM → post (f_nodes, f_filterRoot, nI vr, nI kr, f_partCount, fg, fp, fo, a_cells, a_live, a_zoneLeast, a_zoneMost, a_tokens, a_constants, a_lengths, a_nodeOp, a_nodeA, a_nodeB, a_nodeC, a_needs, a_wanted, a_value, a_state, a_work, a_parts, a_heads, a_chain, pl, a_sorted, gN, gK, gP, gV, gS, gL, gM)) :
    wX_pair_57 post z0 f_nodes f_filterRoot (nI vr) (nI kr) f_partCount (nI gs.1.length) (nI (gs.2.2 + 1)) fo a_cells a_live a_zoneLeast a_zoneMost a_tokens a_constants a_lengths a_nodeOp a_nodeA a_nodeB a_nodeC a_needs a_wanted a_value a_state a_work a_parts a_heads a_chain a_places a_sorted a_groupNull a_groupKey a_groupPairs a_groupValues a_groupSum a_groupLeast a_groupMost := by
  obtain ⟨g1, g2, g3⟩ := hok
  have kk : z0 = 0 ∧ k = (a_value kr, 0) ∨ z0 = 1 ∧ k = (0, 1) := by
    rcases hk with ⟨s, e⟩ | ⟨s, e⟩
    · rcases hz with ⟨q, _⟩ | ⟨_, q⟩
      · rw [s] at q; exact absurd q (by decide)
      · exact Or.inl ⟨q, e⟩
    · rcases hz with ⟨_, q⟩ | ⟨q, _⟩
      · exact Or.inr ⟨q, e⟩
      · exact absurd s q
  have kov : mq_ov false k := by
    rcases hk with ⟨_, e⟩ | ⟨_, e⟩
    · exact Or.inl (by rw [e])
    · exact Or.inr e
  have nin : (∀ g, g < gs.1.length → ¬ (gs.1.getD g gr_d).1 = k) → ¬ k ∈ gs.1.map Prod.fst := by
    intro h z
    obtain ⟨p, hp, e⟩ := gr_kmem z
    exact h p hp e
  -- group g of lz
  have upd : ∀ (lz : GL) (g : Nat) (gN : Nat → Int32) (gK : Nat → Int64) (gP gV : Nat → Int32) (gS gL gM : Nat → Int64), (lz.map Prod.fst).Nodup → g < lz.length → (lz.getD g gr_d).1 = k → xg_at gN gK gP gV gS gL gM lz → ∀ gP' gV' gS' gL' gM', xg_rec gN gK gP' gV' gS' gL' gM' g (k, gr_st (lz.getD g gr_d).2 v) → (∀ j, j ≠ g → gP' j = gP j ∧ gV' j = gV j ∧ gS' j = gS j ∧ gL' j = gL j ∧ gM' j = gM j) → xg_at gN gK gP' gV' gS' gL' gM' (gr_up lz k v) := by
    intro lz g gN gK gP gV gS gL gM h1 h2 h3 h4 gP' gV' gS' gL' gM' h5 h6 p hp'
    rw [gr_up_len] at hp'
    rw [gr_up_get hp']
    by_cases e : p = g
    · subst e; rw [if_pos h3, h3]; exact h5
    · rw [if_neg (fun z => e (gr_kinj h1 hp' h2 (z.trans h3.symm)))]
      obtain ⟨q1, q2, q3, q4, q5⟩ := h6 p e
      exact xg_fr (h4 p hp') ⟨rfl, rfl, q1, q2, q3, q4, q5⟩
  unfold wX_pair_57
  rw [nI_clamp (show kr < 2 ^ 31 by omega)]
  refine ⟨vp_in_nI hkr (by omega), xg_groupOf (l := gs.1) kk g3 (fun g hg => (g1 _ (gr_mem hg)).2.2) hat hp (fun g hg he => ?_) (fun h hl => ?_) (fun h hl pl gN gK gP gV gS gL gM hat' hp' => ?_)⟩
  · dsimp only
    have bb := g1 _ (gr_mem hg)
    have rr := hat g hg
    rw [show gs.1.getD g gr_d = (k, (gs.1.getD g gr_d).2) from Prod.ext he rfl] at rr
    refine br_t (nI_pos' (by omega)) (xq_st (k := k) (v := v) (r := (gs.1.getD g gr_d).2) (by omega) hvr (by omega) hv rr (fun gP gV gS gL gM q1 q2 => K _ _ _ _ _ _ _ _ _ _ _ ?_))
    unfold gr_step
    rw [if_pos (he ▸ gr_kmem' hg)]
    exact ⟨by rw [gr_up_len], rfl, hfo, upd gs.1 g _ _ _ _ _ _ _ g2 hg he hat gP gV gS gL gM q1 q2, xp_up hp⟩
  · dsimp only
    refine br_f (by decide) (K _ _ _ _ _ _ _ _ _ _ _ ?_)
    unfold gr_step
    rw [if_neg (nin h), if_neg (by omega)]
    exact ⟨rfl, rfl, by rw [if_pos rfl], hat, hp⟩
  · dsimp only
    have gn : (gs.1 ++ [(k, gr_z)]).getD gs.1.length gr_d = (k, gr_z) := by
      rw [List.getD_eq_getElem?_getD, List.getElem?_append_right (Nat.le_refl _), Nat.sub_self]; rfl
    have len : (gs.1 ++ [(k, gr_z)]).length = gs.1.length + 1 := by simp
    have rr := hat' gs.1.length (by omega)
    rw [gn] at rr
    have nd : ((gs.1 ++ [(k, gr_z)]).map Prod.fst).Nodup := by
      rw [List.map_append]
      refine List.nodup_append.mpr ⟨g2, by simp, fun x hx y hy => ?_⟩
      have : y = k := by simpa using hy
      subst this
      intro e; subst e; exact nin h hx
    refine br_t (nI_pos' (by omega)) (xq_st (k := k) (v := v) (r := gr_z) (by omega) hvr (by show (0 : Nat) < 2 ^ 30; omega) hv rr (fun gP' gV' gS' gL' gM' q1 q2 => K _ _ _ _ _ _ _ _ _ _ _ ?_))
    unfold gr_step
    rw [if_neg (nin h), if_pos hl]
    exact ⟨by rw [gr_up_len, len], rfl, hfo, upd (gs.1 ++ [(k, gr_z)]) gs.1.length _ _ _ _ _ _ _ nd (by omega) (by rw [gn]) hat' gP' gV' gS' gL' gM' (by rw [gn]; exact q1) q2, xp_up hp'⟩
end XPA
end
section
/-! ===== X: pair, rightPasses ===== -/
section XP2
variable {f_nodes f_filterRoot f_valueRoot f_keyRoot f_partCount f_groups f_passed f_overflow : Int32}
variable {a_cells a_live a_zoneLeast a_zoneMost a_tokens a_constants a_lengths a_nodeOp a_nodeA a_nodeB a_nodeC a_needs a_wanted a_state a_work a_parts a_heads a_chain a_places a_sorted a_groupNull a_groupPairs a_groupValues : Nat → Int32}
variable {a_value a_groupKey a_groupSum a_groupLeast a_groupMost : Nat → Int64}
variable {D : (Nat → Int32) → Nat → VV} {T : Nat → Nat} {N f v k : Nat} {ps : List Nat} {E : Nat → (Nat → Int32) → VV} {env : Nat → Int32}
theorem xk_pg_st {st' : Nat → Int32} {vl' : Nat → Int64} (C : xk_pg N D T f v k ps a_nodeOp a_nodeA a_nodeB a_nodeC a_needs a_wanted a_state a_parts a_value (E 0) (E 1) (E 2)) (h : ∀ j, j < N → a_needs j = 0 → st' j = a_state j ∧ vl' j = a_value j) : xk_pg N D T f v k ps a_nodeOp a_nodeA a_nodeB a_nodeC a_needs a_wanted st' a_parts vl' (E 0) (E 1) (E 2) := by
  obtain ⟨c1, c2, c3⟩ := C
  exact ⟨c1, pg_fr3 c2 (fun j hj ho => h j hj (pg_kn c2 hj ho).2.1), c3⟩
theorem xr_t1 {s : Int32} {w : Int64} {d : VV} (h : xr_rp true s w d) : s = 1 ↔ d = (1, 0) := by
  rcases h with ⟨h, e⟩ | ⟨h, e⟩ | ⟨h, e⟩
  · rw [h, e]; exact ⟨fun z => absurd z (by decide), fun z => absurd z (by decide)⟩
  · rw [h, e]; exact ⟨fun _ => rfl, fun _ => rfl⟩
  · rw [h, e]; exact ⟨fun z => absurd z (by decide), fun z => absurd z (by decide)⟩
theorem xq_pair {post : SX → Prop} {x : Int32} {gs : GS} (C : xk_pg N D T f v k ps a_nodeOp a_nodeA a_nodeB a_nodeC a_needs a_wanted a_state a_parts a_value (E 0) (E 1) (E 2)) (hL : ∀ j, j < N → a_wanted j ≠ 0 → (a_needs j = 0 ∨ a_needs j = 1) → xr_rp (mq_kd (a_nodeOp j)) (a_state j) (a_value j) (D env j))
    (hx : (x = -1 ∧ ∀ c, c < 6 → c / 3 = 1 → env c = -2147483648) ∨ ∃ s, s < 16 ∧ x = nI s ∧ ∀ c, c < 6 → c / 3 = 1 → env c = a_cells (c * 16 + s)) (c0 : ∀ y, y ∈ ps → (a_needs y = 0 ∨ a_needs y = 1) → D env y = (1, 0))
    (hok : gr_ok gs) (hps : gs.2.2 < 2 ^ 30) (G : xg_ok gs f_groups f_passed f_overflow a_places a_groupNull a_groupKey a_groupPairs a_groupValues a_groupSum a_groupLeast a_groupMost)
    (K : ∀ st vl, ∀ (fg fp fo : Int32) (pl gN : Nat → Int32) (gK : Nat → Int64) (gP gV : Nat → Int32) (gS gL gM : Nat → Int64), xg_ok (rn_ev E gs env) fg fp fo pl gN gK gP gV gS gL gM → (∀ j, j < N → (a_needs j = 0 ∨ a_needs j = 1) → st j = a_state j ∧ vl j = a_value j) → post (nI N, f_filterRoot, nI v, nI k, nI ps.length, fg, fp, fo, a_cells, a_live, a_zoneLeast, a_zoneMost, a_tokens, a_constants, a_lengths, a_nodeOp, a_nodeA, a_nodeB, a_nodeC, a_needs, a_wanted, vl, st, a_work, a_parts, a_heads, a_chain, pl, a_sorted, gN, gK, gP, gV, gS, gL, gM)) :
    wpX_pair post (nI N, f_filterRoot, nI v, nI k, nI ps.length, f_groups, f_passed, f_overflow, a_cells, a_live, a_zoneLeast, a_zoneMost, a_tokens, a_constants, a_lengths, a_nodeOp, a_nodeA, a_nodeB, a_nodeC, a_needs, a_wanted, a_value, a_state, a_work, a_parts, a_heads, a_chain, a_places, a_sorted, a_groupNull, a_groupKey, a_groupPairs, a_groupValues, a_groupSum, a_groupLeast, a_groupMost) x := by
  obtain ⟨hN, P, lf, lv, lk, kf, kv, kk, df, dv, dk, wf, wv, wk, hcl, hl, hpt, hps2, hall⟩ := id C
  unfold wpX_pair
  dsimp only
  refine xv_fetch (tb := 1) (cv := env) hN (by omega) P hx (fun st1 vl1 f1 f2 => ?_)
  dsimp only
  have u1 : ∀ j, j < N → (a_needs j = 0 ∨ a_needs j = 1) → st1 j = a_state j ∧ vl1 j = a_value j := by
    intro j hj hn
    refine f2 j (fun c hc ht ho => ?_)
    rcases P j hj with ⟨c', g1, g2, g3, _⟩ | ⟨g1, _⟩ | ⟨g1, _⟩ | ⟨_, _, _, g1, _⟩
    · have : c' = c := zb_inj (g2.symm.trans ho) (by omega) (by omega)
      subst this
      rw [g3, if_neg (by omega)] at hn
      exact absurd hn (by decide)
    · rw [ho] at g1; exact zb_ne (b := 40) (by omega) (by omega) (by omega) g1
    · rw [ho] at g1; exact zb_ne (b := 41) (by omega) (by omega) (by omega) g1
    · rw [ho] at g1; exact absurd (nI_lt (b := 6) hc (by decide)) (mq_op_lo g1).2.1
  have C1 : xk_pg N D T f v k ps a_nodeOp a_nodeA a_nodeB a_nodeC a_needs a_wanted st1 a_parts vl1 (E 0) (E 1) (E 2) := xk_pg_st C (fun j hj hn => u1 j hj (Or.inl hn))
  have P1 := C1.2.1
  refine xv_all (set := 2) (more := 1) (Q := fun _ => True) (env := env) (Or.inr rfl) hN P1 hcl (fun _ _ _ _ _ _ _ _ _ _ => ⟨trivial, trivial, trivial⟩) (fun _ _ _ => trivial) (fun j hj hw _ hne => ?_) (fun st2 vl2 a1 a2 => ?_)
  · rcases pg_nd P j hj with n0 | n1 | n2 | n3
    · rw [(u1 j hj (Or.inl n0)).1, (u1 j hj (Or.inl n0)).2]; exact hL j hj hw (Or.inl n0)
    · rw [(u1 j hj (Or.inr n1)).1, (u1 j hj (Or.inr n1)).2]; exact hL j hj hw (Or.inr n1)
    · have o10 : a_nodeOp j < 10 := by
        rcases Classical.em (a_nodeOp j < 10) with z | z
        · exact z
        · exact absurd ⟨z, Or.inl n2⟩ hne
      rcases P j hj with ⟨c', g1, g2, g3, g4, _⟩ | ⟨g1, _⟩ | ⟨g1, _⟩ | ⟨_, _, _, g1, _⟩
      · have c3 : ¬ c' < 3 := by
          intro z; rw [g3, if_pos z] at n2; exact absurd n2 (by decide)
        rw [g2, mq_kd_c c' g1, g4]
        exact f1 j c' hj g1 g2 (by omega)
      · rw [g1] at o10; exact absurd o10 (by decide)
      · rw [g1] at o10; exact absurd o10 (by decide)
      · exact absurd o10 (mq_op_lo g1).1
    · have o10 : a_nodeOp j < 10 := by
        rcases Classical.em (a_nodeOp j < 10) with z | z
        · exact z
        · exact absurd ⟨z, Or.inr ⟨by decide, n3⟩⟩ hne
      rcases P j hj with ⟨c', g1, g2, g3, g4, _⟩ | ⟨g1, _⟩ | ⟨g1, _⟩ | ⟨_, _, _, g1, _⟩
      · rw [g3] at n3; split at n3 <;> exact absurd n3 (by decide)
      · rw [g1] at o10; exact absurd o10 (by decide)
      · rw [g1] at o10; exact absurd o10 (by decide)
      · exact absurd o10 (mq_op_lo g1).1
  · dsimp only
    have u2 : ∀ j, j < N → (a_needs j = 0 ∨ a_needs j = 1) → st2 j = a_state j ∧ vl2 j = a_value j := by
      intro j hj hn
      obtain ⟨e1, e2⟩ := a2 j (fun z => by
        rcases z.2 with q | ⟨_, q⟩ <;> rw [q] at hn <;> exact absurd hn (by decide))
      obtain ⟨e3, e4⟩ := u1 j hj hn
      exact ⟨e1.trans e3, e2.trans e4⟩
    have tr : ∀ y, y ∈ ps → (st2 y = 1 ↔ D env y = (1, 0)) := by
      intro y hy
      obtain ⟨q1, q2, q3⟩ := hps2 y hy
      have := a1 y q1 q3 trivial
      rw [q2] at this
      exact xr_t1 this
    have fail : (∃ y, y ∈ ps ∧ ¬ st2 y = 1) → post (nI N, f_filterRoot, nI v, nI k, nI ps.length, f_groups, f_passed, f_overflow, a_cells, a_live, a_zoneLeast, a_zoneMost, a_tokens, a_constants, a_lengths, a_nodeOp, a_nodeA, a_nodeB, a_nodeC, a_needs, a_wanted, vl2, st2, a_work, a_parts, a_heads, a_chain, a_places, a_sorted, a_groupNull, a_groupKey, a_groupPairs, a_groupValues, a_groupSum, a_groupLeast, a_groupMost) := by
      rintro ⟨y, hy, q⟩
      have ne : ¬ E 0 env = (1, 0) := by
        intro z
        rw [← df env] at z
        exact q ((tr y hy).mpr ((hall env).mp z y hy))
      have ev : rn_ev E gs env = gs := by unfold rn_ev; rw [if_neg ne]
      rw [ev] at K
      exact K st2 vl2 _ _ _ _ _ _ _ _ _ _ _ G u2
    refine xv_holds hN hl hpt (fun y hy => (hps2 y hy).1) (fun t2 => br_f (by decide) (xv_holds hN hl hpt (fun y hy => (hps2 y hy).1) (fun t3 => br_f (by decide) ?_) (fun q => br_t rfl (fail ?_)))) (fun q => br_t rfl (fail ?_))
    · have pass : E 0 env = (1, 0) := by
        rw [← df env]
        refine (hall env).mpr (fun y hy => ?_)
        rcases pg_nd P y (hps2 y hy).1 with n0 | n1 | n2 | n3
        · exact c0 y hy (Or.inl n0)
        · exact c0 y hy (Or.inr n1)
        · exact (tr y hy).mp (t2 y hy n2)
        · exact (tr y hy).mp (t3 y hy n3)
      have ev : rn_ev E gs env = gr_step gs (E 2 env) (E 1 env) := by unfold rn_ev; rw [if_pos pass]
      rw [ev] at K
      obtain ⟨G1, G2, G3, G4, G5⟩ := G
      have rk := a1 k lk wk trivial
      rw [kk, dk] at rk
      have rv := a1 v lv wv trivial
      rw [kv, dv] at rv
      have go : ∀ z0, ((st2 k = 0 ∧ z0 = 1) ∨ (¬ st2 k = 0 ∧ z0 = 0)) → wX_pair_57 post z0 (nI N) f_filterRoot (nI v) (nI k) (nI ps.length) (nI gs.1.length) (nI (gs.2.2 + 1)) f_overflow a_cells a_live a_zoneLeast a_zoneMost a_tokens a_constants a_lengths a_nodeOp a_nodeA a_nodeB a_nodeC a_needs a_wanted vl2 st2 a_work a_parts a_heads a_chain a_places a_sorted a_groupNull a_groupKey a_groupPairs a_groupValues a_groupSum a_groupLeast a_groupMost := by
        intro z0 hz
        exact xq_57 (by omega) (by omega) rk hz rv hok hps G3 G4 G5 (fun fg fp fo pl gN gK gP gV gS gL gM h => K st2 vl2 fg fp fo pl gN gK gP gV gS gL gM h u2)
      rw [G1, G2, nI_clamp (show k < 2 ^ 31 by omega)]
      refine nm_r (nI_1 _) ⟨vp_in_nI (by omega) (by omega), br_c (fun z => go 1 (Or.inl ⟨z, rfl⟩)) (fun z => go 0 (Or.inr ⟨z, rfl⟩))⟩
    · obtain ⟨y, hy, _, q⟩ := q
      exact ⟨y, hy, q⟩
    · obtain ⟨y, hy, _, q⟩ := q
      exact ⟨y, hy, q⟩
theorem xq_right {post : Int32 → SX → Prop} {s : Nat} (C : xk_pg N D T f v k ps a_nodeOp a_nodeA a_nodeB a_nodeC a_needs a_wanted a_state a_parts a_value (E 0) (E 1) (E 2)) (hs : s < 16) (hx : ∀ c, c < 6 → c / 3 = 1 → env c = a_cells (c * 16 + s))
    (K1 : (∀ y, y ∈ ps → a_needs y = 2 → D env y = (1, 0)) → ∀ st vl, (∀ j, j < N → a_needs j = 0 → st j = a_state j ∧ vl j = a_value j) → post 1 (nI N, f_filterRoot, f_valueRoot, f_keyRoot, nI ps.length, f_groups, f_passed, f_overflow, a_cells, a_live, a_zoneLeast, a_zoneMost, a_tokens, a_constants, a_lengths, a_nodeOp, a_nodeA, a_nodeB, a_nodeC, a_needs, a_wanted, vl, st, a_work, a_parts, a_heads, a_chain, a_places, a_sorted, a_groupNull, a_groupKey, a_groupPairs, a_groupValues, a_groupSum, a_groupLeast, a_groupMost))
    (K0 : (∃ y, y ∈ ps ∧ a_needs y = 2 ∧ ¬ D env y = (1, 0)) → ∀ st vl, (∀ j, j < N → a_needs j = 0 → st j = a_state j ∧ vl j = a_value j) → post 0 (nI N, f_filterRoot, f_valueRoot, f_keyRoot, nI ps.length, f_groups, f_passed, f_overflow, a_cells, a_live, a_zoneLeast, a_zoneMost, a_tokens, a_constants, a_lengths, a_nodeOp, a_nodeA, a_nodeB, a_nodeC, a_needs, a_wanted, vl, st, a_work, a_parts, a_heads, a_chain, a_places, a_sorted, a_groupNull, a_groupKey, a_groupPairs, a_groupValues, a_groupSum, a_groupLeast, a_groupMost)) :
    wpX_rightPasses post (nI N, f_filterRoot, f_valueRoot, f_keyRoot, nI ps.length, f_groups, f_passed, f_overflow, a_cells, a_live, a_zoneLeast, a_zoneMost, a_tokens, a_constants, a_lengths, a_nodeOp, a_nodeA, a_nodeB, a_nodeC, a_needs, a_wanted, a_value, a_state, a_work, a_parts, a_heads, a_chain, a_places, a_sorted, a_groupNull, a_groupKey, a_groupPairs, a_groupValues, a_groupSum, a_groupLeast, a_groupMost) (nI s) := by
  obtain ⟨hN, P, lf, lv, lk, kf, kv, kk, df, dv, dk, wf, wv, wk, hcl, hl, hpt, hps2, hall⟩ := id C
  have kn0 : ∀ j, j < N → a_needs j = 0 → ¬ a_nodeOp j < 40 := fun j hj h z => pg_nk P hj z h
  unfold wpX_rightPasses
  dsimp only
  refine xv_fetch (tb := 1) (cv := env) hN (by omega) P (Or.inr ⟨s, hs, rfl, hx⟩) (fun st1 vl1 f1 f2 => ?_)
  dsimp only
  have u1 : ∀ j, j < N → a_needs j = 0 → st1 j = a_state j ∧ vl1 j = a_value j := by
    intro j hj hn
    refine f2 j (fun c hc ht ho => ?_)
    have := kn0 j hj hn
    rw [ho] at this
    exact this (nI_lt (b := 40) (by omega) (by decide))
  have C1 : xk_pg N D T f v k ps a_nodeOp a_nodeA a_nodeB a_nodeC a_needs a_wanted st1 a_parts vl1 (E 0) (E 1) (E 2) := xk_pg_st C u1
  have P1 := C1.2.1
  refine xv_all (set := 2) (more := 0) (Q := fun j => a_needs j = 0 ∨ a_needs j = 2) (env := env) (Or.inr rfl) hN P1 hcl (fun j a b c hj hq ha hb hc e => ?_) (fun j hj h => ?_) (fun j hj hw hq hne => ?_) (fun st2 vl2 a1 a2 => ?_)
  · rw [e] at hq
    exact (xv_or1 (pg_nd P a ha) (pg_nd P b hb) (pg_nd P c hc)).2 hq
  · rcases h with h | ⟨h, _⟩
    · exact Or.inr h
    · exact absurd rfl h
  · rcases hq with n0 | n2
    · exact (pg_kn P1 hj (kn0 j hj n0)).2.2 env
    · have o10 : a_nodeOp j < 10 := by
        rcases Classical.em (a_nodeOp j < 10) with z | z
        · exact z
        · exact absurd ⟨z, Or.inl n2⟩ hne
      rcases P j hj with ⟨c', g1, g2, g3, g4, _⟩ | ⟨g1, _⟩ | ⟨g1, _⟩ | ⟨_, _, _, g1, _⟩
      · have c3 : ¬ c' < 3 := by
          intro z; rw [g3, if_pos z] at n2; exact absurd n2 (by decide)
        rw [g2, mq_kd_c c' g1, g4]
        exact f1 j c' hj g1 g2 (by omega)
      · rw [g1] at o10; exact absurd o10 (by decide)
      · rw [g1] at o10; exact absurd o10 (by decide)
      · exact absurd o10 (mq_op_lo g1).1
  · dsimp only
    have u2 : ∀ j, j < N → a_needs j = 0 → st2 j = a_state j ∧ vl2 j = a_value j := by
      intro j hj hn
      obtain ⟨e1, e2⟩ := a2 j (fun z => by
        rcases z.2 with q | ⟨q, _⟩
        · rw [hn] at q; exact absurd q (by decide)
        · exact absurd rfl q)
      obtain ⟨e3, e4⟩ := u1 j hj hn
      exact ⟨e1.trans e3, e2.trans e4⟩
    have tr : ∀ y, y ∈ ps → a_needs y = 2 → (st2 y = 1 ↔ D env y = (1, 0)) := by
      intro y hy hn
      obtain ⟨q1, q2, q3⟩ := hps2 y hy
      have := a1 y q1 q3 (Or.inr hn)
      rw [q2] at this
      exact xr_t1 this
    refine xv_holds hN hl hpt (fun y hy => (hps2 y hy).1) (fun t2 => ⟨rfl, K1 (fun y hy hn => (tr y hy hn).mp (t2 y hy hn)) st2 vl2 u2⟩) (fun q => ⟨rfl, K0 ?_ st2 vl2 u2⟩)
    obtain ⟨y, hy, hn, q⟩ := q
    exact ⟨y, hy, hn, fun z => q ((tr y hy hn).mpr z)⟩
end XP2
end
section
/-! ===== X: the hash chains ===== -/
def hb_b (v : Int32) : Nat := ((v ^^^ ((v.toUInt32 >>> ((4 : Int32).toUInt32 &&& Int32.toUInt32 31)).toInt32)) ^^^ ((v.toUInt32 >>> ((16 : Int32).toUInt32 &&& Int32.toUInt32 31)).toInt32)).toBitVec.toNat % 16
theorem hb_w {q : Int32 → Prop} {v : Int32} (h : q (nI (hb_b v))) : wpX_bucket q v := by
  unfold wpX_bucket
  rw [pk_and _ 4 (by decide)]
  exact h
def hc_ch (ch : Nat → Int32) : Int32 → List Nat → Prop
  | x, [] => x = -1
  | x, s :: r => x = nI s ∧ hc_ch ch (ch s) r
theorem hc_fr {ch ch' : Nat → Int32} : ∀ {l : List Nat} {x : Int32}, (∀ s, s ∈ l → ch' s = ch s) → hc_ch ch x l → hc_ch ch' x l
  | [], _, _, h => h
  | s :: r, x, hs, ⟨h1, h2⟩ => ⟨h1, by rw [hs s (List.mem_cons_self ..)]; exact hc_fr (fun t ht => hs t (List.mem_cons_of_mem _ ht)) h2⟩
theorem hc_nar {ch : Nat → Int32} {l : List Nat} {x : Int32} (hl : ∀ s, s ∈ l → s < 16) (h : hc_ch ch x l) : vp_nar .byte x = x := by
  cases l with
  | nil => rw [show x = -1 from h]; exact zb_m1
  | cons s r => rw [h.1]; exact zb_nb (by have := hl s (List.mem_cons_self ..); omega)
def hs_env (cells : Nat → Int32) (s : Nat) : Nat → Int32 := fun c => cells (c * 16 + s)
def hs_sel (m1 rc mode : Nat) (cells : Nat → Int32) (D : (Nat → Int32) → Nat → VV) (nd : Nat → Int32) (ps : List Nat) (s : Nat) : Prop :=
  m1 / 2 ^ s % 2 = 1 ∧ ¬ cells (rc * 16 + s) = -2147483648 ∧ (mode = 2 ∨ ∀ y, y ∈ ps → nd y = 2 → D (hs_env cells s) y = (1, 0))
noncomputable def hs_p (m1 rc mode : Nat) (cells : Nat → Int32) (D : (Nat → Int32) → Nat → VV) (nd : Nat → Int32) (ps : List Nat) (h s : Nat) : Bool :=
  @decide (hs_sel m1 rc mode cells D nd ps s ∧ hb_b (cells (rc * 16 + s)) = h) (Classical.propDecidable _)
theorem hs_p_iff {m1 rc mode : Nat} {cells : Nat → Int32} {D : (Nat → Int32) → Nat → VV} {nd : Nat → Int32} {ps : List Nat} {h s : Nat} : hs_p m1 rc mode cells D nd ps h s = true ↔ (hs_sel m1 rc mode cells D nd ps s ∧ hb_b (cells (rc * 16 + s)) = h) := by
  unfold hs_p; exact @decide_eq_true_iff _ (Classical.propDecidable _)
section XHA
variable {f_nodes f_filterRoot f_valueRoot f_keyRoot f_partCount f_groups f_passed f_overflow : Int32}
variable {a_cells a_live a_zoneLeast a_zoneMost a_tokens a_constants a_lengths a_nodeOp a_nodeA a_nodeB a_nodeC a_needs a_wanted a_state a_work a_parts a_heads a_chain a_places a_sorted a_groupNull a_groupPairs a_groupValues : Nat → Int32}
variable {a_value a_groupKey a_groupSum a_groupLeast a_groupMost : Nat → Int64}
variable {D : (Nat → Int32) → Nat → VV} {T : Nat → Nat} {N f v k : Nat} {ps : List Nat} {E : Nat → (Nat → Int32) → VV} {m1 rc mode : Nat}
theorem xh_rows {post : SX → Prop} (C : xk_pg N D T f v k ps a_nodeOp a_nodeA a_nodeB a_nodeC a_needs a_wanted a_state a_parts a_value (E 0) (E 1) (E 2)) (hm1 : m1 < 65536) (hlv : a_live 1 = nI m1) (hr : rc < 6) (hm : mode = 1 ∨ mode = 2)
    (K : ∀ heads chain st vl, (∀ h, h < 16 → hc_ch chain (heads h) ((List.range' 0 16).filter (hs_p m1 rc mode a_cells D a_needs ps h))) → (∀ j, j < N → a_needs j = 0 → st j = a_state j ∧ vl j = a_value j) → post (nI N, f_filterRoot, f_valueRoot, f_keyRoot, nI ps.length, f_groups, f_passed, f_overflow, a_cells, a_live, a_zoneLeast, a_zoneMost, a_tokens, a_constants, a_lengths, a_nodeOp, a_nodeA, a_nodeB, a_nodeC, a_needs, a_wanted, vl, st, a_work, a_parts, heads, chain, a_places, a_sorted, a_groupNull, a_groupKey, a_groupPairs, a_groupValues, a_groupSum, a_groupLeast, a_groupMost)) :
    wpX_hashRows post (nI N, f_filterRoot, f_valueRoot, f_keyRoot, nI ps.length, f_groups, f_passed, f_overflow, a_cells, a_live, a_zoneLeast, a_zoneMost, a_tokens, a_constants, a_lengths, a_nodeOp, a_nodeA, a_nodeB, a_nodeC, a_needs, a_wanted, a_value, a_state, a_work, a_parts, a_heads, a_chain, a_places, a_sorted, a_groupNull, a_groupKey, a_groupPairs, a_groupValues, a_groupSum, a_groupLeast, a_groupMost) (nI mode) (nI rc) := by
  have main : ∀ (r n : Nat) (heads chain st : Nat → Int32) (vl : Nat → Int64), r < n → r ≤ 16 → (∀ h, h < 16 → hc_ch chain (heads h) ((List.range' r (16 - r)).filter (hs_p m1 rc mode a_cells D a_needs ps h))) → (∀ j, j < N → a_needs j = 0 → st j = a_state j ∧ vl j = a_value j) →
      wX_hashRows_24 post (nI mode) (nI rc) n (nI r - 1) (nI N) f_filterRoot f_valueRoot f_keyRoot (nI ps.length) f_groups f_passed f_overflow a_cells a_live a_zoneLeast a_zoneMost a_tokens a_constants a_lengths a_nodeOp a_nodeA a_nodeB a_nodeC a_needs a_wanted vl st a_work a_parts heads chain a_places a_sorted a_groupNull a_groupKey a_groupPairs a_groupValues a_groupSum a_groupLeast a_groupMost := by
    intro r
    induction r with
    | zero =>
      intro n heads chain st vl hn _ h1 h2
      obtain ⟨n, rfl⟩ := zb_ex hn
      rw [wX_hashRows_24]
      exact br_t zb_pneg (K heads chain st vl h1 h2)
    | succ r ih =>
      intro n heads chain st vl hn hr16 h1 h2
      obtain ⟨n, rfl⟩ := zb_ex (show 0 < n by omega)
      have rg : List.range' r (16 - r) = r :: List.range' (r + 1) (16 - (r + 1)) := by
        rw [show 16 - r = (16 - (r + 1)) + 1 by omega, List.range'_succ]
      have big : ∀ h s, s ∈ (List.range' (r + 1) (16 - (r + 1))).filter (hs_p m1 rc mode a_cells D a_needs ps h) → r < s ∧ s < 16 := by
        intro h s hs
        have := List.mem_range'_1.mp (List.mem_filter.mp hs).1
        omega
      have e1 : nI rc * 16 + nI r = nI (rc * 16 + r) := by rw [show (16 : Int32) = nI 16 from rfl, pk_mul, nI_add]
      have skip : ¬ hs_sel m1 rc mode a_cells D a_needs ps r → ∀ (st : Nat → Int32) (vl : Nat → Int64), (∀ j, j < N → a_needs j = 0 → st j = a_state j ∧ vl j = a_value j) → wX_hashRows_24 post (nI mode) (nI rc) n (nI r + (-1)) (nI N) f_filterRoot f_valueRoot f_keyRoot (nI ps.length) f_groups f_passed f_overflow a_cells a_live a_zoneLeast a_zoneMost a_tokens a_constants a_lengths a_nodeOp a_nodeA a_nodeB a_nodeC a_needs a_wanted vl st a_work a_parts heads chain a_places a_sorted a_groupNull a_groupKey a_groupPairs a_groupValues a_groupSum a_groupLeast a_groupMost := by
        intro hs st vl hu
        rw [zb_add1]
        refine ih n heads chain st vl (by omega) (by omega) (fun h hh => ?_) hu
        rw [rg, List.filter_cons_of_neg (fun z => hs (hs_p_iff.mp z).1)]
        exact h1 h hh
      have add : hs_sel m1 rc mode a_cells D a_needs ps r → ∀ (st : Nat → Int32) (vl : Nat → Int64), (∀ j, j < N → a_needs j = 0 → st j = a_state j ∧ vl j = a_value j) → wX_hashRows_74 post (wX_hashRows_24 post (nI mode) (nI rc) n) (nI mode) (nI rc) (nI r) (a_cells (rc * 16 + r)) (nI N) f_filterRoot f_valueRoot f_keyRoot (nI ps.length) f_groups f_passed f_overflow a_cells a_live a_zoneLeast a_zoneMost a_tokens a_constants a_lengths a_nodeOp a_nodeA a_nodeB a_nodeC a_needs a_wanted vl st a_work a_parts heads chain a_places a_sorted a_groupNull a_groupKey a_groupPairs a_groupValues a_groupSum a_groupLeast a_groupMost := by
        intro hs st vl hu
        have b16 : hb_b (a_cells (rc * 16 + r)) < 16 := Nat.mod_lt _ (by omega)
        refine hb_w ?_
        rw [nI_clamp (show hb_b (a_cells (rc * 16 + r)) < 2 ^ 31 by omega), nI_clamp (show r < 2 ^ 31 by omega), hc_nar (fun s hs => (big _ s hs).2) (h1 _ b16), zb_by (show r < 128 by omega)]
        refine ⟨vp_in_nI b16 (by omega), vp_in_nI (by omega) (by omega), nm_e ⟨vp_in_nI b16 (by omega), nm_e (nm_r (zb_add1 _) (ih n _ _ st vl (by omega) (by omega) (fun h hh => ?_) hu))⟩⟩
        rw [rg]
        have fr : ∀ x, hc_ch chain x ((List.range' (r + 1) (16 - (r + 1))).filter (hs_p m1 rc mode a_cells D a_needs ps h)) → hc_ch (upd chain r (heads (hb_b (a_cells (rc * 16 + r))))) x ((List.range' (r + 1) (16 - (r + 1))).filter (hs_p m1 rc mode a_cells D a_needs ps h)) :=
          fun x hx => hc_fr (fun s hs => pk_un (by have := (big _ s hs).1; omega)) hx
        by_cases e : h = hb_b (a_cells (rc * 16 + r))
        · rw [List.filter_cons_of_pos (hs_p_iff.mpr ⟨hs, e.symm⟩), e, pk_us]
          refine ⟨rfl, ?_⟩
          rw [pk_us, ← e]
          rw [← e] at fr
          exact fr _ (h1 h hh)
        · rw [List.filter_cons_of_neg (fun z => e (hs_p_iff.mp z).2.symm), pk_un e]
          exact fr _ (h1 h hh)
      rw [wX_hashRows_24]
      dsimp only
      rw [nI_pred, e1, nI_clamp (show rc * 16 + r < 2 ^ 31 by omega), hlv, tb_bit hm1 (by omega)]
      refine br_f (nI_pos (by omega)) ⟨vp_in_nI (by omega) (by omega), nm_e (br_c (fun z => nm_e (skip (fun q => ?_) st vl h2)) (fun z => ?_))⟩
      · rw [q.1] at z; exact absurd z (by decide)
      · have b1 : m1 / 2 ^ r % 2 = 1 := by
          rcases Nat.mod_two_eq_zero_or_one (m1 / 2 ^ r) with q | q
          · rw [q] at z; exact absurd rfl z
          · exact q
        refine br_c (fun nl => nm_e (skip (fun q => q.2.1 nl) st vl h2)) (fun nl => br_c (fun m2 => ?_) (fun m2 => ?_))
        · exact add ⟨b1, nl, Or.inl (zb_inj (b := 2) m2 (by omega) (by omega))⟩ st vl h2
        · have nm2 : ¬ mode = 2 := fun q => m2 (by rw [q]; rfl)
          refine xq_right (env := hs_env a_cells r) (xk_pg_st C h2) (by omega) (fun c hc ht => rfl) (fun hp st' vl' hu => br_f (by decide) (add ⟨b1, nl, Or.inr hp⟩ st' vl' ?_)) (fun hp st' vl' hu => br_t rfl (nm_e (skip (fun q => ?_) st' vl' ?_)))
          · intro j hj hn
            exact ⟨(hu j hj hn).1.trans (h2 j hj hn).1, (hu j hj hn).2.trans (h2 j hj hn).2⟩
          · obtain ⟨y, hy, hn, q2⟩ := hp
            exact q2 ((q.2.2.resolve_left nm2) y hy hn)
          · intro j hj hn
            exact ⟨(hu j hj hn).1.trans (h2 j hj hn).1, (hu j hj hn).2.trans (h2 j hj hn).2⟩
  have init : ∀ (r n i : Nat) (heads : Nat → Int32), i + r = 16 → r < n → (∀ h, h < i → heads h = -1) → wX_hashRows_2 post (nI mode) (nI rc) (nI N) f_filterRoot f_valueRoot f_keyRoot (nI ps.length) f_groups f_passed f_overflow n (nI i) a_cells a_live a_zoneLeast a_zoneMost a_tokens a_constants a_lengths a_nodeOp a_nodeA a_nodeB a_nodeC a_needs a_wanted a_value a_state a_work a_parts heads a_chain a_places a_sorted a_groupNull a_groupKey a_groupPairs a_groupValues a_groupSum a_groupLeast a_groupMost := by
    intro r
    induction r with
    | zero =>
      intro n i heads hi hn h
      obtain ⟨n, rfl⟩ := zb_ex hn
      have : i = 16 := by omega
      subst this
      rw [wX_hashRows_2]
      refine br_t (by decide) ⟨17, ?_⟩
      exact main 16 17 heads a_chain a_state a_value (by omega) (by omega) (fun j hj => h j hj) (fun _ _ _ => ⟨rfl, rfl⟩)
    | succ r ih =>
      intro n i heads hi hn h
      obtain ⟨n, rfl⟩ := zb_ex (show 0 < n by omega)
      rw [wX_hashRows_2]
      dsimp only
      rw [nI_clamp (show i < 2 ^ 31 by omega), zb_m1]
      refine br_f (nI_ge (b := 16) (by omega) (by decide)) ⟨vp_in_nI (by omega) (by omega), nm_e (nm_r (nI_1 i) (ih n (i + 1) _ (by omega) (by omega) (fun j hj => ?_)))⟩
      by_cases e : j = i
      · subst e; exact pk_us
      · rw [pk_un e]; exact h j (by omega)
  exact ⟨17, init 16 17 0 a_heads (by omega) (by omega) (fun h hh => by omega)⟩
end XHA
end
section
/-! ===== X: a row's pairs ===== -/
theorem tb_pos {m s : Nat} (h : m / 2 ^ s % 2 = 1) : ∀ x, s < x → (tb_bl x 0 m)[(tb_bl s 0 m).length]? = some s := by
  intro x
  induction x with
  | zero => intro h; omega
  | succ x ih =>
    intro hs
    rw [tb_snoc]
    by_cases e : s = x
    · subst e
      rw [if_pos h, List.getElem?_append_right (Nat.le_refl _), Nat.sub_self, Nat.zero_add]; rfl
    · have q := ih (by omega)
      rw [List.getElem?_append_left (List.getElem?_eq_some_iff.mp q).1]; exact q
theorem tb_pos2 {m s : Nat} (h : m / 2 ^ s % 2 = 1) (hs : s < 16) : (tb_bl s 0 m).length < (tb_bl 16 0 m).length ∧ (tb_bl 16 0 m).getD (tb_bl s 0 m).length 0 = s := by
  have q := tb_pos h 16 hs
  refine ⟨(List.getElem?_eq_some_iff.mp q).1, ?_⟩
  rw [List.getD_eq_getElem?_getD, q]; rfl
theorem tb_fold {m : Nat} {F : GS → Nat → GS} {gs : GS} : ∀ x, (List.range (tb_bl x 0 m).length).foldl F gs = (List.range x).foldl (fun g s => if m / 2 ^ s % 2 = 1 then F g (tb_bl s 0 m).length else g) gs := by
  intro x
  induction x with
  | zero => rfl
  | succ x ih =>
    rw [tb_snoc, List.range_succ, List.foldl_append, ← ih]
    by_cases h : m / 2 ^ x % 2 = 1
    · rw [if_pos h, List.length_append, List.length_singleton, List.range_succ, List.foldl_append]
      show F _ _ = if m / 2 ^ x % 2 = 1 then _ else _
      rw [if_pos h]
    · rw [if_neg h, List.append_nil]
      show _ = if m / 2 ^ x % 2 = 1 then _ else _
      rw [if_neg h]
section XRW
variable {f_nodes f_filterRoot f_valueRoot f_keyRoot f_partCount f_groups f_passed f_overflow : Int32}
variable {a_cells a_live a_zoneLeast a_zoneMost a_tokens a_constants a_lengths a_nodeOp a_nodeA a_nodeB a_nodeC a_needs a_wanted a_state a_work a_parts a_heads a_chain a_places a_sorted a_groupNull a_groupPairs a_groupValues : Nat → Int32}
variable {a_value a_groupKey a_groupSum a_groupLeast a_groupMost : Nat → Int64}
variable {D : (Nat → Int32) → Nat → VV} {T : Nat → Nat} {N f v k : Nat} {ps : List Nat} {E : Nat → (Nat → Int32) → VV} {m1 n1 mode l r i : Nat} {R0 R1 : Nat → Nat → Int32}
/-- the chain's slots give the same as the rows of table 1 -/
theorem xr_fold {gs : GS} (C : xk_pg N D T f v k ps a_nodeOp a_nodeA a_nodeB a_nodeC a_needs a_wanted a_state a_parts a_value (E 0) (E 1) (E 2)) (hlen : (tb_bl 16 0 m1).length = n1) (h4 : ∀ j c, j < n1 → c < 3 → a_cells ((3 * 1 + c) * 16 + (tb_bl 16 0 m1).getD j 0) = R1 j c) (hr : r < 3) (hnl : ¬ R0 i l = -2147483648) :
    ((List.range' 0 16).filter (hs_p m1 (r + 3) mode a_cells D a_needs ps (hb_b (R0 i l)))).foldl (fun g s => if a_cells ((r + 3) * 16 + s) = R0 i l then rn_ev E g (rn_env R0 R1 i (some (tb_bl s 0 m1).length)) else g) gs = (List.range n1).foldl (rn_j E R0 R1 l r i) gs := by
  obtain ⟨hN, P, lf, lv, lk, kf, kv, kk, df, dv, dk, wf, wv, wk, hcl, hl, hpt, hps2, hall⟩ := id C
  rw [← hlen, tb_fold 16, List.foldl_filter, ← List.range_eq_range']
  refine rn_foldcg _ _ (fun g s hs => ?_)
  have s16 : s < 16 := List.mem_range.mp hs
  by_cases b : m1 / 2 ^ s % 2 = 1
  · rw [if_pos b]
    obtain ⟨q1, q2⟩ := tb_pos2 b s16
    have ce : a_cells ((r + 3) * 16 + s) = R1 (tb_bl s 0 m1).length r := by
      have := h4 (tb_bl s 0 m1).length r (by omega) hr
      rw [q2, show 3 * 1 + r = r + 3 by omega] at this
      exact this
    unfold rn_j
    by_cases e : a_cells ((r + 3) * 16 + s) = R0 i l
    · have e' : R1 (tb_bl s 0 m1).length r = R0 i l := ce.symm.trans e
      rw [if_pos e', if_pos e]
      by_cases hp : hs_p m1 (r + 3) mode a_cells D a_needs ps (hb_b (R0 i l)) s = true
      · rw [if_pos hp]
      · rw [if_neg hp]
        have ns : ¬ (mode = 2 ∨ ∀ y, y ∈ ps → a_needs y = 2 → D (hs_env a_cells s) y = (1, 0)) := fun z => hp (hs_p_iff.mpr ⟨⟨b, by rw [e]; exact hnl, z⟩, by rw [e]⟩)
        have ne : ¬ E 0 (rn_env R0 R1 i (some (tb_bl s 0 m1).length)) = (1, 0) := by
          intro z
          refine ns (Or.inr (fun y hy hn => ?_))
          rw [← df, hall] at z
          rw [← z y hy]
          refine pg_dep2 P (fun c h1 h2 => ?_) y (hps2 y hy).1 (Or.inr hn)
          have := h4 (tb_bl s 0 m1).length (c - 3) (by omega) (by omega)
          rw [q2, show 3 * 1 + (c - 3) = c by omega] at this
          unfold hs_env rn_env
          rw [if_neg (by omega)]; exact this
        unfold rn_ev; rw [if_neg ne]
    · have e' : ¬ R1 (tb_bl s 0 m1).length r = R0 i l := fun z => e (ce.trans z)
      rw [if_neg e', if_neg e]
      split <;> rfl
  · rw [if_neg b, if_neg (fun z => b (hs_p_iff.mp z).1.1)]
theorem xr_mt (hlen : (tb_bl 16 0 m1).length = n1) (h4 : ∀ j c, j < n1 → c < 3 → a_cells ((3 * 1 + c) * 16 + (tb_bl 16 0 m1).getD j 0) = R1 j c) (hr : r < 3) (hm : mode = 2) (hnl : ¬ R0 i l = -2147483648) :
    (∃ s, s ∈ (List.range' 0 16).filter (hs_p m1 (r + 3) mode a_cells D a_needs ps (hb_b (R0 i l))) ∧ a_cells ((r + 3) * 16 + s) = R0 i l) ↔ rn_mt n1 R0 R1 mode l r i := by
  constructor
  · rintro ⟨s, hs, e⟩
    obtain ⟨q1, q2⟩ := List.mem_filter.mp hs
    have s16 : s < 16 := by have := List.mem_range'_1.mp q1; omega
    obtain ⟨w1, w2⟩ := tb_pos2 (hs_p_iff.mp q2).1.1 s16
    refine ⟨by omega, hnl, (tb_bl s 0 m1).length, by omega, ?_⟩
    have := h4 (tb_bl s 0 m1).length r (by omega) hr
    rw [w2, show 3 * 1 + r = r + 3 by omega] at this
    rw [← this]; exact e
  · rintro ⟨_, _, j, hj, e⟩
    have mm := tb_mem (tb_gm (L := tb_bl 16 0 m1) (i := j) (by omega))
    have ce : a_cells ((r + 3) * 16 + (tb_bl 16 0 m1).getD j 0) = R0 i l := by
      have := h4 j r hj hr
      rw [show 3 * 1 + r = r + 3 by omega] at this
      rw [this]; exact e
    refine ⟨(tb_bl 16 0 m1).getD j 0, List.mem_filter.mpr ⟨List.mem_range'_1.mpr (by omega), hs_p_iff.mpr ⟨⟨?_, by rw [ce]; exact hnl, Or.inl hm⟩, by rw [ce]⟩⟩, ce⟩
    have := mm.2.2
    rw [Nat.sub_zero] at this
    exact this
theorem xr_row {post : SX → Prop} {gs : GS} (C : xk_pg N D T f v k ps a_nodeOp a_nodeA a_nodeB a_nodeC a_needs a_wanted a_state a_parts a_value (E 0) (E 1) (E 2)) (hm1 : m1 < 65536) (hlen : (tb_bl 16 0 m1).length = n1) (h4 : ∀ j c, j < n1 → c < 3 → a_cells ((3 * 1 + c) * 16 + (tb_bl 16 0 m1).getD j 0) = R1 j c) (hr : r < 3) (hm : mode ≤ 2)
    (hov : ∀ env, mq_ov false (E 2 env))
    (hch : 0 < mode → ∀ h, h < 16 → hc_ch a_chain (a_heads h) ((List.range' 0 16).filter (hs_p m1 (r + 3) mode a_cells D a_needs ps h)))
    (hL : ∀ j, j < N → a_wanted j ≠ 0 → (a_needs j = 0 ∨ a_needs j = 1) → xr_rp (mq_kd (a_nodeOp j)) (a_state j) (a_value j) (D (rn_env R0 R1 i none) j))
    (c0 : ∀ y, y ∈ ps → (a_needs y = 0 ∨ a_needs y = 1) → D (rn_env R0 R1 i none) y = (1, 0))
    (hok : gr_ok gs) (hps : gs.2.2 < 2 ^ 28) (G : xg_ok gs f_groups f_passed f_overflow a_places a_groupNull a_groupKey a_groupPairs a_groupValues a_groupSum a_groupLeast a_groupMost)
    (K : ∀ (fg fp fo : Int32) (pl gN : Nat → Int32) (gK : Nat → Int64) (gP gV : Nat → Int32) (gS gL gM : Nat → Int64) (st : Nat → Int32) (vl : Nat → Int64), xg_ok (rn_row E n1 R0 R1 mode l r gs i) fg fp fo pl gN gK gP gV gS gL gM → (∀ j, j < N → (a_needs j = 0 ∨ a_needs j = 1) → st j = a_state j ∧ vl j = a_value j) → post (nI N, f_filterRoot, nI v, nI k, nI ps.length, fg, fp, fo, a_cells, a_live, a_zoneLeast, a_zoneMost, a_tokens, a_constants, a_lengths, a_nodeOp, a_nodeA, a_nodeB, a_nodeC, a_needs, a_wanted, vl, st, a_work, a_parts, a_heads, a_chain, pl, a_sorted, gN, gK, gP, gV, gS, gL, gM)) :
    wpX_runRow post (nI N, f_filterRoot, nI v, nI k, nI ps.length, f_groups, f_passed, f_overflow, a_cells, a_live, a_zoneLeast, a_zoneMost, a_tokens, a_constants, a_lengths, a_nodeOp, a_nodeA, a_nodeB, a_nodeC, a_needs, a_wanted, a_value, a_state, a_work, a_parts, a_heads, a_chain, a_places, a_sorted, a_groupNull, a_groupKey, a_groupPairs, a_groupValues, a_groupSum, a_groupLeast, a_groupMost) (nI mode) (R0 i l) (nI (r + 3)) := by
  obtain ⟨hN, P, lf, lv, lk, kf, kv, kk, df, dv, dk, wf, wv, wk, hcl, hl, hpt, hps2, hall⟩ := id C
  -- one pair, from any state of the row
  have pair : ∀ (o : Option Nat) (x : Int32) (gs1 : GS) (q : SX → Prop), ((x = -1 ∧ o = none) ∨ ∃ s, s < 16 ∧ x = nI s ∧ m1 / 2 ^ s % 2 = 1 ∧ o = some (tb_bl s 0 m1).length) → gr_ok gs1 → gs1.2.2 < 2 ^ 30 → ∀ (fg fp fo : Int32) (pl gN : Nat → Int32) (gK : Nat → Int64) (gP gV : Nat → Int32) (gS gL gM : Nat → Int64) (st : Nat → Int32) (vl : Nat → Int64), xg_ok (gs1) fg fp fo pl gN gK gP gV gS gL gM → (∀ j, j < N → (a_needs j = 0 ∨ a_needs j = 1) → st j = a_state j ∧ vl j = a_value j) → (∀ (fg fp fo : Int32) (pl gN : Nat → Int32) (gK : Nat → Int64) (gP gV : Nat → Int32) (gS gL gM : Nat → Int64) (st : Nat → Int32) (vl : Nat → Int64), xg_ok (rn_ev E gs1 (rn_env R0 R1 i o)) fg fp fo pl gN gK gP gV gS gL gM → (∀ j, j < N → (a_needs j = 0 ∨ a_needs j = 1) → st j = a_state j ∧ vl j = a_value j) → q (nI N, f_filterRoot, nI v, nI k, nI ps.length, fg, fp, fo, a_cells, a_live, a_zoneLeast, a_zoneMost, a_tokens, a_constants, a_lengths, a_nodeOp, a_nodeA, a_nodeB, a_nodeC, a_needs, a_wanted, vl, st, a_work, a_parts, a_heads, a_chain, pl, a_sorted, gN, gK, gP, gV, gS, gL, gM)) → wpX_pair q (nI N, f_filterRoot, nI v, nI k, nI ps.length, fg, fp, fo, a_cells, a_live, a_zoneLeast, a_zoneMost, a_tokens, a_constants, a_lengths, a_nodeOp, a_nodeA, a_nodeB, a_nodeC, a_needs, a_wanted, vl, st, a_work, a_parts, a_heads, a_chain, pl, a_sorted, gN, gK, gP, gV, gS, gL, gM) x := by
    intro o x gs1 q ho hok1 hps1 fg fp fo pl gN gK gP gV gS gL gM st vl G1 U1 K1
    have ag : ∀ c, c < 3 → rn_env R0 R1 i o c = rn_env R0 R1 i none c := by
      intro c hc
      unfold rn_env
      rw [if_pos hc, if_pos hc]
    have dp : ∀ j, j < N → (a_needs j = 0 ∨ a_needs j = 1) → D (rn_env R0 R1 i o) j = D (rn_env R0 R1 i none) j := pg_dep1 P ag
    refine xq_pair (env := rn_env R0 R1 i o) (xk_pg_st C (fun j hj hn => U1 j hj (Or.inl hn))) (fun j hj hw hn => ?_) ?_ (fun y hy hn => ?_) hok1 hps1 G1 (fun st' vl' fg fp fo pl gN gK gP gV gS gL gM G2 U2 => K1 fg fp fo pl gN gK gP gV gS gL gM st' vl' G2 (fun j hj hn => ?_))
    · rw [(U1 j hj hn).1, (U1 j hj hn).2, dp j hj hn]; exact hL j hj hw hn
    · rcases ho with ⟨rfl, rfl⟩ | ⟨s, hs, rfl, b, rfl⟩
      · refine Or.inl ⟨rfl, fun c hc ht => ?_⟩
        unfold rn_env; rw [if_neg (by omega)]
      · refine Or.inr ⟨s, hs, rfl, fun c hc ht => ?_⟩
        obtain ⟨q1, q2⟩ := tb_pos2 b hs
        have := h4 (tb_bl s 0 m1).length (c - 3) (by omega) (by omega)
        rw [q2, show 3 * 1 + (c - 3) = c by omega] at this
        unfold rn_env; rw [if_neg (by omega)]; exact this.symm
    · rw [dp y (hps2 y hy).1 hn]; exact c0 y hy hn
    · exact ⟨(U2 j hj hn).1.trans (U1 j hj hn).1, (U2 j hj hn).2.trans (U1 j hj hn).2⟩
  -- what follows the chain
  have p66 : ∀ (gs1 : GS) (x4 : Int32), gs1 = (if 0 < mode ∧ ¬ R0 i l = -2147483648 then (List.range n1).foldl (rn_j E R0 R1 l r i) gs else gs) → gr_ok gs1 → gs1.2.2 < 2 ^ 30 → (mode = 2 → (x4 = 0 ↔ rn_mt n1 R0 R1 mode l r i)) → ∀ (fg fp fo : Int32) (pl gN : Nat → Int32) (gK : Nat → Int64) (gP gV : Nat → Int32) (gS gL gM : Nat → Int64) (st : Nat → Int32) (vl : Nat → Int64), xg_ok (gs1) fg fp fo pl gN gK gP gV gS gL gM → (∀ j, j < N → (a_needs j = 0 ∨ a_needs j = 1) → st j = a_state j ∧ vl j = a_value j) → wX_runRow_66 post (nI mode) x4 (nI N) f_filterRoot (nI v) (nI k) (nI ps.length) fg fp fo a_cells a_live a_zoneLeast a_zoneMost a_tokens a_constants a_lengths a_nodeOp a_nodeA a_nodeB a_nodeC a_needs a_wanted vl st a_work a_parts a_heads a_chain pl a_sorted gN gK gP gV gS gL gM := by
    intro gs1 x4 hg hok1 hps1 hx fg fp fo pl gN gK gP gV gS gL gM st vl G1 U1
    have s80 : (mode = 0 ∨ (mode = 2 ∧ ¬ rn_mt n1 R0 R1 mode l r i)) → wX_runRow_80 post (nI N) f_filterRoot (nI v) (nI k) (nI ps.length) fg fp fo a_cells a_live a_zoneLeast a_zoneMost a_tokens a_constants a_lengths a_nodeOp a_nodeA a_nodeB a_nodeC a_needs a_wanted vl st a_work a_parts a_heads a_chain pl a_sorted gN gK gP gV gS gL gM := by
      intro h
      have e : rn_row E n1 R0 R1 mode l r gs i = rn_ev E gs1 (rn_env R0 R1 i none) := by
        unfold rn_row; rw [if_pos h, hg]
      rw [e] at K
      unfold wX_runRow_80
      exact pair none (-1) gs1 _ (Or.inl ⟨rfl, rfl⟩) hok1 hps1 fg fp fo pl gN gK gP gV gS gL gM st vl G1 U1 (fun fg fp fo pl gN gK gP gV gS gL gM st vl G2 U2 => K fg fp fo pl gN gK gP gV gS gL gM st vl G2 U2)
    have skip : ¬ (mode = 0 ∨ (mode = 2 ∧ ¬ rn_mt n1 R0 R1 mode l r i)) → post (nI N, f_filterRoot, nI v, nI k, nI ps.length, fg, fp, fo, a_cells, a_live, a_zoneLeast, a_zoneMost, a_tokens, a_constants, a_lengths, a_nodeOp, a_nodeA, a_nodeB, a_nodeC, a_needs, a_wanted, vl, st, a_work, a_parts, a_heads, a_chain, pl, a_sorted, gN, gK, gP, gV, gS, gL, gM) := by
      intro h
      have e : rn_row E n1 R0 R1 mode l r gs i = gs1 := by
        unfold rn_row; rw [if_neg h, hg]
      rw [e] at K
      exact K fg fp fo pl gN gK gP gV gS gL gM st vl G1 U1
    refine br_c (fun z => s80 (Or.inl (zb_inj (b := 0) z (by omega) (by omega)))) (fun z => ?_)
    have m0 : ¬ mode = 0 := fun q => z (by rw [q]; rfl)
    refine br_c (fun z2 => ?_) (fun z2 => skip ?_)
    · have m2 : mode = 2 := zb_inj (b := 2) z2 (by omega) (by omega)
      refine br_c (fun q => skip ?_) (fun q => s80 (Or.inr ⟨m2, fun w => q ((hx m2).mpr w)⟩))
      rintro (w | w)
      · exact m0 w
      · exact w.2 ((hx m2).mp q)
    · rintro (w | w)
      · exact m0 w
      · exact z2 (by rw [w.1]; rfl)
  -- the chain
  have loop : ∀ (lst : List Nat) (n : Nat) (gs1 : GS) (x4 x5 : Int32), lst.length < n → hc_ch a_chain x5 lst → (∀ s, s ∈ lst → s < 16 ∧ m1 / 2 ^ s % 2 = 1) → gr_ok gs1 → gs1.2.2 + lst.length < 2 ^ 29 → ∀ (fg fp fo : Int32) (pl gN : Nat → Int32) (gK : Nat → Int64) (gP gV : Nat → Int32) (gS gL gM : Nat → Int64) (st : Nat → Int32) (vl : Nat → Int64), xg_ok (gs1) fg fp fo pl gN gK gP gV gS gL gM → (∀ j, j < N → (a_needs j = 0 ∨ a_needs j = 1) → st j = a_state j ∧ vl j = a_value j) →
      (∀ x4', (x4' = 0 ↔ (x4 = 0 ∨ ∃ s, s ∈ lst ∧ a_cells ((r + 3) * 16 + s) = R0 i l)) → gr_ok (lst.foldl (fun g s => if a_cells ((r + 3) * 16 + s) = R0 i l then rn_ev E g (rn_env R0 R1 i (some (tb_bl s 0 m1).length)) else g) gs1) → (lst.foldl (fun g s => if a_cells ((r + 3) * 16 + s) = R0 i l then rn_ev E g (rn_env R0 R1 i (some (tb_bl s 0 m1).length)) else g) gs1).2.2 < 2 ^ 30 →
        ∀ (fg fp fo : Int32) (pl gN : Nat → Int32) (gK : Nat → Int64) (gP gV : Nat → Int32) (gS gL gM : Nat → Int64) (st : Nat → Int32) (vl : Nat → Int64), xg_ok (lst.foldl (fun g s => if a_cells ((r + 3) * 16 + s) = R0 i l then rn_ev E g (rn_env R0 R1 i (some (tb_bl s 0 m1).length)) else g) gs1) fg fp fo pl gN gK gP gV gS gL gM → (∀ j, j < N → (a_needs j = 0 ∨ a_needs j = 1) → st j = a_state j ∧ vl j = a_value j) → wX_runRow_66 post (nI mode) x4' (nI N) f_filterRoot (nI v) (nI k) (nI ps.length) fg fp fo a_cells a_live a_zoneLeast a_zoneMost a_tokens a_constants a_lengths a_nodeOp a_nodeA a_nodeB a_nodeC a_needs a_wanted vl st a_work a_parts a_heads a_chain pl a_sorted gN gK gP gV gS gL gM) →
      wX_runRow_24 post (nI mode) (R0 i l) (nI (r + 3)) n x4 x5 (nI N) f_filterRoot (nI v) (nI k) (nI ps.length) fg fp fo a_cells a_live a_zoneLeast a_zoneMost a_tokens a_constants a_lengths a_nodeOp a_nodeA a_nodeB a_nodeC a_needs a_wanted vl st a_work a_parts a_heads a_chain pl a_sorted gN gK gP gV gS gL gM := by
    intro lst
    induction lst with
    | nil =>
      intro n gs1 x4 x5 hn hc hb hok1 hps1 fg fp fo pl gN gK gP gV gS gL gM st vl G1 U1 K1
      obtain ⟨n, rfl⟩ := zb_ex (show 0 < n by omega)
      rw [wX_runRow_24]
      have : x5 = -1 := hc
      subst this
      refine br_t (by decide) (K1 x4 ⟨fun z => Or.inl z, fun z => z.elim id (fun ⟨s, hs, _⟩ => absurd hs List.not_mem_nil)⟩ hok1 (by simp at hps1; show gs1.2.2 < 2 ^ 30; omega) fg fp fo pl gN gK gP gV gS gL gM st vl G1 U1)
    | cons s lst ih =>
      intro n gs1 x4 x5 hn hc hb hok1 hps1 fg fp fo pl gN gK gP gV gS gL gM st vl G1 U1 K1
      obtain ⟨n, rfl⟩ := zb_ex (show 0 < n by omega)
      obtain ⟨rfl, hc⟩ := hc
      rw [List.length_cons] at hn hps1
      obtain ⟨s16, b⟩ := hb s (List.mem_cons_self ..)
      have hb' : ∀ t, t ∈ lst → t < 16 ∧ m1 / 2 ^ t % 2 = 1 := fun t ht => hb t (List.mem_cons_of_mem _ ht)
      have e1 : nI (r + 3) * 16 + nI s = nI ((r + 3) * 16 + s) := by rw [show (16 : Int32) = nI 16 from rfl, pk_mul, nI_add]
      rw [wX_runRow_24]
      dsimp only
      rw [e1, nI_clamp (show (r + 3) * 16 + s < 2 ^ 31 by omega)]
      refine br_f (nI_pos (by omega)) ⟨vp_in_nI (by omega) (by omega), br_c (fun e => ?_) (fun e => ?_)⟩
      · have fe : ∀ g : GS, (s :: lst).foldl (fun g s => if a_cells ((r + 3) * 16 + s) = R0 i l then rn_ev E g (rn_env R0 R1 i (some (tb_bl s 0 m1).length)) else g) g = lst.foldl (fun g s => if a_cells ((r + 3) * 16 + s) = R0 i l then rn_ev E g (rn_env R0 R1 i (some (tb_bl s 0 m1).length)) else g) (rn_ev E g (rn_env R0 R1 i (some (tb_bl s 0 m1).length))) := by
          intro g; rw [List.foldl_cons, if_pos e]
        rw [fe] at K1
        refine pair (some (tb_bl s 0 m1).length) (nI s) gs1 _ (Or.inr ⟨s, s16, rfl, b, rfl⟩) hok1 (by omega) fg fp fo pl gN gK gP gV gS gL gM st vl G1 U1 (fun fg fp fo pl gN gK gP gV gS gL gM st vl G2 U2 => ?_)
        have pp := rn_ev_ps E gs1 (rn_env R0 R1 i (some (tb_bl s 0 m1).length))
        refine ⟨vp_in_nI s16 (by omega), nm_r (e' := a_chain s) (by rw [nI_clamp (show s < 2 ^ 31 by omega)]) ?_⟩
        refine ih n _ 0 _ (by omega) hc hb' (rn_ev_ok hov hok1) (by omega) fg fp fo pl gN gK gP gV gS gL gM st vl G2 U2 (fun x4' hx => K1 x4' ⟨fun _ => Or.inr ⟨s, List.mem_cons_self .., e⟩, fun _ => hx.mpr (Or.inl rfl)⟩)
      · have fe : ∀ g : GS, (s :: lst).foldl (fun g s => if a_cells ((r + 3) * 16 + s) = R0 i l then rn_ev E g (rn_env R0 R1 i (some (tb_bl s 0 m1).length)) else g) g = lst.foldl (fun g s => if a_cells ((r + 3) * 16 + s) = R0 i l then rn_ev E g (rn_env R0 R1 i (some (tb_bl s 0 m1).length)) else g) g := by
          intro g; rw [List.foldl_cons, if_neg e]
        rw [fe] at K1
        refine ⟨vp_in_nI s16 (by omega), nm_r (e' := a_chain s) (by rw [nI_clamp (show s < 2 ^ 31 by omega)]) ?_⟩
        refine ih n gs1 x4 _ (by omega) hc hb' hok1 (by omega) fg fp fo pl gN gK gP gV gS gL gM st vl G1 U1 (fun x4' hx => K1 x4' ⟨fun z => ?_, fun z => ?_⟩)
        · rcases hx.mp z with q | ⟨t, ht, q⟩
          · exact Or.inl q
          · exact Or.inr ⟨t, List.mem_cons_of_mem _ ht, q⟩
        · refine hx.mpr ?_
          rcases z with q | ⟨t, ht, q⟩
          · exact Or.inl q
          · rcases List.mem_cons.mp ht with w | w
            · subst w; exact absurd q e
            · exact Or.inr ⟨t, w, q⟩
  have u0 : ∀ j, j < N → (a_needs j = 0 ∨ a_needs j = 1) → a_state j = a_state j ∧ a_value j = a_value j := fun _ _ _ => ⟨rfl, rfl⟩
  refine br_c (fun m0 => ?_) (fun m0 => br_c (fun nl => ?_) (fun nl => hb_w ?_))
  · have mz : mode = 0 := by
      have := (nI_leI (b := 0) (show mode < 2 ^ 31 by omega) (by omega)).mp m0
      omega
    exact p66 gs 1 (by rw [if_neg (by omega)]) hok (by omega) (fun z => by omega) _ _ _ _ _ _ _ _ _ _ _ _ _ G u0
  · exact p66 gs 1 (by rw [if_neg (fun z => z.2 nl)]) hok (by omega) (fun _ => ⟨fun z => absurd z (by decide), fun z => absurd nl z.2.1⟩) _ _ _ _ _ _ _ _ _ _ _ _ _ G u0
  · have mp : 0 < mode := by
      rcases Nat.eq_zero_or_pos mode with z | z
      · subst z; exact absurd (by decide) m0
      · exact z
    have b16 : hb_b (R0 i l) < 16 := Nat.mod_lt _ (by omega)
    have ch := hch mp (hb_b (R0 i l)) b16
    have fl := xr_fold (mode := mode) (gs := gs) C hlen h4 hr nl
    have lb : ((List.range' 0 16).filter (hs_p m1 (r + 3) mode a_cells D a_needs ps (hb_b (R0 i l)))).length ≤ 16 := by
      have := List.length_filter_le (hs_p m1 (r + 3) mode a_cells D a_needs ps (hb_b (R0 i l))) (List.range' 0 16)
      rw [List.length_range'] at this
      exact this
    refine ⟨vp_in_nI b16 (by omega), nm_r (e' := a_heads (hb_b (R0 i l))) (by rw [nI_clamp (show hb_b (R0 i l) < 2 ^ 31 by omega)]) ⟨17, ?_⟩⟩
    refine loop _ 17 gs 1 _ (by omega) ch (fun s hs => ?_) hok (by omega) _ _ _ _ _ _ _ _ _ _ _ _ _ G u0 (fun x4' hx ho hp => p66 _ x4' ?_ ho hp (fun m2 => ?_))
    · obtain ⟨q1, q2⟩ := List.mem_filter.mp hs
      exact ⟨by have := List.mem_range'_1.mp q1; omega, (hs_p_iff.mp q2).1.1⟩
    · rw [if_pos ⟨mp, nl⟩]; exact fl
    · rw [hx, ← xr_mt (mode := mode) (D := D) (ps := ps) hlen h4 hr m2 nl]
      exact ⟨fun z => z.elim (fun q => absurd q (by decide)) id, fun z => Or.inr z⟩
end XRW
end
section
/-! ===== X: bounded, possible ===== -/
theorem bd_le {x y : Int32} : x ≤ y ↔ x.toInt64 ≤ y.toInt64 := by
  rw [Int32.le_iff_toInt_le, Int64.le_iff_toInt_le, Int32.toInt_toInt64, Int32.toInt_toInt64]
theorem bd_rel (x y : Int64) : (mq_rel 20 x y ↔ x = y) ∧ (mq_rel 21 x y ↔ x < y) ∧ (mq_rel 22 x y ↔ x ≤ y) ∧ (mq_rel 23 x y ↔ ¬ x = y) := by
  unfold mq_rel
  refine ⟨?_, ?_, ?_, ?_⟩ <;> simp
theorem bd_sem {t : Int32} (a b c : VV) (ht : t = 20 ∨ t = 21 ∨ t = 22 ∨ t = 23) (h : mq_sem t a b c = (1, 0)) : a.2 = 0 ∧ b.2 = 0 ∧ mq_rel t a.1 b.1 := by
  have key : ∀ P : Prop, mq_sem t a b c = (if a.2 = 0 ∧ b.2 = 0 then mq_b P else (2, 0)) → a.2 = 0 ∧ b.2 = 0 ∧ P := by
    intro P e
    rw [e] at h
    by_cases z : a.2 = 0 ∧ b.2 = 0
    · rw [if_pos z] at h
      rcases Classical.em P with q | q
      · exact ⟨z.1, z.2, q⟩
      · rw [mq_b_f q] at h; exact absurd h (by decide)
    · rw [if_neg z] at h; exact absurd h (by decide)
  obtain ⟨r1, r2, r3, r4⟩ := bd_rel a.1 b.1
  rcases ht with rfl | rfl | rfl | rfl
  · have := key _ (mq_s20 a b c); exact ⟨this.1, this.2.1, r1.mpr this.2.2⟩
  · have := key _ (mq_s21 a b c); exact ⟨this.1, this.2.1, r2.mpr this.2.2⟩
  · have := key _ (mq_s22 a b c); exact ⟨this.1, this.2.1, r3.mpr this.2.2⟩
  · have := key _ (mq_s23 a b c); exact ⟨this.1, this.2.1, r4.mpr this.2.2⟩
section XPO
variable {f_nodes f_filterRoot f_valueRoot f_keyRoot f_partCount f_groups f_passed f_overflow : Int32}
variable {a_cells a_live a_zoneLeast a_zoneMost a_tokens a_constants a_lengths a_nodeOp a_nodeA a_nodeB a_nodeC a_needs a_wanted a_state a_work a_parts a_heads a_chain a_places a_sorted a_groupNull a_groupPairs a_groupValues : Nat → Int32}
variable {a_value a_groupKey a_groupSum a_groupLeast a_groupMost : Nat → Int64}
theorem xb_bound {post : Int32 → Prop} {t tu : Int32} {z : Nat} {w : Int64} (ht : t = 20 ∨ t = 21 ∨ t = 22 ∨ t = 23) (hz : z < 24) (htu : tu = 0 ∨ tu = 1) (K1 : post 1)
    (K0 : (∀ x : Int32, a_zoneLeast z ≤ x → x ≤ a_zoneMost z → ¬ (if tu = 0 then mq_rel t x.toInt64 w else mq_rel t w x.toInt64)) → post 0) : wpX_bounded post (f_nodes, f_filterRoot, f_valueRoot, f_keyRoot, f_partCount, f_groups, f_passed, f_overflow, a_cells, a_live, a_zoneLeast, a_zoneMost, a_tokens, a_constants, a_lengths, a_nodeOp, a_nodeA, a_nodeB, a_nodeC, a_needs, a_wanted, a_value, a_state, a_work, a_parts, a_heads, a_chain, a_places, a_sorted, a_groupNull, a_groupKey, a_groupPairs, a_groupValues, a_groupSum, a_groupLeast, a_groupMost) t (nI z) w tu := by
  have wz : vp_in (nI z) 24 := vp_in_nI hz (by omega)
  have lo : ∀ {x y : Int64}, ¬ x ≤ y → y < x := fun h => Int64.not_le.mp h
  have l1 : ∀ {x y : Int64}, x < y → ¬ y ≤ x := fun h => Int64.not_le.mpr h
  have l2 : ∀ {x y : Int64}, x ≤ y → ¬ y < x := fun h => Int64.not_lt.mpr h
  unfold wpX_bounded
  dsimp only
  rw [nI_clamp (show z < 2 ^ 31 by omega)]
  refine ⟨wz, nm_e ⟨wz, nm_e (br_c (fun le => ?_) (fun nle => K0 (fun x h1 h2 => absurd (Int32.le_trans h1 h2) nle)))⟩⟩
  rcases ht with rfl | rfl | rfl | rfl
  · -- =
    refine br_f (by decide) (br_f (by decide) (br_t rfl (br_c (fun h => K0 (fun x h1 h2 q => ?_)) (fun _ => br_c (fun h => K0 (fun x h1 h2 q => ?_)) (fun _ => K1)))))
    · have e : x.toInt64 = w := by
        split at q
        · exact (bd_rel _ _).1.mp q
        · exact ((bd_rel _ _).1.mp q).symm
      rw [← e] at h; exact l2 (bd_le.mp h1) h
    · have e : x.toInt64 = w := by
        split at q
        · exact (bd_rel _ _).1.mp q
        · exact ((bd_rel _ _).1.mp q).symm
      rw [← e] at h; exact l2 (bd_le.mp h2) h
  · -- <
    refine br_f (by decide) (br_f (by decide) (br_f (by decide) (br_t rfl (br_c (fun u => br_c (fun h => K0 (fun x h1 h2 q => ?_)) (fun _ => K1)) (fun u => br_c (fun h => K0 (fun x h1 h2 q => ?_)) (fun _ => K1))))))
    · rw [if_pos u] at q
      exact l1 ((bd_rel _ _).2.1.mp q) (Int64.le_trans h (bd_le.mp h1))
    · rw [if_neg u] at q
      exact l1 ((bd_rel _ _).2.1.mp q) (Int64.le_trans (bd_le.mp h2) h)
  · -- <=
    refine br_f (by decide) (br_f (by decide) (br_f (by decide) (br_f (by decide) (br_t rfl (br_c (fun u => br_c (fun h => K0 (fun x h1 h2 q => ?_)) (fun _ => K1)) (fun u => br_c (fun h => K0 (fun x h1 h2 q => ?_)) (fun _ => K1)))))))
    · rw [if_pos u] at q
      exact l2 (Int64.le_trans (bd_le.mp h1) ((bd_rel _ _).2.2.1.mp q)) h
    · rw [if_neg u] at q
      exact l2 (Int64.le_trans ((bd_rel _ _).2.2.1.mp q) (bd_le.mp h2)) h
  · -- <>
    refine br_f (by decide) (br_t (by decide) (br_c (fun _ => K1) (fun nl => br_c (fun h => K0 (fun x h1 h2 q => ?_)) (fun _ => K1))))
    have e : x = a_zoneLeast z := Int32.le_antisymm (Int32.le_trans h2 (Int32.not_lt.mp nl)) h1
    rw [e, h] at q
    split at q
    · exact (bd_rel _ _).2.2.2.mp q rfl
    · exact (bd_rel _ _).2.2.2.mp q rfl
variable {D : (Nat → Int32) → Nat → VV} {T : Nat → Nat} {N f v k : Nat} {ps : List Nat} {E : Nat → (Nat → Int32) → VV}
theorem xb_poss {post : Int32 → Prop} {m : Nat} (C : xk_pg N D T f v k ps a_nodeOp a_nodeA a_nodeB a_nodeC a_needs a_wanted a_state a_parts a_value (E 0) (E 1) (E 2)) (hm : m < 4) (K1 : post 1)
    (K0 : (∃ y, y ∈ ps ∧ ∀ env : Nat → Int32, (∀ c, c < 3 → ¬ env c = -2147483648 → a_zoneLeast (c * 4 + m) ≤ env c ∧ env c ≤ a_zoneMost (c * 4 + m)) → ¬ D env y = (1, 0)) → post 0) : wpX_possible post (nI N, f_filterRoot, f_valueRoot, f_keyRoot, nI ps.length, f_groups, f_passed, f_overflow, a_cells, a_live, a_zoneLeast, a_zoneMost, a_tokens, a_constants, a_lengths, a_nodeOp, a_nodeA, a_nodeB, a_nodeC, a_needs, a_wanted, a_value, a_state, a_work, a_parts, a_heads, a_chain, a_places, a_sorted, a_groupNull, a_groupKey, a_groupPairs, a_groupValues, a_groupSum, a_groupLeast, a_groupMost) (nI m) := by
  obtain ⟨hN, P, lf, lv, lk, kf, kv, kk, df, dv, dk, wf, wv, wk, hcl, hl, hpt, hps2, hall⟩ := id C
  have e4 : ∀ c, nI c * 4 + nI m = nI (c * 4 + m) := fun c => by rw [show (4 : Int32) = nI 4 from rfl, pk_mul, nI_add]
  -- what a node below 3 is
  have col : ∀ a, a < N → ¬ 3 ≤ a_nodeOp a → ∃ c, c < 3 ∧ a_nodeOp a = nI c ∧ ∀ env, D env a = mq_col (env c) := by
    intro a ha h
    rcases P a ha with ⟨c, g1, g2, _, g4, _⟩ | ⟨g1, _⟩ | ⟨g1, _⟩ | ⟨_, _, _, g1, _⟩
    · refine ⟨c, ?_, g2, g4⟩
      rw [g2] at h
      rcases Nat.lt_or_ge c 3 with z | z
      · exact z
      · exact absurd (nI_le (a := 3) z (by omega)) h
    · rw [g1] at h; exact absurd (by decide) h
    · rw [g1] at h; exact absurd (by decide) h
    · exact absurd (Int32.le_trans (by decide) (mq_op_lo g1).2.2.2.2.2.1) h
  -- a column's value that isn't NULL
  have cnn : ∀ x : Int32, (mq_col x).2 = 0 → ¬ x = -2147483648 ∧ (mq_col x).1 = x.toInt64 := by
    intro x h
    unfold mq_col at h ⊢
    by_cases z : x = -2147483648
    · rw [if_pos z] at h; exact absurd h (by decide)
    · rw [if_neg z]; exact ⟨z, rfl⟩
  have main : ∀ (r n i : Nat), i + r = ps.length → r < n → wX_possible_2 post (nI m) (nI N) f_filterRoot f_valueRoot f_keyRoot (nI ps.length) f_groups f_passed f_overflow a_cells a_live a_zoneLeast a_zoneMost a_tokens a_constants a_lengths a_nodeOp a_nodeA a_nodeB a_nodeC a_needs a_wanted a_value a_state a_work a_parts a_heads a_chain a_places a_sorted a_groupNull a_groupKey a_groupPairs a_groupValues a_groupSum a_groupLeast a_groupMost n (nI i) := by
    intro r
    induction r with
    | zero =>
      intro n i hi hn
      obtain ⟨n, rfl⟩ := zb_ex hn
      rw [wX_possible_2]
      exact br_t (nI_le (by omega) (by omega)) K1
    | succ r ih =>
      intro n i hi hn
      obtain ⟨n, rfl⟩ := zb_ex (show 0 < n by omega)
      have mm : ps.getD i 0 ∈ ps := tb_gm (by omega)
      obtain ⟨lt, kt, _⟩ := hps2 _ mm
      have w : vp_in (nI i) 24 := vp_in_nI (by omega) (by omega)
      have w2 : vp_in (nI (ps.getD i 0)) 64 := vp_in_nI (by omega) (by omega)
      have nx : wX_possible_2 post (nI m) (nI N) f_filterRoot f_valueRoot f_keyRoot (nI ps.length) f_groups f_passed f_overflow a_cells a_live a_zoneLeast a_zoneMost a_tokens a_constants a_lengths a_nodeOp a_nodeA a_nodeB a_nodeC a_needs a_wanted a_value a_state a_work a_parts a_heads a_chain a_places a_sorted a_groupNull a_groupKey a_groupPairs a_groupValues a_groupSum a_groupLeast a_groupMost n (nI i + 1) := by
        rw [nI_1]; exact ih n (i + 1) (by omega) (by omega)
      rw [wX_possible_2]
      dsimp only
      rw [nI_clamp (show i < 2 ^ 31 by omega), hpt i (by omega)]
      generalize ps.getD i 0 = y at mm lt kt w2 ⊢
      refine br_f (nI_ge (by omega) (by omega)) ⟨w, nm_e ⟨w2, ?_⟩⟩
      rw [nI_clamp (show y < 2 ^ 31 by omega)]
      refine nm_e (br_c (fun _ => nm_e nx) (fun o1 => br_c (fun _ => nm_e nx) (fun o2 => ⟨w2, br_c (fun n1 => ⟨w2, ?_⟩) (fun _ => nm_e nx)⟩)))
      have ht : a_nodeOp y = 20 ∨ a_nodeOp y = 21 ∨ a_nodeOp y = 22 ∨ a_nodeOp y = 23 := by
        rcases P y lt with ⟨c, g1, g2, _⟩ | ⟨g1, _⟩ | ⟨g1, _⟩ | ⟨_, _, _, g1, _⟩
        · rw [g2] at o1; exact absurd (nI_lt (b := 20) (by omega) (by decide)) o1
        · rw [g1] at o2; exact absurd (by decide) o2
        · rw [g1] at o2; exact absurd (by decide) o2
        · rcases g1 with g | g | g | g | g | g | g | g | g | g | g | g | g | g | g | g
          · rw [g] at o1; exact absurd (by decide) o1
          · rw [g] at o1; exact absurd (by decide) o1
          · rw [g] at o1; exact absurd (by decide) o1
          · rw [g] at o1; exact absurd (by decide) o1
          · rw [g] at o1; exact absurd (by decide) o1
          · rw [g] at o1; exact absurd (by decide) o1
          · rw [g] at o1; exact absurd (by decide) o1
          · exact Or.inl g
          · exact Or.inr (Or.inl g)
          · exact Or.inr (Or.inr (Or.inl g))
          · exact Or.inr (Or.inr (Or.inr g))
          · rw [g] at o2; exact absurd (by decide) o2
          · rw [g] at o2; exact absurd (by decide) o2
          · rw [g] at o2; exact absurd (by decide) o2
          · rw [g] at o2; exact absurd (by decide) o2
          · rw [g] at o2; exact absurd (by decide) o2
      have hw : mq_wt (a_nodeOp y) 0 = false ∧ mq_wt (a_nodeOp y) 1 = false ∧ mq_ar (a_nodeOp y) = 2 := by
        rcases ht with g | g | g | g <;> rw [g] <;> decide
      rcases P y lt with ⟨c, g1, g2, _⟩ | ⟨g1, _⟩ | ⟨g1, _⟩ | ⟨a, b, c, g1, la, lb, lc, ea, eb, ec, _, ka, kb, _, _, _, gd, _⟩
      · rw [g2] at o1; exact absurd (nI_lt (b := 20) (by omega) (by decide)) o1
      · rw [g1] at o2; exact absurd (by decide) o2
      · rw [g1] at o2; exact absurd (by decide) o2
      · have kb := kb (by omega)
        rw [hw.1] at ka
        rw [hw.2.1] at kb
        have wa : vp_in (nI a) 64 := vp_in_nI (by omega) (by omega)
        have wb : vp_in (nI b) 64 := vp_in_nI (by omega) (by omega)
        have ca : (nI a).toNatClampNeg = a := nI_clamp (by omega)
        have cb : (nI b).toNatClampNeg = b := nI_clamp (by omega)
        -- a known number that isn't NULL
        have knn : ∀ j, j < N → mq_kd (a_nodeOp j) = false → ¬ a_nodeOp j < 40 → ∀ env, (D env j).2 = 0 → (D env j).1 = a_value j := by
          intro j hj kj nj env h
          have := (pg_kn P hj nj).2.2 env
          rw [kj] at this
          rcases this with ⟨_, e⟩ | ⟨_, e⟩
          · rw [e]
          · rw [e] at h; exact absurd h (by decide)
        have s115 : wX_possible_115 post (wX_possible_2 post (nI m) (nI N) f_filterRoot f_valueRoot f_keyRoot (nI ps.length) f_groups f_passed f_overflow a_cells a_live a_zoneLeast a_zoneMost a_tokens a_constants a_lengths a_nodeOp a_nodeA a_nodeB a_nodeC a_needs a_wanted a_value a_state a_work a_parts a_heads a_chain a_places a_sorted a_groupNull a_groupKey a_groupPairs a_groupValues a_groupSum a_groupLeast a_groupMost n) (nI m) (nI i) (a_nodeOp y) (nI a) (nI b) (nI N) f_filterRoot f_valueRoot f_keyRoot (nI ps.length) f_groups f_passed f_overflow a_cells a_live a_zoneLeast a_zoneMost a_tokens a_constants a_lengths a_nodeOp a_nodeA a_nodeB a_nodeC a_needs a_wanted a_value a_state a_work a_parts a_heads a_chain a_places a_sorted a_groupNull a_groupKey a_groupPairs a_groupValues a_groupSum a_groupLeast a_groupMost := by
          unfold wX_possible_115
          rw [ca, cb]
          refine ⟨wb, br_c (fun _ => nm_e nx) (fun o3 => xs_known (N := N) (by omega) (by omega) (fun _ => br_t rfl (nm_e nx)) (fun kn => br_f (by decide) ⟨wb, wa, ?_⟩))⟩
          obtain ⟨cc, c1, c2, c3⟩ := col b (by omega) o3
          rw [c2, e4]
          refine xb_bound ht (by omega) (Or.inr rfl) (br_f (by decide) (nm_e nx)) (fun hb => br_t rfl (K0 ⟨y, mm, fun env he z => ?_⟩))
          rw [gd env] at z
          obtain ⟨s1, s2, s3⟩ := bd_sem _ _ _ ht z
          rw [c3] at s2 s3
          obtain ⟨q1, q2⟩ := cnn _ s2
          rw [knn a (by omega) ka kn env s1, q2] at s3
          obtain ⟨w1, w2⟩ := he cc c1 q1
          have := hb (env cc) w1 w2
          rw [if_neg (by decide)] at this
          exact this s3
        rw [ea, eb]
        refine nm_e ⟨w2, nm_e ⟨wa, ?_⟩⟩
        rw [ca, cb]
        refine br_c (fun _ => s115) (fun o3 => xs_known (N := N) (by omega) (by omega) (fun _ => br_t rfl s115) (fun kn => br_f (by decide) ⟨wa, wb, ?_⟩))
        obtain ⟨cc, c1, c2, c3⟩ := col a (by omega) o3
        rw [c2, e4]
        refine xb_bound ht (by omega) (Or.inl rfl) (br_f (by decide) s115) (fun hb => br_t rfl (K0 ⟨y, mm, fun env he z => ?_⟩))
        rw [gd env] at z
        obtain ⟨s1, s2, s3⟩ := bd_sem _ _ _ ht z
        rw [c3] at s1 s3
        obtain ⟨q1, q2⟩ := cnn _ s1
        rw [knn b (by omega) kb kn env s2, q2] at s3
        obtain ⟨w1, w2⟩ := he cc c1 q1
        have := hb (env cc) w1 w2
        rw [if_pos rfl] at this
        exact this s3
  exact ⟨ps.length + 1, main ps.length _ 0 (by omega) (by omega)⟩
end XPO
end
section
/-! ===== X: runMorsel, run ===== -/
theorem rn_all_id {E : Nat → (Nat → Int32) → VV} {n1 : Nat} {R0 R1 : Nat → Nat → Int32} {mode l r : Nat} (h : ∀ env, ¬ E 0 env = (1, 0)) : ∀ n, rn_all E n1 R0 R1 mode l r n = ([], false, 0)
  | 0 => rfl
  | n + 1 => by rw [rn_all_s, rn_all_id h n, rn_row_id (fun j _ => h _)]
theorem rn_skip {E : Nat → (Nat → Int32) → VV} {n1 m0 : Nat} {R0 R1 : Nat → Nat → Int32} {mode l r x : Nat} : ∀ d, (∀ s gs, x ≤ s → s < x + d → m0 / 2 ^ s % 2 = 1 → rn_row E n1 R0 R1 mode l r gs (tb_bl s 0 m0).length = gs) → rn_all E n1 R0 R1 mode l r (tb_bl (x + d) 0 m0).length = rn_all E n1 R0 R1 mode l r (tb_bl x 0 m0).length
  | 0, _ => rfl
  | d + 1, h => by
    rw [← rn_skip d (fun s gs h1 h2 => h s gs h1 (by omega)), show x + (d + 1) = (x + d) + 1 by omega, tb_snoc]
    by_cases b : m0 / 2 ^ (x + d) % 2 = 1
    · rw [if_pos b, List.length_append, List.length_singleton, rn_all_s]
      exact h (x + d) _ (by omega) (by omega) b
    · rw [if_neg b, List.append_nil]
theorem xh_oc0 {pl : Nat → Int32} : ∀ {n : Nat}, (∀ h, h < n → pl h < 0) → xh_oc pl n = 0
  | 0, _ => rfl
  | n + 1, h => by rw [xh_oc, xh_oc0 (fun j hj => h j (by omega)), if_pos (h n (by omega))]
section XRN
variable {f_nodes f_filterRoot f_valueRoot f_keyRoot f_partCount f_groups f_passed f_overflow : Int32}
variable {a_cells a_live a_zoneLeast a_zoneMost a_tokens a_constants a_lengths a_nodeOp a_nodeA a_nodeB a_nodeC a_needs a_wanted a_state a_work a_parts a_heads a_chain a_places a_sorted a_groupNull a_groupPairs a_groupValues : Nat → Int32}
variable {a_value a_groupKey a_groupSum a_groupLeast a_groupMost : Nat → Int64}
variable {D : (Nat → Int32) → Nat → VV} {T : Nat → Nat} {N f v k : Nat} {ps : List Nat} {E : Nat → (Nat → Int32) → VV} {m0 n0 m1 n1 mode l r : Nat} {R0 R1 : Nat → Nat → Int32}
theorem xm_5 {post : SX → Prop} {m : Nat} (C : xk_pg N D T f v k ps a_nodeOp a_nodeA a_nodeB a_nodeC a_needs a_wanted a_state a_parts a_value (E 0) (E 1) (E 2)) (hm0 : m0 < 65536) (hlv0 : a_live 0 = nI m0) (hlen0 : (tb_bl 16 0 m0).length = n0) (h40 : ∀ j c, j < n0 → c < 3 → a_cells ((3 * 0 + c) * 16 + (tb_bl 16 0 m0).getD j 0) = R0 j c) (hm1 : m1 < 65536) (hlen : (tb_bl 16 0 m1).length = n1) (h4 : ∀ j c, j < n1 → c < 3 → a_cells ((3 * 1 + c) * 16 + (tb_bl 16 0 m1).getD j 0) = R1 j c) (hl : l < 3) (hr : r < 3) (hm : mode ≤ 2) (hov : ∀ env, mq_ov false (E 2 env)) (hch : 0 < mode → ∀ h, h < 16 → hc_ch a_chain (a_heads h) ((List.range' 0 16).filter (hs_p m1 (r + 3) mode a_cells D a_needs ps h))) (hm4 : m < 4) (c00 : ∀ y, y ∈ ps → a_needs y = 0 → ∀ env, D env y = (1, 0))
    (K : ∀ (fg fp fo : Int32) (pl gN : Nat → Int32) (gK : Nat → Int64) (gP gV : Nat → Int32) (gS gL gM : Nat → Int64) (st : Nat → Int32) (vl : Nat → Int64), xg_ok (rn_all E n1 R0 R1 mode l r ((tb_bl (4 * m + 4) 0 m0).length)) fg fp fo pl gN gK gP gV gS gL gM → (∀ j, j < N → a_needs j = 0 → st j = a_state j ∧ vl j = a_value j) → post (nI N, f_filterRoot, nI v, nI k, nI ps.length, fg, fp, fo, a_cells, a_live, a_zoneLeast, a_zoneMost, a_tokens, a_constants, a_lengths, a_nodeOp, a_nodeA, a_nodeB, a_nodeC, a_needs, a_wanted, vl, st, a_work, a_parts, a_heads, a_chain, pl, a_sorted, gN, gK, gP, gV, gS, gL, gM)) :
    ∀ (d n x : Nat), x + d = 4 * m + 4 → d < n → ∀ (fg fp fo : Int32) (pl gN : Nat → Int32) (gK : Nat → Int64) (gP gV : Nat → Int32) (gS gL gM : Nat → Int64) (st : Nat → Int32) (vl : Nat → Int64), xg_ok (rn_all E n1 R0 R1 mode l r ((tb_bl x 0 m0).length)) fg fp fo pl gN gK gP gV gS gL gM → (∀ j, j < N → a_needs j = 0 → st j = a_state j ∧ vl j = a_value j) → wX_runMorsel_5 post (nI m) (nI mode) (nI l) (nI (r + 3)) n (nI x) (nI N) f_filterRoot (nI v) (nI k) (nI ps.length) fg fp fo a_cells a_live a_zoneLeast a_zoneMost a_tokens a_constants a_lengths a_nodeOp a_nodeA a_nodeB a_nodeC a_needs a_wanted vl st a_work a_parts a_heads a_chain pl a_sorted gN gK gP gV gS gL gM := by
  obtain ⟨hN, P, lf, lv, lk, kf, kv, kk, df, dv, dk, wf, wv, wk, hcl, hlp, hpt, hps2, hall⟩ := id C
  have e4 : nI m * 4 + 4 = nI (4 * m + 4) := by rw [show (4 : Int32) = nI 4 from rfl, pk_mul, nI_add, Nat.mul_comm]
  have n16 : n1 ≤ 16 := by rw [← hlen]; exact tb_len 16 0 m1
  have kn0 : ∀ j, j < N → a_needs j = 0 → ¬ a_nodeOp j < 40 := fun j hj h z => pg_nk P hj z h
  intro d
  induction d with
  | zero =>
    intro n x hx hn fg fp fo pl gN gK gP gV gS gL gM st vl G U
    obtain ⟨n, rfl⟩ := zb_ex hn
    have : x = 4 * m + 4 := by omega
    subst this
    rw [wX_runMorsel_5]
    dsimp only
    rw [e4]
    exact br_t (nI_le (Nat.le_refl _) (by omega)) (K fg fp fo pl gN gK gP gV gS gL gM st vl G U)
  | succ d ih =>
    intro n x hx hn fg fp fo pl gN gK gP gV gS gL gM st vl G U
    obtain ⟨n, rfl⟩ := zb_ex (show 0 < n by omega)
    have sn := tb_snoc x 0 m0
    rw [wX_runMorsel_5]
    dsimp only
    rw [e4, hlv0, tb_bit hm0 (by omega)]
    refine br_f (nI_ge (by omega) (by omega)) (br_c (fun z => nm_r (nI_1 x) ?_) (fun z => ?_))
    · have b0 : ¬ m0 / 2 ^ x % 2 = 1 := fun q => by rw [q] at z; exact absurd z (by decide)
      rw [if_neg b0, List.append_nil] at sn
      exact ih n (x + 1) (by omega) (by omega) fg fp fo pl gN gK gP gV gS gL gM st vl (by rw [sn]; exact G) U
    · have b1 : m0 / 2 ^ x % 2 = 1 := by
        rcases Nat.mod_two_eq_zero_or_one (m0 / 2 ^ x) with q | q
        · rw [q] at z; exact absurd rfl z
        · exact q
      rw [if_pos b1] at sn
      obtain ⟨p1, p2⟩ := tb_pos2 b1 (show x < 16 by omega)
      have len1 : (tb_bl (x + 1) 0 m0).length = (tb_bl x 0 m0).length + 1 := by rw [sn]; simp
      generalize hi : (tb_bl x 0 m0).length = i at *
      have ce : ∀ c, c < 3 → a_cells (c * 16 + x) = R0 i c := by
        intro c hc
        have := h40 i c (by omega) hc
        rw [p2, show 3 * 0 + c = c by omega] at this
        exact this
      have C1 : xk_pg N D T f v k ps a_nodeOp a_nodeA a_nodeB a_nodeC a_needs a_wanted st a_parts vl (E 0) (E 1) (E 2) := xk_pg_st C U
      have P1 := C1.2.1
      have len0 := tb_len 16 0 m0
      have gok := rn_all_ok (E := E) hov (n1 := n1) (R0 := R0) (R1 := R1) (mode := mode) (l := l) (r := r) n16 i
      refine xv_fetch (tb := 0) (cv := rn_env R0 R1 i none) hN (by omega) P1 (Or.inr ⟨x, by omega, rfl, fun c hc ht => ?_⟩) (fun st1 vl1 f1 f2 => ?_)
      · unfold rn_env; rw [if_pos (by omega)]; exact (ce c (by omega)).symm
      dsimp only
      have u1 : ∀ j, j < N → a_needs j = 0 → st1 j = st j ∧ vl1 j = vl j := by
        intro j hj hn
        refine f2 j (fun c hc ht ho => ?_)
        have := kn0 j hj hn
        rw [ho] at this
        exact this (nI_lt (b := 40) (by omega) (by decide))
      have C2 : xk_pg N D T f v k ps a_nodeOp a_nodeA a_nodeB a_nodeC a_needs a_wanted st1 a_parts vl1 (E 0) (E 1) (E 2) := xk_pg_st C (fun j hj hn => ⟨(u1 j hj hn).1.trans (U j hj hn).1, (u1 j hj hn).2.trans (U j hj hn).2⟩)
      have P2 := C2.2.1
      refine xv_all (set := 1) (more := 0) (Q := fun j => a_needs j = 0 ∨ a_needs j = 1) (env := rn_env R0 R1 i none) (Or.inl rfl) hN P2 hcl (fun j a b c hj hq ha hb hc e => ?_) (fun j hj h => ?_) (fun j hj hw hq hne => ?_) (fun st2 vl2 a1 a2 => ?_)
      · rw [e] at hq
        exact (xv_or1 (pg_nd P a ha) (pg_nd P b hb) (pg_nd P c hc)).1 hq
      · rcases h with h | ⟨h, _⟩
        · exact Or.inr h
        · exact absurd rfl h
      · rcases hq with q0 | q1
        · exact (pg_kn P2 hj (kn0 j hj q0)).2.2 _
        · have o10 : a_nodeOp j < 10 := by
            rcases Classical.em (a_nodeOp j < 10) with z | z
            · exact z
            · exact absurd ⟨z, Or.inl q1⟩ hne
          rcases P j hj with ⟨c', g1, g2, g3, g4, _⟩ | ⟨g1, _⟩ | ⟨g1, _⟩ | ⟨_, _, _, g1, _⟩
          · have c3 : c' < 3 := by
              rcases Nat.lt_or_ge c' 3 with z | z
              · exact z
              · rw [g3, if_neg (by omega)] at q1; exact absurd q1 (by decide)
            rw [g2, mq_kd_c c' g1, g4]
            exact f1 j c' hj g1 g2 (by omega)
          · rw [g1] at o10; exact absurd o10 (by decide)
          · rw [g1] at o10; exact absurd o10 (by decide)
          · exact absurd o10 (mq_op_lo g1).1
      · dsimp only
        have u2 : ∀ j, j < N → a_needs j = 0 → st2 j = a_state j ∧ vl2 j = a_value j := by
          intro j hj hn
          obtain ⟨e1, e2⟩ := a2 j (fun z => by
            rcases z.2 with q | ⟨q, _⟩
            · rw [hn] at q; exact absurd q (by decide)
            · exact absurd rfl q)
          exact ⟨e1.trans ((u1 j hj hn).1.trans (U j hj hn).1), e2.trans ((u1 j hj hn).2.trans (U j hj hn).2)⟩
        have tr : ∀ y, y ∈ ps → a_needs y = 1 → (st2 y = 1 ↔ D (rn_env R0 R1 i none) y = (1, 0)) := by
          intro y hy hn
          obtain ⟨q1, q2, q3⟩ := hps2 y hy
          have := a1 y q1 q3 (Or.inr hn)
          rw [q2] at this
          exact xr_t1 this
        refine xv_holds hN hlp hpt (fun y hy => (hps2 y hy).1) (fun t1 => br_f (by decide) ?_) (fun q => br_t rfl (nm_r (nI_1 x) ?_))
        · -- the row's pairs
          have ex : nI l * 16 + nI x = nI (l * 16 + x) := by rw [show (16 : Int32) = nI 16 from rfl, pk_mul, nI_add]
          rw [ex, nI_clamp (show l * 16 + x < 2 ^ 31 by omega), ce l hl]
          refine ⟨vp_in_nI (by omega) (by omega), xr_row (xk_pg_st C u2) hm1 hlen h4 hr hm hov hch (fun j hj hw hn => a1 j hj hw hn) (fun y hy hn => ?_) gok.1 (by omega) G (fun fg fp fo pl gN gK gP gV gS gL gM st3 vl3 G3 U3 => nm_r (nI_1 x) ?_)⟩
          · rcases hn with q | q
            · exact c00 y hy q _
            · exact (tr y hy q).mp (t1 y hy q)
          · refine ih n (x + 1) (by omega) (by omega) fg fp fo pl gN gK gP gV gS gL gM st3 vl3 ?_ (fun j hj hn => ⟨(U3 j hj (Or.inl hn)).1.trans (u2 j hj hn).1, (U3 j hj (Or.inl hn)).2.trans (u2 j hj hn).2⟩)
            rw [len1, rn_all_s]; exact G3
        · -- the row doesn't pass
          obtain ⟨y, hy, hn, q⟩ := q
          have nf : ¬ D (rn_env R0 R1 i none) y = (1, 0) := fun z => q ((tr y hy hn).mpr z)
          have id : rn_row E n1 R0 R1 mode l r (rn_all E n1 R0 R1 mode l r (i)) i = rn_all E n1 R0 R1 mode l r (i) := by
            refine rn_row_id (fun j _ z => nf ?_)
            rw [← df, hall] at z
            rw [← z y hy]
            exact pg_dep1 P (fun c hc => by unfold rn_env; rw [if_pos hc, if_pos hc]) y (hps2 y hy).1 (Or.inr hn)
          refine ih n (x + 1) (by omega) (by omega) fg fp fo pl gN gK gP gV gS gL gM st2 vl2 ?_ u2
          rw [len1, rn_all_s, id]; exact G
theorem xn_90 {post : Int32 → SX → Prop} (C : xk_pg N D T f v k ps a_nodeOp a_nodeA a_nodeB a_nodeC a_needs a_wanted a_state a_parts a_value (E 0) (E 1) (E 2)) (hm0 : m0 < 65536) (hlv0 : a_live 0 = nI m0) (hlen0 : (tb_bl 16 0 m0).length = n0) (h40 : ∀ j c, j < n0 → c < 3 → a_cells ((3 * 0 + c) * 16 + (tb_bl 16 0 m0).getD j 0) = R0 j c) (hm1 : m1 < 65536) (hlen : (tb_bl 16 0 m1).length = n1) (h4 : ∀ j c, j < n1 → c < 3 → a_cells ((3 * 1 + c) * 16 + (tb_bl 16 0 m1).getD j 0) = R1 j c) (hl : l < 3) (hr : r < 3) (hm : mode ≤ 2) (hov : ∀ env, mq_ov false (E 2 env)) (hch : 0 < mode → ∀ h, h < 16 → hc_ch a_chain (a_heads h) ((List.range' 0 16).filter (hs_p m1 (r + 3) mode a_cells D a_needs ps h))) (c00 : ∀ y, y ∈ ps → a_needs y = 0 → ∀ env, D env y = (1, 0))
    (hz : ∀ i c, i < n0 → c < 3 → zk_ok a_cells a_zoneLeast a_zoneMost (3 * 0 + c) ((tb_bl 16 0 m0).getD i 0))
    (K : ∀ (fg fp fo : Int32) (pl gN : Nat → Int32) (gK : Nat → Int64) (gP gV : Nat → Int32) (gS gL gM : Nat → Int64) (st : Nat → Int32) (vl : Nat → Int64), xg_ok (rn_all E n1 R0 R1 mode l r (n0)) fg fp fo pl gN gK gP gV gS gL gM → (∀ j, j < N → a_needs j = 0 → st j = a_state j ∧ vl j = a_value j) → wX_run_120 post (nI N) f_filterRoot (nI v) (nI k) (nI ps.length) fg fp fo a_cells a_live a_zoneLeast a_zoneMost a_tokens a_constants a_lengths a_nodeOp a_nodeA a_nodeB a_nodeC a_needs a_wanted vl st a_work a_parts a_heads a_chain pl a_sorted gN gK gP gV gS gL gM) :
    ∀ (d n m : Nat), m + d = 4 → d < n → ∀ (fg fp fo : Int32) (pl gN : Nat → Int32) (gK : Nat → Int64) (gP gV : Nat → Int32) (gS gL gM : Nat → Int64) (st : Nat → Int32) (vl : Nat → Int64), xg_ok (rn_all E n1 R0 R1 mode l r ((tb_bl (4 * m) 0 m0).length)) fg fp fo pl gN gK gP gV gS gL gM → (∀ j, j < N → a_needs j = 0 → st j = a_state j ∧ vl j = a_value j) → wX_run_90 post (nI mode) (nI l) (nI (r + 3)) n (nI m) (nI N) f_filterRoot (nI v) (nI k) (nI ps.length) fg fp fo a_cells a_live a_zoneLeast a_zoneMost a_tokens a_constants a_lengths a_nodeOp a_nodeA a_nodeB a_nodeC a_needs a_wanted vl st a_work a_parts a_heads a_chain pl a_sorted gN gK gP gV gS gL gM := by
  obtain ⟨hN, P, lf, lv, lk, kf, kv, kk, df, dv, dk, wf, wv, wk, hcl, hlp, hpt, hps2, hall⟩ := id C
  intro d
  induction d with
  | zero =>
    intro n m hm' hn fg fp fo pl gN gK gP gV gS gL gM st vl G U
    obtain ⟨n, rfl⟩ := zb_ex hn
    have : m = 4 := by omega
    subst this
    rw [wX_run_90]
    dsimp only
    rw [show 4 * 4 = 16 from rfl, hlen0] at G
    exact br_t (by decide) (K fg fp fo pl gN gK gP gV gS gL gM st vl G U)
  | succ d ih =>
    intro n m hm' hn fg fp fo pl gN gK gP gV gS gL gM st vl G U
    obtain ⟨n, rfl⟩ := zb_ex (show 0 < n by omega)
    have C1 : xk_pg N D T f v k ps a_nodeOp a_nodeA a_nodeB a_nodeC a_needs a_wanted st a_parts vl (E 0) (E 1) (E 2) := xk_pg_st C U
    rw [wX_run_90]
    dsimp only
    refine br_f (nI_ge (b := 4) (by omega) (by decide)) (xb_poss (m := m) C1 (by omega) (br_f (by decide) ?_) (fun q => br_t rfl (nm_r (nI_1 m) ?_)))
    · have e4 : nI m * 4 = nI (4 * m) := by rw [show (4 : Int32) = nI 4 from rfl, pk_mul, Nat.mul_comm]
      refine nm_r e4 ⟨5, ?_⟩
      have := xm_5 (m := m) C hm0 hlv0 hlen0 h40 hm1 hlen h4 hl hr hm hov hch (by omega) c00 (post := fun u => match u with | (f_nodes, f_filterRoot, f_valueRoot, f_keyRoot, f_partCount, f_groups, f_passed, f_overflow, a_cells, a_live, a_zoneLeast, a_zoneMost, a_tokens, a_constants, a_lengths, a_nodeOp, a_nodeA, a_nodeB, a_nodeC, a_needs, a_wanted, a_value, a_state, a_work, a_parts, a_heads, a_chain, a_places, a_sorted, a_groupNull, a_groupKey, a_groupPairs, a_groupValues, a_groupSum, a_groupLeast, a_groupMost) => ∀ x4, x4 = nI m + 1 → wX_run_90 post (nI mode) (nI l) (nI (r + 3)) n x4 f_nodes f_filterRoot f_valueRoot f_keyRoot f_partCount f_groups f_passed f_overflow a_cells a_live a_zoneLeast a_zoneMost a_tokens a_constants a_lengths a_nodeOp a_nodeA a_nodeB a_nodeC a_needs a_wanted a_value a_state a_work a_parts a_heads a_chain a_places a_sorted a_groupNull a_groupKey a_groupPairs a_groupValues a_groupSum a_groupLeast a_groupMost) (fun fg fp fo pl gN gK gP gV gS gL gM st vl G U => nm_r (nI_1 m) (ih n (m + 1) (by omega) (by omega) fg fp fo pl gN gK gP gV gS gL gM st vl G U)) 4 5 (4 * m) (by omega) (by omega) fg fp fo pl gN gK gP gV gS gL gM st vl G U
      exact this
    · obtain ⟨y, hy, q⟩ := q
      refine ih n (m + 1) (by omega) (by omega) fg fp fo pl gN gK gP gV gS gL gM st vl ?_ U
      have sk := rn_skip (E := E) (n1 := n1) (m0 := m0) (R0 := R0) (R1 := R1) (mode := mode) (l := l) (r := r) (x := 4 * m) 4 (fun s gs h1 h2 b => ?_)
      · rw [show 4 * (m + 1) = 4 * m + 4 by omega, sk]; exact G
      · obtain ⟨p1, p2⟩ := tb_pos2 b (show s < 16 by omega)
        refine rn_row_id (fun j _ z => ?_)
        rw [← df, hall] at z
        refine q (rn_env R0 R1 (tb_bl s 0 m0).length j) (fun c hc hne => ?_) (z y hy)
        have e : rn_env R0 R1 (tb_bl s 0 m0).length j c = a_cells (c * 16 + s) := by
          have := h40 (tb_bl s 0 m0).length c (by omega) hc
          rw [p2, show 3 * 0 + c = c by omega] at this
          unfold rn_env; rw [if_pos hc]; exact this.symm
        rw [e] at hne ⊢
        have zz := hz (tb_bl s 0 m0).length c (by omega) hc
        rw [p2, show 3 * 0 + c = c by omega] at zz
        have := zz hne
        rw [show s / 4 = m by omega] at this
        exact this
theorem xn_run {post : Int32 → SX → Prop} (C : xk_pg N D T f v k ps a_nodeOp a_nodeA a_nodeB a_nodeC a_needs a_wanted a_state a_parts a_value (E 0) (E 1) (E 2)) (hm0 : m0 < 65536) (hlv0 : a_live 0 = nI m0) (hlen0 : (tb_bl 16 0 m0).length = n0) (h40 : ∀ j c, j < n0 → c < 3 → a_cells ((3 * 0 + c) * 16 + (tb_bl 16 0 m0).getD j 0) = R0 j c) (hm1 : m1 < 65536) (hlen : (tb_bl 16 0 m1).length = n1) (h4 : ∀ j c, j < n1 → c < 3 → a_cells ((3 * 1 + c) * 16 + (tb_bl 16 0 m1).getD j 0) = R1 j c) (hl : l < 3) (hr : r < 3) (hm : mode ≤ 2) (hov : ∀ env, mq_ov false (E 2 env)) (hlv1 : a_live 1 = nI m1)
    (hz : ∀ i c, i < n0 → c < 3 → zk_ok a_cells a_zoneLeast a_zoneMost (3 * 0 + c) ((tb_bl 16 0 m0).getD i 0))
    (K : ∀ (heads chain : Nat → Int32), ∀ (fg fp fo : Int32) (pl gN : Nat → Int32) (gK : Nat → Int64) (gP gV : Nat → Int32) (gS gL gM : Nat → Int64) (st : Nat → Int32) (vl : Nat → Int64), xg_ok (rn_all E n1 R0 R1 mode l r (n0)) fg fp fo pl gN gK gP gV gS gL gM → (∀ j, j < N → a_needs j = 0 → st j = a_state j ∧ vl j = a_value j) → wX_run_120 post (nI N) f_filterRoot (nI v) (nI k) (nI ps.length) fg fp fo a_cells a_live a_zoneLeast a_zoneMost a_tokens a_constants a_lengths a_nodeOp a_nodeA a_nodeB a_nodeC a_needs a_wanted vl st a_work a_parts heads chain pl a_sorted gN gK gP gV gS gL gM) :
    wpX_run post (nI N, f_filterRoot, nI v, nI k, nI ps.length, f_groups, f_passed, f_overflow, a_cells, a_live, a_zoneLeast, a_zoneMost, a_tokens, a_constants, a_lengths, a_nodeOp, a_nodeA, a_nodeB, a_nodeC, a_needs, a_wanted, a_value, a_state, a_work, a_parts, a_heads, a_chain, a_places, a_sorted, a_groupNull, a_groupKey, a_groupPairs, a_groupValues, a_groupSum, a_groupLeast, a_groupMost) (nI mode) (nI l) (nI (r + 3)) := by
  obtain ⟨hN, P, lf, lv, lk, kf, kv, kk, df, dv, dk, wf, wv, wk, hcl, hlp, hpt, hps2, hall⟩ := id C
  have kn0 : ∀ j, j < N → a_needs j = 0 → ¬ a_nodeOp j < 40 := fun j hj h z => pg_nk P hj z h
  have tr : ∀ y, y ∈ ps → a_needs y = 0 → ∀ env, (a_state y = 1 ↔ D env y = (1, 0)) := by
    intro y hy hn env
    obtain ⟨q1, q2, q3⟩ := hps2 y hy
    have := (pg_kn P q1 (kn0 y q1 hn)).2.2 env
    rw [q2] at this
    exact xr_t1 this
  have main : ∀ (d n i : Nat) (pl : Nat → Int32), i + d = 32 → d < n → (∀ h, h < i → pl h = -1) → wX_run_33 post (nI mode) (nI l) (nI (r + 3)) (nI N) f_filterRoot (nI v) (nI k) (nI ps.length) f_groups f_passed f_overflow n (nI i) a_cells a_live a_zoneLeast a_zoneMost a_tokens a_constants a_lengths a_nodeOp a_nodeA a_nodeB a_nodeC a_needs a_wanted a_value a_state a_work a_parts a_heads a_chain pl a_sorted a_groupNull a_groupKey a_groupPairs a_groupValues a_groupSum a_groupLeast a_groupMost := by
    intro d
    induction d with
    | zero =>
      intro n i pl hi hn h
      obtain ⟨n, rfl⟩ := zb_ex hn
      have : i = 32 := by omega
      subst this
      have G0 : xg_ok ([], false, 0) 0 0 0 pl a_groupNull a_groupKey a_groupPairs a_groupValues a_groupSum a_groupLeast a_groupMost := by
        refine ⟨rfl, rfl, rfl, fun g hg => absurd hg (Nat.not_lt_zero _), fun j hj => Or.inl (h j hj), ?_, fun g hg => absurd hg (Nat.not_lt_zero _)⟩
        exact xh_oc0 (fun j hj => by rw [h j hj]; decide)
      rw [wX_run_33]
      dsimp only
      refine br_t (by decide) (xv_holds hN hlp hpt (fun y hy => (hps2 y hy).1) (fun t0 => br_f (by decide) ?_) (fun q => br_t rfl ?_))
      · have c00 : ∀ y, y ∈ ps → a_needs y = 0 → ∀ env, D env y = (1, 0) := fun y hy hn env => (tr y hy hn env).mp (t0 y hy hn)
        refine br_c (fun m0' => ⟨5, ?_⟩) (fun m0' => ?_)
        · have mz : mode = 0 := by
            have := (nI_leI (b := 0) (show mode < 2 ^ 31 by omega) (by omega)).mp m0'
            omega
          exact xn_90 (f_filterRoot := f_filterRoot) (a_cells := a_cells) (a_live := a_live) (a_zoneLeast := a_zoneLeast) (a_zoneMost := a_zoneMost) (a_heads := a_heads) (a_chain := a_chain) C hm0 hlv0 hlen0 h40 hm1 hlen h4 hl hr hm hov (fun z => by omega) c00 hz (K a_heads a_chain) 4 5 0 (by omega) (by omega) 0 0 0 pl a_groupNull a_groupKey a_groupPairs a_groupValues a_groupSum a_groupLeast a_groupMost a_state a_value G0 (fun _ _ _ => ⟨rfl, rfl⟩)
        · have mp : mode = 1 ∨ mode = 2 := by
            have : mode ≠ 0 := fun z => by subst z; exact absurd (by decide) m0'
            omega
          refine xh_rows (rc := r + 3) C hm1 hlv1 (by omega) mp (fun heads chain st vl hc hu => ⟨5, ?_⟩)
          have C3 : xk_pg N D T f v k ps a_nodeOp a_nodeA a_nodeB a_nodeC a_needs a_wanted st a_parts vl (E 0) (E 1) (E 2) := xk_pg_st C hu
          have := xn_90 (a_heads := heads) (a_chain := chain) C3 hm0 hlv0 hlen0 h40 hm1 hlen h4 hl hr hm hov (fun _ => hc) c00 hz (fun fg fp fo pl gN gK gP gV gS gL gM st' vl' G U => K heads chain fg fp fo pl gN gK gP gV gS gL gM st' vl' G (fun j hj hn => ⟨(U j hj hn).1.trans (hu j hj hn).1, (U j hj hn).2.trans (hu j hj hn).2⟩)) 4 5 0 (by omega) (by omega) 0 0 0 pl a_groupNull a_groupKey a_groupPairs a_groupValues a_groupSum a_groupLeast a_groupMost st vl G0 (fun _ _ _ => ⟨rfl, rfl⟩)
          exact this
      · obtain ⟨y, hy, hn, q⟩ := q
        have nf : ∀ env, ¬ E 0 env = (1, 0) := by
          intro env z
          rw [← df, hall] at z
          exact q ((tr y hy hn env).mpr (z y hy))
        have := K a_heads a_chain 0 0 0 pl a_groupNull a_groupKey a_groupPairs a_groupValues a_groupSum a_groupLeast a_groupMost a_state a_value
        rw [rn_all_id nf n0] at this
        exact this G0 (fun _ _ _ => ⟨rfl, rfl⟩)
    | succ d ih =>
      intro n i pl hi hn h
      obtain ⟨n, rfl⟩ := zb_ex (show 0 < n by omega)
      rw [wX_run_33]
      dsimp only
      rw [nI_clamp (show i < 2 ^ 31 by omega), zb_m1]
      refine br_f (nI_ge (b := 32) (by omega) (by decide)) ⟨vp_in_nI (by omega) (by omega), nm_e (nm_r (nI_1 i) (ih n (i + 1) _ (by omega) (by omega) (fun j hj => ?_)))⟩
      by_cases e : j = i
      · subst e; exact pk_us
      · rw [pk_un e]; exact h j (by omega)
  refine br_f (nI_pos (by omega)) (br_f (nI_nlt (b := mode) (a := 2) hm (by decide)) (br_f (nI_pos (by omega)) (br_f (nI_nlt (b := l) (a := 2) (by omega) (by decide)) (br_f (nI_nlt (a := r + 3) (b := 3) (by omega) (by omega)) (br_t (nI_le (b := 5) (by omega) (by decide)) ⟨33, main 32 33 0 a_places (by omega) (by omega) (fun j hj => by omega)⟩)))))
end XRN
end
section
/-! ===== X: sort ===== -/
theorem gr_tot {a b : VV} (ha : mq_ov false a) (hb : mq_ov false b) (hn : ¬ a = b) (h : ¬ gr_lt a b) : gr_lt b a := by
  rcases ha with ha | ha
  · rcases hb with hb | hb
    · refine Or.inr ⟨hb, ha, ?_⟩
      rcases Int64.lt_or_eq_of_le (Int64.not_lt.mp (fun q => h (Or.inr ⟨ha, hb, q⟩))) with q | q
      · exact q
      · exact absurd (Prod.ext q.symm (ha.trans hb.symm)) hn
    · exact Or.inl ⟨by rw [hb]; decide, ha⟩
  · rcases hb with hb | hb
    · exact absurd (Or.inl ⟨by rw [ha]; decide, hb⟩) h
    · exact absurd (ha.trans hb.symm) hn
def so_li (l : List Nat) (a k : Nat) : List Nat := l.take a ++ k :: l.drop a
theorem so_li_get {l : List Nat} {a k : Nat} (h : a ≤ l.length) (p : Nat) : (so_li l a k).getD p 0 = if p < a then l.getD p 0 else if p = a then k else l.getD (p - 1) 0 := by
  unfold so_li
  have lt : (l.take a).length = a := by rw [List.length_take]; omega
  rw [List.getD_eq_getElem?_getD]
  by_cases e : p < a
  · rw [if_pos e, List.getElem?_append_left (by omega), List.getElem?_take_of_lt e, List.getD_eq_getElem?_getD]
  · rw [if_neg e, List.getElem?_append_right (by omega), lt]
    by_cases f : p = a
    · rw [if_pos f, f, Nat.sub_self]; rfl
    · rw [if_neg f]
      obtain ⟨q, rfl⟩ : ∃ q, p = a + (q + 1) := ⟨p - a - 1, by omega⟩
      rw [show a + (q + 1) - a = q + 1 by omega, List.getElem?_cons_succ, List.getElem?_drop, List.getD_eq_getElem?_getD, show a + (q + 1) - 1 = a + q by omega]
theorem so_li_perm {l : List Nat} {a k : Nat} : (so_li l a k).Perm (l ++ [k]) := by
  unfold so_li
  have h1 : (l.take a ++ k :: l.drop a).Perm (k :: (l.take a ++ l.drop a)) := List.perm_middle
  rw [List.take_append_drop] at h1
  exact h1.trans (List.perm_append_comm (l₁ := [k]) (l₂ := l))
def so_srt (ky : Nat → VV) (l : List Nat) : Prop := l.Pairwise (fun a b => gr_lt (ky a) (ky b))
theorem so_li_srt {ky : Nat → VV} {l : List Nat} {a k : Nat} (h : so_srt ky l) (ha : a ≤ l.length) (h1 : ∀ p, p < a → gr_lt (ky (l.getD p 0)) (ky k)) (h2 : ∀ p, a ≤ p → p < l.length → gr_lt (ky k) (ky (l.getD p 0))) : so_srt ky (so_li l a k) := by
  unfold so_srt so_li
  have tk : ∀ x, x ∈ l.take a → gr_lt (ky x) (ky k) := by
    intro x hx
    obtain ⟨i, hi, e⟩ := List.mem_iff_getElem.mp hx
    have il : i < a := by rw [List.length_take] at hi; omega
    have := h1 i il
    rw [List.getD_eq_getElem?_getD, List.getElem?_eq_getElem (show i < l.length by omega)] at this
    rw [List.getElem_take] at e
    rw [← e]; exact this
  have dk : ∀ x, x ∈ l.drop a → gr_lt (ky k) (ky x) := by
    intro x hx
    obtain ⟨i, hi, e⟩ := List.mem_iff_getElem.mp hx
    rw [List.length_drop] at hi
    have := h2 (a + i) (by omega) (by omega)
    rw [List.getD_eq_getElem?_getD, List.getElem?_eq_getElem (show a + i < l.length by omega)] at this
    rw [List.getElem_drop] at e
    rw [← e]; exact this
  refine List.pairwise_append.mpr ⟨List.Pairwise.sublist (List.take_sublist _ _) h, List.Pairwise.cons dk (List.Pairwise.sublist (List.drop_sublist _ _) h), fun x hx y hy => ?_⟩
  rcases List.mem_cons.mp hy with rfl | hy
  · exact tk x hx
  · exact gr_tr (tk x hx) (dk y hy)
theorem so_slt {ky : Nat → VV} {l : List Nat} (h : so_srt ky l) {i j : Nat} (hij : i < j) (hj : j < l.length) : gr_lt (ky (l.getD i 0)) (ky (l.getD j 0)) := by
  have a := List.pairwise_iff_getElem.mp h i j (by omega) hj hij
  rw [List.getD_eq_getElem?_getD, List.getD_eq_getElem?_getD, List.getElem?_eq_getElem (show i < l.length by omega), List.getElem?_eq_getElem hj]
  exact a
section XSO
variable {f_nodes f_filterRoot f_valueRoot f_keyRoot f_partCount f_groups f_passed f_overflow : Int32}
variable {a_cells a_live a_zoneLeast a_zoneMost a_tokens a_constants a_lengths a_nodeOp a_nodeA a_nodeB a_nodeC a_needs a_wanted a_state a_work a_parts a_heads a_chain a_places a_sorted a_groupNull a_groupPairs a_groupValues : Nat → Int32}
variable {a_value a_groupKey a_groupSum a_groupLeast a_groupMost : Nat → Int64}
variable {l : GL}
theorem xo_before {post : Int32 → Prop} {g h : Nat} {a b : VV} (hg : g < 12) (hh : h < 12) (ha : mq_ov false a) (hb : mq_ov false b) (g1 : a_groupNull g = a.2) (g2 : a_groupKey g = a.1) (h1 : a_groupNull h = b.2) (h2 : a_groupKey h = b.1) (K1 : gr_lt a b → post 1) (K0 : ¬ gr_lt a b → post 0) : wpX_before post (f_nodes, f_filterRoot, f_valueRoot, f_keyRoot, f_partCount, f_groups, f_passed, f_overflow, a_cells, a_live, a_zoneLeast, a_zoneMost, a_tokens, a_constants, a_lengths, a_nodeOp, a_nodeA, a_nodeB, a_nodeC, a_needs, a_wanted, a_value, a_state, a_work, a_parts, a_heads, a_chain, a_places, a_sorted, a_groupNull, a_groupKey, a_groupPairs, a_groupValues, a_groupSum, a_groupLeast, a_groupMost) (nI g) (nI h) := by
  have wg : vp_in (nI g) 12 := vp_in_nI hg (by omega)
  have wh : vp_in (nI h) 12 := vp_in_nI hh (by omega)
  unfold wpX_before
  dsimp only
  rw [nI_clamp (show g < 2 ^ 31 by omega), nI_clamp (show h < 2 ^ 31 by omega), g1, g2, h1, h2]
  refine ⟨wg, wh, ?_⟩
  rcases ov_01 ha with za | za <;> rcases ov_01 hb with zb | zb <;> rw [za, zb]
  · refine br_t (by decide) ⟨wg, wh, br_c (fun le => K0 ?_) (fun nle => K1 (Or.inr ⟨za, zb, Int64.not_le.mp nle⟩))⟩
    rintro (⟨q, _⟩ | ⟨_, _, q⟩)
    · exact q za
    · exact Int64.not_lt.mpr le q
  · refine br_f (by decide) ⟨wg, wh, br_f (by decide) ⟨rfl, K0 ?_⟩⟩
    rintro (⟨_, q⟩ | ⟨_, q, _⟩) <;> rw [zb] at q <;> exact absurd q (by decide)
  · exact br_f (by decide) ⟨wg, wh, br_t rfl ⟨rfl, K1 (Or.inl ⟨by rw [za]; decide, zb⟩)⟩⟩
  · refine br_f (by decide) ⟨wg, wh, br_f (by decide) ⟨rfl, K0 ?_⟩⟩
    rintro (⟨_, q⟩ | ⟨_, q, _⟩) <;> rw [zb] at q <;> exact absurd q (by decide)
theorem xo_12 {post : SX → Prop} {J : Int32 → (Nat → Int32) → (Nat → Int32) → (Nat → Int32) → (Nat → Int32) → (Nat → Int32) → (Nat → Int32) → (Nat → Int32) → (Nat → Int32) → (Nat → Int32) → (Nat → Int32) → (Nat → Int32) → (Nat → Int32) → (Nat → Int32) → (Nat → Int64) → (Nat → Int32) → (Nat → Int32) → (Nat → Int32) → (Nat → Int32) → (Nat → Int32) → (Nat → Int32) → (Nat → Int32) → (Nat → Int32) → (Nat → Int64) → (Nat → Int32) → (Nat → Int32) → (Nat → Int64) → (Nat → Int64) → (Nat → Int64) → Prop} {sl : List Nat} {k : Nat} (hl : l.length ≤ 12) (hk : k < l.length) (hsl : sl.length = k) (hlt : ∀ p, p < k → sl.getD p 0 < k) (hov : ∀ g, g < l.length → mq_ov false (l.getD g gr_d).1) (hnd : (l.map Prod.fst).Nodup) (hs : so_srt (fun g => (l.getD g gr_d).1) sl)
    (hat : xg_at a_groupNull a_groupKey a_groupPairs a_groupValues a_groupSum a_groupLeast a_groupMost l)
    (K : ∀ a so, a ≤ k → (∀ p, p < k + 1 → so p = nI ((so_li sl a k).getD p 0)) → so_srt (fun g => (l.getD g gr_d).1) (so_li sl a k) → J (nI (k + 1)) a_cells a_live a_zoneLeast a_zoneMost a_tokens a_constants a_lengths a_nodeOp a_nodeA a_nodeB a_nodeC a_needs a_wanted a_value a_state a_work a_parts a_heads a_chain a_places so a_groupNull a_groupKey a_groupPairs a_groupValues a_groupSum a_groupLeast a_groupMost) :
    ∀ (j n : Nat) (so : Nat → Int32), j < n → j ≤ k → (∀ p, p < j → so p = nI (sl.getD p 0)) → (∀ p, j ≤ p → p < k → so (p + 1) = nI (sl.getD p 0)) → (∀ p, j ≤ p → p < k → gr_lt (l.getD k gr_d).1 (l.getD (sl.getD p 0) gr_d).1) →
    wX_sort_12 post J (nI k) f_nodes f_filterRoot f_valueRoot f_keyRoot f_partCount f_groups f_passed f_overflow n (nI j) a_cells a_live a_zoneLeast a_zoneMost a_tokens a_constants a_lengths a_nodeOp a_nodeA a_nodeB a_nodeC a_needs a_wanted a_value a_state a_work a_parts a_heads a_chain a_places so a_groupNull a_groupKey a_groupPairs a_groupValues a_groupSum a_groupLeast a_groupMost := by
  have s52 : ∀ (j : Nat) (so : Nat → Int32), j ≤ k → (∀ p, p < j → so p = nI (sl.getD p 0)) → (∀ p, j ≤ p → p < k → so (p + 1) = nI (sl.getD p 0)) → (∀ p, j ≤ p → p < k → gr_lt (l.getD k gr_d).1 (l.getD (sl.getD p 0) gr_d).1) → (∀ p, p < j → gr_lt (l.getD (sl.getD p 0) gr_d).1 (l.getD k gr_d).1) → wX_sort_52 post J (nI k) (nI j) f_nodes f_filterRoot f_valueRoot f_keyRoot f_partCount f_groups f_passed f_overflow a_cells a_live a_zoneLeast a_zoneMost a_tokens a_constants a_lengths a_nodeOp a_nodeA a_nodeB a_nodeC a_needs a_wanted a_value a_state a_work a_parts a_heads a_chain a_places so a_groupNull a_groupKey a_groupPairs a_groupValues a_groupSum a_groupLeast a_groupMost := by
    intro j so hj h1 h2 h3 h4
    unfold wX_sort_52
    rw [nI_clamp (show j < 2 ^ 31 by omega), zb_by (show k < 128 by omega)]
    refine ⟨vp_in_nI (by omega) (by omega), nm_e (nm_r (nI_1 k) (K j _ hj (fun p hp => ?_) (so_li_srt hs (by omega) h4 (fun p q1 q2 => h3 p q1 (by omega)))))⟩
    rw [so_li_get (by omega)]
    by_cases e : p = j
    · subst e; rw [pk_us, if_neg (by omega), if_pos rfl]
    · rw [pk_un e]
      by_cases f : p < j
      · rw [if_pos f]; exact h1 p f
      · rw [if_neg f, if_neg e]
        have := h2 (p - 1) (by omega) (by omega)
        rw [show p - 1 + 1 = p by omega] at this
        exact this
  intro j
  induction j with
  | zero =>
    intro n so hn hj h1 h2 h3
    obtain ⟨n, rfl⟩ := zb_ex hn
    rw [wX_sort_12]
    exact br_t (by decide) (s52 0 so hj h1 h2 h3 (fun p hp => by omega))
  | succ j ih =>
    intro n so hn hj h1 h2 h3
    obtain ⟨n, rfl⟩ := zb_ex (show 0 < n by omega)
    have e1 : nI (j + 1) - 1 = nI j := nI_pred j
    have lj := hlt j (by omega)
    have rk := hat k hk
    have rj := hat (sl.getD j 0) (by omega)
    rw [wX_sort_12]
    dsimp only
    rw [e1, nI_clamp (show j < 2 ^ 31 by omega), h1 j (by omega), zb_nb (show sl.getD j 0 < 128 by omega), nI_clamp (show j + 1 < 2 ^ 31 by omega)]
    refine br_f (nI_nle (by omega) (by omega)) ⟨vp_in_nI (by omega) (by omega), xo_before (a := (l.getD k gr_d).1) (b := (l.getD (sl.getD j 0) gr_d).1) (by omega) (by omega) (hov k hk) (hov _ (by omega)) rk.1 rk.2.1 rj.1 rj.2.1 (fun lt => br_f (by decide) ⟨vp_in_nI (by omega) (by omega), vp_in_nI (by omega) (by omega), nm_e (nm_r (pk_m1 j) (ih n _ (by omega) (by omega) (fun p hp => ?_) (fun p q1 q2 => ?_) (fun p q1 q2 => ?_)))⟩) (fun nlt => br_t rfl (s52 (j + 1) so hj h1 h2 h3 (fun p hp => ?_)))⟩
    · rw [pk_un (by omega)]; exact h1 p (by omega)
    · by_cases e : p = j
      · subst e; exact pk_us
      · rw [pk_un (by omega)]; exact h2 p (by omega) q2
    · by_cases e : p = j
      · subst e; exact lt
      · exact h3 p (by omega) q2
    · have last : gr_lt (l.getD (sl.getD j 0) gr_d).1 (l.getD k gr_d).1 := by
        refine gr_tot (hov k hk) (hov _ (by omega)) (fun z => ?_) nlt
        have := gr_kinj hnd hk (by omega) z
        omega
      by_cases e : p = j
      · subst e; exact last
      · exact gr_tr (so_slt hs (show p < j by omega) (by omega)) last
theorem xo_sort {post : SX → Prop} (hl : l.length ≤ 12) (hov : ∀ g, g < l.length → mq_ov false (l.getD g gr_d).1) (hn : (l.map Prod.fst).Nodup) (hat : xg_at a_groupNull a_groupKey a_groupPairs a_groupValues a_groupSum a_groupLeast a_groupMost l)
    (K : ∀ so sl, List.Perm sl (List.range l.length) → so_srt (fun g => (l.getD g gr_d).1) sl → (∀ p, p < l.length → so p = nI (sl.getD p 0)) → post (f_nodes, f_filterRoot, f_valueRoot, f_keyRoot, f_partCount, nI l.length, f_passed, f_overflow, a_cells, a_live, a_zoneLeast, a_zoneMost, a_tokens, a_constants, a_lengths, a_nodeOp, a_nodeA, a_nodeB, a_nodeC, a_needs, a_wanted, a_value, a_state, a_work, a_parts, a_heads, a_chain, a_places, so, a_groupNull, a_groupKey, a_groupPairs, a_groupValues, a_groupSum, a_groupLeast, a_groupMost)) : wpX_sort post (f_nodes, f_filterRoot, f_valueRoot, f_keyRoot, f_partCount, nI l.length, f_passed, f_overflow, a_cells, a_live, a_zoneLeast, a_zoneMost, a_tokens, a_constants, a_lengths, a_nodeOp, a_nodeA, a_nodeB, a_nodeC, a_needs, a_wanted, a_value, a_state, a_work, a_parts, a_heads, a_chain, a_places, a_sorted, a_groupNull, a_groupKey, a_groupPairs, a_groupValues, a_groupSum, a_groupLeast, a_groupMost) := by
  have main : ∀ (d n k : Nat) (so : Nat → Int32) (sl : List Nat), k + d = l.length → d < n → List.Perm sl (List.range k) → so_srt (fun g => (l.getD g gr_d).1) sl → (∀ p, p < k → so p = nI (sl.getD p 0)) → wX_sort_2 post f_nodes f_filterRoot f_valueRoot f_keyRoot f_partCount (nI l.length) f_passed f_overflow n (nI k) a_cells a_live a_zoneLeast a_zoneMost a_tokens a_constants a_lengths a_nodeOp a_nodeA a_nodeB a_nodeC a_needs a_wanted a_value a_state a_work a_parts a_heads a_chain a_places so a_groupNull a_groupKey a_groupPairs a_groupValues a_groupSum a_groupLeast a_groupMost := by
    intro d
    induction d with
    | zero =>
      intro n k so sl hk hn h1 h2 h3
      obtain ⟨n, rfl⟩ := zb_ex hn
      have : k = l.length := by omega
      subst this
      rw [wX_sort_2]
      exact br_t (nI_le (Nat.le_refl _) (by omega)) (K so sl h1 h2 h3)
    | succ d ih =>
      intro n k so sl hk hn' h1 h2 h3
      obtain ⟨n, rfl⟩ := zb_ex (show 0 < n by omega)
      have len : sl.length = k := by rw [h1.length_eq, List.length_range]
      rw [wX_sort_2]
      refine br_f (nI_ge (by omega) (by omega)) ⟨k + 1, ?_⟩
      refine xo_12 (l := l) (sl := sl) hl (by omega) len (fun p hp => ?_) hov hn h2 hat (fun a so' ha q1 q2 => ?_) k (k + 1) so (by omega) (Nat.le_refl _) h3 (fun p q1 q2 => by omega) (fun p q1 q2 => by omega)
      · exact List.mem_range.mp (h1.mem_iff.mp (tb_gm (by omega)))
      · refine ih n (k + 1) so' (so_li sl a k) (by omega) (by omega) ?_ q2 q1
        rw [List.range_succ]
        exact so_li_perm.trans (List.Perm.append_right _ h1)
  exact ⟨l.length + 1, main l.length _ 0 a_sorted [] (by omega) (by omega) (List.Perm.refl _) List.Pairwise.nil (fun p hp => by omega)⟩
end XSO
end
section
/-! ===== the relation ===== -/
def rl_tab (n : Nat → Nat) (R : Nat → Nat → Nat → Int32) (cells live zl zm bc bn : Nat → Int32) : Prop := ∀ t, t < 2 → tx_ok t (n t) (R t) cells live zl zm ∧ ty_ok t (n t) (R t) bc bn
def rg_ok (fg fp : Int32) (so gN : Nat → Int32) (gK : Nat → Int64) (gP gV : Nat → Int32) (gS gL gM : Nat → Int64) (yg yp : Int32) (bN : Nat → Int32) (bK bS : Nat → Int64) : Prop :=
  fp = yp ∧ ∃ n, n ≤ 12 ∧ fg = nI n ∧ yg = nI n ∧ ∀ p, p < n → ∃ g, g < 12 ∧ so p = nI g ∧ gN g = bN p ∧ gK g = bK p ∧ (gP g).toInt64 = bS (5 * p) ∧ (gV g).toInt64 = bS (5 * p + 1) ∧ gS g = bS (5 * p + 2) ∧ gL g = bS (5 * p + 3) ∧ gM g = bS (5 * p + 4)
def i_Rel (k : Nat) (u : SX) (v : SY) : Prop := match u, v with
  | (f_nodes, f_filterRoot, f_valueRoot, f_keyRoot, f_partCount, f_groups, f_passed, f_overflow, a_cells, a_live, a_zoneLeast, a_zoneMost, a_tokens, a_constants, a_lengths, a_nodeOp, a_nodeA, a_nodeB, a_nodeC, a_needs, a_wanted, a_value, a_state, a_work, a_parts, a_heads, a_chain, a_places, a_sorted, a_groupNull, a_groupKey, a_groupPairs, a_groupValues, a_groupSum, a_groupLeast, a_groupMost), (y_top, y_groups, y_full, y_passed, b_cells, b_count, b_tok, b_con, b_len, b_num, b_isNull, b_gNull, b_gKey, b_gStat) => ∃ (E : Nat → (Nat → Int32) → VV) (n : Nat → Nat) (R : Nat → Nat → Nat → Int32), tk_rel E a_tokens a_constants a_lengths b_tok b_con b_len ∧ xk_ok f_nodes f_filterRoot f_valueRoot f_keyRoot f_partCount a_nodeOp a_nodeA a_nodeB a_nodeC a_needs a_wanted a_state a_parts a_value (E 0) (E 1) (E 2) ∧ rl_tab n R a_cells a_live a_zoneLeast a_zoneMost b_cells b_count ∧ rg_ok f_groups f_passed a_sorted a_groupNull a_groupKey a_groupPairs a_groupValues a_groupSum a_groupLeast a_groupMost y_groups y_passed b_gNull b_gKey b_gStat
theorem zz_el {P : SX → SY → Prop} {k : Nat} {u : SX} {v : SY} (h : ∀ (f_nodes : Int32) (f_filterRoot : Int32) (f_valueRoot : Int32) (f_keyRoot : Int32) (f_partCount : Int32) (f_groups : Int32) (f_passed : Int32) (f_overflow : Int32) (a_cells : Nat → Int32) (a_live : Nat → Int32) (a_zoneLeast : Nat → Int32) (a_zoneMost : Nat → Int32) (a_tokens : Nat → Int32) (a_constants : Nat → Int32) (a_lengths : Nat → Int32) (a_nodeOp : Nat → Int32) (a_nodeA : Nat → Int32) (a_nodeB : Nat → Int32) (a_nodeC : Nat → Int32) (a_needs : Nat → Int32) (a_wanted : Nat → Int32) (a_value : Nat → Int64) (a_state : Nat → Int32) (a_work : Nat → Int32) (a_parts : Nat → Int32) (a_heads : Nat → Int32) (a_chain : Nat → Int32) (a_places : Nat → Int32) (a_sorted : Nat → Int32) (a_groupNull : Nat → Int32) (a_groupKey : Nat → Int64) (a_groupPairs : Nat → Int32) (a_groupValues : Nat → Int32) (a_groupSum : Nat → Int64) (a_groupLeast : Nat → Int64) (a_groupMost : Nat → Int64) (y_top : Int32) (y_groups : Int32) (y_full : Int32) (y_passed : Int32) (b_cells : Nat → Int32) (b_count : Nat → Int32) (b_tok : Nat → Int32) (b_con : Nat → Int32) (b_len : Nat → Int32) (b_num : Nat → Int64) (b_isNull : Nat → Int32) (b_gNull : Nat → Int32) (b_gKey : Nat → Int64) (b_gStat : Nat → Int64), (∃ (E : Nat → (Nat → Int32) → VV) (n : Nat → Nat) (R : Nat → Nat → Nat → Int32), tk_rel E a_tokens a_constants a_lengths b_tok b_con b_len ∧ xk_ok f_nodes f_filterRoot f_valueRoot f_keyRoot f_partCount a_nodeOp a_nodeA a_nodeB a_nodeC a_needs a_wanted a_state a_parts a_value (E 0) (E 1) (E 2) ∧ rl_tab n R a_cells a_live a_zoneLeast a_zoneMost b_cells b_count ∧ rg_ok f_groups f_passed a_sorted a_groupNull a_groupKey a_groupPairs a_groupValues a_groupSum a_groupLeast a_groupMost y_groups y_passed b_gNull b_gKey b_gStat) → P (f_nodes, f_filterRoot, f_valueRoot, f_keyRoot, f_partCount, f_groups, f_passed, f_overflow, a_cells, a_live, a_zoneLeast, a_zoneMost, a_tokens, a_constants, a_lengths, a_nodeOp, a_nodeA, a_nodeB, a_nodeC, a_needs, a_wanted, a_value, a_state, a_work, a_parts, a_heads, a_chain, a_places, a_sorted, a_groupNull, a_groupKey, a_groupPairs, a_groupValues, a_groupSum, a_groupLeast, a_groupMost) (y_top, y_groups, y_full, y_passed, b_cells, b_count, b_tok, b_con, b_len, b_num, b_isNull, b_gNull, b_gKey, b_gStat)) (I : i_Rel k u v) : P u v :=
  match u, v, I with
  | (f_nodes, f_filterRoot, f_valueRoot, f_keyRoot, f_partCount, f_groups, f_passed, f_overflow, a_cells, a_live, a_zoneLeast, a_zoneMost, a_tokens, a_constants, a_lengths, a_nodeOp, a_nodeA, a_nodeB, a_nodeC, a_needs, a_wanted, a_value, a_state, a_work, a_parts, a_heads, a_chain, a_places, a_sorted, a_groupNull, a_groupKey, a_groupPairs, a_groupValues, a_groupSum, a_groupLeast, a_groupMost), (y_top, y_groups, y_full, y_passed, b_cells, b_count, b_tok, b_con, b_len, b_num, b_isNull, b_gNull, b_gKey, b_gStat), I => h f_nodes f_filterRoot f_valueRoot f_keyRoot f_partCount f_groups f_passed f_overflow a_cells a_live a_zoneLeast a_zoneMost a_tokens a_constants a_lengths a_nodeOp a_nodeA a_nodeB a_nodeC a_needs a_wanted a_value a_state a_work a_parts a_heads a_chain a_places a_sorted a_groupNull a_groupKey a_groupPairs a_groupValues a_groupSum a_groupLeast a_groupMost y_top y_groups y_full y_passed b_cells b_count b_tok b_con b_len b_num b_isNull b_gNull b_gKey b_gStat I
theorem i_up {k : Nat} {u : SX} {v : SY} (h : i_Rel k u v) : i_Rel (k + 5) u v := h
theorem rl_up {n : Nat → Nat} {R : Nat → Nat → Nat → Int32} {c l a b c' l' a' b' d e d' e' : Nat → Int32} {t n2 : Nat} {R2 : Nat → Nat → Int32} (ht : t < 2) (H : rl_tab n R c l a b d e) (h1 : tx_ok t n2 R2 c' l' a' b') (h2 : tx_of t c l a b c' l' a' b') (h3 : ty_ok t n2 R2 d' e') (h4 : ty_of t d e d' e') :
    rl_tab (fun s => if s = t then n2 else n s) (fun s => if s = t then R2 else R s) c' l' a' b' d' e' := by
  intro s hs
  by_cases q : s = t
  · subst q; simp only [if_true]; exact ⟨h1, h3⟩
  · simp only [q, if_false]; exact ⟨tx_fr hs q ht h2 (H s hs).1, ty_fr q h4 (H s hs).2⟩
theorem xk_tk_ov {tok con len : Nat → Int32} {e : Nat} {κ : Bool} {E : (Nat → Int32) → VV} (h : xk_tk tok con len e κ E) (env : Nat → Int32) : mq_ov κ (E env) := by
  obtain ⟨l, h1, h2, h3, h4, h5⟩ := h
  have := mq_est_ty (env := env) (con := con) (fun j hj => by rw [show 20 * e + l - (j + 1) = 20 * e + (l - (j + 1)) by omega]; exact h4 _ (by omega)) h3
  rw [h5 env] at this
  exact this.1
theorem rl_no {x : Int32} {n p : Nat} (h : x < 0 ∨ nI n ≤ x) (hp : p < n) (hn : n ≤ 16) (e : x = nI p) : False := by
  subst e
  rcases h with h | h
  · exact nI_pos (by omega) h
  · exact nI_ge hp (by omega) h
theorem rl_01 {x : Int32} (h1 : ¬ x < 0) (h2 : x ≤ 1) : x = 0 ∨ x = 1 := by
  obtain ⟨j, hj, rfl⟩ := nI_of2 (n := 1) (by decide) h1 h2
  rcases (show j = 0 ∨ j = 1 by omega) with rfl | rfl
  · exact Or.inl rfl
  · exact Or.inr rfl
/-! ===== group, passed ===== -/
theorem gp_06 {x : Int32} (h1 : ¬ x < 0) (h2 : ¬ 6 < x) : ∃ j, j < 7 ∧ x = nI j := by
  obtain ⟨j, hj, rfl⟩ := nI_of2 (n := 6) (by decide) h1 (Int32.not_lt.mp h2)
  exact ⟨j, by omega, rfl⟩
section RLG
variable {f_nodes f_filterRoot f_valueRoot f_keyRoot f_partCount f_groups f_passed f_overflow : Int32}
variable {a_cells a_live a_zoneLeast a_zoneMost a_tokens a_constants a_lengths a_nodeOp a_nodeA a_nodeB a_nodeC a_needs a_wanted a_state a_work a_parts a_heads a_chain a_places a_sorted a_groupNull a_groupPairs a_groupValues : Nat → Int32}
variable {a_value a_groupKey a_groupSum a_groupLeast a_groupMost : Nat → Int64}
variable {y_top y_groups y_full y_passed : Int32}
variable {b_cells b_count b_tok b_con b_len b_isNull b_gNull : Nat → Int32}
variable {b_num b_gKey b_gStat : Nat → Int64}
theorem rl_group {v1 v2 : Int32} (G : rg_ok f_groups f_passed a_sorted a_groupNull a_groupKey a_groupPairs a_groupValues a_groupSum a_groupLeast a_groupMost y_groups y_passed b_gNull b_gKey b_gStat) :
    ∃ r, (∀ post : Int64 → Prop, post r → wpX_group post (f_nodes, f_filterRoot, f_valueRoot, f_keyRoot, f_partCount, f_groups, f_passed, f_overflow, a_cells, a_live, a_zoneLeast, a_zoneMost, a_tokens, a_constants, a_lengths, a_nodeOp, a_nodeA, a_nodeB, a_nodeC, a_needs, a_wanted, a_value, a_state, a_work, a_parts, a_heads, a_chain, a_places, a_sorted, a_groupNull, a_groupKey, a_groupPairs, a_groupValues, a_groupSum, a_groupLeast, a_groupMost) v1 v2) ∧ (∀ post : Int64 → Prop, post r → wpY_group post (y_top, y_groups, y_full, y_passed, b_cells, b_count, b_tok, b_con, b_len, b_num, b_isNull, b_gNull, b_gKey, b_gStat) v1 v2) := by
  obtain ⟨_, n, n12, rfl, rfl, H⟩ := G
  by_cases h0 : v1 < 0
  · exact ⟨0, fun post K => br_t h0 K, fun post K => br_t h0 K⟩
  · by_cases h1 : v1 < nI n
    · obtain ⟨p, hp, rfl⟩ := nI_of h0
      have pn : p < n := (nI_ltI hp (by omega)).mp h1
      obtain ⟨g, g12, e1, e2, e4, e5, e6, e7, e8, e9⟩ := H p pn
      have wp : vp_in (nI p) 12 := vp_in_nI (by omega) (by omega)
      have wg : vp_in (nI g) 12 := vp_in_nI g12 (by omega)
      have cp : (nI p).toNatClampNeg = p := nI_clamp (by omega)
      have cg : (nI g).toNatClampNeg = g := nI_clamp (by omega)
      by_cases w0 : v2 < 0
      · refine ⟨0, fun post K => br_f h0 (br_t h1 ⟨wp, nm_e (br_t w0 K)⟩), fun post K => br_f h0 (br_t h1 (br_f (fun z => ?_) (br_f (fun z => ?_) (br_t ?_ K))))⟩
        · rw [z] at w0; exact absurd w0 (by decide)
        · rw [z] at w0; exact absurd w0 (by decide)
        · exact Int32.lt_trans w0 (by decide)
      · by_cases w6 : 6 < v2
        · refine ⟨0, fun post K => br_f h0 (br_t h1 ⟨wp, nm_e (br_f w0 (br_t w6 K))⟩), fun post K => br_f h0 (br_t h1 (br_f (fun z => ?_) (br_f (fun z => ?_) (br_f (fun z => ?_) (br_t w6 K)))))⟩
          · rw [z] at w6; exact absurd w6 (by decide)
          · rw [z] at w6; exact absurd w6 (by decide)
          · exact absurd (Int32.lt_trans w6 z) (by decide)
        · obtain ⟨j, hj, rfl⟩ := gp_06 w0 w6
          have stat : ∀ q, q < 5 → nI j = nI (q + 2) → ∀ post : Int64 → Prop, post (b_gStat (5 * p + q)) → wpY_group post (y_top, nI n, y_full, y_passed, b_cells, b_count, b_tok, b_con, b_len, b_num, b_isNull, b_gNull, b_gKey, b_gStat) (nI p) (nI j) := by
            intro q hq ej post K
            have jj : j = q + 2 := zb_inj ej (by omega) (by omega)
            subst jj
            have ex : 5 * nI p + nI (q + 2) - 2 = nI (5 * p + q) := by
              rw [show (5 : Int32) = nI 5 from rfl, show (2 : Int32) = nI 2 from rfl, pk_mul, nI_add, pk_sub (by omega)]
              congr 1
            refine br_f h0 (br_t h1 (br_f (zb_ne (b := 0) (by omega) (by omega) (by omega)) (br_f (zb_ne (b := 1) (by omega) (by omega) (by omega)) (br_f (nI_nlt (b := 2) (by omega) (by omega)) (br_f w6 ?_)))))
            rw [ex, nI_clamp (show 5 * p + q < 2 ^ 31 by omega)]
            exact ⟨vp_in_nI (by omega) (by omega), K⟩
          have hx : ∀ (post : Int64 → Prop), (∀ x3, x3 = a_sorted (nI p).toNatClampNeg → x3 = nI g) := fun _ x3 h => by rw [h, cp, e1]
          rcases (show j = 0 ∨ j = 1 ∨ j = 2 ∨ j = 3 ∨ j = 4 ∨ j = 5 ∨ j = 6 by omega) with rfl | rfl | rfl | rfl | rfl | rfl | rfl
          · by_cases z : b_gNull p = 0
            · refine ⟨0, fun post K => br_f h0 (br_t h1 ⟨wp, nm_r (e' := nI g) (by rw [cp, e1]) (br_f w0 (br_f w6 (br_t rfl ⟨wg, br_t ?_ K⟩)))⟩), fun post K => br_f h0 (br_t h1 (br_t rfl ⟨wp, br_t ?_ K⟩))⟩
              · rw [cg, e2]; exact z
              · rw [cp]; exact z
            · refine ⟨1, fun post K => br_f h0 (br_t h1 ⟨wp, nm_r (e' := nI g) (by rw [cp, e1]) (br_f w0 (br_f w6 (br_t rfl ⟨wg, br_f ?_ K⟩)))⟩), fun post K => br_f h0 (br_t h1 (br_t rfl ⟨wp, br_f ?_ K⟩))⟩
              · rw [cg, e2]; exact z
              · rw [cp]; exact z
          · refine ⟨b_gKey p, fun post K => br_f h0 (br_t h1 ⟨wp, nm_r (e' := nI g) (by rw [cp, e1]) (br_f w0 (br_f w6 (br_f (by decide) (br_t rfl ⟨wg, ?_⟩))))⟩), fun post K => br_f h0 (br_t h1 (br_f (by decide) (br_t rfl ⟨wp, ?_⟩)))⟩
            · rw [cg, e4]; exact K
            · rw [cp]; exact K
          · refine ⟨b_gStat (5 * p + 0), fun post K => br_f h0 (br_t h1 ⟨wp, nm_r (e' := nI g) (by rw [cp, e1]) (br_f w0 (br_f w6 (br_f (by decide) (br_f (by decide) (br_t rfl ⟨wg, ?_⟩)))))⟩), stat 0 (by omega) rfl⟩
            rw [cg, e5]; exact K
          · refine ⟨b_gStat (5 * p + 1), fun post K => br_f h0 (br_t h1 ⟨wp, nm_r (e' := nI g) (by rw [cp, e1]) (br_f w0 (br_f w6 (br_f (by decide) (br_f (by decide) (br_f (by decide) (br_t rfl ⟨wg, ?_⟩))))))⟩), stat 1 (by omega) rfl⟩
            rw [cg, e6]; exact K
          · refine ⟨b_gStat (5 * p + 2), fun post K => br_f h0 (br_t h1 ⟨wp, nm_r (e' := nI g) (by rw [cp, e1]) (br_f w0 (br_f w6 (br_f (by decide) (br_f (by decide) (br_f (by decide) (br_f (by decide) (br_t rfl ⟨wg, ?_⟩)))))))⟩), stat 2 (by omega) rfl⟩
            rw [cg, e7]; exact K
          · refine ⟨b_gStat (5 * p + 3), fun post K => br_f h0 (br_t h1 ⟨wp, nm_r (e' := nI g) (by rw [cp, e1]) (br_f w0 (br_f w6 (br_f (by decide) (br_f (by decide) (br_f (by decide) (br_f (by decide) (br_f (by decide) (br_t rfl ⟨wg, ?_⟩))))))))⟩), stat 3 (by omega) rfl⟩
            rw [cg, e8]; exact K
          · refine ⟨b_gStat (5 * p + 4), fun post K => br_f h0 (br_t h1 ⟨wp, nm_r (e' := nI g) (by rw [cp, e1]) (br_f w0 (br_f w6 (br_f (by decide) (br_f (by decide) (br_f (by decide) (br_f (by decide) (br_f (by decide) (br_f (by decide) (br_t rfl ⟨wg, ?_⟩)))))))))⟩), stat 4 (by omega) rfl⟩
            rw [cg, e9]; exact K
    · exact ⟨0, fun post K => br_f h0 (br_f h1 K), fun post K => br_f h0 (br_f h1 K)⟩
end RLG
end
section
/-! ===== the owed statements: tables, tokens, groups ===== -/
section VCS
variable {f_nodes f_filterRoot f_valueRoot f_keyRoot f_partCount f_groups f_passed f_overflow : Int32}
variable {a_cells a_live a_zoneLeast a_zoneMost a_tokens a_constants a_lengths a_nodeOp a_nodeA a_nodeB a_nodeC a_needs a_wanted a_state a_work a_parts a_heads a_chain a_places a_sorted a_groupNull a_groupPairs a_groupValues : Nat → Int32}
variable {a_value a_groupKey a_groupSum a_groupLeast a_groupMost : Nat → Int64}
variable {y_top y_groups y_full y_passed : Int32}
variable {b_cells b_count b_tok b_con b_len b_isNull b_gNull : Nat → Int32}
variable {b_num b_gKey b_gStat : Nat → Int64}
variable {k : Nat}
theorem rl_insert {v1 v2 v3 v4 : Int32} (H : ∃ (E : Nat → (Nat → Int32) → VV) (n : Nat → Nat) (R : Nat → Nat → Nat → Int32), tk_rel E a_tokens a_constants a_lengths b_tok b_con b_len ∧ xk_ok f_nodes f_filterRoot f_valueRoot f_keyRoot f_partCount a_nodeOp a_nodeA a_nodeB a_nodeC a_needs a_wanted a_state a_parts a_value (E 0) (E 1) (E 2) ∧ rl_tab n R a_cells a_live a_zoneLeast a_zoneMost b_cells b_count ∧ rg_ok f_groups f_passed a_sorted a_groupNull a_groupKey a_groupPairs a_groupValues a_groupSum a_groupLeast a_groupMost y_groups y_passed b_gNull b_gKey b_gStat) : wpX_insert (fun r u' => wpY_insert (fun r' v' => r' = r ∧ i_Rel k u' v') (y_top, y_groups, y_full, y_passed, b_cells, b_count, b_tok, b_con, b_len, b_num, b_isNull, b_gNull, b_gKey, b_gStat) v1 v2 v3 v4) (f_nodes, f_filterRoot, f_valueRoot, f_keyRoot, f_partCount, f_groups, f_passed, f_overflow, a_cells, a_live, a_zoneLeast, a_zoneMost, a_tokens, a_constants, a_lengths, a_nodeOp, a_nodeA, a_nodeB, a_nodeC, a_needs, a_wanted, a_value, a_state, a_work, a_parts, a_heads, a_chain, a_places, a_sorted, a_groupNull, a_groupKey, a_groupPairs, a_groupValues, a_groupSum, a_groupLeast, a_groupMost) v1 v2 v3 v4 := by
  have H' : i_Rel k (f_nodes, f_filterRoot, f_valueRoot, f_keyRoot, f_partCount, f_groups, f_passed, f_overflow, a_cells, a_live, a_zoneLeast, a_zoneMost, a_tokens, a_constants, a_lengths, a_nodeOp, a_nodeA, a_nodeB, a_nodeC, a_needs, a_wanted, a_value, a_state, a_work, a_parts, a_heads, a_chain, a_places, a_sorted, a_groupNull, a_groupKey, a_groupPairs, a_groupValues, a_groupSum, a_groupLeast, a_groupMost) (y_top, y_groups, y_full, y_passed, b_cells, b_count, b_tok, b_con, b_len, b_num, b_isNull, b_gNull, b_gKey, b_gStat) := H
  obtain ⟨E, n, R, h1, h2, h3, h4⟩ := H
  have go : ∀ t, t < 2 → wpX_insert (fun r u' => wpY_insert (fun r' v' => r' = r ∧ i_Rel k u' v') (y_top, y_groups, y_full, y_passed, b_cells, b_count, b_tok, b_con, b_len, b_num, b_isNull, b_gNull, b_gKey, b_gStat) (nI t) v2 v3 v4) (f_nodes, f_filterRoot, f_valueRoot, f_keyRoot, f_partCount, f_groups, f_passed, f_overflow, a_cells, a_live, a_zoneLeast, a_zoneMost, a_tokens, a_constants, a_lengths, a_nodeOp, a_nodeA, a_nodeB, a_nodeC, a_needs, a_wanted, a_value, a_state, a_work, a_parts, a_heads, a_chain, a_places, a_sorted, a_groupNull, a_groupKey, a_groupPairs, a_groupValues, a_groupSum, a_groupLeast, a_groupMost) (nI t) v2 v3 v4 := by
    intro t ht
    obtain ⟨x, y⟩ := h3 t ht
    refine xt_insert ht x (fun hn => yt_insert ht y (fun _ => ⟨rfl, H'⟩) (fun q => by omega)) (fun hn cells' live' zl' zm' q1 q2 => yt_insert ht y (fun q => by omega) (fun _ bc bn q3 q4 => ⟨rfl, E, _, _, h1, h2, rl_up ht h3 q1 q2 q3 q4, h4⟩))
  by_cases z0 : v1 = 0
  · subst z0; exact go 0 (by omega)
  · by_cases z1 : v1 = 1
    · subst z1; exact go 1 (by omega)
    · refine br_f z0 (br_f z1 ?_)
      exact br_c (fun _ => ⟨rfl, H'⟩) (fun q0 => br_f (fun q1 => (rl_01 q0 q1).elim z0 z1) ⟨rfl, H'⟩)
theorem rl_remove {v1 v2 : Int32} (H : ∃ (E : Nat → (Nat → Int32) → VV) (n : Nat → Nat) (R : Nat → Nat → Nat → Int32), tk_rel E a_tokens a_constants a_lengths b_tok b_con b_len ∧ xk_ok f_nodes f_filterRoot f_valueRoot f_keyRoot f_partCount a_nodeOp a_nodeA a_nodeB a_nodeC a_needs a_wanted a_state a_parts a_value (E 0) (E 1) (E 2) ∧ rl_tab n R a_cells a_live a_zoneLeast a_zoneMost b_cells b_count ∧ rg_ok f_groups f_passed a_sorted a_groupNull a_groupKey a_groupPairs a_groupValues a_groupSum a_groupLeast a_groupMost y_groups y_passed b_gNull b_gKey b_gStat) : wpX_remove (fun r u' => wpY_remove (fun r' v' => r' = r ∧ i_Rel k u' v') (y_top, y_groups, y_full, y_passed, b_cells, b_count, b_tok, b_con, b_len, b_num, b_isNull, b_gNull, b_gKey, b_gStat) v1 v2) (f_nodes, f_filterRoot, f_valueRoot, f_keyRoot, f_partCount, f_groups, f_passed, f_overflow, a_cells, a_live, a_zoneLeast, a_zoneMost, a_tokens, a_constants, a_lengths, a_nodeOp, a_nodeA, a_nodeB, a_nodeC, a_needs, a_wanted, a_value, a_state, a_work, a_parts, a_heads, a_chain, a_places, a_sorted, a_groupNull, a_groupKey, a_groupPairs, a_groupValues, a_groupSum, a_groupLeast, a_groupMost) v1 v2 := by
  have H' : i_Rel k (f_nodes, f_filterRoot, f_valueRoot, f_keyRoot, f_partCount, f_groups, f_passed, f_overflow, a_cells, a_live, a_zoneLeast, a_zoneMost, a_tokens, a_constants, a_lengths, a_nodeOp, a_nodeA, a_nodeB, a_nodeC, a_needs, a_wanted, a_value, a_state, a_work, a_parts, a_heads, a_chain, a_places, a_sorted, a_groupNull, a_groupKey, a_groupPairs, a_groupValues, a_groupSum, a_groupLeast, a_groupMost) (y_top, y_groups, y_full, y_passed, b_cells, b_count, b_tok, b_con, b_len, b_num, b_isNull, b_gNull, b_gKey, b_gStat) := H
  obtain ⟨E, n, R, h1, h2, h3, h4⟩ := H
  have go : ∀ t, t < 2 → wpX_remove (fun r u' => wpY_remove (fun r' v' => r' = r ∧ i_Rel k u' v') (y_top, y_groups, y_full, y_passed, b_cells, b_count, b_tok, b_con, b_len, b_num, b_isNull, b_gNull, b_gKey, b_gStat) (nI t) v2) (f_nodes, f_filterRoot, f_valueRoot, f_keyRoot, f_partCount, f_groups, f_passed, f_overflow, a_cells, a_live, a_zoneLeast, a_zoneMost, a_tokens, a_constants, a_lengths, a_nodeOp, a_nodeA, a_nodeB, a_nodeC, a_needs, a_wanted, a_value, a_state, a_work, a_parts, a_heads, a_chain, a_places, a_sorted, a_groupNull, a_groupKey, a_groupPairs, a_groupValues, a_groupSum, a_groupLeast, a_groupMost) (nI t) v2 := by
    intro t ht
    obtain ⟨x, y⟩ := h3 t ht
    have n16 := y.1
    refine xt_remove ht x (fun hb => yt_remove ht y (fun _ => ⟨rfl, H'⟩) (fun p hp e => (rl_no hb hp n16 e).elim)) (fun p hp e live' q1 q2 => yt_remove ht y (fun hb => (rl_no hb hp n16 e).elim) (fun p' hp' e' bc bn q3 q4 => ?_))
    have : p' = p := zb_inj (e'.symm.trans e) (by omega) (by omega)
    subst this
    exact ⟨rfl, E, _, _, h1, h2, rl_up ht h3 q1 q2 q3 q4, h4⟩
  by_cases z0 : v1 = 0
  · subst z0; exact go 0 (by omega)
  · by_cases z1 : v1 = 1
    · subst z1; exact go 1 (by omega)
    · refine br_f z0 (br_f z1 ?_)
      exact br_c (fun _ => ⟨rfl, H'⟩) (fun q0 => br_t (Int32.not_le.mp (fun q1 => (rl_01 q0 q1).elim z0 z1)) ⟨rfl, H'⟩)
theorem rl_set {v1 v2 v3 : Int32} (H : ∃ (E : Nat → (Nat → Int32) → VV) (n : Nat → Nat) (R : Nat → Nat → Nat → Int32), tk_rel E a_tokens a_constants a_lengths b_tok b_con b_len ∧ xk_ok f_nodes f_filterRoot f_valueRoot f_keyRoot f_partCount a_nodeOp a_nodeA a_nodeB a_nodeC a_needs a_wanted a_state a_parts a_value (E 0) (E 1) (E 2) ∧ rl_tab n R a_cells a_live a_zoneLeast a_zoneMost b_cells b_count ∧ rg_ok f_groups f_passed a_sorted a_groupNull a_groupKey a_groupPairs a_groupValues a_groupSum a_groupLeast a_groupMost y_groups y_passed b_gNull b_gKey b_gStat) : wpX_set (fun r u' => wpY_set (fun r' v' => r' = r ∧ i_Rel k u' v') (y_top, y_groups, y_full, y_passed, b_cells, b_count, b_tok, b_con, b_len, b_num, b_isNull, b_gNull, b_gKey, b_gStat) v1 v2 v3) (f_nodes, f_filterRoot, f_valueRoot, f_keyRoot, f_partCount, f_groups, f_passed, f_overflow, a_cells, a_live, a_zoneLeast, a_zoneMost, a_tokens, a_constants, a_lengths, a_nodeOp, a_nodeA, a_nodeB, a_nodeC, a_needs, a_wanted, a_value, a_state, a_work, a_parts, a_heads, a_chain, a_places, a_sorted, a_groupNull, a_groupKey, a_groupPairs, a_groupValues, a_groupSum, a_groupLeast, a_groupMost) v1 v2 v3 := by
  have H' : i_Rel k (f_nodes, f_filterRoot, f_valueRoot, f_keyRoot, f_partCount, f_groups, f_passed, f_overflow, a_cells, a_live, a_zoneLeast, a_zoneMost, a_tokens, a_constants, a_lengths, a_nodeOp, a_nodeA, a_nodeB, a_nodeC, a_needs, a_wanted, a_value, a_state, a_work, a_parts, a_heads, a_chain, a_places, a_sorted, a_groupNull, a_groupKey, a_groupPairs, a_groupValues, a_groupSum, a_groupLeast, a_groupMost) (y_top, y_groups, y_full, y_passed, b_cells, b_count, b_tok, b_con, b_len, b_num, b_isNull, b_gNull, b_gKey, b_gStat) := H
  obtain ⟨E, n, R, h1, h2, h3, h4⟩ := H
  by_cases z0 : v1 < 0
  · refine br_t z0 ?_
    unfold wpY_set wpY_find
    dsimp only
    exact br_t z0 (br_f (by decide) ⟨rfl, H'⟩)
  · by_cases z5 : v1 ≤ 5
    · obtain ⟨col, hc, rfl⟩ := nI_of2 (n := 5) (by decide) z0 z5
      obtain ⟨x, y⟩ := h3 (col / 3) (by omega)
      have n16 := y.1
      refine xt_set (by omega) x (fun hb => yt_set (by omega) y (fun _ => ⟨rfl, H'⟩) (fun p hp e => (rl_no hb hp n16 e).elim)) (fun p hp e cells' zl' zm' q1 q2 => yt_set (by omega) y (fun hb => (rl_no hb hp n16 e).elim) (fun p' hp' e' bc q3 q4 => ?_))
      have : p' = p := zb_inj (e'.symm.trans e) (by omega) (by omega)
      subst this
      exact ⟨rfl, E, _, _, h1, h2, rl_up (by omega) h3 q1 q2 q3 q4, h4⟩
    · refine br_f z0 (br_f z5 ?_)
      unfold wpY_set wpY_find
      dsimp only
      exact br_f z0 (br_t (Int32.not_le.mp z5) (br_f (by decide) ⟨rfl, H'⟩))
theorem rl_cell {v1 v2 : Int32} (H : ∃ (E : Nat → (Nat → Int32) → VV) (n : Nat → Nat) (R : Nat → Nat → Nat → Int32), tk_rel E a_tokens a_constants a_lengths b_tok b_con b_len ∧ xk_ok f_nodes f_filterRoot f_valueRoot f_keyRoot f_partCount a_nodeOp a_nodeA a_nodeB a_nodeC a_needs a_wanted a_state a_parts a_value (E 0) (E 1) (E 2) ∧ rl_tab n R a_cells a_live a_zoneLeast a_zoneMost b_cells b_count ∧ rg_ok f_groups f_passed a_sorted a_groupNull a_groupKey a_groupPairs a_groupValues a_groupSum a_groupLeast a_groupMost y_groups y_passed b_gNull b_gKey b_gStat) : wpX_cell (fun r => wpY_cell (fun r' => r' = r ∧ i_Rel k (f_nodes, f_filterRoot, f_valueRoot, f_keyRoot, f_partCount, f_groups, f_passed, f_overflow, a_cells, a_live, a_zoneLeast, a_zoneMost, a_tokens, a_constants, a_lengths, a_nodeOp, a_nodeA, a_nodeB, a_nodeC, a_needs, a_wanted, a_value, a_state, a_work, a_parts, a_heads, a_chain, a_places, a_sorted, a_groupNull, a_groupKey, a_groupPairs, a_groupValues, a_groupSum, a_groupLeast, a_groupMost) (y_top, y_groups, y_full, y_passed, b_cells, b_count, b_tok, b_con, b_len, b_num, b_isNull, b_gNull, b_gKey, b_gStat)) (y_top, y_groups, y_full, y_passed, b_cells, b_count, b_tok, b_con, b_len, b_num, b_isNull, b_gNull, b_gKey, b_gStat) v1 v2) (f_nodes, f_filterRoot, f_valueRoot, f_keyRoot, f_partCount, f_groups, f_passed, f_overflow, a_cells, a_live, a_zoneLeast, a_zoneMost, a_tokens, a_constants, a_lengths, a_nodeOp, a_nodeA, a_nodeB, a_nodeC, a_needs, a_wanted, a_value, a_state, a_work, a_parts, a_heads, a_chain, a_places, a_sorted, a_groupNull, a_groupKey, a_groupPairs, a_groupValues, a_groupSum, a_groupLeast, a_groupMost) v1 v2 := by
  have H' : i_Rel k (f_nodes, f_filterRoot, f_valueRoot, f_keyRoot, f_partCount, f_groups, f_passed, f_overflow, a_cells, a_live, a_zoneLeast, a_zoneMost, a_tokens, a_constants, a_lengths, a_nodeOp, a_nodeA, a_nodeB, a_nodeC, a_needs, a_wanted, a_value, a_state, a_work, a_parts, a_heads, a_chain, a_places, a_sorted, a_groupNull, a_groupKey, a_groupPairs, a_groupValues, a_groupSum, a_groupLeast, a_groupMost) (y_top, y_groups, y_full, y_passed, b_cells, b_count, b_tok, b_con, b_len, b_num, b_isNull, b_gNull, b_gKey, b_gStat) := H
  obtain ⟨E, n, R, h1, h2, h3, h4⟩ := H
  by_cases z0 : v1 < 0
  · refine br_t z0 ?_
    unfold wpY_cell wpY_find
    dsimp only
    exact br_t z0 (br_f (by decide) ⟨rfl, H'⟩)
  · by_cases z5 : v1 ≤ 5
    · obtain ⟨col, hc, rfl⟩ := nI_of2 (n := 5) (by decide) z0 z5
      obtain ⟨x, y⟩ := h3 (col / 3) (by omega)
      have n16 := y.1
      refine xt_cell (by omega) x (fun hb => yt_cell (by omega) y (fun _ => ⟨rfl, H'⟩) (fun p hp e => (rl_no hb hp n16 e).elim)) (fun p hp e => yt_cell (by omega) y (fun hb => (rl_no hb hp n16 e).elim) (fun p' hp' e' => ?_))
      have : p' = p := zb_inj (e'.symm.trans e) (by omega) (by omega)
      subst this
      exact ⟨rfl, H'⟩
    · refine br_f z0 (br_f z5 ?_)
      unfold wpY_cell wpY_find
      dsimp only
      exact br_f z0 (br_t (Int32.not_le.mp z5) (br_f (by decide) ⟨rfl, H'⟩))
theorem rl_rows {v1 : Int32} (H : ∃ (E : Nat → (Nat → Int32) → VV) (n : Nat → Nat) (R : Nat → Nat → Nat → Int32), tk_rel E a_tokens a_constants a_lengths b_tok b_con b_len ∧ xk_ok f_nodes f_filterRoot f_valueRoot f_keyRoot f_partCount a_nodeOp a_nodeA a_nodeB a_nodeC a_needs a_wanted a_state a_parts a_value (E 0) (E 1) (E 2) ∧ rl_tab n R a_cells a_live a_zoneLeast a_zoneMost b_cells b_count ∧ rg_ok f_groups f_passed a_sorted a_groupNull a_groupKey a_groupPairs a_groupValues a_groupSum a_groupLeast a_groupMost y_groups y_passed b_gNull b_gKey b_gStat) : wpX_rows (fun r => wpY_rows (fun r' => r' = r ∧ i_Rel k (f_nodes, f_filterRoot, f_valueRoot, f_keyRoot, f_partCount, f_groups, f_passed, f_overflow, a_cells, a_live, a_zoneLeast, a_zoneMost, a_tokens, a_constants, a_lengths, a_nodeOp, a_nodeA, a_nodeB, a_nodeC, a_needs, a_wanted, a_value, a_state, a_work, a_parts, a_heads, a_chain, a_places, a_sorted, a_groupNull, a_groupKey, a_groupPairs, a_groupValues, a_groupSum, a_groupLeast, a_groupMost) (y_top, y_groups, y_full, y_passed, b_cells, b_count, b_tok, b_con, b_len, b_num, b_isNull, b_gNull, b_gKey, b_gStat)) (y_top, y_groups, y_full, y_passed, b_cells, b_count, b_tok, b_con, b_len, b_num, b_isNull, b_gNull, b_gKey, b_gStat) v1) (f_nodes, f_filterRoot, f_valueRoot, f_keyRoot, f_partCount, f_groups, f_passed, f_overflow, a_cells, a_live, a_zoneLeast, a_zoneMost, a_tokens, a_constants, a_lengths, a_nodeOp, a_nodeA, a_nodeB, a_nodeC, a_needs, a_wanted, a_value, a_state, a_work, a_parts, a_heads, a_chain, a_places, a_sorted, a_groupNull, a_groupKey, a_groupPairs, a_groupValues, a_groupSum, a_groupLeast, a_groupMost) v1 := by
  have H' : i_Rel k (f_nodes, f_filterRoot, f_valueRoot, f_keyRoot, f_partCount, f_groups, f_passed, f_overflow, a_cells, a_live, a_zoneLeast, a_zoneMost, a_tokens, a_constants, a_lengths, a_nodeOp, a_nodeA, a_nodeB, a_nodeC, a_needs, a_wanted, a_value, a_state, a_work, a_parts, a_heads, a_chain, a_places, a_sorted, a_groupNull, a_groupKey, a_groupPairs, a_groupValues, a_groupSum, a_groupLeast, a_groupMost) (y_top, y_groups, y_full, y_passed, b_cells, b_count, b_tok, b_con, b_len, b_num, b_isNull, b_gNull, b_gKey, b_gStat) := H
  obtain ⟨E, n, R, h1, h2, h3, h4⟩ := H
  have go : ∀ t, t < 2 → wpX_rows (fun r => wpY_rows (fun r' => r' = r ∧ i_Rel k (f_nodes, f_filterRoot, f_valueRoot, f_keyRoot, f_partCount, f_groups, f_passed, f_overflow, a_cells, a_live, a_zoneLeast, a_zoneMost, a_tokens, a_constants, a_lengths, a_nodeOp, a_nodeA, a_nodeB, a_nodeC, a_needs, a_wanted, a_value, a_state, a_work, a_parts, a_heads, a_chain, a_places, a_sorted, a_groupNull, a_groupKey, a_groupPairs, a_groupValues, a_groupSum, a_groupLeast, a_groupMost) (y_top, y_groups, y_full, y_passed, b_cells, b_count, b_tok, b_con, b_len, b_num, b_isNull, b_gNull, b_gKey, b_gStat)) (y_top, y_groups, y_full, y_passed, b_cells, b_count, b_tok, b_con, b_len, b_num, b_isNull, b_gNull, b_gKey, b_gStat) (nI t)) (f_nodes, f_filterRoot, f_valueRoot, f_keyRoot, f_partCount, f_groups, f_passed, f_overflow, a_cells, a_live, a_zoneLeast, a_zoneMost, a_tokens, a_constants, a_lengths, a_nodeOp, a_nodeA, a_nodeB, a_nodeC, a_needs, a_wanted, a_value, a_state, a_work, a_parts, a_heads, a_chain, a_places, a_sorted, a_groupNull, a_groupKey, a_groupPairs, a_groupValues, a_groupSum, a_groupLeast, a_groupMost) (nI t) := by
    intro t ht
    obtain ⟨x, y⟩ := h3 t ht
    exact xt_rows ht x (yt_rows ht y ⟨rfl, H'⟩)
  by_cases z0 : v1 = 0
  · subst z0; exact go 0 (by omega)
  · by_cases z1 : v1 = 1
    · subst z1; exact go 1 (by omega)
    · refine br_f z0 (br_f z1 ?_)
      exact br_c (fun _ => ⟨rfl, H'⟩) (fun q0 => br_f (fun q1 => (rl_01 q0 q1).elim z0 z1) ⟨rfl, H'⟩)
theorem rl_put {v1 v2 v3 : Int32} (H : ∃ (E : Nat → (Nat → Int32) → VV) (n : Nat → Nat) (R : Nat → Nat → Nat → Int32), tk_rel E a_tokens a_constants a_lengths b_tok b_con b_len ∧ xk_ok f_nodes f_filterRoot f_valueRoot f_keyRoot f_partCount a_nodeOp a_nodeA a_nodeB a_nodeC a_needs a_wanted a_state a_parts a_value (E 0) (E 1) (E 2) ∧ rl_tab n R a_cells a_live a_zoneLeast a_zoneMost b_cells b_count ∧ rg_ok f_groups f_passed a_sorted a_groupNull a_groupKey a_groupPairs a_groupValues a_groupSum a_groupLeast a_groupMost y_groups y_passed b_gNull b_gKey b_gStat) : wpX_put (fun r u' => wpY_put (fun r' v' => r' = r ∧ i_Rel k u' v') (y_top, y_groups, y_full, y_passed, b_cells, b_count, b_tok, b_con, b_len, b_num, b_isNull, b_gNull, b_gKey, b_gStat) v1 v2 v3) (f_nodes, f_filterRoot, f_valueRoot, f_keyRoot, f_partCount, f_groups, f_passed, f_overflow, a_cells, a_live, a_zoneLeast, a_zoneMost, a_tokens, a_constants, a_lengths, a_nodeOp, a_nodeA, a_nodeB, a_nodeC, a_needs, a_wanted, a_value, a_state, a_work, a_parts, a_heads, a_chain, a_places, a_sorted, a_groupNull, a_groupKey, a_groupPairs, a_groupValues, a_groupSum, a_groupLeast, a_groupMost) v1 v2 v3 := by
  obtain ⟨E, n, R, h1, h2, h3, h4⟩ := H
  obtain ⟨r, t1, t2, t3, s1, s2, s3, q1, q2, q3⟩ := tk_put (f_nodes := f_nodes) (f_filterRoot := f_filterRoot) (f_valueRoot := f_valueRoot) (f_keyRoot := f_keyRoot) (f_partCount := f_partCount) (f_groups := f_groups) (f_passed := f_passed) (f_overflow := f_overflow) (a_cells := a_cells) (a_live := a_live) (a_zoneLeast := a_zoneLeast) (a_zoneMost := a_zoneMost) (a_tokens := a_tokens) (a_constants := a_constants) (a_lengths := a_lengths) (a_nodeOp := a_nodeOp) (a_nodeA := a_nodeA) (a_nodeB := a_nodeB) (a_nodeC := a_nodeC) (a_needs := a_needs) (a_wanted := a_wanted) (a_value := a_value) (a_state := a_state) (a_work := a_work) (a_parts := a_parts) (a_heads := a_heads) (a_chain := a_chain) (a_places := a_places) (a_sorted := a_sorted) (a_groupNull := a_groupNull) (a_groupKey := a_groupKey) (a_groupPairs := a_groupPairs) (a_groupValues := a_groupValues) (a_groupSum := a_groupSum) (a_groupLeast := a_groupLeast) (a_groupMost := a_groupMost) (y_top := y_top) (y_groups := y_groups) (y_full := y_full) (y_passed := y_passed) (b_cells := b_cells) (b_count := b_count) (b_tok := b_tok) (b_con := b_con) (b_len := b_len) (b_num := b_num) (b_isNull := b_isNull) (b_gNull := b_gNull) (b_gKey := b_gKey) (b_gStat := b_gStat) (a := v1) (b := v2) (c := v3) h1
  exact q2 _ (q3 _ ⟨rfl, E, n, R, q1, h2, h3, h4⟩)
theorem rl_constant {v1 : Int32} (H : ∃ (E : Nat → (Nat → Int32) → VV) (n : Nat → Nat) (R : Nat → Nat → Nat → Int32), tk_rel E a_tokens a_constants a_lengths b_tok b_con b_len ∧ xk_ok f_nodes f_filterRoot f_valueRoot f_keyRoot f_partCount a_nodeOp a_nodeA a_nodeB a_nodeC a_needs a_wanted a_state a_parts a_value (E 0) (E 1) (E 2) ∧ rl_tab n R a_cells a_live a_zoneLeast a_zoneMost b_cells b_count ∧ rg_ok f_groups f_passed a_sorted a_groupNull a_groupKey a_groupPairs a_groupValues a_groupSum a_groupLeast a_groupMost y_groups y_passed b_gNull b_gKey b_gStat) : wpX_constant (fun r u' => wpY_constant (fun r' v' => r' = r ∧ i_Rel k u' v') (y_top, y_groups, y_full, y_passed, b_cells, b_count, b_tok, b_con, b_len, b_num, b_isNull, b_gNull, b_gKey, b_gStat) v1) (f_nodes, f_filterRoot, f_valueRoot, f_keyRoot, f_partCount, f_groups, f_passed, f_overflow, a_cells, a_live, a_zoneLeast, a_zoneMost, a_tokens, a_constants, a_lengths, a_nodeOp, a_nodeA, a_nodeB, a_nodeC, a_needs, a_wanted, a_value, a_state, a_work, a_parts, a_heads, a_chain, a_places, a_sorted, a_groupNull, a_groupKey, a_groupPairs, a_groupValues, a_groupSum, a_groupLeast, a_groupMost) v1 := by
  obtain ⟨E, n, R, h1, h2, h3, h4⟩ := H
  obtain ⟨r, t1, t2, t3, s1, s2, s3, q1, q2, q3⟩ := tk_const (f_nodes := f_nodes) (f_filterRoot := f_filterRoot) (f_valueRoot := f_valueRoot) (f_keyRoot := f_keyRoot) (f_partCount := f_partCount) (f_groups := f_groups) (f_passed := f_passed) (f_overflow := f_overflow) (a_cells := a_cells) (a_live := a_live) (a_zoneLeast := a_zoneLeast) (a_zoneMost := a_zoneMost) (a_tokens := a_tokens) (a_constants := a_constants) (a_lengths := a_lengths) (a_nodeOp := a_nodeOp) (a_nodeA := a_nodeA) (a_nodeB := a_nodeB) (a_nodeC := a_nodeC) (a_needs := a_needs) (a_wanted := a_wanted) (a_value := a_value) (a_state := a_state) (a_work := a_work) (a_parts := a_parts) (a_heads := a_heads) (a_chain := a_chain) (a_places := a_places) (a_sorted := a_sorted) (a_groupNull := a_groupNull) (a_groupKey := a_groupKey) (a_groupPairs := a_groupPairs) (a_groupValues := a_groupValues) (a_groupSum := a_groupSum) (a_groupLeast := a_groupLeast) (a_groupMost := a_groupMost) (y_top := y_top) (y_groups := y_groups) (y_full := y_full) (y_passed := y_passed) (b_cells := b_cells) (b_count := b_count) (b_tok := b_tok) (b_con := b_con) (b_len := b_len) (b_num := b_num) (b_isNull := b_isNull) (b_gNull := b_gNull) (b_gKey := b_gKey) (b_gStat := b_gStat) (a := v1) h1
  exact q2 _ (q3 _ ⟨rfl, E, n, R, q1, h2, h3, h4⟩)
theorem rl_use {v1 : Int32} (H : ∃ (E : Nat → (Nat → Int32) → VV) (n : Nat → Nat) (R : Nat → Nat → Nat → Int32), tk_rel E a_tokens a_constants a_lengths b_tok b_con b_len ∧ xk_ok f_nodes f_filterRoot f_valueRoot f_keyRoot f_partCount a_nodeOp a_nodeA a_nodeB a_nodeC a_needs a_wanted a_state a_parts a_value (E 0) (E 1) (E 2) ∧ rl_tab n R a_cells a_live a_zoneLeast a_zoneMost b_cells b_count ∧ rg_ok f_groups f_passed a_sorted a_groupNull a_groupKey a_groupPairs a_groupValues a_groupSum a_groupLeast a_groupMost y_groups y_passed b_gNull b_gKey b_gStat) : wpX_use (fun r u' => wpY_use (fun r' v' => r' = r ∧ i_Rel k u' v') (y_top, y_groups, y_full, y_passed, b_cells, b_count, b_tok, b_con, b_len, b_num, b_isNull, b_gNull, b_gKey, b_gStat) v1) (f_nodes, f_filterRoot, f_valueRoot, f_keyRoot, f_partCount, f_groups, f_passed, f_overflow, a_cells, a_live, a_zoneLeast, a_zoneMost, a_tokens, a_constants, a_lengths, a_nodeOp, a_nodeA, a_nodeB, a_nodeC, a_needs, a_wanted, a_value, a_state, a_work, a_parts, a_heads, a_chain, a_places, a_sorted, a_groupNull, a_groupKey, a_groupPairs, a_groupValues, a_groupSum, a_groupLeast, a_groupMost) v1 := by
  obtain ⟨E, n, R, h1, h2, h3, h4⟩ := H
  obtain ⟨r, E', t1, t2, t3, s1, s2, s3, q1, q2, q3⟩ := tk_use (f_nodes := f_nodes) (f_filterRoot := f_filterRoot) (f_valueRoot := f_valueRoot) (f_keyRoot := f_keyRoot) (f_partCount := f_partCount) (f_groups := f_groups) (f_passed := f_passed) (f_overflow := f_overflow) (a_cells := a_cells) (a_live := a_live) (a_zoneLeast := a_zoneLeast) (a_zoneMost := a_zoneMost) (a_tokens := a_tokens) (a_constants := a_constants) (a_lengths := a_lengths) (a_nodeOp := a_nodeOp) (a_nodeA := a_nodeA) (a_nodeB := a_nodeB) (a_nodeC := a_nodeC) (a_needs := a_needs) (a_wanted := a_wanted) (a_value := a_value) (a_state := a_state) (a_work := a_work) (a_parts := a_parts) (a_heads := a_heads) (a_chain := a_chain) (a_places := a_places) (a_sorted := a_sorted) (a_groupNull := a_groupNull) (a_groupKey := a_groupKey) (a_groupPairs := a_groupPairs) (a_groupValues := a_groupValues) (a_groupSum := a_groupSum) (a_groupLeast := a_groupLeast) (a_groupMost := a_groupMost) (y_top := y_top) (y_groups := y_groups) (y_full := y_full) (y_passed := y_passed) (b_cells := b_cells) (b_count := b_count) (b_tok := b_tok) (b_con := b_con) (b_len := b_len) (b_num := b_num) (b_isNull := b_isNull) (b_gNull := b_gNull) (b_gKey := b_gKey) (b_gStat := b_gStat) (x := v1) h1
  exact q2 _ h2 (fun nodes F V Q pc op A B C nd W st wk parts vl hk => q3 _ (fun top num => ⟨rfl, E', n, R, q1, hk, h3, h4⟩))
theorem rl_grp {v1 v2 : Int32} (H : ∃ (E : Nat → (Nat → Int32) → VV) (n : Nat → Nat) (R : Nat → Nat → Nat → Int32), tk_rel E a_tokens a_constants a_lengths b_tok b_con b_len ∧ xk_ok f_nodes f_filterRoot f_valueRoot f_keyRoot f_partCount a_nodeOp a_nodeA a_nodeB a_nodeC a_needs a_wanted a_state a_parts a_value (E 0) (E 1) (E 2) ∧ rl_tab n R a_cells a_live a_zoneLeast a_zoneMost b_cells b_count ∧ rg_ok f_groups f_passed a_sorted a_groupNull a_groupKey a_groupPairs a_groupValues a_groupSum a_groupLeast a_groupMost y_groups y_passed b_gNull b_gKey b_gStat) : wpX_group (fun r => wpY_group (fun r' => r' = r ∧ i_Rel k (f_nodes, f_filterRoot, f_valueRoot, f_keyRoot, f_partCount, f_groups, f_passed, f_overflow, a_cells, a_live, a_zoneLeast, a_zoneMost, a_tokens, a_constants, a_lengths, a_nodeOp, a_nodeA, a_nodeB, a_nodeC, a_needs, a_wanted, a_value, a_state, a_work, a_parts, a_heads, a_chain, a_places, a_sorted, a_groupNull, a_groupKey, a_groupPairs, a_groupValues, a_groupSum, a_groupLeast, a_groupMost) (y_top, y_groups, y_full, y_passed, b_cells, b_count, b_tok, b_con, b_len, b_num, b_isNull, b_gNull, b_gKey, b_gStat)) (y_top, y_groups, y_full, y_passed, b_cells, b_count, b_tok, b_con, b_len, b_num, b_isNull, b_gNull, b_gKey, b_gStat) v1 v2) (f_nodes, f_filterRoot, f_valueRoot, f_keyRoot, f_partCount, f_groups, f_passed, f_overflow, a_cells, a_live, a_zoneLeast, a_zoneMost, a_tokens, a_constants, a_lengths, a_nodeOp, a_nodeA, a_nodeB, a_nodeC, a_needs, a_wanted, a_value, a_state, a_work, a_parts, a_heads, a_chain, a_places, a_sorted, a_groupNull, a_groupKey, a_groupPairs, a_groupValues, a_groupSum, a_groupLeast, a_groupMost) v1 v2 := by
  have H' : i_Rel k (f_nodes, f_filterRoot, f_valueRoot, f_keyRoot, f_partCount, f_groups, f_passed, f_overflow, a_cells, a_live, a_zoneLeast, a_zoneMost, a_tokens, a_constants, a_lengths, a_nodeOp, a_nodeA, a_nodeB, a_nodeC, a_needs, a_wanted, a_value, a_state, a_work, a_parts, a_heads, a_chain, a_places, a_sorted, a_groupNull, a_groupKey, a_groupPairs, a_groupValues, a_groupSum, a_groupLeast, a_groupMost) (y_top, y_groups, y_full, y_passed, b_cells, b_count, b_tok, b_con, b_len, b_num, b_isNull, b_gNull, b_gKey, b_gStat) := H
  obtain ⟨E, n, R, h1, h2, h3, h4⟩ := H
  obtain ⟨r, q1, q2⟩ := rl_group (f_nodes := f_nodes) (f_filterRoot := f_filterRoot) (f_valueRoot := f_valueRoot) (f_keyRoot := f_keyRoot) (f_partCount := f_partCount) (f_groups := f_groups) (f_passed := f_passed) (f_overflow := f_overflow) (a_cells := a_cells) (a_live := a_live) (a_zoneLeast := a_zoneLeast) (a_zoneMost := a_zoneMost) (a_tokens := a_tokens) (a_constants := a_constants) (a_lengths := a_lengths) (a_nodeOp := a_nodeOp) (a_nodeA := a_nodeA) (a_nodeB := a_nodeB) (a_nodeC := a_nodeC) (a_needs := a_needs) (a_wanted := a_wanted) (a_value := a_value) (a_state := a_state) (a_work := a_work) (a_parts := a_parts) (a_heads := a_heads) (a_chain := a_chain) (a_places := a_places) (a_sorted := a_sorted) (a_groupNull := a_groupNull) (a_groupKey := a_groupKey) (a_groupPairs := a_groupPairs) (a_groupValues := a_groupValues) (a_groupSum := a_groupSum) (a_groupLeast := a_groupLeast) (a_groupMost := a_groupMost) (y_top := y_top) (y_groups := y_groups) (y_full := y_full) (y_passed := y_passed) (b_cells := b_cells) (b_count := b_count) (b_tok := b_tok) (b_con := b_con) (b_len := b_len) (b_num := b_num) (b_isNull := b_isNull) (b_gNull := b_gNull) (b_gKey := b_gKey) (b_gStat := b_gStat) (v1 := v1) (v2 := v2) h4
  exact q1 _ (q2 _ ⟨rfl, H'⟩)
theorem rl_passed (H : ∃ (E : Nat → (Nat → Int32) → VV) (n : Nat → Nat) (R : Nat → Nat → Nat → Int32), tk_rel E a_tokens a_constants a_lengths b_tok b_con b_len ∧ xk_ok f_nodes f_filterRoot f_valueRoot f_keyRoot f_partCount a_nodeOp a_nodeA a_nodeB a_nodeC a_needs a_wanted a_state a_parts a_value (E 0) (E 1) (E 2) ∧ rl_tab n R a_cells a_live a_zoneLeast a_zoneMost b_cells b_count ∧ rg_ok f_groups f_passed a_sorted a_groupNull a_groupKey a_groupPairs a_groupValues a_groupSum a_groupLeast a_groupMost y_groups y_passed b_gNull b_gKey b_gStat) : wpX_passed (fun r => wpY_passed (fun r' => r' = r ∧ i_Rel k (f_nodes, f_filterRoot, f_valueRoot, f_keyRoot, f_partCount, f_groups, f_passed, f_overflow, a_cells, a_live, a_zoneLeast, a_zoneMost, a_tokens, a_constants, a_lengths, a_nodeOp, a_nodeA, a_nodeB, a_nodeC, a_needs, a_wanted, a_value, a_state, a_work, a_parts, a_heads, a_chain, a_places, a_sorted, a_groupNull, a_groupKey, a_groupPairs, a_groupValues, a_groupSum, a_groupLeast, a_groupMost) (y_top, y_groups, y_full, y_passed, b_cells, b_count, b_tok, b_con, b_len, b_num, b_isNull, b_gNull, b_gKey, b_gStat)) (y_top, y_groups, y_full, y_passed, b_cells, b_count, b_tok, b_con, b_len, b_num, b_isNull, b_gNull, b_gKey, b_gStat)) (f_nodes, f_filterRoot, f_valueRoot, f_keyRoot, f_partCount, f_groups, f_passed, f_overflow, a_cells, a_live, a_zoneLeast, a_zoneMost, a_tokens, a_constants, a_lengths, a_nodeOp, a_nodeA, a_nodeB, a_nodeC, a_needs, a_wanted, a_value, a_state, a_work, a_parts, a_heads, a_chain, a_places, a_sorted, a_groupNull, a_groupKey, a_groupPairs, a_groupValues, a_groupSum, a_groupLeast, a_groupMost) := by
  have H' : i_Rel k (f_nodes, f_filterRoot, f_valueRoot, f_keyRoot, f_partCount, f_groups, f_passed, f_overflow, a_cells, a_live, a_zoneLeast, a_zoneMost, a_tokens, a_constants, a_lengths, a_nodeOp, a_nodeA, a_nodeB, a_nodeC, a_needs, a_wanted, a_value, a_state, a_work, a_parts, a_heads, a_chain, a_places, a_sorted, a_groupNull, a_groupKey, a_groupPairs, a_groupValues, a_groupSum, a_groupLeast, a_groupMost) (y_top, y_groups, y_full, y_passed, b_cells, b_count, b_tok, b_con, b_len, b_num, b_isNull, b_gNull, b_gKey, b_gStat) := H
  obtain ⟨E, n, R, h1, h2, h3, h4⟩ := H
  exact ⟨h4.1.symm, H'⟩
end VCS
end
section
/-! ===== the owed statement: run ===== -/
/-- X's groups in X's order are Y's -/
theorem rl_lists {gs : GS} {sl : List Nat} {ly : GL} (hsl : List.Perm sl (List.range gs.1.length)) (hs : so_srt (fun g => (gs.1.getD g gr_d).1) sl) (pm : ly.Perm gs.1) (hy : gr_srt ly) : ∀ p, p < gs.1.length → ly.getD p gr_d = gs.1.getD (sl.getD p 0) gr_d := by
  have len : sl.length = gs.1.length := by rw [hsl.length_eq, List.length_range]
  have e1 : (List.range gs.1.length).map (fun g => gs.1.getD g gr_d) = gs.1 := by
    apply List.ext_getElem?
    intro i
    rw [List.getElem?_map]
    by_cases h : i < gs.1.length
    · rw [List.getElem?_range h, gr_get h]; rfl
    · rw [List.getElem?_eq_none (by rw [List.length_range]; omega), List.getElem?_eq_none (by omega)]; rfl
  have p1 : (sl.map (fun g => gs.1.getD g gr_d)).Perm gs.1 := by
    have := hsl.map (fun g => gs.1.getD g gr_d)
    rw [e1] at this; exact this
  have s1 : gr_srt (sl.map (fun g => gs.1.getD g gr_d)) := List.pairwise_map.mpr hs
  have eq := gr_uniq hy s1 (pm.trans p1.symm)
  intro p hp
  rw [eq, List.getD_eq_getElem?_getD, List.getElem?_map, tb_getD (show p < sl.length by omega)]; rfl
section VCR
variable {f_nodes f_filterRoot f_valueRoot f_keyRoot f_partCount f_groups f_passed f_overflow : Int32}
variable {a_cells a_live a_zoneLeast a_zoneMost a_tokens a_constants a_lengths a_nodeOp a_nodeA a_nodeB a_nodeC a_needs a_wanted a_state a_work a_parts a_heads a_chain a_places a_sorted a_groupNull a_groupPairs a_groupValues : Nat → Int32}
variable {a_value a_groupKey a_groupSum a_groupLeast a_groupMost : Nat → Int64}
variable {y_top y_groups y_full y_passed : Int32}
variable {b_cells b_count b_tok b_con b_len b_isNull b_gNull : Nat → Int32}
variable {b_num b_gKey b_gStat : Nat → Int64}
variable {k : Nat}
theorem rl_run {v1 v2 v3 : Int32} (H : ∃ (E : Nat → (Nat → Int32) → VV) (n : Nat → Nat) (R : Nat → Nat → Nat → Int32), tk_rel E a_tokens a_constants a_lengths b_tok b_con b_len ∧ xk_ok f_nodes f_filterRoot f_valueRoot f_keyRoot f_partCount a_nodeOp a_nodeA a_nodeB a_nodeC a_needs a_wanted a_state a_parts a_value (E 0) (E 1) (E 2) ∧ rl_tab n R a_cells a_live a_zoneLeast a_zoneMost b_cells b_count ∧ rg_ok f_groups f_passed a_sorted a_groupNull a_groupKey a_groupPairs a_groupValues a_groupSum a_groupLeast a_groupMost y_groups y_passed b_gNull b_gKey b_gStat) : wpX_run (fun r u' => wpY_run (fun r' v' => r' = r ∧ i_Rel k u' v') (y_top, y_groups, y_full, y_passed, b_cells, b_count, b_tok, b_con, b_len, b_num, b_isNull, b_gNull, b_gKey, b_gStat) v1 v2 v3) (f_nodes, f_filterRoot, f_valueRoot, f_keyRoot, f_partCount, f_groups, f_passed, f_overflow, a_cells, a_live, a_zoneLeast, a_zoneMost, a_tokens, a_constants, a_lengths, a_nodeOp, a_nodeA, a_nodeB, a_nodeC, a_needs, a_wanted, a_value, a_state, a_work, a_parts, a_heads, a_chain, a_places, a_sorted, a_groupNull, a_groupKey, a_groupPairs, a_groupValues, a_groupSum, a_groupLeast, a_groupMost) v1 v2 v3 := by
  have H' : i_Rel k (f_nodes, f_filterRoot, f_valueRoot, f_keyRoot, f_partCount, f_groups, f_passed, f_overflow, a_cells, a_live, a_zoneLeast, a_zoneMost, a_tokens, a_constants, a_lengths, a_nodeOp, a_nodeA, a_nodeB, a_nodeC, a_needs, a_wanted, a_value, a_state, a_work, a_parts, a_heads, a_chain, a_places, a_sorted, a_groupNull, a_groupKey, a_groupPairs, a_groupValues, a_groupSum, a_groupLeast, a_groupMost) (y_top, y_groups, y_full, y_passed, b_cells, b_count, b_tok, b_con, b_len, b_num, b_isNull, b_gNull, b_gKey, b_gStat) := H
  obtain ⟨E, n, R, h1, h2, h3, h4⟩ := H
  by_cases a0 : v1 < 0
  · exact br_t a0 (br_t a0 ⟨rfl, H'⟩)
  by_cases a2 : 2 < v1
  · exact br_f a0 (br_t a2 (br_f a0 (br_t a2 ⟨rfl, H'⟩)))
  by_cases b0 : v2 < 0
  · exact br_f a0 (br_f a2 (br_t b0 (br_f a0 (br_f a2 (br_t b0 ⟨rfl, H'⟩)))))
  by_cases b2 : 2 < v2
  · exact br_f a0 (br_f a2 (br_f b0 (br_t b2 (br_f a0 (br_f a2 (br_f b0 (br_t b2 ⟨rfl, H'⟩)))))))
  by_cases c3 : v3 < 3
  · exact br_f a0 (br_f a2 (br_f b0 (br_f b2 (br_t c3 (br_f a0 (br_f a2 (br_f b0 (br_f b2 (br_t c3 ⟨rfl, H'⟩)))))))))
  by_cases c5 : v3 ≤ 5
  · obtain ⟨mode, hm, rfl⟩ := us_3 a0 a2
    obtain ⟨l, hl, rfl⟩ := us_3 b0 b2
    obtain ⟨r, hr, rfl⟩ : ∃ r, r < 3 ∧ v3 = nI (r + 3) := by
      obtain ⟨j, hj, rfl⟩ := nI_of2 (n := 5) (by decide) (fun z => c3 (Int32.lt_trans z (by decide))) c5
      have : ¬ j < 3 := fun z => c3 (nI_lt (b := 3) z (by decide))
      exact ⟨j - 3, by omega, by rw [show j - 3 + 3 = j by omega]⟩
    obtain ⟨N, D, T, f, v, kk, ps, e1, e2, e3, e4, e5, C⟩ := h2
    subst e1; subst e2; subst e3; subst e4; subst e5
    obtain ⟨⟨m0, x1, x2, x3, x4, x5⟩, y0⟩ := h3 0 (by omega)
    obtain ⟨⟨m1, z1, z2, z3, z4, z5⟩, y1⟩ := h3 1 (by omega)
    obtain ⟨lt, tl⟩ := id h1
    have hE := tl.2.2.2.2.2
    have hov : ∀ env, mq_ov false (E 2 env) := fun env => xk_tk_ov (hE 2 (by omega)) env
    have hm' : mode ≤ 2 := by omega
    have gok := rn_all_ok (E := E) hov (n1 := n 1) (R0 := R 0) (R1 := R 1) (mode := mode) (l := l) (r := r) y1.1 (n 0)
    have n016 := y0.1
    refine xn_run (m0 := m0) (n0 := n 0) (m1 := m1) (n1 := n 1) (R0 := R 0) (R1 := R 1) C x1 x2 x3 x4 z1 z3 z4 hl hr hm' hov z2 x5 (fun heads chain fg fp fo pl gN gK gP gV gS gL gM st vl G U => ?_)
    have C2 := xk_pg_st C U
    obtain ⟨G1, G2, G3, G4, G5⟩ := G
    cases ov : (rn_all E (n 1) (R 0) (R 1) mode l r (n 0)).2.1 with
    | true =>
      rw [ov, if_pos rfl] at G3
      subst G3
      refine br_f (by decide) ?_
      refine yn_run hE hov y0 y1 hm' hl hr (fun top groups full passed num nul bN bK bS hR => ?_)
      obtain ⟨p1, _, p3⟩ := hR
      obtain ⟨q1, q2⟩ := p3 ov
      subst q1
      refine br_f (by decide) ⟨rfl, E, n, R, h1, ⟨N, D, T, f, v, kk, ps, rfl, rfl, rfl, rfl, rfl, C2⟩, h3, G2.trans p1.symm, 0, by omega, rfl, ?_, fun p hp => absurd hp (Nat.not_lt_zero _)⟩
      rw [if_neg (by decide)]; rfl
    | false =>
      rw [ov, if_neg (by decide)] at G3
      subst G3
      subst G1
      obtain ⟨g1, g2, g3⟩ := gok.1
      refine br_t rfl (xo_sort (l := (rn_all E (n 1) (R 0) (R 1) mode l r (n 0)).1) g3 (fun g hg => (g1 _ (gr_mem hg)).2.2) g2 G4 (fun so sl s1 s2 s3 => ?_))
      refine yn_run hE hov y0 y1 hm' hl hr (fun top groups full passed num nul bN bK bS hR => ?_)
      obtain ⟨p1, p2, _⟩ := hR
      obtain ⟨q1, ly, pm, srt, q2, yat⟩ := p2 ov
      subst q1; subst q2
      have ll : ly.length = (rn_all E (n 1) (R 0) (R 1) mode l r (n 0)).1.length := pm.length_eq
      have slen : sl.length = (rn_all E (n 1) (R 0) (R 1) mode l r (n 0)).1.length := by rw [s1.length_eq, List.length_range]
      refine br_t rfl ?_
      rw [if_pos rfl]
      refine ⟨by rw [ll], E, n, R, h1, ⟨N, D, T, f, v, kk, ps, rfl, rfl, rfl, rfl, rfl, C2⟩, h3, G2.trans p1.symm, (rn_all E (n 1) (R 0) (R 1) mode l r (n 0)).1.length, g3, rfl, by rw [ll], fun p hp => ?_⟩
      have eq := rl_lists (gs := rn_all E (n 1) (R 0) (R 1) mode l r (n 0)) s1 s2 pm srt p hp
      have gl : sl.getD p 0 < (rn_all E (n 1) (R 0) (R 1) mode l r (n 0)).1.length := List.mem_range.mp (s1.mem_iff.mp (tb_gm (by omega)))
      have xr := G4 _ gl
      have yr := yat p (by omega)
      rw [eq] at yr
      have bd := g1 _ (gr_mem gl)
      obtain ⟨c1, c2, c3, c4, c5, c6, c7⟩ := xr
      obtain ⟨d1, d2, d3, d4, d5, d6, d7⟩ := yr
      refine ⟨sl.getD p 0, by omega, s3 p hp, c1.trans d1.symm, c2.trans d2.symm, ?_, ?_, c5.trans d5.symm, c6.trans d6.symm, c7.trans d7.symm⟩
      · rw [c3, nI_l (by omega), d3]
      · rw [c4, nI_l (by omega), d4]
  · exact br_f a0 (br_f a2 (br_f b0 (br_f b2 (br_f c3 (br_f c5 (br_f a0 (br_f a2 (br_f b0 (br_f b2 (br_f c3 (br_f c5 ⟨rfl, H'⟩)))))))))))
end VCR
end
section
/-! ===== the constructors ===== -/
theorem in_tk {tok con len : Nat → Int32} {e l : Nat} {κ : Bool} (hl : l ≤ 20) (hle : len e = nI l) (hk : mq_kst tok (20 * e + l) l = some [κ]) (ho : ∀ j, j < l → mq_ok (tok (20 * e + j))) : xk_tk tok con len e κ (fun env => (mq_est env tok con (20 * e + l) l).headD (0, 0)) := by
  refine ⟨l, hl, hle, hk, ho, fun env => ?_⟩
  have ty := mq_est_ty (env := env) (con := con) (fun j hj => by rw [show 20 * e + l - (j + 1) = 20 * e + (l - (j + 1)) by omega]; exact ho _ (by omega)) hk
  cases e1 : mq_est env tok con (20 * e + l) l with
  | nil => rw [e1] at ty; exact ty.elim
  | cons a s =>
    cases s with
    | nil => show [a] = [(mq_est env tok con (20 * e + l) l).headD (0, 0)]; rw [e1]; rfl
    | cons _ _ => rw [e1] at ty; exact ty.2.elim
def in_tok : Nat → Int32 := upd (upd (upd (upd (upd (fun _ => 0) 0 20) 1 40) 2 40) 20 40) 40 40
def in_len : Nat → Int32 := upd (upd (upd (fun _ => 0) 0 3) 1 1) 2 1
noncomputable def in_E (e : Nat) : (Nat → Int32) → VV := fun env => if e = 0 then (mq_est env in_tok (fun _ => 0) (20 * 0 + 3) 3).headD (0, 0) else if e = 1 then (mq_est env in_tok (fun _ => 0) (20 * 1 + 1) 1).headD (0, 0) else (mq_est env in_tok (fun _ => 0) (20 * 2 + 1) 1).headD (0, 0)
theorem in_rows : ∀ e, e < 3 → xk_tk in_tok (fun _ => 0) in_len e (tk_k e) (in_E e) := by
  intro e he
  rcases (show e = 0 ∨ e = 1 ∨ e = 2 by omega) with rfl | rfl | rfl
  · refine in_tk (l := 3) (by omega) rfl (by decide) (fun j hj => ?_)
    rcases (show j = 0 ∨ j = 1 ∨ j = 2 by omega) with rfl | rfl | rfl
    · exact Or.inr (Or.inr (by unfold mq_op; decide))
    · exact Or.inr (Or.inl rfl)
    · exact Or.inr (Or.inl rfl)
  · refine in_tk (l := 1) (by omega) rfl (by decide) (fun j hj => ?_)
    have : j = 0 := by omega
    subst this
    exact Or.inr (Or.inl rfl)
  · refine in_tk (l := 1) (by omega) rfl (by decide) (fun j hj => ?_)
    have : j = 0 := by omega
    subst this
    exact Or.inr (Or.inl rfl)
theorem in_rel : tk_rel in_E in_tok (fun _ => 0) in_len in_tok (fun _ => 0) in_len := ⟨0, by omega, rfl, rfl, fun j hj => by omega, in_rows, in_rows⟩
theorem i_vc0 : wpX_init (fun u => wpY_init (fun v => i_Rel 0 u v)) := by
  have b20 : vp_nar .byte 20 = 20 := by rw [vp_nar_byte]; decide
  have b40 : vp_nar .byte 40 = 40 := by rw [vp_nar_byte]; decide
  have main : ∀ (d n i : Nat) (zl zm : Nat → Int32), i + d = 24 → d < n → wX_init_228 (fun u => wpY_init (fun v => i_Rel 0 u v)) n (nI i) 0 0 0 0 0 0 0 0 (fun _ => 0) (fun _ => 0) zl zm (fun _ => 0) (fun _ => 0) (fun _ => 0) (fun _ => 0) (fun _ => 0) (fun _ => 0) (fun _ => 0) (fun _ => 0) (fun _ => 0) (fun _ => 0) (fun _ => 0) (fun _ => 0) (fun _ => 0) (fun _ => 0) (fun _ => 0) (fun _ => 0) (fun _ => 0) (fun _ => 0) (fun _ => 0) (fun _ => 0) (fun _ => 0) (fun _ => 0) (fun _ => 0) (fun _ => 0) := by
    intro d
    induction d with
    | zero =>
      intro n i zl zm hi hn
      obtain ⟨n, rfl⟩ := zb_ex hn
      have : i = 24 := by omega
      subst this
      rw [wX_init_228]
      dsimp only
      rw [b20, b40]
      refine br_t (by decide) (nm_e (nm_e (nm_e (nm_e (nm_e (nm_e (nm_e (nm_e ?_))))))))
      refine xw_compile (E0 := in_E 0) (E1 := in_E 1) (E2 := in_E 2) (in_rows 0 (by omega)) (in_rows 1 (by omega)) (in_rows 2 (by omega)) (fun nodes F V Q pc op A B C nd W st wk parts vl hk => ?_)
      dsimp only
      refine nm_e (nm_e (nm_e (nm_e (nm_e (nm_e (nm_e (nm_e ?_)))))))
      refine ⟨in_E, fun _ => 0, fun _ _ _ => 0, in_rel, hk, fun t ht => ⟨⟨0, by omega, rfl, by rw [tb_zero]; rfl, fun i c hi => absurd hi (Nat.not_lt_zero _), fun i c hi => absurd hi (Nat.not_lt_zero _)⟩, Nat.zero_le _, rfl, fun i c hi => absurd hi (Nat.not_lt_zero _)⟩, rfl, 0, by omega, rfl, rfl, fun p hp => by omega⟩
    | succ d ih =>
      intro n i zl zm hi hn
      obtain ⟨n, rfl⟩ := zb_ex (show 0 < n by omega)
      rw [wX_init_228]
      dsimp only
      exact br_f (nI_ge (b := 24) (by omega) (by decide)) (xt_reset (by omega) (nm_r (nI_1 i) (ih n (i + 1) _ _ (by omega) (by omega))))
  exact ⟨25, main 24 25 0 _ _ (by omega) (by omega)⟩
end
section
/-! ===== the owed names ===== -/
theorem i_vc_insert {k : Nat} {u : SX} {v : SY} (I : i_Rel k u v) (hk : k + 5 ≤ 2560) (v1 : Int32) (v2 : Int32) (v3 : Int32) (v4 : Int32) : wpX_insert (fun r u' => wpY_insert (fun r' v' => r' = r ∧ i_Rel (k + 5) u' v') v v1 v2 v3 v4) u v1 v2 v3 v4 := by
  refine zz_el (P := fun u v => wpX_insert (fun r u' => wpY_insert (fun r' v' => r' = r ∧ i_Rel (k + 5) u' v') v v1 v2 v3 v4) u v1 v2 v3 v4) ?_ I
  intro f_nodes f_filterRoot f_valueRoot f_keyRoot f_partCount f_groups f_passed f_overflow a_cells a_live a_zoneLeast a_zoneMost a_tokens a_constants a_lengths a_nodeOp a_nodeA a_nodeB a_nodeC a_needs a_wanted a_value a_state a_work a_parts a_heads a_chain a_places a_sorted a_groupNull a_groupKey a_groupPairs a_groupValues a_groupSum a_groupLeast a_groupMost y_top y_groups y_full y_passed b_cells b_count b_tok b_con b_len b_num b_isNull b_gNull b_gKey b_gStat H
  exact rl_insert H
theorem i_vc_remove {k : Nat} {u : SX} {v : SY} (I : i_Rel k u v) (hk : k + 5 ≤ 2560) (v1 : Int32) (v2 : Int32) : wpX_remove (fun r u' => wpY_remove (fun r' v' => r' = r ∧ i_Rel (k + 5) u' v') v v1 v2) u v1 v2 := by
  refine zz_el (P := fun u v => wpX_remove (fun r u' => wpY_remove (fun r' v' => r' = r ∧ i_Rel (k + 5) u' v') v v1 v2) u v1 v2) ?_ I
  intro f_nodes f_filterRoot f_valueRoot f_keyRoot f_partCount f_groups f_passed f_overflow a_cells a_live a_zoneLeast a_zoneMost a_tokens a_constants a_lengths a_nodeOp a_nodeA a_nodeB a_nodeC a_needs a_wanted a_value a_state a_work a_parts a_heads a_chain a_places a_sorted a_groupNull a_groupKey a_groupPairs a_groupValues a_groupSum a_groupLeast a_groupMost y_top y_groups y_full y_passed b_cells b_count b_tok b_con b_len b_num b_isNull b_gNull b_gKey b_gStat H
  exact rl_remove H
theorem i_vc_set {k : Nat} {u : SX} {v : SY} (I : i_Rel k u v) (hk : k + 5 ≤ 2560) (v1 : Int32) (v2 : Int32) (v3 : Int32) : wpX_set (fun r u' => wpY_set (fun r' v' => r' = r ∧ i_Rel (k + 5) u' v') v v1 v2 v3) u v1 v2 v3 := by
  refine zz_el (P := fun u v => wpX_set (fun r u' => wpY_set (fun r' v' => r' = r ∧ i_Rel (k + 5) u' v') v v1 v2 v3) u v1 v2 v3) ?_ I
  intro f_nodes f_filterRoot f_valueRoot f_keyRoot f_partCount f_groups f_passed f_overflow a_cells a_live a_zoneLeast a_zoneMost a_tokens a_constants a_lengths a_nodeOp a_nodeA a_nodeB a_nodeC a_needs a_wanted a_value a_state a_work a_parts a_heads a_chain a_places a_sorted a_groupNull a_groupKey a_groupPairs a_groupValues a_groupSum a_groupLeast a_groupMost y_top y_groups y_full y_passed b_cells b_count b_tok b_con b_len b_num b_isNull b_gNull b_gKey b_gStat H
  exact rl_set H
theorem i_vc_cell {k : Nat} {u : SX} {v : SY} (I : i_Rel k u v) (hk : k + 5 ≤ 2560) (v1 : Int32) (v2 : Int32) : wpX_cell (fun r => wpY_cell (fun r' => r' = r ∧ i_Rel (k + 5) u v) v v1 v2) u v1 v2 := by
  refine zz_el (P := fun u v => wpX_cell (fun r => wpY_cell (fun r' => r' = r ∧ i_Rel (k + 5) u v) v v1 v2) u v1 v2) ?_ I
  intro f_nodes f_filterRoot f_valueRoot f_keyRoot f_partCount f_groups f_passed f_overflow a_cells a_live a_zoneLeast a_zoneMost a_tokens a_constants a_lengths a_nodeOp a_nodeA a_nodeB a_nodeC a_needs a_wanted a_value a_state a_work a_parts a_heads a_chain a_places a_sorted a_groupNull a_groupKey a_groupPairs a_groupValues a_groupSum a_groupLeast a_groupMost y_top y_groups y_full y_passed b_cells b_count b_tok b_con b_len b_num b_isNull b_gNull b_gKey b_gStat H
  exact rl_cell H
theorem i_vc_rows {k : Nat} {u : SX} {v : SY} (I : i_Rel k u v) (hk : k + 5 ≤ 2560) (v1 : Int32) : wpX_rows (fun r => wpY_rows (fun r' => r' = r ∧ i_Rel (k + 5) u v) v v1) u v1 := by
  refine zz_el (P := fun u v => wpX_rows (fun r => wpY_rows (fun r' => r' = r ∧ i_Rel (k + 5) u v) v v1) u v1) ?_ I
  intro f_nodes f_filterRoot f_valueRoot f_keyRoot f_partCount f_groups f_passed f_overflow a_cells a_live a_zoneLeast a_zoneMost a_tokens a_constants a_lengths a_nodeOp a_nodeA a_nodeB a_nodeC a_needs a_wanted a_value a_state a_work a_parts a_heads a_chain a_places a_sorted a_groupNull a_groupKey a_groupPairs a_groupValues a_groupSum a_groupLeast a_groupMost y_top y_groups y_full y_passed b_cells b_count b_tok b_con b_len b_num b_isNull b_gNull b_gKey b_gStat H
  exact rl_rows H
theorem i_vc_put {k : Nat} {u : SX} {v : SY} (I : i_Rel k u v) (hk : k + 5 ≤ 2560) (v1 : Int32) (v2 : Int32) (v3 : Int32) : wpX_put (fun r u' => wpY_put (fun r' v' => r' = r ∧ i_Rel (k + 5) u' v') v v1 v2 v3) u v1 v2 v3 := by
  refine zz_el (P := fun u v => wpX_put (fun r u' => wpY_put (fun r' v' => r' = r ∧ i_Rel (k + 5) u' v') v v1 v2 v3) u v1 v2 v3) ?_ I
  intro f_nodes f_filterRoot f_valueRoot f_keyRoot f_partCount f_groups f_passed f_overflow a_cells a_live a_zoneLeast a_zoneMost a_tokens a_constants a_lengths a_nodeOp a_nodeA a_nodeB a_nodeC a_needs a_wanted a_value a_state a_work a_parts a_heads a_chain a_places a_sorted a_groupNull a_groupKey a_groupPairs a_groupValues a_groupSum a_groupLeast a_groupMost y_top y_groups y_full y_passed b_cells b_count b_tok b_con b_len b_num b_isNull b_gNull b_gKey b_gStat H
  exact rl_put H
theorem i_vc_constant {k : Nat} {u : SX} {v : SY} (I : i_Rel k u v) (hk : k + 5 ≤ 2560) (v1 : Int32) : wpX_constant (fun r u' => wpY_constant (fun r' v' => r' = r ∧ i_Rel (k + 5) u' v') v v1) u v1 := by
  refine zz_el (P := fun u v => wpX_constant (fun r u' => wpY_constant (fun r' v' => r' = r ∧ i_Rel (k + 5) u' v') v v1) u v1) ?_ I
  intro f_nodes f_filterRoot f_valueRoot f_keyRoot f_partCount f_groups f_passed f_overflow a_cells a_live a_zoneLeast a_zoneMost a_tokens a_constants a_lengths a_nodeOp a_nodeA a_nodeB a_nodeC a_needs a_wanted a_value a_state a_work a_parts a_heads a_chain a_places a_sorted a_groupNull a_groupKey a_groupPairs a_groupValues a_groupSum a_groupLeast a_groupMost y_top y_groups y_full y_passed b_cells b_count b_tok b_con b_len b_num b_isNull b_gNull b_gKey b_gStat H
  exact rl_constant H
theorem i_vc_use {k : Nat} {u : SX} {v : SY} (I : i_Rel k u v) (hk : k + 5 ≤ 2560) (v1 : Int32) : wpX_use (fun r u' => wpY_use (fun r' v' => r' = r ∧ i_Rel (k + 5) u' v') v v1) u v1 := by
  refine zz_el (P := fun u v => wpX_use (fun r u' => wpY_use (fun r' v' => r' = r ∧ i_Rel (k + 5) u' v') v v1) u v1) ?_ I
  intro f_nodes f_filterRoot f_valueRoot f_keyRoot f_partCount f_groups f_passed f_overflow a_cells a_live a_zoneLeast a_zoneMost a_tokens a_constants a_lengths a_nodeOp a_nodeA a_nodeB a_nodeC a_needs a_wanted a_value a_state a_work a_parts a_heads a_chain a_places a_sorted a_groupNull a_groupKey a_groupPairs a_groupValues a_groupSum a_groupLeast a_groupMost y_top y_groups y_full y_passed b_cells b_count b_tok b_con b_len b_num b_isNull b_gNull b_gKey b_gStat H
  exact rl_use H
theorem i_vc_run {k : Nat} {u : SX} {v : SY} (I : i_Rel k u v) (hk : k + 5 ≤ 2560) (v1 : Int32) (v2 : Int32) (v3 : Int32) : wpX_run (fun r u' => wpY_run (fun r' v' => r' = r ∧ i_Rel (k + 5) u' v') v v1 v2 v3) u v1 v2 v3 := by
  refine zz_el (P := fun u v => wpX_run (fun r u' => wpY_run (fun r' v' => r' = r ∧ i_Rel (k + 5) u' v') v v1 v2 v3) u v1 v2 v3) ?_ I
  intro f_nodes f_filterRoot f_valueRoot f_keyRoot f_partCount f_groups f_passed f_overflow a_cells a_live a_zoneLeast a_zoneMost a_tokens a_constants a_lengths a_nodeOp a_nodeA a_nodeB a_nodeC a_needs a_wanted a_value a_state a_work a_parts a_heads a_chain a_places a_sorted a_groupNull a_groupKey a_groupPairs a_groupValues a_groupSum a_groupLeast a_groupMost y_top y_groups y_full y_passed b_cells b_count b_tok b_con b_len b_num b_isNull b_gNull b_gKey b_gStat H
  exact rl_run H
theorem i_vc_group {k : Nat} {u : SX} {v : SY} (I : i_Rel k u v) (hk : k + 5 ≤ 2560) (v1 : Int32) (v2 : Int32) : wpX_group (fun r => wpY_group (fun r' => r' = r ∧ i_Rel (k + 5) u v) v v1 v2) u v1 v2 := by
  refine zz_el (P := fun u v => wpX_group (fun r => wpY_group (fun r' => r' = r ∧ i_Rel (k + 5) u v) v v1 v2) u v1 v2) ?_ I
  intro f_nodes f_filterRoot f_valueRoot f_keyRoot f_partCount f_groups f_passed f_overflow a_cells a_live a_zoneLeast a_zoneMost a_tokens a_constants a_lengths a_nodeOp a_nodeA a_nodeB a_nodeC a_needs a_wanted a_value a_state a_work a_parts a_heads a_chain a_places a_sorted a_groupNull a_groupKey a_groupPairs a_groupValues a_groupSum a_groupLeast a_groupMost y_top y_groups y_full y_passed b_cells b_count b_tok b_con b_len b_num b_isNull b_gNull b_gKey b_gStat H
  exact rl_grp H
theorem i_vc_passed {k : Nat} {u : SX} {v : SY} (I : i_Rel k u v) (hk : k + 5 ≤ 2560) : wpX_passed (fun r => wpY_passed (fun r' => r' = r ∧ i_Rel (k + 5) u v) v) u := by
  refine zz_el (P := fun u v => wpX_passed (fun r => wpY_passed (fun r' => r' = r ∧ i_Rel (k + 5) u v) v) u) ?_ I
  intro f_nodes f_filterRoot f_valueRoot f_keyRoot f_partCount f_groups f_passed f_overflow a_cells a_live a_zoneLeast a_zoneMost a_tokens a_constants a_lengths a_nodeOp a_nodeA a_nodeB a_nodeC a_needs a_wanted a_value a_state a_work a_parts a_heads a_chain a_places a_sorted a_groupNull a_groupKey a_groupPairs a_groupValues a_groupSum a_groupLeast a_groupMost y_top y_groups y_full y_passed b_cells b_count b_tok b_con b_len b_num b_isNull b_gNull b_gKey b_gStat H
  exact rl_passed H
end
